/-! CONTRACTS of methods that return or throw -/
set_option maxRecDepth 100000
theorem va_recvX {s : State} {H : Heap} {D : va_G} {cl : List vw_C} {a q0 ci : Nat} {q : vw_C} {fs : List Value} {ws : va_W} {tys : List (ClassId × FieldType)} (hK : va_K D cl tys s) (hP : va_P D cl ws H) (hc : cl[ci]? = some q) (he : ws[q0]? = some (a, .inr (ci, fs))) : ∃ cell : Cell, H[a]? = some cell ∧ cell.vm = .none ∧ s.vm.findClass q.1 = some cell.cls := by
  obtain ⟨q', h1, cell, g1, g2, g3, -⟩ := hP q0 _ he
  exact ⟨cell, g1, g3, by rw [g2]; exact (hK.1 ci q hc).2.1⟩
/-- where q of class E is thrown, over a world -/
def SmX (p : Program) (l : Launch) (e : Env) (R : Room) (s : State) (m : MethodId) (args : Array Value) (below : List Frame) (meth : Method) (c : Code) (Q : State → Prop) (A : Nat → Prop) (D : va_G) (nL cells slots : Nat) (ws : va_W) (pc : Nat) (L : List (Nat × Value)) (E : String) (q : Nat) : Prop :=
  ∀ (H : Heap) (locs : List Loc) (ls : Array Slot) (rest : List Value) (ce : Cell), va_P D vwCl ws H → va_D A ws → va_S A s.heap H locs → lv_has ls nL L → H[q]? = some ce → ce.vm = .none → s.vm.findClass E = some ce.cls → vx_W p l e R s m args below meth c H locs cells slots Q (F0 m pc ls rest) q
def XB {SX : Type} (D : va_G) (wsX : SX → va_W) (tyX : SX → List (ClassId × FieldType)) (qX : SX → Nat) (EX : SX → String) (A : Nat → Prop) : Addr → String → SX → State → Prop := fun q E u t => q = qX u ∧ E = EX u ∧ CB D wsX tyX A u t
def XQ {SX : Type} (D : va_G) (wc : va_W) (px : SX → Prop) (wsX : SX → va_W) (tyX : SX → List (ClassId × FieldType)) (qX : SX → Nat) (EX : SX → String) : Nat → Addr → String → State → State → Prop := fun sz => vy_X px (XB D wsX tyX qX EX (va_A wc sz)) (va_A wc sz)
def Cmx (l : Launch) (D : va_G) (gt : Nat → Nat) (y : MethodName) (cc : ByteArray) (nl : Nat) (ret : Option FieldType) (fr lo mc ms : Nat) (As : List Value) (wsI : va_W) (tys : List (ClassId × FieldType)) (Qc : Nat → Array Value → State → Outcome → State → Prop) (XC : Nat → Addr → String → State → State → Prop) : Prop :=
  ∀ sz : Nat, vy_Met l y (ws_ y cc nl ret) { frames := fr, cells := mc, slots := ms, locals := lo } (va_Pc As (CPre gt D wsI tys sz)) (Qc sz) (XC sz) mc ms (va_A wsI sz)
def CtX {S SX : Type} (l : Launch) (D : va_G) (gt : Nat → Nat) (y : MethodName) (cc : ByteArray) (nl : Nat) (ty : FieldType) (fr lo mc ms : Nat) (As : List Value) (wsI : va_W) (tys : List (ClassId × FieldType)) (post : Int32 → S → Prop) (wsO : S → va_W) (tyO : S → List (ClassId × FieldType)) (px : SX → Prop) (wsX : SX → va_W) (tyX : SX → List (ClassId × FieldType)) (qX : SX → Nat) (EX : SX → String) : Prop :=
  Cmx l D gt y cc nl (some ty) fr lo mc ms As wsI tys (fun sz => va_Qi post (CB D wsO tyO (va_A wsI sz)) (va_A wsI sz)) (XQ D wsI px wsX tyX qX EX)
def CvX {S SX : Type} (l : Launch) (D : va_G) (gt : Nat → Nat) (y : MethodName) (cc : ByteArray) (nl : Nat) (fr lo mc ms : Nat) (As : List Value) (wsI : va_W) (tys : List (ClassId × FieldType)) (post : S → Prop) (wsO : S → va_W) (tyO : S → List (ClassId × FieldType)) (px : SX → Prop) (wsX : SX → va_W) (tyX : SX → List (ClassId × FieldType)) (qX : SX → Nat) (EX : SX → String) : Prop :=
  Cmx l D gt y cc nl none fr lo mc ms As wsI tys (fun sz => va_Qv post (CB D wsO tyO (va_A wsI sz)) (va_A wsI sz)) (XQ D wsI px wsX tyX qX EX)
def CrX {S SX : Type} (l : Launch) (D : va_G) (gt : Nat → Nat) (y : MethodName) (cc : ByteArray) (nl : Nat) (ty : FieldType) (fr lo mc ms : Nat) (As : List Value) (wsI : va_W) (tys : List (ClassId × FieldType)) (post : S → Prop) (ra : S → Nat) (wsO : S → va_W) (tyO : S → List (ClassId × FieldType)) (px : SX → Prop) (wsX : SX → va_W) (tyX : SX → List (ClassId × FieldType)) (qX : SX → Nat) (EX : SX → String) : Prop :=
  Cmx l D gt y cc nl (some ty) fr lo mc ms As wsI tys (fun sz => va_Qr post (fun u a t => a = ra u ∧ CB D wsO tyO (va_A wsI sz) u t) (va_A wsI sz)) (XQ D wsI px wsX tyX qX EX)
section StartsX
variable {l : Launch} {D : va_G} {gt : Nat → Nat} {y : MethodName} {cc : ByteArray} {nl : Nat} {fr lo mc ms : Nat} {As : List Value} {wsI : va_W} {tys : List (ClassId × FieldType)} {S SX : Type} {wsO : S → va_W} {tyO : S → List (ClassId × FieldType)} {px : SX → Prop} {wsX : SX → va_W} {tyX : SX → List (ClassId × FieldType)} {qX : SX → Nat} {EX : SX → String} {L0 : List (Nat × Value)}
theorem CtX.start {ty : FieldType} {post : Int32 → S → Prop} (own : String) (hy : plainName y.cls = true) (hcls : y.cls = own) (hlen : (lg_sl As).length ≤ nl) (hL : lv_args 0 As = L0)
    (h : ∀ (p : Program) (e : Env) (s : State) (m : MethodId) (args : Array Value) (below : List Frame) (meth : Method) (c : Code) (Q : State → Prop) (A : Nat → Prop), En p s m args meth c A cc nl own (some ty) D tys gt →
      (∀ {pc : Nat} {L : List (Nat × Value)} {ws : va_W} {cells slots : Nat} (v : Int32) (u : S), decode cc pc = .ok (.ireturn, 1) → post v u → ws = wsO u → cells ≤ mc → slots ≤ ms → narrow ty (.int v) = .int v → va_K D vwCl (tyO u) s → Sm p l e { frames := fr, cells := mc, slots := ms, locals := lo } s m args below meth c Q A D nl cells slots ws pc L [.int v]) →
      (∀ {pc : Nat} {L : List (Nat × Value)} {ws : va_W} {cells slots : Nat} (u : SX), px u → ws = wsX u → cells ≤ mc → slots ≤ ms → va_K D vwCl (tyX u) s → SmX p l e { frames := fr, cells := mc, slots := ms, locals := lo } s m args below meth c Q A D nl cells slots ws pc L (EX u) (qX u)) →
      Sm p l e { frames := fr, cells := mc, slots := ms, locals := lo } s m args below meth c Q A D nl 0 0 wsI 0 L0 []) : CtX l D gt y cc nl ty fr lo mc ms As wsI tys post wsO tyO px wsX tyX qX EX := by
  intro sz
  refine vy_ofW (cc := cc) (maxL := nl) (ret := (some ty)) hy rfl ?_
  intro p e s m args below meth c s₁ B hml hnx hv
  obtain ⟨rfl, hsz, hP, hK, hD0, hG⟩ := hv
  have hx := B.exec
  have hb := B.bytes
  have hr := B.returns
  have hts := atoms_spec (ws := ws_ y cc nl (some ty)) B.pre
  have hts : ∀ w ∈ lw_all, w.before _ s = true := fun w h => hts w (List.mem_cons_of_mem _ h)
  have hown : s.vm.findClass own = some m.cls := by rw [← hcls]; exact findClass_of_methodNamed B.named
  have hlocks := B.notSynchronized
  subst hsz
  have hD := hD0.self (sz := s.heap.size)
  have hS : va_S (va_A wsI s.heap.size) s.heap s.heap [] := va_S.rf
  have hl := lv_entry As (n := nl) hlen
  rw [lg_entry_eq]
  generalize (lg_sl As ++ List.replicate (nl - (lg_sl As).length) Slot.unset).toArray = ls at hl ⊢
  rw [hL] at hl
  refine h p e s m _ below meth c _ (va_A wsI s.heap.size) ⟨hx, hb, hml, hown, hts, hK, hG, hlocks, hr, fun q h => Or.inr h⟩ ?_ ?_ s.heap [] ls hP hD hS hl
  · intro pc L ws cells slots v u d hp hw h1 h2 hn hK2 H locs ls hP hD hS hl
    subst hw
    exact W.widen h1 h2 (vy_ret (W.zret hx hb hr hn (fun t ht hW => ⟨⟨v, u, rfl, hp, by rw [ht]; exact hP, va_K.moved hW.alike hK2, hD⟩, hS.F ht⟩) hS.2.2 d hlocks))
  · intro pc L ws cells slots u hp hw h1 h2 hK2 H locs ls rest ce hP hD hS hl hce hcv hcl
    subst hw
    exact vy_out (fun x h => (hnx x h).elim) hlocks hce hcv hcl (fun t ht hW => ⟨u, hp, ⟨rfl, rfl, by rw [ht]; exact hP, va_K.moved hW hK2, hD⟩, hS.F ht⟩) hS.2.2 h1 h2
theorem CvX.start {post : S → Prop} (own : String) (hy : plainName y.cls = true) (hcls : y.cls = own) (hlen : (lg_sl As).length ≤ nl) (hL : lv_args 0 As = L0)
    (h : ∀ (p : Program) (e : Env) (s : State) (m : MethodId) (args : Array Value) (below : List Frame) (meth : Method) (c : Code) (Q : State → Prop) (A : Nat → Prop), En p s m args meth c A cc nl own none D tys gt →
      (∀ {pc : Nat} {L : List (Nat × Value)} {ws : va_W} {cells slots : Nat} (u : S), decode cc pc = .ok (.return_, 1) → post u → ws = wsO u → cells ≤ mc → slots ≤ ms → va_K D vwCl (tyO u) s → Sm p l e { frames := fr, cells := mc, slots := ms, locals := lo } s m args below meth c Q A D nl cells slots ws pc L []) →
      (∀ {pc : Nat} {L : List (Nat × Value)} {ws : va_W} {cells slots : Nat} (u : SX), px u → ws = wsX u → cells ≤ mc → slots ≤ ms → va_K D vwCl (tyX u) s → SmX p l e { frames := fr, cells := mc, slots := ms, locals := lo } s m args below meth c Q A D nl cells slots ws pc L (EX u) (qX u)) →
      Sm p l e { frames := fr, cells := mc, slots := ms, locals := lo } s m args below meth c Q A D nl 0 0 wsI 0 L0 []) : CvX l D gt y cc nl fr lo mc ms As wsI tys post wsO tyO px wsX tyX qX EX := by
  intro sz
  refine vy_ofW (cc := cc) (maxL := nl) (ret := none) hy rfl ?_
  intro p e s m args below meth c s₁ B hml hnx hv
  obtain ⟨rfl, hsz, hP, hK, hD0, hG⟩ := hv
  have hx := B.exec
  have hb := B.bytes
  have hr := B.returns
  have hts := atoms_spec (ws := ws_ y cc nl none) B.pre
  have hts : ∀ w ∈ lw_all, w.before _ s = true := fun w h => hts w (List.mem_cons_of_mem _ h)
  have hown : s.vm.findClass own = some m.cls := by rw [← hcls]; exact findClass_of_methodNamed B.named
  have hlocks := B.notSynchronized
  subst hsz
  have hD := hD0.self (sz := s.heap.size)
  have hS : va_S (va_A wsI s.heap.size) s.heap s.heap [] := va_S.rf
  have hl := lv_entry As (n := nl) hlen
  rw [lg_entry_eq]
  generalize (lg_sl As ++ List.replicate (nl - (lg_sl As).length) Slot.unset).toArray = ls at hl ⊢
  rw [hL] at hl
  refine h p e s m _ below meth c _ (va_A wsI s.heap.size) ⟨hx, hb, hml, hown, hts, hK, hG, hlocks, hr, fun q h => Or.inr h⟩ ?_ ?_ s.heap [] ls hP hD hS hl
  · intro pc L ws cells slots u d hp hw h1 h2 hK2 H locs ls hP hD hS hl
    subst hw
    exact W.widen h1 h2 (vy_ret (W.vret hx hb hr (fun t ht hW => ⟨⟨u, rfl, hp, by rw [ht]; exact hP, va_K.moved hW.alike hK2, hD⟩, hS.F ht⟩) hS.2.2 d hlocks))
  · intro pc L ws cells slots u hp hw h1 h2 hK2 H locs ls rest ce hP hD hS hl hce hcv hcl
    subst hw
    exact vy_out (fun x h => (hnx x h).elim) hlocks hce hcv hcl (fun t ht hW => ⟨u, hp, ⟨rfl, rfl, by rw [ht]; exact hP, va_K.moved hW hK2, hD⟩, hS.F ht⟩) hS.2.2 h1 h2
theorem CrX.start {ty : FieldType} {post : S → Prop} {ra : S → Nat} (hrt : (∃ n, ty = .object n) ∨ ∃ t, ty = .array t) (own : String) (hy : plainName y.cls = true) (hcls : y.cls = own) (hlen : (lg_sl As).length ≤ nl) (hL : lv_args 0 As = L0)
    (h : ∀ (p : Program) (e : Env) (s : State) (m : MethodId) (args : Array Value) (below : List Frame) (meth : Method) (c : Code) (Q : State → Prop) (A : Nat → Prop), En p s m args meth c A cc nl own (some ty) D tys gt →
      (∀ {pc : Nat} {L : List (Nat × Value)} {ws : va_W} {cells slots : Nat} (v : Nat) (u : S), decode cc pc = .ok (.areturn, 1) → post u → v = ra u → ws = wsO u → cells ≤ mc → slots ≤ ms → va_K D vwCl (tyO u) s → Sm p l e { frames := fr, cells := mc, slots := ms, locals := lo } s m args below meth c Q A D nl cells slots ws pc L [.ref v]) →
      (∀ {pc : Nat} {L : List (Nat × Value)} {ws : va_W} {cells slots : Nat} (u : SX), px u → ws = wsX u → cells ≤ mc → slots ≤ ms → va_K D vwCl (tyX u) s → SmX p l e { frames := fr, cells := mc, slots := ms, locals := lo } s m args below meth c Q A D nl cells slots ws pc L (EX u) (qX u)) →
      Sm p l e { frames := fr, cells := mc, slots := ms, locals := lo } s m args below meth c Q A D nl 0 0 wsI 0 L0 []) : CrX l D gt y cc nl ty fr lo mc ms As wsI tys post ra wsO tyO px wsX tyX qX EX := by
  intro sz
  refine vy_ofW (cc := cc) (maxL := nl) (ret := (some ty)) hy rfl ?_
  intro p e s m args below meth c s₁ B hml hnx hv
  obtain ⟨rfl, hsz, hP, hK, hD0, hG⟩ := hv
  have hx := B.exec
  have hb := B.bytes
  have hr := B.returns
  have hts := atoms_spec (ws := ws_ y cc nl (some ty)) B.pre
  have hts : ∀ w ∈ lw_all, w.before _ s = true := fun w h => hts w (List.mem_cons_of_mem _ h)
  have hown : s.vm.findClass own = some m.cls := by rw [← hcls]; exact findClass_of_methodNamed B.named
  have hlocks := B.notSynchronized
  subst hsz
  have hD := hD0.self (sz := s.heap.size)
  have hS : va_S (va_A wsI s.heap.size) s.heap s.heap [] := va_S.rf
  have hl := lv_entry As (n := nl) hlen
  rw [lg_entry_eq]
  generalize (lg_sl As ++ List.replicate (nl - (lg_sl As).length) Slot.unset).toArray = ls at hl ⊢
  rw [hL] at hl
  refine h p e s m _ below meth c _ (va_A wsI s.heap.size) ⟨hx, hb, hml, hown, hts, hK, hG, hlocks, hr, fun q h => Or.inr h⟩ ?_ ?_ s.heap [] ls hP hD hS hl
  · intro pc L ws cells slots v u d hp hv hw h1 h2 hK2 H locs ls hP hD hS hl
    subst hw
    exact W.widen h1 h2 (vy_ret (W.aret hx hb hr hrt (Or.inr ⟨v, rfl⟩) (fun t ht hW => ⟨⟨u, v, rfl, hp, hv, by rw [ht]; exact hP, va_K.moved hW.alike hK2, hD⟩, hS.F ht⟩) hS.2.2 d hlocks))
  · intro pc L ws cells slots u hp hw h1 h2 hK2 H locs ls rest ce hP hD hS hl hce hcv hcl
    subst hw
    exact vy_out (fun x h => (hnx x h).elim) hlocks hce hcv hcl (fun t ht hW => ⟨u, hp, ⟨rfl, rfl, by rw [ht]; exact hP, va_K.moved hW hK2, hD⟩, hS.F ht⟩) hS.2.2 h1 h2
end StartsX
