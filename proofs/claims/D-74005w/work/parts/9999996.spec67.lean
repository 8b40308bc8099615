/-! METHODS that throw what the JDK has -/
set_option maxRecDepth 100000
def CmU (l : Launch) (D : va_G) (gt : Nat → Nat) (y : MethodName) (cc : ByteArray) (nl : Nat) (ret : Option FieldType) (fr lo mc ms : Nat) (As : List Value) (wsI : va_W) (tys : List (ClassId × FieldType)) (Qc : Nat → Array Value → State → Outcome → State → Prop) (XC : Nat → String → State → State → Prop) : Prop :=
  ∀ sz : Nat, vx_Met l y (ws_ y cc nl ret) { frames := fr, cells := mc, slots := ms, locals := lo } (va_Pc As (CPre gt D wsI tys sz)) (Qc sz) (XC sz) mc ms (va_A wsI sz)
def XU (D : va_G) (wsI : va_W) (tys : List (ClassId × FieldType)) (px : String → Prop) (wsX : va_W) : Nat → String → State → State → Prop := fun sz => vx_X px (fun E u t => E = u ∧ CB D (fun _ : String => wsX) (fun _ => tys) (va_A wsI sz) u t) (va_A wsI sz)
def CtU {S : Type} (l : Launch) (D : va_G) (gt : Nat → Nat) (y : MethodName) (cc : ByteArray) (nl : Nat) (ty : FieldType) (fr lo mc ms : Nat) (As : List Value) (wsI : va_W) (tys : List (ClassId × FieldType)) (post : Int32 → S → Prop) (wsO : S → va_W) (tyO : S → List (ClassId × FieldType)) (px : String → Prop) (wsX : va_W) : Prop :=
  CmU l D gt y cc nl (some ty) fr lo mc ms As wsI tys (fun sz => va_Qi post (CB D wsO tyO (va_A wsI sz)) (va_A wsI sz)) (XU D wsI tys px wsX)
theorem CtU.start {l : Launch} {D : va_G} {gt : Nat → Nat} {y : MethodName} {cc : ByteArray} {nl : Nat} {fr lo mc ms : Nat} {As : List Value} {wsI : va_W} {tys : List (ClassId × FieldType)} {S : Type} {wsO : S → va_W} {tyO : S → List (ClassId × FieldType)} {px : String → Prop} {wsX : va_W} {L0 : List (Nat × Value)} {ty : FieldType} {post : Int32 → S → Prop} (hst : l.stackTraces = false) (own : String) (hy : plainName y.cls = true) (hcls : y.cls = own) (hlen : (lg_sl As).length ≤ nl) (hL : lv_args 0 As = L0)
    (h : ∀ (p : Program) (e : Env) (s : State) (m : MethodId) (args : Array Value) (below : List Frame) (meth : Method) (c : Code) (Q : State → Prop) (A : Nat → Prop), En p s m args meth c A cc nl own (some ty) D tys gt →
      (∀ {pc : Nat} {L : List (Nat × Value)} {ws : va_W} {cells slots : Nat} (v : Int32) (u : S), decode cc pc = .ok (.ireturn, 1) → post v u → ws = wsO u → cells ≤ mc → slots ≤ ms → narrow ty (.int v) = .int v → va_K D vwCl (tyO u) s → Sm p l e { frames := fr, cells := mc, slots := ms, locals := lo } s m args below meth c Q A D nl cells slots ws pc L [.int v]) →
      (∀ {pc : Nat} {L : List (Nat × Value)} {S : List Value} {ws : va_W} {cells slots ik ic : Nat} (cls : String) (names : List String), px cls → ws = wsX → Bundle.fit cls = true → (∀ n ∈ names, Bundle.fit n = true) → Cond.classLink own ik cls ∈ lw_all → Cond.initialized cls ∈ lw_all → (∀ w ∈ vx_at0 own ic cls names, w.before args s = true) → (∀ w ∈ Cond.classLink own ik cls :: Cond.initialized cls :: vx_at0 own ic cls names, vx_ot w = true) →
        decode cc pc = .ok (.new ik, 3) → decode cc (pc + 3) = .ok (.dup, 1) → decode cc (pc + 4) = .ok (.invokespecial ic, 3) → decode cc (pc + 7) = .ok (.athrow, 1) → names.length + 3 < fr → (S.map fun v => v.category).sum + (13 * (names.length + 1) + 42) ≤ lo → cells + 1 ≤ mc → slots + 6 ≤ ms → Sm p l e { frames := fr, cells := mc, slots := ms, locals := lo } s m args below meth c Q A D nl cells slots ws pc L S) →
      Sm p l e { frames := fr, cells := mc, slots := ms, locals := lo } s m args below meth c Q A D nl 0 0 wsI 0 L0 []) : CtU l D gt y cc nl ty fr lo mc ms As wsI tys post wsO tyO px wsX := by
  intro sz
  refine vx_ofW (cc := cc) (maxL := nl) (ret := (some ty)) hy rfl ?_
  intro p e s m args below meth c s₁ B hml hnx hv
  obtain ⟨rfl, hsz, hP, hK, hD0, hG⟩ := hv
  have hx := B.exec
  have hb := B.bytes
  have hr := B.returns
  have hts := atoms_spec (ws := ws_ y cc nl (some ty)) B.pre
  have hts : ∀ w ∈ lw_all, w.before _ s = true := fun w h => hts w (List.mem_cons_of_mem _ h)
  have hown : s.vm.findClass own = some m.cls := by rw [← hcls]; exact findClass_of_methodNamed B.named
  have hlocks := B.notSynchronized
  subst hsz
  have hD := hD0.self (sz := s.heap.size)
  have hS : va_S (va_A wsI s.heap.size) s.heap s.heap [] := va_S.rf
  have hl := lv_entry As (n := nl) hlen
  rw [lg_entry_eq]
  generalize (lg_sl As ++ List.replicate (nl - (lg_sl As).length) Slot.unset).toArray = ls at hl ⊢
  rw [hL] at hl
  refine h p e s m _ below meth c _ (va_A wsI s.heap.size) ⟨hx, hb, hml, hown, hts, hK, hG, hlocks, hr, fun q h => Or.inr h⟩ ?_ ?_ s.heap [] ls hP hD hS hl
  · intro pc L ws cells slots v u d hp hw h1 h2 hn hK2 H locs ls hP hD hS hl
    subst hw
    exact W.widen h1 h2 (vx_ret (W.zret hx hb hr hn (fun t ht hW => ⟨⟨v, u, rfl, hp, by rw [ht]; exact hP, va_K.moved hW.alike hK2, hD⟩, hS.F ht⟩) hS.2.2 d hlocks))
  · intro pc L S ws cells slots ik ic cls names hpx hw hfit hnames hk hini hat hgood d0 d3 d4 d7 hfr hlo hc hs H locs ls hP hD hS hl
    subst hw
    exact vx_throw0 hx hb hst hown hfit hnames (hts _ hk) (hts _ hini) hat hgood hG.1.2.2.2.2.2.2.2.1 hG.1.2.2.2.2.2.2.2.2 hS (hl.1.trans hml.symm) d0 d3 d4 d7 (fun x h => (hnx x h).elim) hfr hlo (Nat.le_trans hc (Nat.le_refl _)) (Nat.le_trans hs (Nat.le_refl _)) hlocks
      (fun t ha hsz hkeep => ⟨cls, hpx, ⟨rfl, hP.kept (fun k q hk => hkeep q.1 (hP k q hk).lt), va_K.moved ha hK, hD⟩, Nat.le_trans hS.1 hsz, fun q h1 h2 => (hkeep q (Nat.lt_of_lt_of_le h1 hS.1)).trans (hS.2.1 q h1 h2)⟩) hS.2.2 hc hs
