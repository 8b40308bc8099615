/-! THE LAW's own question of a user -/
set_option maxRecDepth 100000
def ioE : String := "java/lang/IndexOutOfBoundsException"
def nsE : String := "java/util/NoSuchElementException"
def CtN {S : Type} (l : Launch) (D : va_G) (gt : Nat → Nat) (y : MethodName) (cc : ByteArray) (nl : Nat) (ty : FieldType) (hh : List (Nat × Nat × Nat × Nat)) (fr lo mc ms : Nat) (As : List Value) (wsI : va_W) (tys : List (ClassId × FieldType)) (post : Int32 → S → Prop) (wsO : S → va_W) (tyO : S → List (ClassId × FieldType)) : Prop :=
  ∀ sz : Nat, Met l y (wsW_ y cc nl (some ty) hh) { frames := fr, cells := mc, slots := ms, locals := lo } (va_Pc As (fun U => CPre gt D wsI tys sz U ∧ va_Nc nsE ioE U)) (va_Qi post (CB D wsO tyO (va_A wsI sz)) (va_A wsI sz)) mc ms (va_A wsI sz)
section
variable {l : Launch} {D : va_G} {gt : Nat → Nat} {y : MethodName} {cc : ByteArray} {nl : Nat} {fr lo mc ms : Nat} {As : List Value} {wsI : va_W} {tys : List (ClassId × FieldType)} {S : Type} {wsO : S → va_W} {tyO : S → List (ClassId × FieldType)} {L0 : List (Nat × Value)}
theorem CtN.start {ty : FieldType} {post : Int32 → S → Prop} (own : String) {hh : List (Nat × Nat × Nat × Nat)} (hy : plainName y.cls = true) (hcls : y.cls = own) (hlen : (lg_sl As).length ≤ nl) (hL : lv_args 0 As = L0)
    (h : ∀ (p : Program) (e : Env) (s : State) (m : MethodId) (args : Array Value) (below : List Frame) (meth : Method) (c : Code) (Q : State → Prop) (A : Nat → Prop), En p s m args meth c A cc nl own (some ty) D tys gt → c.exceptionTable.toList.map (fun h => (h.startPc, h.endPc, h.handlerPc, h.catchType)) = hh → va_Nc nsE ioE s →
      (∀ {pc : Nat} {L : List (Nat × Value)} {ws : va_W} {cells slots : Nat} (v : Int32) (u : S), decode cc pc = .ok (.ireturn, 1) → post v u → ws = wsO u → cells ≤ mc → slots ≤ ms → narrow ty (.int v) = .int v → va_K D vwCl (tyO u) s → Sm p l e { frames := fr, cells := mc, slots := ms, locals := lo } s m args below meth c Q A D nl cells slots ws pc L [.int v]) →
      Sm p l e { frames := fr, cells := mc, slots := ms, locals := lo } s m args below meth c Q A D nl 0 0 wsI 0 L0 []) : CtN l D gt y cc nl ty hh fr lo mc ms As wsI tys post wsO tyO := by
  intro sz
  refine met_ofWH (cc := cc) (maxL := nl) (ret := (some ty)) (hh := hh) hy rfl ?_
  intro p e s m args below meth c s₁ B hml hEx hv
  obtain ⟨rfl, ⟨hsz, hP, hK, hD0, hG⟩, hNc⟩ := hv
  have hx := B.exec
  have hb := B.bytes
  have hr := B.returns
  have hts := atoms_spec (ws := wsW_ y cc nl (some ty) hh) B.pre
  have hts : ∀ w ∈ lw_all, w.before _ s = true := fun w h => hts w (List.mem_cons_of_mem _ h)
  have hown : s.vm.findClass own = some m.cls := by rw [← hcls]; exact findClass_of_methodNamed B.named
  have hlocks := B.notSynchronized
  subst hsz
  have hD := hD0.self (sz := s.heap.size)
  have hS : va_S (va_A wsI s.heap.size) s.heap s.heap [] := va_S.rf
  have hl := lv_entry As (n := nl) hlen
  rw [lg_entry_eq]
  generalize (lg_sl As ++ List.replicate (nl - (lg_sl As).length) Slot.unset).toArray = ls at hl ⊢
  rw [hL] at hl
  refine h p e s m _ below meth c _ (va_A wsI s.heap.size) ⟨hx, hb, hml, hown, hts, hK, hG, hlocks, hr, fun q h => Or.inr h⟩ hEx hNc ?_ s.heap [] ls hP hD hS hl
  intro pc L ws cells slots v u d hp hw h1 h2 hn hK2 H locs ls hP hD hS hl
  subst hw
  exact W.widen h1 h2 (W.zret hx hb hr hn (fun t ht hW => ⟨⟨v, u, rfl, hp, by rw [ht]; exact hP, va_K.moved hW.alike hK2, hD⟩, hS.F ht⟩) hS.2.2 d hlocks)
end
section
variable {p : Program} {l : Launch} {e : Env} {R : Room} {s : State} {m : MethodId} {args : Array Value} {below : List Frame} {meth : Method} {c : Code} {Q : State → Prop} {A : Nat → Prop} {D : va_G} {nL cells slots : Nat} {ws : va_W} {pc : Nat} {L : List (Nat × Value)}
variable {cc : ByteArray} {own : String} {ret : Option FieldType} {tys tyc : List (ClassId × FieldType)} {gt : Nat → Nat}
variable {y : MethodName} {b : ByteArray} {nl fr lo mc ms n index : Nat} {r : Option FieldType} {ty : FieldType} {As S0 S1 : List Value} {wc wr : va_W} {isC isR isT : List Nat} {Qc : Nat → Array Value → State → Outcome → State → Prop}
/-- a call of a method that throws what the JDK has -/
theorem xu_goi {bb : Nat} {C : String} {S : Type} {post : Int32 → S → Prop} {wsO ws2 : S → va_W} {px : String → Prop} {wsX ws3 : va_W} (E : En p s m args meth c A cc nL own ret D tys gt) (hp : ws.Perm (wc ++ wr)) (hM : CtU l D gt y b nl ty fr lo mc ms (.ref bb :: As) wc tys post wsO (fun _ => tys) px wsX) (hK : KV own index C y b nl (some ty) n) (hfr : fr + 1 ≤ R.frames) (hlo : 8 + (nl + 11) + lo ≤ R.locals) (hmc : cells + mc ≤ R.cells) (hms : slots + ms ≤ R.slots)
    {ci N : Nat} {T : u_T} {fs : List Value} (hb : (wc ++ wr)[0]? = some (bb, .inr (ci, fs))) (hci : vwCl[ci]? = some (C, T, N)) (hn : As.length = n) (hst : S1 = As.reverse ++ .ref bb :: S0) (hcat : (S0.map fun v => v.category).sum ≤ 8) (d : decode cc pc = .ok (.invokevirtual index, 3))
    (hB : ∀ u : S, (wr ++ wsO u).Perm (ws2 u)) (hBX : (wr ++ wsX).Perm ws3)
    (KX : ∀ (E9 : String) (q : Nat), px E9 → SmX p l e R s m args below meth c Q A D nL (cells + mc) (slots + ms) ws3 pc L E9 q)
    (K : ∀ (r : Int32) (u : S), post r u → Sm p l e R s m args below meth c Q A D nL (cells + mc) (slots + ms) (ws2 u) (pc + 3) L (.int r :: S0)) : Sm p l e R s m args below meth c Q A D nL cells slots ws pc L S1 := by
  intro H locs ls hP hD hS hl
  have hP := hP.perm hp
  have hD := hD.perm hp
  have hcut : Cut (wc ++ wr) wc wr tys tys (List.range wc.length) ((List.range wr.length).map (· + wc.length)) (List.range tys.length) := cutP (cutS ws tys).2.2.2.2.2
  have hF : ∀ q, va_A wc H.size q → A q := va_free hD hS E.2.2.2.2.2.2.2.2.2 (List.range wc.length) hcut.1
  obtain ⟨k1, k2, k3, k4, k5, k6⟩ := hK
  refine vx_calli (vx_runV (As := As) (rest := S0) ⟨E.1, E.2.1, E.2.2.1, E.2.2.2.1, E.2.2.2.2.1⟩ (hM H.size) (cwV n E.2.2.2.2.1 (lw_V k1 k2 k3 k4 k5) rfl rfl rfl k6 ⟨hfr, hlo⟩) ⟨CPre.blind, va_recv E.2.2.2.2.2.1 hP hci hb, pre_of E hcut hP hD hS _⟩ rfl hn hl.1 hst (lv_room hcat) d ⟨hmc, hms⟩) hS (fun q _ h => hF q h) hF (fun q _ h => hF q h) (fun E9 ce q9 u t H1 locs1 ht hvm hw hB0 hk1 hk hS hce hcv hcl => ?_) (fun r u t H1 locs1 ht hvm hw hB1 hk1 hk hS => ?_)
  · obtain ⟨hE, hP1, hK1, hD1⟩ := hB0
    subst hE
    rw [ht] at hP1
    obtain ⟨hP2, hD2⟩ := va_join hP hD (List.range wc.length) ((List.range wr.length).map (· + wc.length)) hcut.1 hcut.2.1 hcut.2.2.2.1 hcut.2.2.2.2.1 hk hF hP1 hD1
    exact KX _ q9 hw H1 locs1 ls _ ce (hP2.perm hBX) (hD2.perm hBX) hS hl hce hcv hcl
  · obtain ⟨hP1, hK1, hD1⟩ := hB1
    rw [ht] at hP1
    obtain ⟨hP2, hD2⟩ := va_join hP hD (List.range wc.length) ((List.range wr.length).map (· + wc.length)) hcut.1 hcut.2.1 hcut.2.2.2.1 hcut.2.2.2.2.1 hk hF hP1 hD1
    exact K r u hw H1 locs1 ls (hP2.perm (hB u)) (hD2.perm (hB u)) hS hl
/-- the first of two handlers -/
theorem s_catch1 (E : En p s m args meth c A cc nL own ret D tys gt) {ws : va_W} {E9 name : String} {q st en hp ci : Nat} {h2 : Nat × Nat × Nat × Nat} (hEx : c.exceptionTable.toList.map (fun h => (h.startPc, h.endPc, h.handlerPc, h.catchType)) = [(st, en, hp, ci), h2]) (g1 : st ≤ pc) (g2 : pc < en) (h0 : ci ≠ 0) (hlink : Cond.classLink own ci name ∈ lw_all) (hcast : Cond.castable E9 name ∈ lw_tbl) (K : Sm p l e R s m args below meth c Q A D nL cells slots ws hp L [.ref q]) : SmX p l e R s m args below meth c Q A D nL cells slots ws pc L E9 q := by
  intro H locs ls rest ce hP hD hS hl hce hcv hcl
  obtain ⟨x, x2, hx, hxe⟩ : ∃ x x2, c.exceptionTable.toList = [x, x2] ∧ (x.startPc, x.endPc, x.handlerPc, x.catchType) = (st, en, hp, ci) := by
    generalize c.exceptionTable.toList = tb at hEx
    match tb, hEx with
    | [x, x2], hEx =>
      simp only [List.map_cons, List.map_nil, List.cons.injEq] at hEx
      exact ⟨x, x2, rfl, hEx.1⟩
  have e1 : x.startPc = st := congrArg (fun z => z.1) hxe
  have e2 : x.endPc = en := congrArg (fun z => z.2.1) hxe
  have e3 : x.handlerPc = hp := congrArg (fun z => z.2.2.1) hxe
  have e4 : x.catchType = ci := congrArg (fun z => z.2.2.2) hxe
  refine vx_catch (own := own) (name := name) E.2.2.2.1 [] x [x2] hx (fun z hz => by cases hz) (by simp [covers, e1, e2, g1, g2]) (by rw [e4]; exact h0) (by rw [e4]; exact E.2.2.2.2.1 _ hlink) (va_Nw.use rfl (E.2.2.2.2.2.2.1.2.2.2.1 _ hcast rfl)) hce hcv hcl ?_
  rw [e3]
  exact K H locs ls hP hD hS hl
/-- the second of two handlers -/
theorem s_catch2 (E : En p s m args meth c A cc nL own ret D tys gt) {ws : va_W} {E9 name n1 : String} {q st en hp ci c1 : Nat} {a1 a2 a3 : Nat} (hEx : c.exceptionTable.toList.map (fun h => (h.startPc, h.endPc, h.handlerPc, h.catchType)) = [(a1, a2, a3, c1), (st, en, hp, ci)]) (g1 : st ≤ pc) (g2 : pc < en) (h0 : ci ≠ 0) (hlink : Cond.classLink own ci name ∈ lw_all) (hcast : Cond.castable E9 name ∈ lw_tbl) (hc1 : c1 ≠ 0) (hl1 : Cond.classLink own c1 n1 ∈ lw_all) (hN : va_Nc E9 n1 s) (K : Sm p l e R s m args below meth c Q A D nL cells slots ws hp L [.ref q]) : SmX p l e R s m args below meth c Q A D nL cells slots ws pc L E9 q := by
  intro H locs ls rest ce hP hD hS hl hce hcv hcl
  obtain ⟨x0, x, hx, hx0, hxe⟩ : ∃ x0 x, c.exceptionTable.toList = [x0, x] ∧ (x0.startPc, x0.endPc, x0.handlerPc, x0.catchType) = (a1, a2, a3, c1) ∧ (x.startPc, x.endPc, x.handlerPc, x.catchType) = (st, en, hp, ci) := by
    generalize c.exceptionTable.toList = tb at hEx
    match tb, hEx with
    | [x0, x], hEx =>
      simp only [List.map_cons, List.map_nil, List.cons.injEq] at hEx
      exact ⟨x0, x, rfl, hEx.1, hEx.2.1⟩
  have e0 : x0.catchType = c1 := congrArg (fun z => z.2.2.2) hx0
  have e1 : x.startPc = st := congrArg (fun z => z.1) hxe
  have e2 : x.endPc = en := congrArg (fun z => z.2.1) hxe
  have e3 : x.handlerPc = hp := congrArg (fun z => z.2.2.1) hxe
  have e4 : x.catchType = ci := congrArg (fun z => z.2.2.2) hxe
  refine vx_catch (own := own) (name := name) E.2.2.2.1 [x0] x [] hx (fun z hz => ?_) (by simp [covers, e1, e2, g1, g2]) (by rw [e4]; exact h0) (by rw [e4]; exact E.2.2.2.2.1 _ hlink) (va_Nw.use rfl (E.2.2.2.2.2.2.1.2.2.2.1 _ hcast rfl)) hce hcv hcl ?_
  · cases List.mem_singleton.mp hz
    exact Or.inr ⟨by rw [e0]; exact hc1, n1, by rw [e0]; exact E.2.2.2.2.1 _ hl1, hN⟩
  · rw [e3]
    exact K H locs ls hP hD hS hl
theorem s_last (E : En p s m args meth c A cc nL own ret D tys gt) {a nA : Nat} {cA : ClassId} {f : Nat → Int64} {ws2 : va_W} {S : List Value} (q0 t0 : Nat) (ha : ws[q0]? = some (a, .inl (cA, nA, .inr (.inl f)))) (ht : tys[t0]? = some (cA, .long)) {i : Int32} {x : Int64} (hin : vp_in i nA) (hw : ws.set q0 (a, .inl (cA, nA, .inr (.inl (vp_updL f i.toNatClampNeg x)))) = ws2) (d : decode cc pc = .ok (.lastore, 1)) (K : Sm p l e R s m args below meth c Q A D nL cells slots ws2 (pc + 1) L S) : Sm p l e R s m args below meth c Q A D nL cells slots ws pc L (.long x :: .int i :: .ref a :: S) := by
  subst hw
  intro H locs ls hP hD hS hl
  exact va_last E.1 E.2.1 E.2.2.2.2.2.1 hP hD hS q0 t0 ha ht hin d (fun H1 locs1 hP hD hS => K H1 locs1 ls hP hD hS hl)
theorem s_lald (E : En p s m args meth c A cc nL own ret D tys gt) {a nA : Nat} {cA : ClassId} {f : Nat → Int64} {S : List Value} (q0 t0 : Nat) (ha : ws[q0]? = some (a, .inl (cA, nA, .inr (.inl f)))) (ht : tys[t0]? = some (cA, .long)) {i : Int32} {v : Int64} (hin : vp_in i nA) (hv : f i.toNatClampNeg = v) (d : decode cc pc = .ok (.laload, 1)) (K : Sm p l e R s m args below meth c Q A D nL cells slots ws (pc + 1) L (.long v :: S)) : Sm p l e R s m args below meth c Q A D nL cells slots ws pc L (.int i :: .ref a :: S) := by
  subst hv
  intro H locs ls hP hD hS hl
  exact va_lald E.1 E.2.1 E.2.2.2.2.2.1 hP q0 t0 ha ht hin d (K H locs ls hP hD hS hl)
def KSH (own : String) (idx : Nat) (y : MethodName) (b : ByteArray) (nl : Nat) (r : Option FieldType) (hh : List (Nat × Nat × Nat × Nat)) (n : Nat) : Prop := Cond.methodLink own idx y ∈ lw_all ∧ Cond.static y ∈ lw_all ∧ Cond.initialized y.cls ∈ lw_all ∧ Cond.codeWith y b nl r hh ∈ lw_all ∧ (y.cls ≠ "java/lang/invoke/MethodHandle" ∧ y.cls ≠ "java/lang/invoke/VarHandle" ∧ (parseMethodDescriptor y.desc).map (fun d => d.parameters.length) = some n)
theorem rSN2 {S : Type} {post : Int32 → S → Prop} {wsO : S → va_W} {tyO : S → List (ClassId × FieldType)} {hh : List (Nat × Nat × Nat × Nat)} (E : En p s m args meth c A cc nL own ret D tys gt) (hNc : va_Nc nsE ioE s) (hcut : Cut ws wc wr tys tyc isC isR isT) (hM : CtN l D gt y b nl ty hh fr lo mc ms As wc tyc post wsO tyO) (hK : KSH own index y b nl (some ty) hh n) (hfr : fr + 1 ≤ R.frames) (hlo : 8 + (nl + 11) + lo ≤ R.locals) (hmc : cells + mc ≤ R.cells) (hms : slots + ms ≤ R.slots)
    (hn : As.length = n) (hst : S1 = As.reverse ++ S0) (hcat : (S0.map fun v => v.category).sum ≤ 8) (d : decode cc pc = .ok (.invokestatic index, 3)) :
    Rn p l e R s m args below meth c A D nL cells slots mc ms ws wc pc L S1 S0 As (fun sz => va_Qi post (CB D wsO tyO (va_A wc sz)) (va_A wc sz)) := by
  intro H locs ls hP hD hS hl
  obtain ⟨k1, k2, k3, k4, k5⟩ := hK
  refine vx_runSW (As := As) (rest := S0) ⟨E.1, E.2.1, E.2.2.1, E.2.2.2.1, E.2.2.2.2.1⟩ (hM H.size) (vx_cwSW n E.2.2.2.2.1 (lw_SW k1 k2 k3 k4) rfl rfl rfl k5 ⟨hfr, hlo⟩) ⟨?_, ?_⟩ rfl hn hl.1 hst (lv_room hcat) d ⟨hmc, hms⟩
  · intro a U g mk q
    obtain ⟨q0, q1, q2⟩ := q
    exact ⟨q0, (CPre.blind a U g mk ⟨q0, q1⟩).2, va_Nc.moved (u := U) (U := U.calling g mk a) (Vm.Alike.refl U.vm) q2⟩
  · intro U hU hW
    have h1 := pre_of E hcut hP hD hS As U hU hW
    exact ⟨h1.1, h1.2, va_Nc.moved hW.alike hNc⟩
end
