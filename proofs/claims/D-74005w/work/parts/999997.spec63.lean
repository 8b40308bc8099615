/-! METHODS THAT CATCH -/
set_option maxRecDepth 100000
theorem met_ofWH {l : Launch} {y : MethodName} {ws ws' : List Cond} {rm : Room} {Pc : Array Value → State → Prop} {Qc : Array Value → State → Outcome → State → Prop} {mc ms : Nat} {free : Addr → Prop} {cc : ByteArray} {maxL : Nat} {ret : Option FieldType} {hh : List (Nat × Nat × Nat × Nat)}
    (hy : plainName y.cls = true) (hw : ws = Cond.codeWith y cc maxL ret hh :: ws')
    (body : ∀ p e s m args below meth c s₁, BodyLoose p l y (headSpec ws rm) cc maxL ret e s m args below meth c s₁ → c.maxLocals = maxL → c.exceptionTable.toList.map (fun h => (h.startPc, h.endPc, h.handlerPc, h.catchType)) = hh → Pc args s →
      W p l e (headSpec ws rm).room s m args below meth c s.heap [] 0 0 (MQ below Qc args s mc ms free) (entryFrame m args maxL)) : Met l y ws rm Pc Qc mc ms free := by
  refine MetFree.of_bodyS (code := cc) (maxLocals := maxL) (ret := ret) hy ?_ ?_
  · intro args s m h hn
    obtain ⟨m9, meth, c, hn9, h1, h2, h3, h4, -, h5, h6, -⟩ := Cond.codeWith_spec (atoms_spec (ws := ws) h _ (by rw [hw]; exact List.mem_cons_self))
    cases hn.symm.trans hn9
    exact ⟨meth, c, h1, h2, h3, h4, h5, h6⟩
  · intro p e s m args below meth c s₁ B hml hP _
    have hh0 : s₁.heap = s.heap := by rw [B.state]; rfl
    have ht : c.exceptionTable.toList.map (fun h => (h.startPc, h.endPc, h.handlerPc, h.catchType)) = hh := by
      obtain ⟨m9, meth9, c9, hn9, h1, h2, -, -, h5, -⟩ := Cond.codeWith_spec (atoms_spec (ws := ws) B.pre _ (by rw [hw]; exact List.mem_cons_self))
      cases B.named.symm.trans hn9
      cases Option.some.inj (h1.symm.trans B.method)
      cases Option.some.inj (h2.symm.trans (Stand.of_body B).code)
      exact h5
    obtain ⟨t, a1, o, b1, b2, b3⟩ := body p e s m args below meth c s₁ B hml ht hP s₁ hh0 (Stand.of_body B)
    exact ⟨t, o, a1, b1, b2, ⟨b3.1, b3.2⟩⟩
def CmH (l : Launch) (D : va_G) (gt : Nat → Nat) (y : MethodName) (cc : ByteArray) (nl : Nat) (ret : Option FieldType) (hh : List (Nat × Nat × Nat × Nat)) (fr lo mc ms : Nat) (As : List Value) (wsI : va_W) (tys : List (ClassId × FieldType)) (Qc : Nat → Array Value → State → Outcome → State → Prop) : Prop :=
  ∀ sz : Nat, Met l y (wsW_ y cc nl ret hh) { frames := fr, cells := mc, slots := ms, locals := lo } (va_Pc As (CPre gt D wsI tys sz)) (Qc sz) mc ms (va_A wsI sz)
def CtH {S : Type} (l : Launch) (D : va_G) (gt : Nat → Nat) (y : MethodName) (cc : ByteArray) (nl : Nat) (ty : FieldType) (hh : List (Nat × Nat × Nat × Nat)) (fr lo mc ms : Nat) (As : List Value) (wsI : va_W) (tys : List (ClassId × FieldType)) (post : Int32 → S → Prop) (wsO : S → va_W) (tyO : S → List (ClassId × FieldType)) : Prop :=
  CmH l D gt y cc nl (some ty) hh fr lo mc ms As wsI tys (fun sz => va_Qi post (CB D wsO tyO (va_A wsI sz)) (va_A wsI sz))
section
variable {l : Launch} {D : va_G} {gt : Nat → Nat} {y : MethodName} {cc : ByteArray} {nl : Nat} {fr lo mc ms : Nat} {As : List Value} {wsI : va_W} {tys : List (ClassId × FieldType)} {S : Type} {wsO : S → va_W} {tyO : S → List (ClassId × FieldType)} {L0 : List (Nat × Value)}
theorem CtH.start {ty : FieldType} {post : Int32 → S → Prop} (own : String) {hh : List (Nat × Nat × Nat × Nat)} (hy : plainName y.cls = true) (hcls : y.cls = own) (hlen : (lg_sl As).length ≤ nl) (hL : lv_args 0 As = L0)
    (h : ∀ (p : Program) (e : Env) (s : State) (m : MethodId) (args : Array Value) (below : List Frame) (meth : Method) (c : Code) (Q : State → Prop) (A : Nat → Prop), En p s m args meth c A cc nl own (some ty) D tys gt → c.exceptionTable.toList.map (fun h => (h.startPc, h.endPc, h.handlerPc, h.catchType)) = hh →
      (∀ {pc : Nat} {L : List (Nat × Value)} {ws : va_W} {cells slots : Nat} (v : Int32) (u : S), decode cc pc = .ok (.ireturn, 1) → post v u → ws = wsO u → cells ≤ mc → slots ≤ ms → narrow ty (.int v) = .int v → va_K D vwCl (tyO u) s → Sm p l e { frames := fr, cells := mc, slots := ms, locals := lo } s m args below meth c Q A D nl cells slots ws pc L [.int v]) →
      Sm p l e { frames := fr, cells := mc, slots := ms, locals := lo } s m args below meth c Q A D nl 0 0 wsI 0 L0 []) : CtH l D gt y cc nl ty hh fr lo mc ms As wsI tys post wsO tyO := by
  intro sz
  refine met_ofWH (cc := cc) (maxL := nl) (ret := (some ty)) (hh := hh) hy rfl ?_
  intro p e s m args below meth c s₁ B hml hEx hv
  obtain ⟨rfl, hsz, hP, hK, hD0, hG⟩ := hv
  have hx := B.exec
  have hb := B.bytes
  have hr := B.returns
  have hts := atoms_spec (ws := wsW_ y cc nl (some ty) hh) B.pre
  have hts : ∀ w ∈ lw_all, w.before _ s = true := fun w h => hts w (List.mem_cons_of_mem _ h)
  have hown : s.vm.findClass own = some m.cls := by rw [← hcls]; exact findClass_of_methodNamed B.named
  have hlocks := B.notSynchronized
  subst hsz
  have hD := hD0.self (sz := s.heap.size)
  have hS : va_S (va_A wsI s.heap.size) s.heap s.heap [] := va_S.rf
  have hl := lv_entry As (n := nl) hlen
  rw [lg_entry_eq]
  generalize (lg_sl As ++ List.replicate (nl - (lg_sl As).length) Slot.unset).toArray = ls at hl ⊢
  rw [hL] at hl
  refine h p e s m _ below meth c _ (va_A wsI s.heap.size) ⟨hx, hb, hml, hown, hts, hK, hG, hlocks, hr, fun q h => Or.inr h⟩ hEx ?_ s.heap [] ls hP hD hS hl
  intro pc L ws cells slots v u d hp hw h1 h2 hn hK2 H locs ls hP hD hS hl
  subst hw
  exact W.widen h1 h2 (W.zret hx hb hr hn (fun t ht hW => ⟨⟨v, u, rfl, hp, by rw [ht]; exact hP, va_K.moved hW.alike hK2, hD⟩, hS.F ht⟩) hS.2.2 d hlocks)
end
section
variable {p : Program} {l : Launch} {e : Env} {R : Room} {s : State} {m : MethodId} {args : Array Value} {below : List Frame} {meth : Method} {c : Code} {Q : State → Prop} {A : Nat → Prop} {D : va_G} {nL cells slots : Nat} {ws : va_W} {pc : Nat} {L : List (Nat × Value)}
variable {cc : ByteArray} {own : String} {ret : Option FieldType} {tys tyc : List (ClassId × FieldType)} {gt : Nat → Nat}
variable {y : MethodName} {b : ByteArray} {nl fr lo mc ms n index : Nat} {r : Option FieldType} {As S0 S1 : List Value} {wc wr : va_W} {isC isR isT : List Nat} {Qc : Nat → Array Value → State → Outcome → State → Prop}
def KVH (own : String) (idx : Nat) (C : String) (y : MethodName) (b : ByteArray) (nl : Nat) (r : Option FieldType) (hh : List (Nat × Nat × Nat × Nat)) (n : Nat) : Prop := Cond.methodLink own idx y ∈ lw_all ∧ Cond.instanceMethod y ∈ lw_all ∧ Cond.selects C y y ∈ lw_all ∧ Cond.initialized C ∈ lw_all ∧ Cond.codeWith y b nl r hh ∈ lw_all ∧ (y.cls = C ∧ y.cls ≠ "java/lang/invoke/MethodHandle" ∧ y.cls ≠ "java/lang/invoke/VarHandle" ∧ (parseMethodDescriptor y.desc).map (fun d => d.parameters.length) = some n)
theorem rVH {hh : List (Nat × Nat × Nat × Nat)} {bb : Nat} {C : String} (E : En p s m args meth c A cc nL own ret D tys gt) (hcut : Cut ws wc wr tys tyc isC isR isT) (hM : CmH l D gt y b nl r hh fr lo mc ms (.ref bb :: As) wc tyc Qc) (hK : KVH own index C y b nl r hh n) (hfr : fr + 1 ≤ R.frames) (hlo : 8 + (nl + 11) + lo ≤ R.locals) (hmc : cells + mc ≤ R.cells) (hms : slots + ms ≤ R.slots)
    {ci N : Nat} {T : u_T} {fs : List Value} (qb : Nat) (hb : ws[qb]? = some (bb, .inr (ci, fs))) (hci : vwCl[ci]? = some (C, T, N)) (hn : As.length = n) (hst : S1 = As.reverse ++ .ref bb :: S0) (hcat : (S0.map fun v => v.category).sum ≤ 8) (d : decode cc pc = .ok (.invokevirtual index, 3)) :
    Rn p l e R s m args below meth c A D nL cells slots mc ms ws wc pc L S1 S0 (.ref bb :: As) Qc := by
  intro H locs ls hP hD hS hl
  obtain ⟨k1, k2, k3, k4, k5, k6⟩ := hK
  exact vx_runVW (As := As) (rest := S0) ⟨E.1, E.2.1, E.2.2.1, E.2.2.2.1, E.2.2.2.2.1⟩ (hM H.size) (vx_cwVW n E.2.2.2.2.1 (lw_VW k1 k2 k3 k4 k5) rfl rfl rfl k6 ⟨hfr, hlo⟩) ⟨CPre.blind, va_recv E.2.2.2.2.2.1 hP hci hb, pre_of E hcut hP hD hS _⟩ rfl hn hl.1 hst (lv_room hcat) d ⟨hmc, hms⟩
theorem s_catch (E : En p s m args meth c A cc nL own ret D tys gt) {ws : va_W} {E9 name : String} {q st en hp ci : Nat} (hEx : c.exceptionTable.toList.map (fun h => (h.startPc, h.endPc, h.handlerPc, h.catchType)) = [(st, en, hp, ci)]) (h1 : st ≤ pc) (h2 : pc < en) (h0 : ci ≠ 0) (hlink : Cond.classLink own ci name ∈ lw_all) (hcast : Cond.castable E9 name ∈ lw_tbl) (K : Sm p l e R s m args below meth c Q A D nL cells slots ws hp L [.ref q]) : SmX p l e R s m args below meth c Q A D nL cells slots ws pc L E9 q := by
  intro H locs ls rest ce hP hD hS hl hce hcv hcl
  obtain ⟨x, hx, hxe⟩ : ∃ x, c.exceptionTable.toList = [x] ∧ (x.startPc, x.endPc, x.handlerPc, x.catchType) = (st, en, hp, ci) := by
    generalize c.exceptionTable.toList = tb at hEx
    match tb, hEx with
    | [x], hEx => exact ⟨x, rfl, by simpa using hEx⟩
  have e1 : x.startPc = st := congrArg (fun z => z.1) hxe
  have e2 : x.endPc = en := congrArg (fun z => z.2.1) hxe
  have e3 : x.handlerPc = hp := congrArg (fun z => z.2.2.1) hxe
  have e4 : x.catchType = ci := congrArg (fun z => z.2.2.2) hxe
  refine vx_catch (own := own) (name := name) E.2.2.2.1 [] x [] hx (fun z hz => by cases hz) (by simp [covers, e1, e2, h1, h2]) (by rw [e4]; exact h0) (by rw [e4]; exact E.2.2.2.2.1 _ hlink) (va_Nw.use rfl (E.2.2.2.2.2.2.1.2.2.2.1 _ hcast rfl)) hce hcv hcl ?_
  rw [e3]
  exact K H locs ls hP hD hS hl
end
