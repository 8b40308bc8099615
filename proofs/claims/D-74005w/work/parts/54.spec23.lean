/-! NEW CELLS: rows of the frame -/
section
variable {p : Program} {l : Launch} {e : Env} {R : Room} {s : State} {m : MethodId} {args : Array Value} {below : List Frame} {meth : Method} {c : Code} {Q : State → Prop} {A : Nat → Prop} {D : va_G} {nL cells slots : Nat} {ws : va_W} {pc : Nat} {L : List (Nat × Value)} {S : List Value}
variable {cc : ByteArray} {own : String} {ret : Option FieldType} {tys : List (ClassId × FieldType)} {gt : Nat → Nat}
theorem s_newa (E : En p s m args meth c A cc nL own ret D tys gt) {atype : ArrayType} {ty : FieldType} (harr : Cond.arrayClass (newarray.typeOf atype) ∈ lw_all) (hty : newarray.typeOf atype = ty) {n : Int32} {N : Nat} {a0 : vp_A} (ha : ∀ cA : ClassId, vp_cell cA a0 = arrV cA N (fun _ => defaultValue ty)) (hn : ¬ n < 0) (hN : n.toNatClampNeg = N) (hbytes : N * componentBytes ty ≤ 536870912) (hcells : cells + 1 ≤ R.cells) (hslots : slots + N ≤ R.slots) (d : decode cc pc = .ok (.newarray atype, 2))
    (K : ∀ (q : Nat) (cA : ClassId), En p s m args meth c A cc nL own ret D (tys ++ [(cA, ty)]) gt → Sm p l e R s m args below meth c Q A D nL (cells + 1) (slots + N) (ws ++ [(q, .inl (cA, a0))]) (pc + 2) L (.ref q :: S)) : Sm p l e R s m args below meth c Q A D nL cells slots ws pc L (.int n :: S) :=
  fun H locs ls hP hD hS hl => va_newa E.1 E.2.1 (E.2.2.2.2.1 _ harr) hty E.2.2.2.2.2.1 hP hD hS E.2.2.2.2.2.2.2.2.2 ha hn hN hbytes hcells hslots d (fun q cA H1 hK1 hP1 hD1 hS1 => K q cA ⟨E.1, E.2.1, E.2.2.1, E.2.2.2.1, E.2.2.2.2.1, hK1, E.2.2.2.2.2.2⟩ H1 locs ls hP1 hD1 hS1 hl)
theorem s_newaT (E : En p s m args meth c A cc nL own ret D tys gt) {atype : ArrayType} {ty : FieldType} (harr : Cond.arrayClass (newarray.typeOf atype) ∈ lw_all) (hty : newarray.typeOf atype = ty) (t0 : Nat) {cT : ClassId} (ht : tys[t0]? = some (cT, ty)) {n : Int32} {N : Nat} {a0 : vp_A} (ha : ∀ cA : ClassId, vp_cell cA a0 = arrV cA N (fun _ => defaultValue ty)) (hn : ¬ n < 0) (hN : n.toNatClampNeg = N) (hbytes : N * componentBytes ty ≤ 536870912) (hcells : cells + 1 ≤ R.cells) (hslots : slots + N ≤ R.slots) (d : decode cc pc = .ok (.newarray atype, 2))
    (K : ∀ q : Nat, Sm p l e R s m args below meth c Q A D nL (cells + 1) (slots + N) (ws ++ [(q, .inl (cT, a0))]) (pc + 2) L (.ref q :: S)) : Sm p l e R s m args below meth c Q A D nL cells slots ws pc L (.int n :: S) :=
  s_newa E harr hty ha hn hN hbytes hcells hslots d (fun q cA E2 => by
    have h1 := (E2.2.2.2.2.2.1.2 tys.length (cA, ty) (by simp)).2
    have h2 := (E.2.2.2.2.2.1.2 t0 (cT, ty) ht).2
    have e : cA = cT := by subst hty; cases atype <;> exact Option.some.inj (h1.symm.trans h2)
    subst e
    exact K q)
theorem s_putF (E : En p s m args meth c A cc nL own ret D tys gt) (hN : meth.name = "<init>") {C ref : String} {T : u_T} {N ci index a : Nat} {fs : List Value} {v : Value} {ws2 : va_W} (hin : ∀ w ∈ u_ws C T N, w ∈ lw_all) (ty0 : Nat → FieldType) (hty : ∀ k, k < N → parseFieldDescriptor (T k).2.2.1 = some (ty0 k)) (hnm : ∀ a, a < N → ∀ b, b < N → a ≠ b → (T a).2.1 ≠ (T b).2.1) (q0 : Nat) (he : ws[q0]? = some (a, .inr (ci, fs))) (hc : vwCl[ci]? = some (C, T, N)) (k : Nat) (hk : k < N) (hq : Cond.fieldLink own index ref (T k).2.1 (T k).2.2.1 ∈ lw_all) (hs : (T k).1 = ref) (hfin : (T k).2.2.2 = true) (hdecl : (T k).1 = own) (hn : narrow (ty0 k) v = v) (hfit : fits (ty0 k) v = true) (hlen : k < fs.length) (hw : ws.set q0 (a, .inr (ci, fs.set k v)) = ws2) (d : decode cc pc = .ok (.putfield index, 3)) (K : Sm p l e R s m args below meth c Q A D nL cells slots ws2 (pc + 3) L S) : Sm p l e R s m args below meth c Q A D nL cells slots ws pc L (v :: .ref a :: S) := fun H locs ls hP hD hS hl => va_putF E.1 E.2.1 E.2.2.2.2.1 hin ty0 hty hnm E.2.2.2.1 E.2.2.2.2.2.1 hP hD hS q0 he hc k hk (E.2.2.2.2.1 _ hq) (fun x h => by rw [← hs]; exact h) hfin hN hdecl (hty k hk) hn hfit hlen d (fun H locs hP hD hS => K H locs ls (hw ▸ hP) (hw ▸ hD) hS hl)
theorem s_newq (E : En p s m args meth c A cc nL own ret D tys gt) {C : String} {index : Nat} (hq : Cond.classLink own index C ∈ lw_all) (hover : va_AO C s) {n : Int32} {N : Nat} (hn : ¬ n < 0) (hN : n.toNatClampNeg = N) (hbytes : N * 4 ≤ 536870912) (hcells : cells + 1 ≤ R.cells) (hslots : slots + N ≤ R.slots) (d : decode cc pc = .ok (.anewarray index, 3))
    (K : ∀ (q : Nat) (cA : ClassId), En p s m args meth c A cc nL own ret D (tys ++ [(cA, .object C)]) gt → Sm p l e R s m args below meth c Q A D nL (cells + 1) (slots + N) (ws ++ [(q, .inl (cA, N, .inr (.inr (.inr (.inr (fun _ => none))))))]) (pc + 3) L (.ref q :: S)) : Sm p l e R s m args below meth c Q A D nL cells slots ws pc L (.int n :: S) :=
  fun H locs ls hP hD hS hl => va_newq E.1 E.2.1 E.2.2.2.1 (E.2.2.2.2.1 _ hq) hover E.2.2.2.2.2.1 hP hD hS E.2.2.2.2.2.2.2.2.2 hn hN hbytes hcells hslots d (fun q cA H1 hK1 hP1 hD1 hS1 => K q cA ⟨E.1, E.2.1, E.2.2.1, E.2.2.2.1, E.2.2.2.2.1, hK1, E.2.2.2.2.2.2⟩ H1 locs ls hP1 hD1 hS1 hl)
theorem s_new (E : En p s m args meth c A cc nL own ret D tys gt) {C : String} {T : u_T} {N ci index : Nat} {fs : List Value} (hin : ∀ w ∈ u_ws C T N, w ∈ lw_all) (ty0 : Nat → FieldType) (hty : ∀ k, k < N → parseFieldDescriptor (T k).2.2.1 = some (ty0 k)) (hq : Cond.classLink own index C ∈ lw_all) (hinst : Cond.instantiable C N ∈ lw_all) (hini : Cond.initialized C ∈ lw_all) (hc : vwCl[ci]? = some (C, T, N)) (hfs : ∀ j, j < N → defaultValue (ty0 j) = vp_V fs j) (hcells : cells + 1 ≤ R.cells) (hslots : slots + N ≤ R.slots) (d : decode cc pc = .ok (.new index, 3))
    (K : ∀ q : Nat, Sm p l e R s m args below meth c Q A D nL (cells + 1) (slots + N) (ws ++ [(q, .inr (ci, fs))]) (pc + 3) L (.ref q :: S)) : Sm p l e R s m args below meth c Q A D nL cells slots ws pc L S :=
  fun H locs ls hP hD hS hl => va_new E.1 E.2.1 E.2.2.2.2.1 hin ty0 hty E.2.2.2.1 (E.2.2.2.2.1 _ hq) (E.2.2.2.2.1 _ hinst) (E.2.2.2.2.1 _ hini) E.2.2.2.2.2.1 hP hD hS E.2.2.2.2.2.2.2.2.2 hc hfs hcells hslots d (fun q H1 hP1 hD1 hS1 => K q H1 locs ls hP1 hD1 hS1 hl)
end
section
variable {l : Launch} {D : va_G} {gt : Nat → Nat} {y : MethodName} {cc : ByteArray} {nl : Nat} {fr lo mc ms : Nat} {As : List Value} {wsI : va_W} {tys : List (ClassId × FieldType)} {S : Type} {wsO : S → va_W} {tyO : S → List (ClassId × FieldType)} {L0 : List (Nat × Value)}
theorem Cv.startI {post : S → Prop} (own : String) (hy : plainName y.cls = true) (hini : y.name = "<init>") (hcls : y.cls = own) (hlen : (lg_sl As).length ≤ nl) (hL : lv_args 0 As = L0)
    (h : ∀ (p : Program) (e : Env) (s : State) (m : MethodId) (args : Array Value) (below : List Frame) (meth : Method) (c : Code) (Q : State → Prop) (A : Nat → Prop), En p s m args meth c A cc nl own none D tys gt → meth.name = "<init>" →
      (∀ {pc : Nat} {L : List (Nat × Value)} {ws : va_W} {cells slots : Nat} (u : S), decode cc pc = .ok (.return_, 1) → post u → ws = wsO u → cells ≤ mc → slots ≤ ms → va_K D vwCl (tyO u) s → Sm p l e { frames := fr, cells := mc, slots := ms, locals := lo } s m args below meth c Q A D nl cells slots ws pc L []) →
      Sm p l e { frames := fr, cells := mc, slots := ms, locals := lo } s m args below meth c Q A D nl 0 0 wsI 0 L0 []) : Cv l D gt y cc nl fr lo mc ms As wsI tys post wsO tyO := by
  intro sz
  refine Met.ofW (cc := cc) (maxL := nl) (ret := none) hy rfl ?_
  intro p e s m args below meth c s₁ B hml hv
  obtain ⟨rfl, hsz, hP, hK, hD0, hG⟩ := hv
  have hx := B.exec
  have hb := B.bytes
  have hr := B.returns
  have hts := atoms_spec (ws := ws_ y cc nl none) B.pre
  have hts : ∀ w ∈ lw_all, w.before _ s = true := fun w h => hts w (List.mem_cons_of_mem _ h)
  have hown : s.vm.findClass own = some m.cls := by rw [← hcls]; exact findClass_of_methodNamed B.named
  have hlocks := B.notSynchronized
  subst hsz
  have hD := hD0.self (sz := s.heap.size)
  have hS : va_S (va_A wsI s.heap.size) s.heap s.heap [] := va_S.rf
  have hl := lv_entry As (n := nl) hlen
  rw [lg_entry_eq]
  generalize (lg_sl As ++ List.replicate (nl - (lg_sl As).length) Slot.unset).toArray = ls at hl ⊢
  rw [hL] at hl
  refine h p e s m _ below meth c _ (va_A wsI s.heap.size) ⟨hx, hb, hml, hown, hts, hK, hG, hlocks, hr, fun q h => Or.inr h⟩ ((name_of_methodNamed B.named B.method).1.trans hini) ?_ s.heap [] ls hP hD hS hl
  intro pc L ws cells slots u d hp hw h1 h2 hK2 H locs ls hP hD hS hl
  subst hw
  exact W.widen h1 h2 (W.vret hx hb hr (fun t ht hW => ⟨⟨u, rfl, hp, by rw [ht]; exact hP, va_K.moved hW.alike hK2, hD⟩, hS.F ht⟩) hS.2.2 d hlocks)
end
