/-! WHAT IS TOLD AT FIRST -/
set_option maxRecDepth 100000
section
variable {p : Program} {l : Launch} {e : Env} {R : Room} {s : State} {m : MethodId} {args : Array Value} {below : List Frame} {meth : Method} {c : Code} {Q : State → Prop} {A : Nat → Prop} {D : va_G} {nL cells slots : Nat} {ws : va_W} {pc : Nat} {L : List (Nat × Value)} {S : List Value}
variable {cc : ByteArray} {own : String} {ret : Option FieldType} {tys : List (ClassId × FieldType)} {gt : Nat → Nat}
theorem s_newqT (E : En p s m args meth c A cc nL own ret D tys gt) {C : String} {index : Nat} (hq : Cond.classLink own index C ∈ lw_all) (hover : va_AO C s) (t0 : Nat) {cT : ClassId} (ht : tys[t0]? = some (cT, .object C)) {n : Int32} {N : Nat} (hn : ¬ n < 0) (hN : n.toNatClampNeg = N) (hbytes : N * 4 ≤ 536870912) (hcells : cells + 1 ≤ R.cells) (hslots : slots + N ≤ R.slots) (d : decode cc pc = .ok (.anewarray index, 3))
    (K : ∀ q : Nat, Sm p l e R s m args below meth c Q A D nL (cells + 1) (slots + N) (ws ++ [(q, .inl (cT, N, .inr (.inr (.inr (.inr (fun _ => none))))))]) (pc + 3) L (.ref q :: S)) : Sm p l e R s m args below meth c Q A D nL cells slots ws pc L (.int n :: S) :=
  s_newq E hq hover hn hN hbytes hcells hslots d (fun q cA E2 => by
    have h1 := (E2.2.2.2.2.2.1.2 tys.length (cA, .object C) (by simp)).2
    have h2 := (E.2.2.2.2.2.1.2 t0 (cT, .object C) ht).2
    obtain ⟨_, _, _, _, _, a⟩ := h1
    obtain ⟨_, _, _, _, _, b⟩ := h2
    have e : cA = cT := Option.some.inj (a.symm.trans b)
    subst e
    exact K q)
end
def lsI : Nat → Int32 := upd (upd (upd (fun _ => 0) 0 (nI 5)) 1 (nI 10)) 2 (nI 20)
def lkI : Nat → Int32 := upd (upd (upd (upd (upd (upd (upd (upd (upd (fun _ => 0) 0 (nI 0)) 1 (-2)) 2 (-2)) 3 (-2)) 4 (nI 0)) 5 (-2)) 6 (-2)) 7 (-2)) 8 (nI 0)
def TI (σ : Nat → Nat → Int32) : Prop := σ 3 17 = 0 ∧ σ 3 18 = 0 ∧ σ 3 10 = nI 30 ∧ σ 3 11 = 0 ∧ σ 3 12 = nI 1 ∧ σ 3 13 = nI 2 ∧ σ 3 19 = 0 ∧ σ 0 15 = 0 ∧ σ 0 30 = 0 ∧ σ 31 = (fun _ => 0) ∧ lsF σ = lsI ∧ lkF σ = lkI
theorem told_w {ra : Nat → Nat} {ct : Nat → ClassId} {σ : Nat → Nat → Int32} (h : TI σ) : [(ra 1, .inr (1, [.ref (ra 2), .ref (ra 3), .ref (ra 4), .ref (ra 5), .int 0, .int 0, .int (nI 30), .int 0, .int (nI 1), .int (nI 2), .int 0, .int 0, .int 0])), (ra 2, .inl (ct 3, 6, .inr (.inr (.inr (.inr (fun _ => none)))))), (ra 3, .inl (ct 0, 12, .inl (fun _ => 0))), (ra 4, .inl (ct 0, 3, .inl lsI)), (ra 5, .inl (ct 0, 9, .inl lkI))] = tW ra ct 0 σ := by
  obtain ⟨h1, h2, h3, h4, h5, h6, h7, h8, h9, h10, h11, h12⟩ := h
  have e : usR ra 0 = fun _ => none := by funext k; unfold usR; rw [if_neg (Nat.not_lt_zero k)]
  have e2 : uR ra σ 0 = [] := rfl
  unfold tW tfR
  rw [h1, h2, h3, h4, h5, h6, h7, h8, h9, h10, h11, h12, e, e2]
theorem tW_ra0 {ra rb : Nat → Nat} {ct : Nat → ClassId} {σ : Nat → Nat → Int32} (h : ∀ k, 1 ≤ k → ra k = rb k) : tW ra ct 0 σ = tW rb ct 0 σ := by
  have e2 : ∀ rc : Nat → Nat, uR rc σ 0 = [] := fun _ => rfl
  have e : ∀ rc : Nat → Nat, usR rc 0 = fun _ => none := by intro rc; funext k; unfold usR; rw [if_neg (Nat.not_lt_zero k)]
  unfold tW tfR
  rw [e2, e2, e, e, h 1 (by decide), h 2 (by decide), h 3 (by decide), h 4 (by decide), h 5 (by decide)]
def RZ (σ : Nat → Nat → Int32) (N : Nat) : Prop := σ 0 16 = nI N ∧ σ 0 17 = 0 ∧ σ 0 18 = 0 ∧ σ 0 19 = 0 ∧ σ 0 20 = 0 ∧ σ 0 14 = 0
theorem rdr_w {ad ra : Nat → Nat} {ct : Nat → ClassId} {ξ σ : Nat → Nat → Int32} {T : va_W} {N : Nat} (h : RZ σ N) : (ra 0, .inr (5, [.int (nI N), .ref (ra 1), .int 0, .int 0, .int 0, .int 0, .int 0, .ref (ad 0)])) :: (xtW ad ct ξ ++ T) = rw ad ra ct ξ σ T := by
  obtain ⟨h1, h2, h3, h4, h5, h6⟩ := h
  unfold rw rdf
  rw [h1, h2, h3, h4, h5, h6]
def rdZ : List Value := [.int 0, .null, .int 0, .int 0, .int 0, .int 0, .int 0, .null]
def tdZ : List Value := [.null, .null, .null, .null, .int 0, .int 0, .int 0, .int 0, .int 0, .int 0, .int 0, .int 0, .int 0]
theorem df_X2 : ∀ j, j < 13 → defaultValue (tyX2 j) = vp_V tdZ j := by
  intro j hj
  obtain rfl | rfl | rfl | rfl | rfl | rfl | rfl | rfl | rfl | rfl | rfl | rfl | rfl : j = 0 ∨ j = 1 ∨ j = 2 ∨ j = 3 ∨ j = 4 ∨ j = 5 ∨ j = 6 ∨ j = 7 ∨ j = 8 ∨ j = 9 ∨ j = 10 ∨ j = 11 ∨ j = 12 := by omega
  all_goals rfl
theorem df_X6 : ∀ j, j < 8 → defaultValue (tyX6 j) = vp_V rdZ j := by
  intro j hj
  obtain rfl | rfl | rfl | rfl | rfl | rfl | rfl | rfl : j = 0 ∨ j = 1 ∨ j = 2 ∨ j = 3 ∨ j = 4 ∨ j = 5 ∨ j = 6 ∨ j = 7 := by omega
  all_goals rfl
