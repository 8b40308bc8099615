theorem bI_cg {P Q : Prop} [Decidable P] [Decidable Q] (h : P ↔ Q) : bI P = bI Q := by
  by_cases p : P
  · rw [bI_t p, bI_t (h.mp p)]
  · rw [bI_f p, bI_f (fun q => p (h.mpr q))]
theorem isU_iff {n : Nat} {u : Int32} (hn : n ≤ 6) : isU n u = true ↔ (¬ u < nI 0 ∧ ¬ nI n - nI 1 < u) := by
  unfold isU
  simp only [Bool.and_eq_true, Bool.not_eq_true', decide_eq_false_iff_not, decide_eq_true_eq]
  refine and_congr_right fun h => ?_
  obtain ⟨j, hj, rfl⟩ := nI_of h
  by_cases e : n = 0
  · subst e
    constructor
    · intro k; exact absurd k (nI_nlt (Nat.zero_le _) hj)
    · intro k
      exfalso
      apply k
      have e1 : (nI 0 - nI 1 : Int32) = -1 := by decide
      rw [e1]
      exact Int32.lt_of_lt_of_le (by decide : (-1 : Int32) < 0) (nI_pos' hj)
  · rw [nI_dec (by omega), nI_ltI hj (by omega), nI_ltI (by omega) hj]
    omega
theorem isC_iff {τ : Nat → Nat → Int32} {c : Int32} : isC τ c = true ↔ (¬ c < nI 1 ∧ ¬ τ 3 0 < c) := by
  unfold isC
  simp only [Bool.and_eq_true, Bool.not_eq_true', decide_eq_false_iff_not]
theorem isU_In {n : Nat} {u : Int32} (h : isU n u = true) (hn : n ≤ 6) : u = nI (tN u) ∧ tN u < n := by
  unfold isU at h
  simp only [Bool.and_eq_true, Bool.not_eq_true', decide_eq_false_iff_not, decide_eq_true_eq] at h
  obtain ⟨j, hj, rfl⟩ := nI_of h.1
  have := (nI_ltI hj (by omega)).mp h.2
  rw [tN_nI hj]
  exact ⟨rfl, this⟩
theorem tr_le {s : Nat → Nat → Int32} {n : Nat} (hn : n ≤ 8) : hitsT s n (prods s n) + crowdsT s n < 1000000 := by
  have h1 : hitsT s n (prods s n) ≤ (prods s n).length * 8 := sumN_le fun p _ => pop_le _
  have h2 := prods_len8 s hn
  have h3 : sumN (crowdF s n) n ≤ n * 8 := sumN_le fun p _ => pop_le _
  have h4 : crowdsT s n ≤ sumN (crowdF s n) n := Nat.div_le_self _ _
  omega
theorem RC.told {τ : Nat → Nat → Int32} {n : Nat} {P : Nat → Int32} (h : XT τ n) : RC τ P n (τ 3 0) := by
  intro u hu
  refine Or.inr ?_
  have h1 := (h.2.2.2.1 u hu).2.1
  have h2 := h.2.2.2.2.1
  rw [h1.1, h2.1, nI_ltI (by have := h2.2; omega) (by have := h1.2; omega)]
  have := h.2.2.2.2.2.2.1 u hu
  omega
