theorem c0_iff {s : Nat → Nat → Int32} {v : Int32} (h : In (s 3 0) 61) : (decide (v = 0) || isC s v) = true ↔ (¬ v < nI 0 ∧ ¬ s 3 0 < v) := by
  rw [Bool.or_eq_true, decide_eq_true_eq, isC_iff]
  have hB := h.2
  constructor
  · rintro (rfl | k)
    · refine ⟨by decide, ?_⟩
      rw [h.1]
      exact nI_pos (by omega)
    · exact ⟨fun z => k.1 (Int32.lt_trans z (by decide)), k.2⟩
  · intro k
    obtain ⟨j, hj, rfl⟩ := nI_of k.1
    by_cases e : j = 0
    · subst e; exact Or.inl rfl
    · exact Or.inr ⟨fun z => by have := (nI_ltI hj (by decide)).mp z; omega, k.2⟩
theorem c0_in {s : Nat → Nat → Int32} {v : Int32} (h : In (s 3 0) 61) (k : ¬ v < nI 0 ∧ ¬ s 3 0 < v) : In v 61 := by
  obtain ⟨j, hj, rfl⟩ := nI_of k.1
  have h2 := k.2
  rw [h.1] at h2
  have hB := h.2
  refine In.of ?_ (by decide)
  rcases Nat.lt_or_ge (tN (s 3 0)) j with c | c
  · exact absurd (nI_lt c hj) h2
  · omega
theorem upd_2 {f : Nat → Int32} {k : Nat} {v w : Int32} : upd (upd f k v) k w = upd f k w := by
  funext j
  unfold upd
  by_cases e : j = k
  · rw [if_pos e, if_pos e]
  · rw [if_neg e, if_neg e, if_neg e]
theorem upd_id {f : Nat → Int32} {k : Nat} : upd f k (f k) = f := by
  funext j
  unfold upd
  by_cases e : j = k
  · rw [if_pos e, e]
  · rw [if_neg e]
theorem PC.off {P : Nat → Int32} {n k : Nat} {v : Int32} (h : PC P n) (hk : n ≤ k) : PC (upd P k v) n := by
  intro u hu
  unfold upd
  rw [if_neg (by omega)]
  exact h u hu
theorem vw_swap {τ : Nat → Nat → Int32} {P : Nat → Int32} {a b : Nat} : vw τ (upd (upd P a (P b)) b (P a)) = swapF (vw τ P) a b := by
  unfold swapF
  rw [vw_25, ← vw_upd, ← vw_upd]
theorem PC.swap {P : Nat → Int32} {n a b : Nat} (h : PC P n) (ha : a < n) (hb : b < n) : PC (upd (upd P a (P b)) b (P a)) n := (h.put (h b hb)).put (h a ha)
theorem vw_down {τ : Nat → Nat → Int32} {P : Nat → Int32} {u : Nat} : vw τ (upd P (6 + u) (P (6 + u) - nI 1)) = downF (vw τ P) u := by
  unfold downF
  rw [vw_upd, vw_25]
