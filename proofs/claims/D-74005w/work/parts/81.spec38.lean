/-! A SEARCH's answer, by its sign -/
set_option maxRecDepth 100000
theorem srF_q {n S : Nat} (f : Nat) : ∀ (p : Nat) (s : Nat → Nat → Int32) (k : Nat), k ≤ 600 → (srF n S f p s k).2.2 ≤ 600 := by
  induction f with
  | zero => intro p s k h; exact h
  | succ f ih =>
    intro p s k h
    rw [srF]
    split
    · exact h
    · split
      · exact h
      · split
        · exact (nfR_q h).2
        · split
          · exact ih _ _ _ (nfR_q h).2
          · exact ih _ _ _ (nfR_q h).2
theorem srR_q {s : Nat → Nat → Int32} {n S : Nat} : (srR s n S).2.2 ≤ 600 := srF_q _ _ _ _ (Nat.zero_le _)
theorem go_f {s : Nat → Nat → Int32} {n S : Nat} (h : goV s n S = nI 0) : ¬ srV s n S < 0 := by
  rcases goV_srV (s := s) (n := n) (S := S) (fun _ => Nat.lt_of_le_of_lt srR_q (by decide)) with k | k
  · exact k.2
  · intro z
    rw [← k.1, h] at z
    exact absurd z (by decide)
theorem go_n {s : Nat → Nat → Int32} {n S : Nat} (h : ¬ goV s n S = nI 0) : goV s n S = srV s n S ∧ srV s n S < 0 := by
  rcases goV_srV (s := s) (n := n) (S := S) (fun _ => Nat.lt_of_le_of_lt srR_q (by decide)) with k | k
  · exact absurd k.1 h
  · exact k
theorem zP_full {P : Nat → Int32} {n : Nat} (hn : n ≤ 6) {u : Nat} (hu : u < n) : zP P (2 ^ n - 1) n u = nI 0 := by
  rw [zP_at, if_pos ⟨hu, full_bit n (by omega) u hu⟩]
theorem RC.full {τ : Nat → Nat → Int32} {P : Nat → Int32} {n : Nat} {b : Int32} (hn : n ≤ 6) (hb : In b 61) : RC τ (zP P (2 ^ n - 1) n) n b := by
  intro u hu
  rw [zP_full hn hu]
  exact Or.inl (lt0 hb.1 (by have := hb.2; omega))
theorem RC.zt {τ : Nat → Nat → Int32} {P : Nat → Int32} {n S : Nat} (h : XT τ n) : RC τ (zP P S n) n (τ 3 0) := RC.told h
