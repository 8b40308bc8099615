/-! A READER's line about blocked channels: the law -/
set_option maxRecDepth 100000
theorem bk_3 {s : Nat → Nat → Int32} (h : ¬ bl3 s 0 21 = 0) : readBlockS s = bl3 s := by unfold readBlockS; rw [if_neg h]
theorem bk_2 {s : Nat → Nat → Int32} (h : ¬ bl2 s 0 21 = 0) : readBlockS s = bl2 s := by
  have e : bl3 s = bl2 s := by unfold bl3; rw [num_id h]
  rw [bk_3 (by rw [e]; exact h), e]
theorem bk_1 {s : Nat → Nat → Int32} (h : ¬ bl1 s 0 21 = 0) : readBlockS s = bl1 s := by
  have e : bl2 s = bl1 s := by unfold bl2; rw [num_id h]
  rw [bk_2 (by rw [e]; exact h), e]
theorem bk_6 {s : Nat → Nat → Int32} (h0 : s 0 21 = 0) (h : s 3 18 = nI 6) : readBlockS s 0 21 = nI 2 ∧ readBlockS s 0 22 = s 0 18 ∧ ¬ readBlockS s 0 21 = 0 := by
  have h1 : st1 s 0 14 (nI 1) 0 21 = 0 := by rw [st1_nj (by decide)]; exact h0
  have h2 := wr_ne (v := nI 2) h1 (by decide)
  have e : bl1 s = wrongS (nI 2) (st1 s 0 14 (nI 1)) := by unfold bl1; rw [if_pos h, goOnS_1 h2]
  rw [bk_1 (by rw [e]; exact h2), e]
  exact ⟨(wr_two h1).1, by rw [(wr_two h1).2, st1_nj (by decide)], h2⟩
theorem bl1_of {s : Nat → Nat → Int32} (h0 : s 0 21 = 0) (h : ¬ s 3 18 = nI 6) : bl1 s = tokS (st1 s 0 14 (nI 1)) := by
  unfold bl1
  rw [if_neg h, goOnS_0 (by rw [st1_nj (by decide)]; exact h0)]
theorem bk_ok {s : Nat → Nat → Int32} (h : bl3 s 0 21 = 0) : readBlockS s = st1 (upR (bl3 s) 13 (blkF (bl3 s 13) (blA s) (blB s + 1))) 3 18 (bl3 s 3 18 + nI 1) := by unfold readBlockS; rw [if_pos h]
theorem RL.up13 {s σ : Nat → Nat → Int32} {f : Nat → Int32} (h : RL s σ) : RL (upR s 13 f) σ := by
  obtain ⟨h1, h2, h3, h4, h5, h6, h7, h8, h9⟩ := h
  exact ⟨h1.up (by decide) (by decide), h2, h3, h4, h5, h6, ⟨fun r hr => by rw [upR_ne (by omega)]; exact h7 r hr, h8, h9⟩⟩
theorem RL.st31 {s σ : Nat → Nat → Int32} {N : Nat} {v : Int32} (h : RL s σ) : RL s (st1 σ 31 N v) := by
  obtain ⟨h1, h2, h3, h4, h5, h6, h7, h8, h9⟩ := h
  exact ⟨h1, h2, h3, h4, h5, h6, ⟨fun r hr => by rw [st1_ne (by omega)]; exact h7 r hr, h8, h9⟩⟩
theorem lsF_st {σ : Nat → Nat → Int32} {N : Nat} {v : Int32} (h : N < 14 ∨ 16 < N) : lsF (st1 σ 3 N v) = lsF σ := by
  funext j
  unfold lsF
  split
  · rw [st1_nj (by omega)]
  · rfl
