/-! A WHOLE TEXT: the law of its lines -/
set_option maxRecDepth 100000
theorem KD.key {a v k w : Int32} (h : KD a v k w) (ha : a = nI 0) : ∃ x, x < 11 ∧ v = nI x ∧ w = nI (kp x) := by
  rcases h with ⟨rfl, -⟩ | ⟨-, -, h⟩ | ⟨rfl, -⟩ | ⟨rfl, -⟩ | ⟨rfl, -⟩ | ⟨rfl, -⟩
  · exact absurd ha (by decide)
  · exact h
  · exact absurd ha (by decide)
  · exact absurd ha (by decide)
  · exact absurd ha (by decide)
  · exact absurd ha (by decide)
theorem line_f {n : Nat} {s : Nat → Nat → Int32} (h : ¬ lnW n s 0 21 = 0) : lineS n s 0 21 = lnW n s 0 21 ∧ lineS n s 0 22 = lnW n s 0 22 ∧ ¬ lineS n s 0 21 = 0 := by
  have q := (Re.rlnE (w := lnW n s)).1 h
  have e : ∀ j, j ≠ 15 → lineS n s 0 j = lnE (lnW n s) 0 j := fun j hj => st1_nj hj
  rw [e 21 (by decide), e 22 (by decide), q.1, q.2]
  exact ⟨rfl, rfl, h⟩
theorem line_x {n : Nat} {s : Nat → Nat → Int32} (h0 : s 0 21 = 0) (h19 : ¬ s 0 19 = nI 0) : lineS n s 0 21 = nI 1 ∧ lineS n s 0 22 = s 0 18 ∧ ¬ lineS n s 0 21 = 0 := by
  have e : lnW n s = wrongS (nI 1) s := by unfold lnW; exact if_pos h19
  have k := line_f (n := n) (s := s) (by rw [e]; exact wr_ne h0 (by decide))
  rw [e, (wr_two h0).1, (wr_two h0).2] at k
  exact k
theorem line_1 {n : Nat} {s : Nat → Nat → Int32} (h0 : lnW n s 0 21 = 0) (h : ¬ lnW n s 0 19 = nI 3) : lineS n s 0 21 = nI 1 ∧ lineS n s 0 22 = lnW n s 0 18 ∧ ¬ lineS n s 0 21 = 0 := by
  have e2 : lnE (lnW n s) = wrongS (nI 1) (lnW n s) := by unfold lnE; rw [if_pos ⟨h0, h⟩, wrongS_go (by decide)]
  have e : ∀ j, j ≠ 15 → lineS n s 0 j = lnE (lnW n s) 0 j := fun j hj => st1_nj hj
  rw [e 21 (by decide), e 22 (by decide), e2, (wr_two h0).1, (wr_two h0).2]
  exact ⟨rfl, rfl, by decide⟩
theorem line_s {n : Nat} {s : Nat → Nat → Int32} (h0 : lnW n s 0 21 = 0) (h : lnW n s 0 19 = nI 3) : lineS n s = st1 (tokS (lnW n s)) 0 15 (tokS (lnW n s) 0 15 + nI 1) := by
  have e2 : lnE (lnW n s) = tokS (lnW n s) := by unfold lnE; rw [if_neg (fun z => z.2 h), goOnS_0 h0]
  unfold lineS
  rw [e2]
theorem lnF_f {f : Nat} {w : Nat → Nat → Int32} (h : ¬ w 0 21 = 0) : lnF f w = w := lnF_stop (fun z => h z.1)
theorem lnF_step {f : Nat} {w : Nat → Nat → Int32} (h : w 0 21 = 0) (h4 : ¬ w 0 19 = nI 4) : lnF (f + 1) w = lnF f (lineS (tN (w 3 17)) w) := by rw [lnF, if_pos ⟨h, h4⟩]
theorem lnW_1 {n : Nat} {s : Nat → Nat → Int32} (hB : s 3 10 = nI (tN (s 3 10))) : lnW n s 1 = s 1 := by
  unfold lnW
  repeat' split
  · exact wrongS_r (by decide)
  · unfold readBandS
    rw [ro_row (by decide) (by decide) (by decide)]
    split
    · rfl
    · exact wrongS_r (by decide)
  · exact ro_row (by decide) (by decide) (by decide)
  · exact ro_row (by decide) (by decide) (by decide)
  · exact ro_row (by decide) (by decide) (by decide)
  · unfold readLossS; rw [lossIt_r (by decide) (by decide), onceS_r (by decide) (by decide)]
  · exact user_o (by decide) (by decide) (by decide)
  · exact fixed_o hB (by decide) (by decide)
  · exact block_o (by decide) (by decide) (by decide)
  · exact link_o (by decide) (by decide)
  · exact slots_o (by decide) (by decide)
  · exact ro_row (by decide) (by decide) (by decide)
