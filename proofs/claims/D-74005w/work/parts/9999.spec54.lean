/-! A READER's line about a link: the law -/
set_option maxRecDepth 100000
theorem lk_end {s w : Nat → Nat → Int32} (h : lk5 s = w) (hw : ¬ w 0 21 = 0) : readLinkS s = w := by
  have e : lk7 s = w := by unfold lk7; rw [h, goOnS_1 hw, num_id hw]
  unfold readLinkS
  rw [e, if_neg hw]
theorem lk_4 {s w : Nat → Nat → Int32} (h : lk4 s = w) (hw : ¬ w 0 21 = 0) : readLinkS s = w := by
  refine lk_end ?_ hw
  unfold lk5
  rw [h, if_neg (fun z => hw z.1)]
theorem lk_3 {s w : Nat → Nat → Int32} (h : lk3 s = w) (hw : ¬ w 0 21 = 0) : readLinkS s = w := by
  refine lk_4 ?_ hw
  unfold lk4
  rw [h, if_neg (fun z => hw z.1)]
theorem lk_2 {s w : Nat → Nat → Int32} (h : lk2 s = w) (hw : ¬ w 0 21 = 0) : readLinkS s = w := by
  refine lk_3 ?_ hw
  unfold lk3
  rw [h, if_neg (fun z => hw z.1)]
theorem wr_ne {s : Nat → Nat → Int32} {v : Int32} (h : s 0 21 = 0) (hv : v ≠ 0) : ¬ wrongS v s 0 21 = 0 := by rw [(wr_two h).1]; exact hv
/-- the first number is wrong -/
theorem lkx_1 {s : Nat → Nat → Int32} (h0 : s 0 21 = 0) (hx : ¬ numS (nI 0) (nI 2) (tokS s) 0 21 = 0) : readLinkS s = numS (nI 0) (nI 2) (tokS s) := by
  refine lk_2 ?_ hx
  unfold lk2; rw [goOnS_0 h0]
theorem lk2_of {s : Nat → Nat → Int32} (h0 : s 0 21 = 0) : lk2 s = numS (nI 0) (nI 2) (tokS s) := by unfold lk2; rw [goOnS_0 h0]
/-- no number behind it -/
theorem lkx_2 {s w : Nat → Nat → Int32} (h : lk2 s = w) (hw : w 0 21 = 0) (hx : ¬ w 0 19 = nI 2) : readLinkS s 0 21 = nI 1 ∧ readLinkS s 0 22 = w 0 18 ∧ ¬ readLinkS s 0 21 = 0 := by
  have e : readLinkS s = wrongS (nI 1) w := by
    refine lk_3 ?_ (wr_ne hw (by decide))
    unfold lk3; rw [h, if_pos ⟨hw, hx⟩]
  rw [e]
  exact ⟨(wr_two hw).1, (wr_two hw).2, wr_ne hw (by decide)⟩
theorem lk3_of {s w : Nat → Nat → Int32} (h : lk2 s = w) (hx : w 0 19 = nI 2) : lk3 s = w := by unfold lk3; rw [h, if_neg (fun z => z.2 hx)]
/-- the second number is wrong -/
theorem lkx_3 {s w : Nat → Nat → Int32} (h : lk3 s = w) (hw : w 0 21 = 0) (hx : nI 2 < w 0 20 ∨ w 0 20 = nI (lkA s)) : readLinkS s 0 21 = nI 2 ∧ readLinkS s 0 22 = w 0 18 ∧ ¬ readLinkS s 0 21 = 0 := by
  have e : readLinkS s = wrongS (nI 2) w := by
    refine lk_4 ?_ (wr_ne hw (by decide))
    unfold lk4; rw [h, if_pos ⟨hw, hx⟩]
  rw [e]
  exact ⟨(wr_two hw).1, (wr_two hw).2, wr_ne hw (by decide)⟩
theorem lk4_of {s w : Nat → Nat → Int32} (h : lk3 s = w) (hx : ¬ (nI 2 < w 0 20 ∨ w 0 20 = nI (lkA s))) : lk4 s = w := by unfold lk4; rw [h, if_neg (fun z => hx z.2)]
theorem lkB_of {s w : Nat → Nat → Int32} (h : lk4 s = w) (hw : w 0 21 = 0) : lkB s = tN (w 0 20) := by unfold lkB; rw [h, if_pos hw]
/-- told already -/
theorem lkx_4 {s w : Nat → Nat → Int32} (h : lk4 s = w) (hw : w 0 21 = 0) (hx : ¬ w 12 (9 + 3 * lkA s + lkB s) = -2) : readLinkS s 0 21 = nI 3 ∧ readLinkS s 0 22 = w 0 18 ∧ ¬ readLinkS s 0 21 = 0 := by
  have e : readLinkS s = wrongS (nI 3) w := by
    refine lk_end ?_ (wr_ne hw (by decide))
    unfold lk5; rw [h, if_pos ⟨hw, hx⟩]
  rw [e]
  exact ⟨(wr_two hw).1, (wr_two hw).2, wr_ne hw (by decide)⟩
theorem lk7_of {s w : Nat → Nat → Int32} (h : lk4 s = w) (hw : w 0 21 = 0) (hx : w 12 (9 + 3 * lkA s + lkB s) = -2) : lk7 s = numS (nI 0) (nI 99) (tokS w) ∧ lkV s = numV (nI 0) (nI 99) (tokS w) := by
  have e : lk5 s = w := by unfold lk5; rw [h, if_neg (fun z => z.2 hx)]
  unfold lk7 lkV
  rw [e, goOnS_0 hw]
  exact ⟨rfl, rfl⟩
theorem lkx_5 {s : Nat → Nat → Int32} (hx : ¬ lk7 s 0 21 = 0) : readLinkS s = lk7 s := by unfold readLinkS; rw [if_neg hx]
theorem lkx_ok {s : Nat → Nat → Int32} (hx : lk7 s 0 21 = 0) : readLinkS s = st1 (st1 (lk7 s) 12 (9 + 3 * lkA s + lkB s) (lkV s)) 12 (9 + 3 * lkB s + lkA s) (lkV s) := by unfold readLinkS; rw [if_pos hx]
/-- the cells of links -/
theorem lk_cell : ∀ a, a < 3 → ∀ b, b < 3 → a ≠ b → 3 * a + b < 9 ∧ ¬ (3 * a + b = 0 ∨ 3 * a + b = 4 ∨ 3 * a + b = 8) := by decide
theorem lkF_at {σ : Nat → Nat → Int32} {j : Nat} (h : j < 9 ∧ ¬ (j = 0 ∨ j = 4 ∨ j = 8)) : lkF σ j = σ 12 (9 + j) := by unfold lkF; rw [if_pos h.1, if_neg h.2]
theorem lkF_up {σ : Nat → Nat → Int32} {j : Nat} {v : Int32} (h : j < 9 ∧ ¬ (j = 0 ∨ j = 4 ∨ j = 8)) : upd (lkF σ) j v = lkF (st1 σ 12 (9 + j) v) := by
  funext i
  unfold upd
  by_cases e : i = j
  · subst e; rw [if_pos rfl, lkF_at h, st1_eq]
  · rw [if_neg e]
    unfold lkF
    split
    · split
      · rfl
      · rw [st1_nj (by omega)]
    · rfl
theorem rt_lk {ad ra : Nat → Nat} {ct : Nat → ClassId} {ξ σ : Nat → Nat → Int32} {n j : Nat} {v : Int32} (h : j < 9 ∧ ¬ (j = 0 ∨ j = 4 ∨ j = 8)) : (rw ad ra ct ξ σ (tW ra ct n σ)).set 7 (ra 5, .inl (ct 0, 9, .inl (upd (lkF σ) j v))) = rw ad ra ct ξ (st1 σ 12 (9 + j) v) (tW ra ct n (st1 σ 12 (9 + j) v)) := by
  rw [lkF_up h]
  rfl
theorem lk_gt {v : Int32} {j : Nat} (h : v = nI j) (hj : j < 1000000) (k : ¬ (¬ v < nI 0 ∧ ¬ nI 2 < v)) : nI 2 < v := Classical.byContradiction fun z => k ⟨by rw [h]; exact nI_pos (by omega), z⟩
