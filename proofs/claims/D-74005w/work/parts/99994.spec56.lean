/-! A READER's line about a new user: the law -/
set_option maxRecDepth 100000
theorem us_6 {n : Nat} {s : Nat → Nat → Int32} (h0 : s 0 21 = 0) (h : s 3 17 = nI 6) : readUserS n s 0 21 = nI 2 ∧ readUserS n s 0 22 = s 0 18 ∧ ¬ readUserS n s 0 21 = 0 := by
  have h1 : st1 s 0 14 (nI 1) 0 21 = 0 := by rw [st1_nj (by decide)]; exact h0
  have h2 := wr_ne (v := nI 2) h1 (by decide)
  have e : us1 s = wrongS (nI 2) (st1 s 0 14 (nI 1)) := by unfold us1; rw [if_pos h, goOnS_1 h2]
  have e2 : readUserS n s = wrongS (nI 2) (st1 s 0 14 (nI 1)) := by unfold readUserS us2; rw [e, if_neg h2]
  rw [e2]
  exact ⟨(wr_two h1).1, by rw [(wr_two h1).2, st1_nj (by decide)], h2⟩
theorem us1_of {s : Nat → Nat → Int32} (h0 : s 0 21 = 0) (h : ¬ s 3 17 = nI 6) : us1 s = tokS (st1 s 0 14 (nI 1)) := by
  unfold us1
  rw [if_neg h, goOnS_0 (by rw [st1_nj (by decide)]; exact h0)]
theorem us_1 {n : Nat} {s w : Nat → Nat → Int32} (e : us1 s = w) (hw : w 0 21 = 0) (h : ¬ w 0 19 = nI 1) : readUserS n s 0 21 = nI 1 ∧ readUserS n s 0 22 = w 0 18 ∧ ¬ readUserS n s 0 21 = 0 := by
  have e2 : readUserS n s = wrongS (nI 1) w := by unfold readUserS us2; rw [e, if_pos hw, if_neg h]
  rw [e2]
  exact ⟨(wr_two hw).1, (wr_two hw).2, wr_ne hw (by decide)⟩
theorem us_3 {n : Nat} {s w : Nat → Nat → Int32} (e : us1 s = w) (hw : w 0 21 = 0) (h : w 0 19 = nI 1) (k : ¬ nameF w 6 (w 0 20) n = -1) : readUserS n s 0 21 = nI 3 ∧ readUserS n s 0 22 = w 0 18 ∧ ¬ readUserS n s 0 21 = 0 := by
  have e2 : readUserS n s = wrongS (nI 3) w := by unfold readUserS us2; rw [e, if_pos hw, if_pos h, if_neg k]
  rw [e2]
  exact ⟨(wr_two hw).1, (wr_two hw).2, wr_ne hw (by decide)⟩
theorem us_ok {n : Nat} {s w : Nat → Nat → Int32} (e : us1 s = w) (hw : w 0 21 = 0) (h : w 0 19 = nI 1) (k : nameF w 6 (w 0 20) n = -1) : readUserS n s = us3 n w := by unfold readUserS us2; rw [e, if_pos hw, if_pos h, if_pos k]
/-- a fault stays through what is put behind it -/
theorem putN_0 {r N : Nat} {lo hi : Int32} {w : Nat → Nat → Int32} {j : Nat} (h0 : r ≠ 0) (h : ¬ w 0 21 = 0) : putN r N lo hi w 0 j = w 0 j := by
  unfold putN
  rw [st1_ne (Ne.symm h0), num_id h]
theorem us3_0 {n j : Nat} {w : Nat → Nat → Int32} : us3 n w 0 j = xe n w 0 j := by
  unfold us3 xf
  rw [st1_ne (by decide), st1_ne (by decide), st1_ne (by decide)]
