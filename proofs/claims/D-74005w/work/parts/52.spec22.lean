/-! THE SPEC, part 22: what a text leaves of the blocked channels -/
theorem onceS_r {s : Nat → Nat → Int32} {k r : Nat} (h0 : r ≠ 0) (h4 : r ≠ 4) : onceS k s r = s r := by
  unfold onceS
  rw [goOnS_r h0, st1_ne h4]
  split
  · rfl
  · exact wrongS_r h0
theorem rdS_r {s : Nat → Nat → Int32} {f r : Nat} {lo hi : Int32} (h0 : r ≠ 0) (h3 : r ≠ 3) : rdS f lo hi s r = s r := by unfold rdS; rw [st1_ne h3, numS_r h0]
theorem lossIt_r {s : Nat → Nat → Int32} {r : Nat} (h0 : r ≠ 0) (h3 : r ≠ 3) : ∀ k, lossIt s k r = s r
  | 0 => rfl
  | k + 1 => by rw [lossIt, rdS_r h0 h3, lossIt_r h0 h3 k]
theorem us3_13 {n : Nat} {w : Nat → Nat → Int32} : us3 n w 13 = w 13 := by
  unfold us3 xf xe xd xc xb xa putN
  rw [st1_ne (by decide), st1_ne (by decide), st1_ne (by decide), st1_ne (by decide), numS_r (by decide), st1_ne (by decide), numS_r (by decide), st1_ne (by decide), numS_r (by decide), st1_ne (by decide), numS_r (by decide), tokS_r (by decide), st1_ne (by decide)]
theorem lk7_q {s : Nat → Nat → Int32} {r : Nat} (h0 : r ≠ 0) : lk7 s r = s r := by
  have e2 : lk2 s r = s r := by unfold lk2; rw [numS_r h0, goOnS_r h0]
  have e3 : lk3 s r = s r := by
    unfold lk3
    split
    · rw [wrongS_r h0, e2]
    · exact e2
  have e4 : lk4 s r = s r := by
    unfold lk4
    split
    · rw [wrongS_r h0, e3]
    · exact e3
  unfold lk7
  rw [numS_r h0, goOnS_r h0]
  unfold lk5
  split
  · rw [wrongS_r h0, e4]
  · exact e4
theorem BO.block {s : Nat → Nat → Int32} (h : BO s) : BO (readBlockS s) := by
  have e : bl3 s 13 = s 13 := bl3_r (by decide)
  unfold readBlockS
  split
  · intro j hj
    rw [st1_ne (by decide), upR_eq]
    unfold blkF
    split
    · exact Or.inr rfl
    · rw [e]; exact h j hj
  · exact h.cg e
theorem readOnceS_13 {s : Nat → Nat → Int32} {k f : Nat} {lo hi : Int32} : readOnceS k f lo hi s 13 = s 13 := by unfold readOnceS; rw [rdS_r (by decide) (by decide), onceS_r (by decide) (by decide)]
theorem BO.rlnW {n : Nat} {s : Nat → Nat → Int32} (h : BO s) : BO (lnW n s) := by
  unfold lnW
  repeat' split
  · exact h.cg (wrongS_r (by decide))
  · refine h.cg ?_
    unfold readBandS
    rw [readOnceS_13]
    split
    · rfl
    · exact wrongS_r (by decide)
  · exact h.cg readOnceS_13
  · exact h.cg readOnceS_13
  · exact h.cg readOnceS_13
  · refine h.cg ?_
    unfold readLossS
    rw [lossIt_r (by decide) (by decide), onceS_r (by decide) (by decide)]
  · refine h.cg ?_
    have e : us1 s 13 = s 13 := us1_r (by decide)
    unfold readUserS us2
    split
    · split
      · split
        · rw [us3_13, e]
        · rw [wrongS_r (by decide), e]
      · rw [wrongS_r (by decide), e]
    · exact e
  · refine h.cg ?_
    have e : fx2 n s 13 = s 13 := by unfold fx2 fx1; rw [numS_r (by decide), uoS_r (by decide), st1_ne (by decide)]
    unfold readFixedS
    split
    · rw [st1_ne (by decide), e]
    · exact e
  · exact h.block
  · refine h.cg ?_
    unfold readLinkS
    split
    · rw [st1_ne (by decide), st1_ne (by decide), lk7_q (by decide)]
    · exact lk7_q (by decide)
  · refine h.cg ?_
    have e : sl2 n s 13 = s 13 := by unfold sl2; rw [numS_r (by decide), uoS_r (by decide)]
    unfold readSlotsS
    split
    · rw [st1_ne (by decide), e]
    · exact e
  · exact h.cg readOnceS_13
theorem BO.line {n : Nat} {s : Nat → Nat → Int32} (h : BO s) : BO (lineS n s) := by
  refine (BO.rlnW (n := n) h).cg ?_
  unfold lineS lnE
  rw [st1_ne (by decide), goOnS_r (by decide)]
  split
  · exact wrongS_r (by decide)
  · rfl
theorem BO.fr {s : Nat → Nat → Int32} (h : BO s) : BO (frS s) := by
  intro j hj
  have e : frS s 13 j = frR (nI 0) 61 (s 13) 61 j := rfl
  rw [e]
  unfold frR
  split
  · exact Or.inl rfl
  · exact h j hj
theorem lnF_of : ∀ f (w : Nat → Nat → Int32), RI w → TB w → BO w → RI (lnF f w) ∧ TB (lnF f w) ∧ BO (lnF f w) ∧ lnF f w 0 16 = w 0 16 := by
  intro f
  induction f with
  | zero => intro w h1 h2 h3; exact ⟨h1, h2, h3, rfl⟩
  | succ f ih =>
    intro w h1 h2 h3
    rw [lnF]
    split
    · have h9 := ih (lineS (tN (w 3 17)) w) (Re.line.2 h1).1 (h2.line h2.2.2.1.1 (by have := h2.2.2.1.2; omega)) h3.line
      exact ⟨h9.1, h9.2.1, h9.2.2.1, h9.2.2.2.trans (Re.line.2 h1).2.2⟩
    · exact ⟨h1, h2, h3, rfl⟩
theorem readTextS_of {n : Nat} {s : Nat → Nat → Int32} (hn : n ≤ 700) (hb : BY s) (hbo : BO s) : TB (readTextS n s) ∧ BO (readTextS n s) ∧ BY (readTextS n s) := by
  have h := lnF_of (n + 1) (rt1 n s) (rt1_of hn hb).1 (rt1_of hn hb).2.1 (BO.cg (s := frS (rt0 n s)) (BO.fr (BO.cg (s := s) hbo rfl)) (tokS_r (by decide)))
  exact ⟨h.2.1, h.2.2.1, h.1.1.2.2⟩
