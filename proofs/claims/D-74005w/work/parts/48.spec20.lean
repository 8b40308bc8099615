/-! THE SPEC, part 20: a whole text -/
def TB (s : Nat → Nat → Int32) : Prop := In (s 3 10) 61 ∧ 1 ≤ tN (s 3 10) ∧ In (s 3 17) 7 ∧ In (s 3 18) 7
theorem TB.cg {s w : Nat → Nat → Int32} (h : TB s) (e : w 3 = s 3) : TB w := by unfold TB; rw [e]; exact h
theorem TB.put {s : Nat → Nat → Int32} {N : Nat} {v : Int32} (h : TB s) (h1 : N ≠ 10) (h2 : N ≠ 17) (h3 : N ≠ 18) : TB (st1 s 3 N v) := by
  unfold TB
  rw [st1_nj (fun e => h1 e.symm), st1_nj (fun e => h2 e.symm), st1_nj (fun e => h3 e.symm)]
  exact h
theorem onceS_3 {s : Nat → Nat → Int32} {k : Nat} : onceS k s 3 = s 3 := by
  unfold onceS
  rw [goOnS_r (by decide), st1_ne (by decide)]
  split
  · rfl
  · exact wrongS_r (by decide)
theorem TB.readOnce {s : Nat → Nat → Int32} {k f : Nat} {lo hi : Int32} (h : TB s) (h1 : f ≠ 0) (h2 : f ≠ 7) (h3 : f ≠ 8) : TB (readOnceS k f lo hi s) := by
  unfold readOnceS rdS
  exact TB.put (h.cg (by rw [numS_r (by decide), onceS_3])) (by omega) (by omega) (by omega)
theorem TB.readBand {s : Nat → Nat → Int32} (h : TB s) : TB (readBandS s) := by
  unfold readBandS readOnceS rdS
  have e : ∀ w : Nat → Nat → Int32, w 3 = s 3 → TB (st1 (numS (nI 4) (nI 60) (onceS 0 w)) 3 (10 + 0) (numV (nI 4) (nI 60) (onceS 0 w))) := by
    intro w hw
    have hv := numV_In (s := onceS 0 w) (a := 4) (b := 60) (by decide) (by decide)
    have h3 : numS (nI 4) (nI 60) (onceS 0 w) 3 = s 3 := by rw [numS_r (by decide), onceS_3, hw]
    unfold TB
    rw [show 10 + 0 = 10 from rfl, st1_eq, st1_nj (by decide), st1_nj (by decide), h3]
    exact ⟨hv.1, by have := hv.2; omega, h.2.2⟩
  split
  · exact e s rfl
  · exact e _ (wrongS_r (by decide))
theorem TB.lossIt {s : Nat → Nat → Int32} (h : TB s) : ∀ k, k ≤ 3 → TB (lossIt s k)
  | 0, _ => h
  | k + 1, hk => TB.put ((TB.lossIt h k (by omega)).cg (numS_r (by decide))) (by omega) (by omega) (by omega)
theorem xf_3 {n : Nat} {w : Nat → Nat → Int32} : xf n w 3 = w 3 := by
  unfold xf xe xd xc xb xa putN
  rw [st1_ne (by decide), st1_ne (by decide), st1_ne (by decide), numS_r (by decide), st1_ne (by decide), numS_r (by decide), st1_ne (by decide), numS_r (by decide), st1_ne (by decide), numS_r (by decide), tokS_r (by decide), st1_ne (by decide)]
theorem TB.readUser {n : Nat} {s : Nat → Nat → Int32} (h : TB s) (hn : s 3 17 = nI n) (hn6 : n ≤ 6) : TB (readUserS n s) := by
  have h1 : TB (us1 s) := h.cg (us1_r (by decide))
  unfold readUserS us2
  split
  · rename_i q
    split
    · split
      · have hlt : n < 6 := by
          rcases Nat.lt_or_ge n 6 with h9 | h9
          · exact h9
          · exact absurd q (us1_6 (by rw [hn, show n = 6 by omega]))
        unfold us3 TB
        rw [st1_nj (by decide), st1_eq, st1_nj (by decide), xf_3, us1_r (by decide), hn, nI_add]
        exact ⟨h.1, h.2.1, In.of (by omega) (by decide), h.2.2.2⟩
      · exact h1.cg (wrongS_r (by decide))
    · exact h1.cg (wrongS_r (by decide))
  · exact h1
theorem lk3_r {s : Nat → Nat → Int32} : lk3 s 3 = s 3 := by
  have e : lk2 s 3 = s 3 := by unfold lk2; rw [numS_r (by decide), goOnS_r (by decide)]
  unfold lk3
  split
  · rw [wrongS_r (by decide), e]
  · exact e
theorem lk7_r {s : Nat → Nat → Int32} : lk7 s 3 = s 3 := by
  have e : lk4 s 3 = s 3 := by
    unfold lk4
    split
    · rw [wrongS_r (by decide), lk3_r]
    · exact lk3_r
  unfold lk7
  rw [numS_r (by decide), goOnS_r (by decide)]
  unfold lk5
  split
  · rw [wrongS_r (by decide), e]
  · exact e
theorem bl1_6 {s : Nat → Nat → Int32} (h : s 3 18 = nI 6) : ¬ bl1 s 0 21 = 0 := by
  unfold bl1
  rw [if_pos h, wrongS_go (by decide)]
  exact wrongS_f (by decide)
theorem TB.readBlock {s : Nat → Nat → Int32} (h : TB s) : TB (readBlockS s) := by
  have e : bl3 s 3 = s 3 := bl3_r (by decide)
  unfold readBlockS
  split
  · rename_i q
    have q1 : bl1 s 0 21 = 0 := (Re.num _ _).zero ((Re.num _ _).zero q)
    have hk : tN (s 3 18) ≠ 6 := fun h9 => bl1_6 (by rw [h.2.2.2.1, h9]) q1
    have hk7 := h.2.2.2.2
    unfold TB
    rw [st1_nj (by decide), st1_nj (by decide), st1_eq, upR_ne (by decide), e]
    refine ⟨h.1, h.2.1, h.2.2.1, ?_⟩
    rw [h.2.2.2.1, nI_add]
    exact In.of (by omega) (by decide)
  · exact h.cg e
theorem TB.rlnW {n : Nat} {s : Nat → Nat → Int32} (h : TB s) (hn : s 3 17 = nI n) (hn6 : n ≤ 6) : TB (lnW n s) := by
  unfold lnW
  repeat' split
  · exact h.cg (wrongS_r (by decide))
  · exact h.readBand
  · exact h.readOnce (by decide) (by decide) (by decide)
  · exact h.readOnce (by decide) (by decide) (by decide)
  · exact h.readOnce (by decide) (by decide) (by decide)
  · exact (h.cg onceS_3).lossIt 3 (by decide)
  · exact h.readUser hn hn6
  · refine h.cg ?_
    have e : fx2 n s 3 = s 3 := by unfold fx2 fx1; rw [numS_r (by decide), uoS_r (by decide), st1_ne (by decide)]
    unfold readFixedS
    split
    · rw [st1_ne (by decide), e]
    · exact e
  · exact h.readBlock
  · refine h.cg ?_
    unfold readLinkS
    split
    · rw [st1_ne (by decide), st1_ne (by decide), lk7_r]
    · exact lk7_r
  · refine h.cg ?_
    have e : sl2 n s 3 = s 3 := by unfold sl2; rw [numS_r (by decide), uoS_r (by decide)]
    unfold readSlotsS
    split
    · rw [st1_ne (by decide), e]
    · exact e
  · exact h.readOnce (by decide) (by decide) (by decide)
theorem lnE_3 {w : Nat → Nat → Int32} : lnE w 3 = w 3 := by
  unfold lnE
  rw [goOnS_r (by decide)]
  split
  · exact wrongS_r (by decide)
  · rfl
theorem TB.line {n : Nat} {s : Nat → Nat → Int32} (h : TB s) (hn : s 3 17 = nI n) (hn6 : n ≤ 6) : TB (lineS n s) := (h.rlnW hn hn6).cg (by unfold lineS; rw [st1_ne (by decide), lnE_3])
theorem Re.rlnE {w : Nat → Nat → Int32} : Re w (lnE w) := by
  unfold lnE
  refine .tr _ _ _ ?_ .goOn
  split
  · exact .wr _ _ (by decide)
  · exact .rf _
theorem Re.line {n : Nat} {s : Nat → Nat → Int32} : Re s (lineS n s) := .tr _ _ _ .rlnW (.tr _ _ _ .rlnE (.put0 _ 15 _ (by decide)))
theorem line_go {n : Nat} {s : Nat → Nat → Int32} (hR : RI s) (h0 : lineS n s 0 21 = 0) : tN (s 0 17) < tN (lineS n s 0 17) := by
  have he : lnE (lnW n s) 0 21 = 0 := h0
  have hw0 := (Re.rlnE (w := lnW n s)).zero he
  have hs0 := (Re.rlnW (n := n) (s := s)).zero hw0
  have h19 : lnW n s 0 19 = nI 3 := by
    apply Classical.not_not.mp
    intro h9
    unfold lnE at he
    rw [if_pos ⟨hw0, h9⟩, wrongS_go (by decide)] at he
    exact wrongS_f (by decide) he
  have hs19 : s 0 19 = 0 := by
    apply Classical.not_not.mp
    intro h9
    unfold lnW at hw0
    rw [if_pos h9] at hw0
    exact wrongS_f (by decide) hw0
  have hp := (Re.rlnW (n := n) (s := s)).2 hR
  have hq := (Re.rlnE (w := lnW n s)).2 hp.1
  have e17 : lineS n s 0 17 = lnE (lnW n s) 0 17 := st1_nj (by decide)
  rw [e17]
  have h1 : tN (s 0 17) < tN (lnW n s 0 17) := by
    rcases hp.2.1 with ⟨_, h2⟩ | h2 | ⟨h2, _⟩
    · rw [h19, hs19] at h2; exact absurd h2 (by decide)
    · exact h2
    · rw [h19] at h2; exact absurd h2 (by decide)
  have h2 : tN (lnW n s 0 17) ≤ tN (lnE (lnW n s) 0 17) := by
    rcases hq.2.1 with ⟨h2, _⟩ | h2 | ⟨_, h2⟩
    · rw [h2]; exact Nat.le_refl _
    · omega
    · exact h2
  omega
def lnF : Nat → (Nat → Nat → Int32) → Nat → Nat → Int32
  | 0, w => w
  | f + 1, w => if w 0 21 = 0 ∧ ¬ w 0 19 = nI 4 then lnF f (lineS (tN (w 3 17)) w) else w
theorem lnF_stop {f : Nat} {w : Nat → Nat → Int32} (h : ¬ (w 0 21 = 0 ∧ ¬ w 0 19 = nI 4)) : lnF f w = w := by
  cases f with
  | zero => rfl
  | succ f => rw [lnF, if_neg h]
def rt0 (n : Nat) (s : Nat → Nat → Int32) : Nat → Nat → Int32 := st1 (st1 (st1 (st1 s 0 16 (nI n)) 0 17 (nI 0)) 0 21 (nI 0)) 0 15 (nI 0)
def rt1 (n : Nat) (s : Nat → Nat → Int32) : Nat → Nat → Int32 := tokS (frS (rt0 n s))
def readTextS (n : Nat) (s : Nat → Nat → Int32) : Nat → Nat → Int32 := lnF (n + 1) (rt1 n s)
theorem frS_0 {s : Nat → Nat → Int32} {j : Nat} (h : j ≠ 14) : frS s 0 j = s 0 j := by
  unfold frS
  rw [st1_nj h]
  rfl
theorem frS_1 {s : Nat → Nat → Int32} : frS s 1 = s 1 := rfl
theorem TB.fr {s : Nat → Nat → Int32} : TB (frS s) := by
  have e : frS s 3 = fr3 (s 3) := rfl
  unfold TB
  rw [e]
  exact ⟨In.of (n := 30) (by decide) (by decide), by show 1 ≤ tN (nI 30); decide, In.of (n := 0) (by decide) (by decide), In.of (n := 0) (by decide) (by decide)⟩
theorem rt0_R0 {n : Nat} {s : Nat → Nat → Int32} (hn : n ≤ 700) (hb : BY s) : R0 (frS (rt0 n s)) := by
  unfold R0 BY
  rw [frS_0 (by decide), frS_0 (by decide), frS_1]
  have a : rt0 n s 0 16 = nI n := by unfold rt0; simp [st1, upR, upd]
  have b : rt0 n s 0 17 = nI 0 := by unfold rt0; simp [st1, upR, upd]
  rw [a, b]
  exact ⟨In.of (by omega) (by decide), In.of (by omega) (by rw [tN_nI (by omega)]; omega), hb⟩
theorem rt1_of {n : Nat} {s : Nat → Nat → Int32} (hn : n ≤ 700) (hb : BY s) : RI (rt1 n s) ∧ TB (rt1 n s) ∧ rt1 n s 0 16 = nI n := by
  refine ⟨(rt0_R0 hn hb).tok, TB.fr.cg (tokS_r (by decide)), ?_⟩
  unfold rt1 tokS
  rw [setT_rd.1, frS_0 (by decide)]
  unfold rt0; simp [st1, upR, upd]
