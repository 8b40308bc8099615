/-! THE SPEC, part 18: a block, a line, a fresh text -/
def bl1 (s : Nat → Nat → Int32) : Nat → Nat → Int32 := goOnS (if s 3 18 = nI 6 then wrongS (nI 2) (st1 s 0 14 (nI 1)) else st1 s 0 14 (nI 1))
def bl2 (s : Nat → Nat → Int32) : Nat → Nat → Int32 := numS (nI 1) (bl1 s 3 10) (bl1 s)
def blA (s : Nat → Nat → Int32) : Nat := tN (numV (nI 1) (bl1 s 3 10) (bl1 s))
def bl3 (s : Nat → Nat → Int32) : Nat → Nat → Int32 := numS (nI (blA s)) (bl2 s 3 10) (bl2 s)
def blB (s : Nat → Nat → Int32) : Nat := tN (numV (nI (blA s)) (bl2 s 3 10) (bl2 s))
def blkF (f : Nat → Int32) (a k : Nat) : Nat → Int32 := fun j => if 61 + a ≤ j ∧ j < 61 + k then nI 1 else f j
def readBlockS (s : Nat → Nat → Int32) : Nat → Nat → Int32 := if bl3 s 0 21 = 0 then st1 (upR (bl3 s) 13 (blkF (bl3 s 13) (blA s) (blB s + 1))) 3 18 (bl3 s 3 18 + nI 1) else bl3 s
theorem bl1_r {s : Nat → Nat → Int32} {r : Nat} (hr : r ≠ 0) : bl1 s r = s r := by
  unfold bl1
  rw [goOnS_r hr]
  split
  · rw [wrongS_r hr, st1_ne hr]
  · rw [st1_ne hr]
theorem bl2_r {s : Nat → Nat → Int32} {r : Nat} (hr : r ≠ 0) : bl2 s r = s r := by unfold bl2; rw [numS_r hr, bl1_r hr]
theorem bl3_r {s : Nat → Nat → Int32} {r : Nat} (hr : r ≠ 0) : bl3 s r = s r := by unfold bl3; rw [numS_r hr, bl2_r hr]
theorem blA_of {s : Nat → Nat → Int32} (hB : In (s 3 10) 61) (hB1 : 1 ≤ tN (s 3 10)) : numV (nI 1) (bl1 s 3 10) (bl1 s) = nI (blA s) ∧ blA s ≤ tN (s 3 10) ∧ 1 ≤ blA s := by
  have h := numV_In (s := bl1 s) (a := 1) (b := tN (s 3 10)) hB1 (by have := hB.2; omega)
  rw [← hB.1, ← bl1_r (s := s) (r := 3) (by decide)] at h
  exact ⟨h.1.1, by have := h.1.2; unfold blA; rw [bl1_r (s := s) (r := 3) (by decide)] at this ⊢; omega, h.2⟩
theorem blB_of {s : Nat → Nat → Int32} (hB : In (s 3 10) 61) (hB1 : 1 ≤ tN (s 3 10)) : numV (nI (blA s)) (bl2 s 3 10) (bl2 s) = nI (blB s) ∧ blB s ≤ tN (s 3 10) ∧ blA s ≤ blB s := by
  have h := numV_In (s := bl2 s) (a := blA s) (b := tN (s 3 10)) (blA_of hB hB1).2.1 (by have := hB.2; omega)
  rw [← hB.1, ← bl2_r (s := s) (r := 3) (by decide)] at h
  exact ⟨h.1.1, by have := h.1.2; unfold blB; rw [bl2_r (s := s) (r := 3) (by decide)] at this ⊢; omega, h.2⟩
theorem blk_0 {s : Nat → Nat → Int32} {a : Nat} : upR s 13 (blkF (s 13) a a) = s := upR_self (by funext j; unfold blkF; rw [if_neg (by omega)])
theorem blk_s {s : Nat → Nat → Int32} {a k : Nat} (h : a ≤ k) : st1 (upR s 13 (blkF (s 13) a k)) 13 (61 + k) (nI 1) = upR s 13 (blkF (s 13) a (k + 1)) := by
  rw [st1_upR]
  congr 1
  funext j
  by_cases q : j = 61 + k
  · subst q; simp only [upd, if_true]; unfold blkF; rw [if_pos (by omega)]
  · simp only [upd, if_neg q]; unfold blkF
    by_cases g : 61 + a ≤ j ∧ j < 61 + k
    · rw [if_pos g, if_pos (by omega)]
    · rw [if_neg g, if_neg (by omega)]
theorem RI.up {s : Nat → Nat → Int32} {r : Nat} {f : Nat → Int32} (h : RI s) (h0 : r ≠ 0) (h1 : r ≠ 1) : RI (upR s r f) := by
  unfold RI R0 BY
  rw [upR_ne (fun e => h0 e.symm), upR_ne (fun e => h1 e.symm)]
  exact h
theorem RI.rbl1 {s : Nat → Nat → Int32} (h : RI s) : RI (bl1 s) := by
  unfold bl1
  refine RI.goOn ?_
  split
  · exact (h.st (by decide) (by decide)).wrong _
  · exact h.st (by decide) (by decide)
theorem RI.rbl2 {s : Nat → Nat → Int32} (h : RI s) : RI (bl2 s) := h.rbl1.num _ _
theorem RI.rbl3 {s : Nat → Nat → Int32} (h : RI s) : RI (bl3 s) := h.rbl2.num _ _
theorem RI.readBlock {s : Nat → Nat → Int32} (h : RI s) : RI (readBlockS s) := by
  unfold readBlockS
  split
  · exact (h.rbl3.up (by decide) (by decide)).st (by decide) (Or.inl (by decide))
  · exact h.rbl3
def frR (v : Int32) (b : Nat) (f : Nat → Int32) (i : Nat) : Nat → Int32 := fun j => if b ≤ j ∧ j < b + i then v else f j
theorem frR_0 {s : Nat → Nat → Int32} {r b : Nat} {v : Int32} : upR s r (frR v b (s r) 0) = s := upR_self (by funext j; unfold frR; rw [if_neg (by omega)])
theorem frR_s {s : Nat → Nat → Int32} {f : Nat → Int32} {r b i N : Nat} {v : Int32} (h : N = b + i) : st1 (upR s r (frR v b f i)) r N v = upR s r (frR v b f (i + 1)) := by
  rw [st1_upR, h]
  congr 1
  funext j
  by_cases q : j = b + i
  · subst q; simp only [upd, if_true]; unfold frR; rw [if_pos (by omega)]
  · simp only [upd, if_neg q]; unfold frR
    by_cases g : b ≤ j ∧ j < b + i
    · rw [if_pos g, if_pos (by omega)]
    · rw [if_neg g, if_neg (by omega)]
def fr3 (f : Nat → Int32) : Nat → Int32 := upd (upd (upd (upd (upd (upd (frR (nI 0) 10 f 10) (10 + 0) (nI 30)) (10 + 2) (nI 1)) (10 + 3) (nI 2)) (10 + 4) (nI 5)) (10 + 5) (nI 10)) (10 + 6) (nI 20)
def F1 (s : Nat → Nat → Int32) : Nat → Nat → Int32 := upR s 3 (fr3 (s 3))
def F2 (s : Nat → Nat → Int32) : Nat → Nat → Int32 := upR (F1 s) 12 (frR (-2) 9 (F1 s 12) 9)
def F3 (s : Nat → Nat → Int32) : Nat → Nat → Int32 := upR (F2 s) 4 (frR (nI 0) 0 (F2 s 4) 11)
def F4 (s : Nat → Nat → Int32) : Nat → Nat → Int32 := upR (F3 s) 13 (frR (nI 0) 61 (F3 s 13) 61)
def frS (s : Nat → Nat → Int32) : Nat → Nat → Int32 := st1 (F4 s) 0 14 (nI 0)
/-- a line -/
def lnW (n : Nat) (s : Nat → Nat → Int32) : Nat → Nat → Int32 :=
  if ¬ s 0 19 = 0 then wrongS (nI 1) s
  else if s 0 20 = 0 then readBandS s
  else if s 0 20 = nI 1 then readOnceS 1 1 (nI 0) (nI 5) s
  else if s 0 20 = nI 2 then readOnceS 2 2 (nI 1) (nI 20) s
  else if s 0 20 = nI 3 then readOnceS 3 3 (nI 0) (nI 7) s
  else if s 0 20 = nI 4 then readLossS s
  else if s 0 20 = nI 5 then readUserS n s
  else if s 0 20 = nI 6 then readFixedS n s
  else if s 0 20 = nI 7 then readBlockS s
  else if s 0 20 = nI 8 then readLinkS s
  else if s 0 20 = nI 9 then readSlotsS n s
  else readOnceS 10 9 (nI 0) (nI 99999) s
def lnE (w : Nat → Nat → Int32) : Nat → Nat → Int32 := goOnS (if w 0 21 = 0 ∧ ¬ w 0 19 = nI 3 then wrongS (nI 1) w else w)
def lineS (n : Nat) (s : Nat → Nat → Int32) : Nat → Nat → Int32 := st1 (lnE (lnW n s)) 0 15 (lnE (lnW n s) 0 15 + nI 1)
theorem RI.rlnW {n : Nat} {s : Nat → Nat → Int32} (h : RI s) : RI (lnW n s) := by
  unfold lnW
  repeat' split
  · exact h.wrong _
  · exact h.readBand
  · exact h.readOnce _ _ _ _
  · exact h.readOnce _ _ _ _
  · exact h.readOnce _ _ _ _
  · exact h.readLoss
  · exact h.readUser
  · exact h.readFixed
  · exact h.readBlock
  · exact h.readLink
  · exact h.readSlots
  · exact h.readOnce _ _ _ _
theorem RI.rlnE {w : Nat → Nat → Int32} (h : RI w) : RI (lnE w) := by
  unfold lnE
  refine RI.goOn ?_
  split
  · exact h.wrong _
  · exact h
theorem RI.line {n : Nat} {s : Nat → Nat → Int32} (h : RI s) : RI (lineS n s) := h.rlnW.rlnE.st (by decide) (by decide)
