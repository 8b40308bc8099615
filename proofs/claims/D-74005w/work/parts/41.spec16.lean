/-! THE SPEC, part 16: what reads a text -/
def wrongS (v : Int32) (s : Nat → Nat → Int32) : Nat → Nat → Int32 := if s 0 21 = 0 then st1 (st1 s 0 21 v) 0 22 (s 0 18) else s
def tokS (s : Nat → Nat → Int32) : Nat → Nat → Int32 := setT s (tokF (s 1) (tN (s 0 16)) (tN (s 0 17)) (s 0 20))
def goOnS (s : Nat → Nat → Int32) : Nat → Nat → Int32 := if s 0 21 = 0 then tokS s else s
def R0 (s : Nat → Nat → Int32) : Prop := In (s 0 16) 701 ∧ In (s 0 17) (tN (s 0 16) + 1) ∧ BY s
def RI (s : Nat → Nat → Int32) : Prop := R0 s ∧ (s 0 19 = nI 2 → In (s 0 20) 1000000)
theorem RI.st {s : Nat → Nat → Int32} {r N : Nat} {v : Int32} (h : RI s) (hr : r ≠ 1) (hN : r ≠ 0 ∨ (N ≠ 16 ∧ N ≠ 17 ∧ N ≠ 19 ∧ N ≠ 20)) : RI (st1 s r N v) := by
  have k : ∀ j, j = 16 ∨ j = 17 ∨ j = 19 ∨ j = 20 → st1 s r N v 0 j = s 0 j := by
    intro j hj
    by_cases e : r = 0
    · subst e; exact st1_nj (by omega)
    · rw [st1_ne (fun e1 => e e1.symm)]
  unfold RI R0 BY
  rw [k 16 (by decide), k 17 (by decide), k 19 (by decide), k 20 (by decide), st1_ne (fun e => hr e.symm)]
  exact h
theorem rng {x : Int32} {a b : Nat} (h : ¬ x < nI a ∧ ¬ nI b < x) (ha : a < 2 ^ 31) (hb : b < 2 ^ 31) : ∃ j, x = nI j ∧ a ≤ j ∧ j ≤ b := by
  have h0 : ¬ x < 0 := by
    intro h9
    apply h.1
    have e0 := Int32.lt_iff_toInt_lt.mp h9
    have e1 := nI_toInt (n := a) ha
    have e2 : (0 : Int32).toInt = 0 := by decide
    rw [Int32.lt_iff_toInt_lt]; omega
  obtain ⟨j, hj, rfl⟩ := nI_of h0
  refine ⟨j, rfl, ?_, ?_⟩
  · have := h.1
    rw [nI_ltI hj ha] at this; omega
  · have := h.2
    rw [nI_ltI hb hj] at this; omega
theorem nuF_In {t : Nat → Int32} {b : Nat} : ∀ k, (∀ j, b ≤ j → j < b + k → dgB (t j) = true) → In (nuF t b k) 1000000 := by
  intro k
  induction k with
  | zero => intro _; exact In.of (by decide) (by decide)
  | succ k ih =>
    intro h
    have h1 := ih (fun j a c => h j a (by omega))
    have h2 := h (b + k) (by omega) (by omega)
    unfold dgB at h2
    simp only [Bool.and_eq_true, Bool.not_eq_true', decide_eq_false_iff_not] at h2
    obtain ⟨d, hd, h3, h4⟩ := rng h2 (by decide) (by decide)
    rw [nuF]
    split
    · exact h1
    · rename_i h5
      rw [h1.1, nI_ltI (by decide) (by have := h1.2; omega)] at h5
      rw [h1.1, hd, pk_mul, nI_add, pk_sub (by omega)]
      exact In.of (by omega) (by decide)
theorem tokF_le {t : Nat → Int32} {n a : Nat} (v : Int32) (h : a ≤ n) : (tokF t n a v).1 ≤ n := by
  have h1 := scan_p wsB t h
  have h2 := scan_p smB t h1.2.1
  have h3 := scan_p dgB t h1.2.1
  unfold tokF
  split
  · exact Nat.le_refl _
  · split
    · split
      · exact h2.2.1
      · split
        · exact h2.2.1
        · exact h2.2.1
    · split
      · exact h3.2.1
      · show scan wsB t n a + 1 ≤ n
        omega
theorem setT_rd {s : Nat → Nat → Int32} {q : Nat × Nat × Int32 × Int32} : (setT s q) 0 16 = s 0 16 ∧ (setT s q) 0 17 = nI q.1 ∧ (setT s q) 0 18 = nI q.2.1 ∧ (setT s q) 0 19 = q.2.2.1 ∧ (setT s q) 0 20 = q.2.2.2 ∧ (∀ j, j < 17 ∨ 20 < j → (setT s q) 0 j = s 0 j) ∧ (∀ r, r ≠ 0 → (setT s q) r = s r) := by
  unfold setT
  refine ⟨by simp [st1, upR, upd], by simp [st1, upR, upd], by simp [st1, upR, upd], by simp [st1, upR, upd], by simp [st1, upR, upd], fun j hj => ?_, fun r hr => by simp only [st1_ne hr]⟩
  simp only [st1_nj (show j ≠ 17 by omega), st1_nj (show j ≠ 18 by omega), st1_nj (show j ≠ 19 by omega), st1_nj (show j ≠ 20 by omega)]
theorem tokF_v {t : Nat → Int32} {n a : Nat} {v : Int32} (h : a ≤ n) (h2 : (tokF t n a v).2.2.1 = nI 2) : In (tokF t n a v).2.2.2 1000000 := by
  have h1 := scan_p wsB t h
  have h3 := scan_p dgB t h1.2.1
  unfold tokF at h2 ⊢
  split at h2
  · exact absurd (show (nI 4 : Int32) = nI 2 from h2) (by decide)
  · split at h2
    · split at h2
      · exact absurd (show (nI 0 : Int32) = nI 2 from h2) (by decide)
      · split at h2
        · exact absurd (show (nI 5 : Int32) = nI 2 from h2) (by decide)
        · exact absurd (show (nI 1 : Int32) = nI 2 from h2) (by decide)
    · split at h2
      · rename_i q1 q2 q3
        rw [if_neg q1, if_neg q2, if_pos q3]
        exact nuF_In _ (fun j a1 a2 => h3.2.2.2 j a1 (by omega))
      · exfalso
        revert h2
        show (if _ then nI 3 else nI 5) = nI 2 → False
        split <;> decide
theorem R0.tok {s : Nat → Nat → Int32} (h : R0 s) : RI (tokS s) := by
  obtain ⟨h1, h2, h3⟩ := h
  have ha : tN (s 0 17) ≤ tN (s 0 16) := by have := h2.2; omega
  have hr := setT_rd (s := s) (q := tokF (s 1) (tN (s 0 16)) (tN (s 0 17)) (s 0 20))
  have hl := tokF_le (t := s 1) (s 0 20) ha
  have hv := tokF_v (t := s 1) (v := s 0 20) ha
  unfold tokS RI R0 BY
  rw [hr.1, hr.2.1, hr.2.2.2.2.2.2 1 (by decide), hr.2.2.2.1, hr.2.2.2.2.1]
  exact ⟨⟨h1, In.of (by omega) (by have := h1.2; omega), h3⟩, hv⟩
theorem RI.tok {s : Nat → Nat → Int32} (h : RI s) : RI (tokS s) := h.1.tok
theorem RI.goOn {s : Nat → Nat → Int32} (h : RI s) : RI (goOnS s) := by
  unfold goOnS
  split
  · exact h.tok
  · exact h
theorem RI.wrong {s : Nat → Nat → Int32} (v : Int32) (h : RI s) : RI (wrongS v s) := by
  unfold wrongS
  split
  · exact (h.st (by decide) (by decide)).st (by decide) (by decide)
  · exact h
def numS (lo hi : Int32) (s : Nat → Nat → Int32) : Nat → Nat → Int32 := if s 0 21 = 0 then (if s 0 19 = nI 2 then (if ¬ s 0 20 < lo ∧ ¬ hi < s 0 20 then tokS s else wrongS (nI 2) s) else wrongS (nI 1) s) else s
def numV (lo hi : Int32) (s : Nat → Nat → Int32) : Int32 := if s 0 21 = 0 ∧ s 0 19 = nI 2 ∧ ¬ s 0 20 < lo ∧ ¬ hi < s 0 20 then s 0 20 else lo
theorem RI.num {s : Nat → Nat → Int32} (lo hi : Int32) (h : RI s) : RI (numS lo hi s) := by
  unfold numS
  split
  · split
    · split
      · exact h.tok
      · exact h.wrong _
    · exact h.wrong _
  · exact h
theorem wrongS_f {s : Nat → Nat → Int32} {v : Int32} (hv : v ≠ 0) : ¬ wrongS v s 0 21 = 0 := by
  unfold wrongS
  split
  · rw [st1_nj (by decide), st1_eq]; exact hv
  · assumption
theorem wrongS_go {s : Nat → Nat → Int32} {v : Int32} (hv : v ≠ 0) : goOnS (wrongS v s) = wrongS v s := if_neg (wrongS_f hv)
def onceS (k : Nat) (s : Nat → Nat → Int32) : Nat → Nat → Int32 := goOnS (st1 (if s 4 k = 0 then s else wrongS (nI 3) s) 4 k (nI 1))
theorem RI.once {s : Nat → Nat → Int32} (k : Nat) (h : RI s) : RI (onceS k s) := by
  unfold onceS
  refine RI.goOn (RI.st ?_ (by decide) (Or.inl (by decide)))
  split
  · exact h
  · exact h.wrong _
def rdS (f : Nat) (lo hi : Int32) (w : Nat → Nat → Int32) : Nat → Nat → Int32 := st1 (numS lo hi w) 3 (10 + f) (numV lo hi w)
theorem RI.rd {s : Nat → Nat → Int32} (f : Nat) (lo hi : Int32) (h : RI s) : RI (rdS f lo hi s) := (h.num _ _).st (by decide) (Or.inl (by decide))
def readOnceS (k f : Nat) (lo hi : Int32) (s : Nat → Nat → Int32) : Nat → Nat → Int32 := rdS f lo hi (onceS k s)
theorem RI.readOnce {s : Nat → Nat → Int32} (k f : Nat) (lo hi : Int32) (h : RI s) : RI (readOnceS k f lo hi s) := (h.once k).rd _ _ _
def readBandS (s : Nat → Nat → Int32) : Nat → Nat → Int32 := readOnceS 0 0 (nI 4) (nI 60) (if s 0 14 = 0 then s else wrongS (nI 1) s)
def lossIt (s : Nat → Nat → Int32) : Nat → Nat → Nat → Int32
  | 0 => s
  | k + 1 => rdS (4 + k) (nI 0) (nI 99) (lossIt s k)
def readLossS (s : Nat → Nat → Int32) : Nat → Nat → Int32 := lossIt (onceS 4 s) 3
theorem RI.lossIt {s : Nat → Nat → Int32} (h : RI s) : ∀ k, RI (lossIt s k)
  | 0 => h
  | k + 1 => (RI.lossIt h k).rd _ _ _
theorem RI.readBand {s : Nat → Nat → Int32} (h : RI s) : RI (readBandS s) := by
  unfold readBandS
  refine RI.readOnce _ _ _ _ ?_
  split
  · exact h
  · exact h.wrong _
theorem RI.readLoss {s : Nat → Nat → Int32} (h : RI s) : RI (readLossS s) := (h.once 4).lossIt 3
/-- a user -/
def us1 (s : Nat → Nat → Int32) : Nat → Nat → Int32 := goOnS (if s 3 17 = nI 6 then wrongS (nI 2) (st1 s 0 14 (nI 1)) else st1 s 0 14 (nI 1))
def putN (r N : Nat) (lo hi : Int32) (w : Nat → Nat → Int32) : Nat → Nat → Int32 := st1 (numS lo hi w) r N (numV lo hi w)
theorem RI.putN {s : Nat → Nat → Int32} {r : Nat} (N : Nat) (lo hi : Int32) (h : RI s) (h0 : r ≠ 0) (h1 : r ≠ 1) : RI (putN r N lo hi s) := (h.num _ _).st h1 (Or.inl h0)
def xa (n : Nat) (w : Nat → Nat → Int32) : Nat → Nat → Int32 := tokS (st1 w 5 (6 + n) (w 0 20))
def xb (n : Nat) (w : Nat → Nat → Int32) : Nat → Nat → Int32 := putN 6 (6 + n) (nI 0) (nI 2) (xa n w)
def xc (n : Nat) (w : Nat → Nat → Int32) : Nat → Nat → Int32 := putN 7 (6 + n) (nI 0) (nI 30) (xb n w)
def xd (n : Nat) (w : Nat → Nat → Int32) : Nat → Nat → Int32 := putN 8 (6 + n) (nI 1) (xc n w 3 10) (xc n w)
def xe (n : Nat) (w : Nat → Nat → Int32) : Nat → Nat → Int32 := putN 9 (6 + n) (xd n w 8 (6 + n)) (xd n w 3 10) (xd n w)
def xf (n : Nat) (w : Nat → Nat → Int32) : Nat → Nat → Int32 := st1 (st1 (xe n w) 10 (6 + n) (nI 0)) 11 (6 + n) (nI 0)
def us3 (n : Nat) (w : Nat → Nat → Int32) : Nat → Nat → Int32 := st1 (xf n w) 3 17 (xf n w 3 17 + nI 1)
theorem RI.xa {n : Nat} {w : Nat → Nat → Int32} (h : RI w) : RI (xa n w) := (h.st (by decide) (Or.inl (by decide))).tok
theorem RI.xb {n : Nat} {w : Nat → Nat → Int32} (h : RI w) : RI (xb n w) := h.xa.putN _ _ _ (by decide) (by decide)
theorem RI.xc {n : Nat} {w : Nat → Nat → Int32} (h : RI w) : RI (xc n w) := h.xb.putN _ _ _ (by decide) (by decide)
theorem RI.xd {n : Nat} {w : Nat → Nat → Int32} (h : RI w) : RI (xd n w) := h.xc.putN _ _ _ (by decide) (by decide)
theorem RI.xe {n : Nat} {w : Nat → Nat → Int32} (h : RI w) : RI (xe n w) := h.xd.putN _ _ _ (by decide) (by decide)
theorem RI.xf {n : Nat} {w : Nat → Nat → Int32} (h : RI w) : RI (xf n w) := (h.xe.st (by decide) (Or.inl (by decide))).st (by decide) (Or.inl (by decide))
theorem RI.us3 {n : Nat} {w : Nat → Nat → Int32} (h : RI w) : RI (us3 n w) := h.xf.st (by decide) (Or.inl (by decide))
def us2 (n : Nat) (w : Nat → Nat → Int32) : Nat → Nat → Int32 := if w 0 21 = 0 then (if w 0 19 = nI 1 then (if nameF w 6 (w 0 20) n = -1 then us3 n w else wrongS (nI 3) w) else wrongS (nI 1) w) else w
def readUserS (n : Nat) (s : Nat → Nat → Int32) : Nat → Nat → Int32 := us2 n (us1 s)
theorem RI.gus1 {s : Nat → Nat → Int32} (h : RI s) : RI (us1 s) := by
  unfold us1
  refine RI.goOn ?_
  split
  · exact (h.st (by decide) (by decide)).wrong _
  · exact h.st (by decide) (by decide)
theorem RI.gus2 {n : Nat} {w : Nat → Nat → Int32} (h : RI w) : RI (us2 n w) := by
  unfold us2
  split
  · split
    · split
      · exact h.us3
      · exact h.wrong _
    · exact h.wrong _
  · exact h
theorem RI.readUser {n : Nat} {s : Nat → Nat → Int32} (h : RI s) : RI (readUserS n s) := h.gus1.gus2
theorem wrongS_r {s : Nat → Nat → Int32} {v : Int32} {r : Nat} (hr : r ≠ 0) : wrongS v s r = s r := by
  unfold wrongS
  split
  · rw [st1_ne hr, st1_ne hr]
  · rfl
theorem tokS_r {s : Nat → Nat → Int32} {r : Nat} (hr : r ≠ 0) : tokS s r = s r := setT_rd.2.2.2.2.2.2 r hr
theorem goOnS_r {s : Nat → Nat → Int32} {r : Nat} (hr : r ≠ 0) : goOnS s r = s r := by
  unfold goOnS
  split
  · exact tokS_r hr
  · rfl
theorem numS_r {s : Nat → Nat → Int32} {lo hi : Int32} {r : Nat} (hr : r ≠ 0) : numS lo hi s r = s r := by
  unfold numS
  split
  · split
    · split
      · exact tokS_r hr
      · exact wrongS_r hr
    · exact wrongS_r hr
  · rfl
theorem us1_r {s : Nat → Nat → Int32} {r : Nat} (hr : r ≠ 0) : us1 s r = s r := by
  unfold us1
  rw [goOnS_r hr]
  split
  · rw [wrongS_r hr, st1_ne hr]
  · rw [st1_ne hr]
theorem us1_6 {s : Nat → Nat → Int32} (h : s 3 17 = nI 6) : ¬ us1 s 0 21 = 0 := by
  unfold us1
  rw [if_pos h, wrongS_go (by decide)]
  exact wrongS_f (by decide)
