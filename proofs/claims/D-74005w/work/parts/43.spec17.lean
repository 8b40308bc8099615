/-! THE SPEC, part 17: what reads a text, on -/
theorem numV_In {s : Nat → Nat → Int32} {a b : Nat} (hab : a ≤ b) (hb : b < 2 ^ 31) : In (numV (nI a) (nI b) s) (b + 1) ∧ a ≤ tN (numV (nI a) (nI b) s) := by
  unfold numV
  split
  · rename_i h
    obtain ⟨j, hj, h1, h2⟩ := rng ⟨h.2.2.1, h.2.2.2⟩ (by omega) hb
    rw [hj, tN_nI (by omega)]
    exact ⟨In.of (by omega) (by omega), h1⟩
  · rw [tN_nI (by omega)]
    exact ⟨In.of (by omega) (by omega), Nat.le_refl _⟩
theorem nameF_of {s : Nat → Nat → Int32} {b : Nat} {x : Int32} : ∀ n, nameF s b x n = -1 ∨ ∃ j, j < n ∧ nameF s b x n = nI j := by
  intro n
  induction n with
  | zero => left; rfl
  | succ n ih =>
    rw [nameF]
    split
    · split
      · right; exact ⟨n, by omega, rfl⟩
      · left; rfl
    · rcases ih with h | ⟨j, hj, h⟩
      · exact absurd h (by assumption)
      · right; exact ⟨j, by omega, h⟩
theorem goOnS_0 {s : Nat → Nat → Int32} (h : s 0 21 = 0) : goOnS s = tokS s := if_pos h
theorem goOnS_1 {s : Nat → Nat → Int32} (h : ¬ s 0 21 = 0) : goOnS s = s := if_neg h
def uoN (n : Nat) (s : Nat → Nat → Int32) : Nat := if goOnS s 0 21 = 0 ∧ goOnS s 0 19 = nI 1 ∧ ¬ nameF (goOnS s) 6 (goOnS s 0 20) n = -1 then tN (nameF (goOnS s) 6 (goOnS s 0 20) n) else 0
theorem uoN_lt {n : Nat} {s : Nat → Nat → Int32} (hn : n ≤ 6) : uoN n s < 6 := by
  unfold uoN
  split
  · rename_i h
    rcases nameF_of (s := goOnS s) (b := 6) (x := goOnS s 0 20) n with h1 | ⟨j, hj, h1⟩
    · exact absurd h1 h.2.2
    · rw [h1, tN_nI (by omega)]; omega
  · decide
def uoS (r n : Nat) (s : Nat → Nat → Int32) : Nat → Nat → Int32 :=
  if goOnS s 0 21 = 0 then (if goOnS s 0 19 = nI 1 then (if nameF (goOnS s) 6 (goOnS s 0 20) n = -1 then wrongS (nI 4) (goOnS s) else if 0 < goOnS s r (6 + tN (nameF (goOnS s) 6 (goOnS s 0 20) n)) then wrongS (nI 3) (goOnS s) else tokS (goOnS s)) else wrongS (nI 1) (goOnS s)) else goOnS s
theorem RI.uo {r n : Nat} {s : Nat → Nat → Int32} (h : RI s) : RI (uoS r n s) := by
  unfold uoS
  split
  · split
    · split
      · exact h.goOn.wrong _
      · split
        · exact h.goOn.wrong _
        · exact h.goOn.tok
    · exact h.goOn.wrong _
  · exact h.goOn
theorem uoS_r {r n : Nat} {s : Nat → Nat → Int32} {k : Nat} (hk : k ≠ 0) : uoS r n s k = s k := by
  unfold uoS
  split
  · split
    · split
      · rw [wrongS_r hk, goOnS_r hk]
      · split
        · rw [wrongS_r hk, goOnS_r hk]
        · rw [tokS_r hk, goOnS_r hk]
    · rw [wrongS_r hk, goOnS_r hk]
  · rw [goOnS_r hk]
def fx1 (n : Nat) (s : Nat → Nat → Int32) : Nat → Nat → Int32 := uoS 10 n (st1 s 0 14 (nI 1))
def fx2 (n : Nat) (s : Nat → Nat → Int32) : Nat → Nat → Int32 := numS (nI 1) (fx1 n s 3 10) (fx1 n s)
def readFixedS (n : Nat) (s : Nat → Nat → Int32) : Nat → Nat → Int32 := if fx2 n s 0 21 = 0 then st1 (fx2 n s) 10 (6 + uoN n (st1 s 0 14 (nI 1))) (numV (nI 1) (fx1 n s 3 10) (fx1 n s)) else fx2 n s
def sl2 (n : Nat) (s : Nat → Nat → Int32) : Nat → Nat → Int32 := numS (nI 1) (nI 255) (uoS 11 n s)
def readSlotsS (n : Nat) (s : Nat → Nat → Int32) : Nat → Nat → Int32 := if sl2 n s 0 21 = 0 then st1 (sl2 n s) 11 (6 + uoN n s) (numV (nI 1) (nI 255) (uoS 11 n s)) else sl2 n s
theorem RI.rfx1 {n : Nat} {s : Nat → Nat → Int32} (h : RI s) : RI (fx1 n s) := (h.st (by decide) (by decide)).uo
theorem RI.rfx2 {n : Nat} {s : Nat → Nat → Int32} (h : RI s) : RI (fx2 n s) := h.rfx1.num _ _
theorem RI.readFixed {n : Nat} {s : Nat → Nat → Int32} (h : RI s) : RI (readFixedS n s) := by
  unfold readFixedS
  split
  · exact h.rfx2.st (by decide) (Or.inl (by decide))
  · exact h.rfx2
theorem RI.rsl2 {n : Nat} {s : Nat → Nat → Int32} (h : RI s) : RI (sl2 n s) := h.uo.num _ _
theorem RI.readSlots {n : Nat} {s : Nat → Nat → Int32} (h : RI s) : RI (readSlotsS n s) := by
  unfold readSlotsS
  split
  · exact h.rsl2.st (by decide) (Or.inl (by decide))
  · exact h.rsl2
/-- a link -/
def lkA (s : Nat → Nat → Int32) : Nat := tN (numV (nI 0) (nI 2) (goOnS s))
def lk2 (s : Nat → Nat → Int32) : Nat → Nat → Int32 := numS (nI 0) (nI 2) (goOnS s)
def lk3 (s : Nat → Nat → Int32) : Nat → Nat → Int32 := if lk2 s 0 21 = 0 ∧ ¬ lk2 s 0 19 = nI 2 then wrongS (nI 1) (lk2 s) else lk2 s
def lk4 (s : Nat → Nat → Int32) : Nat → Nat → Int32 := if lk3 s 0 21 = 0 ∧ (nI 2 < lk3 s 0 20 ∨ lk3 s 0 20 = nI (lkA s)) then wrongS (nI 2) (lk3 s) else lk3 s
def lkB (s : Nat → Nat → Int32) : Nat := if lk4 s 0 21 = 0 then tN (lk4 s 0 20) else 0
def lk5 (s : Nat → Nat → Int32) : Nat → Nat → Int32 := if lk4 s 0 21 = 0 ∧ ¬ lk4 s 12 (9 + 3 * lkA s + lkB s) = -2 then wrongS (nI 3) (lk4 s) else lk4 s
def lk7 (s : Nat → Nat → Int32) : Nat → Nat → Int32 := numS (nI 0) (nI 99) (goOnS (lk5 s))
def lkV (s : Nat → Nat → Int32) : Int32 := numV (nI 0) (nI 99) (goOnS (lk5 s))
def readLinkS (s : Nat → Nat → Int32) : Nat → Nat → Int32 := if lk7 s 0 21 = 0 then st1 (st1 (lk7 s) 12 (9 + 3 * lkA s + lkB s) (lkV s)) 12 (9 + 3 * lkB s + lkA s) (lkV s) else lk7 s
theorem lkA_3 (s : Nat → Nat → Int32) : numV (nI 0) (nI 2) (goOnS s) = nI (lkA s) ∧ lkA s < 3 := (numV_In (a := 0) (b := 2) (by decide) (by decide)).1
theorem RI.rlk2 {s : Nat → Nat → Int32} (h : RI s) : RI (lk2 s) := h.goOn.num _ _
theorem RI.rlk3 {s : Nat → Nat → Int32} (h : RI s) : RI (lk3 s) := by
  unfold lk3
  split
  · exact h.rlk2.wrong _
  · exact h.rlk2
theorem RI.rlk4 {s : Nat → Nat → Int32} (h : RI s) : RI (lk4 s) := by
  unfold lk4
  split
  · exact h.rlk3.wrong _
  · exact h.rlk3
theorem RI.rlk5 {s : Nat → Nat → Int32} (h : RI s) : RI (lk5 s) := by
  unfold lk5
  split
  · exact h.rlk4.wrong _
  · exact h.rlk4
theorem lk3_s {s : Nat → Nat → Int32} (h : lk3 s 0 21 = 0) : lk2 s 0 21 = 0 ∧ lk2 s 0 19 = nI 2 ∧ lk3 s = lk2 s := by
  unfold lk3 at h ⊢
  split at h
  · exact absurd h (wrongS_f (by decide))
  · rename_i q
    rw [if_neg q]
    exact ⟨h, Classical.not_not.mp (fun h9 => q ⟨h, h9⟩), rfl⟩
theorem lk4_s {s : Nat → Nat → Int32} (hR : RI s) (h : lk4 s 0 21 = 0) : lk3 s 0 21 = 0 ∧ lk4 s = lk3 s ∧ ¬ nI 2 < lk3 s 0 20 ∧ ¬ lk3 s 0 20 = nI (lkA s) ∧ lk4 s 0 20 = nI (lkB s) ∧ lkB s < 3 := by
  have h0 := h
  unfold lk4 at h
  split at h
  · exact absurd h (wrongS_f (by decide))
  · rename_i q
    have e : lk4 s = lk3 s := by unfold lk4; rw [if_neg q]
    have a1 : ¬ nI 2 < lk3 s 0 20 := fun h9 => q ⟨h, Or.inl h9⟩
    have hI := hR.rlk3.2 (by rw [(lk3_s h).2.2]; exact (lk3_s h).2.1)
    have eB : lkB s = tN (lk3 s 0 20) := by unfold lkB; rw [if_pos h0, e]
    have b1 : lk3 s 0 20 = nI (lkB s) := by rw [eB]; exact hI.1
    refine ⟨h, e, a1, fun h9 => q ⟨h, Or.inr h9⟩, by rw [e]; exact b1, ?_⟩
    rw [b1, nI_ltI (by decide) (by rw [eB]; have := hI.2; omega)] at a1
    omega
theorem lkB_3 {s : Nat → Nat → Int32} (hR : RI s) : lkB s < 3 := by
  by_cases h : lk4 s 0 21 = 0
  · exact (lk4_s hR h).2.2.2.2.2
  · unfold lkB; rw [if_neg h]; decide
theorem RI.rlk7 {s : Nat → Nat → Int32} (h : RI s) : RI (lk7 s) := h.rlk5.goOn.num _ _
theorem RI.readLink {s : Nat → Nat → Int32} (h : RI s) : RI (readLinkS s) := by
  unfold readLinkS
  split
  · exact (h.rlk7.st (by decide) (Or.inl (by decide))).st (by decide) (Or.inl (by decide))
  · exact h.rlk7
