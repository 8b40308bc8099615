/-! THE WORDS that a reader knows -/
set_option maxRecDepth 100000
def kSt (n : Nat) : Nat := ([0, 5, 11, 17, 24, 29, 34, 39, 45, 51, 56, 62] : List Nat).getD n 0
def kEn (n : Nat) : Nat := ([4, 10, 16, 23, 28, 33, 38, 44, 50, 55, 61] : List Nat).getD n 0
def kxI (w : Nat) : Int32 := ixF (sByt 0) (nI 32) (61 - kSt w) (kSt w)
theorem k_facts : ∀ w, w < 11 → kSt w ≤ kEn w ∧ kEn w ≤ 61 ∧ kSt w < 61 ∧ kSt (w + 1) = kEn w + 1 ∧ (¬ kxI w < 0 → kxI w = nI (kEn w)) ∧ (kxI w < 0 → kEn w = 61) := by decide +kernel
theorem kSt_61 : ∀ w, w ≤ 11 → (kSt w < 61 ↔ w < 11) ∧ kSt w ≤ 62 := by decide +kernel
def sameK (t : Nat → Int32) (b w i : Nat) : Bool := decide (sByt 0 (kSt w + i) = t (b + i))
def matchK (t : Nat → Int32) (b e w : Nat) : Bool := decide (kEn w - kSt w = e - b) && allB (sameK t b w) (e - b)
def keyI (t : Nat → Int32) (b e : Nat) : Int32 := m1I (firstN (matchK t b e) 11)
theorem allB_pre {f : Nat → Bool} {i n : Nat} (h : allB f n = true) (hi : i ≤ n) : allB f i = true := by
  induction n with
  | zero => rw [show i = 0 by omega]; rfl
  | succ n ih =>
    rcases Nat.lt_or_ge n i with q | q
    · rw [show i = n + 1 by omega]; exact h
    · rw [allB, Bool.and_eq_true] at h; exact ih h.1 q
theorem nI_minus {a b : Nat} (h : b ≤ a) : nI a - nI b = nI (a - b) := by
  have e : nI a = nI (a - b) + nI b := by rw [nI_add, Nat.sub_add_cancel h]
  rw [e, Int32.add_sub_cancel]
