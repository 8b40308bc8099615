/-! WHAT A READER TAKES -/
set_option maxRecDepth 100000
def nuX (t : Nat → Int32) (b : Nat) : Nat → Int32
  | 0 => nI 0
  | k + 1 => if nI 100000 < nI 10 * nuX t b k + t (b + k) - nI 48 then nI 100000 else nI 10 * nuX t b k + t (b + k) - nI 48
/-- a sign from a on: behind it, where it begins, its kind, which -/
def twX (t : Nat → Int32) (b e : Nat) : Int32 × Int32 := if keyI t b e < 0 then (if 6 < e - b then (nI 5, keyI t b e) else (nI 2, nmF t b e 6)) else (nI 1, keyI t b e)
def tokX (t : Nat → Int32) (n a : Nat) (v : Int32) : Nat × Nat × Int32 × Int32 :=
  if scan wsB t n a = n then (n, n, nI 0, v)
  else if smB (t (scan wsB t n a)) = true then (scan smB t n (scan wsB t n a), scan wsB t n a, (twX t (scan wsB t n a) (scan smB t n (scan wsB t n a))).1, (twX t (scan wsB t n a) (scan smB t n (scan wsB t n a))).2)
  else if dgB (t (scan wsB t n a)) = true then (scan dgB t n (scan wsB t n a), scan wsB t n a, nI 3, nuX t (scan wsB t n a) (scan dgB t n (scan wsB t n a) - scan wsB t n a))
  else (scan wsB t n a + 1, scan wsB t n a, (if t (scan wsB t n a) = nI 59 then nI 4 else nI 5), v)
theorem sub_96 (x : Int32) : x - nI 96 = x - nI 97 + nI 1 := by
  rw [Int32.sub_eq_add_neg, Int32.sub_eq_add_neg, Int32.add_assoc]
  have e : (-nI 96 : Int32) = -nI 97 + nI 1 := by decide
  rw [e]
theorem twX_b {t : Nat → Int32} {b e : Nat} (h : keyI t b e < 0) (k : 6 < e - b) : twX t b e = (nI 5, keyI t b e) := by unfold twX; rw [if_pos h, if_pos k]
theorem twX_n {t : Nat → Int32} {b e : Nat} (h : keyI t b e < 0) (k : ¬ 6 < e - b) : twX t b e = (nI 2, nmF t b e 6) := by unfold twX; rw [if_pos h, if_neg k]
theorem twX_k {t : Nat → Int32} {b e : Nat} (h : ¬ keyI t b e < 0) : twX t b e = (nI 1, keyI t b e) := by unfold twX; rw [if_neg h]
