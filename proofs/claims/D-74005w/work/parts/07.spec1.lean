/-! THE SPEC, part 1: products and hits, over the one function s of the reference -/
set_option maxRecDepth 100000
def tN (x : Int32) : Nat := x.toNatClampNeg
theorem tN_nI {n : Nat} (h : n < 2 ^ 31) : tN (nI n) = n := nI_clamp h
def In (x : Int32) (k : Nat) : Prop := x = nI (tN x) ∧ tN x < k
theorem In.of {n k : Nat} (h : n < k) (hk : k ≤ 2 ^ 31) : In (nI n) k := ⟨by rw [tN_nI (by omega)], by rw [tN_nI (by omega)]; exact h⟩
theorem In.mono {x : Int32} {k j : Nat} (h : In x k) (hk : k ≤ j) : In x j := ⟨h.1, Nat.lt_of_lt_of_le h.2 hk⟩
def absI (v : Int32) : Int32 := if v < 0 then -v else v
def tA (k : Nat) : Int32 := if k = 2 ∨ k = 5 then nI 2 else if k = 4 then nI 3 else nI 1
def tB (k : Nat) : Int32 := if k = 0 ∨ k = 3 ∨ k = 5 then nI 1 else if k = 4 then (-2) else (-1)
def tC (k : Nat) : Int32 := if k = 3 then (-1) else if k = 5 then (-2) else nI 0
def bO (k : Nat) : Int32 := if k < 2 then nI 1 else if k < 4 then nI 2 else nI 4
def pop (S : Nat) : Nat := S % 2 + S / 2 % 2 + S / 4 % 2 + S / 8 % 2 + S / 16 % 2 + S / 32 % 2 + S / 64 % 2 + S / 128 % 2
theorem pop_0 : pop 0 = 0 := by decide
theorem bits_step : ∀ j, j < 256 → j ≠ 0 → nI j &&& (nI j - nI 1) = nI (j &&& (j - 1)) ∧ j &&& (j - 1) < 256 ∧ pop (j &&& (j - 1)) + 1 = pop j := by decide +kernel
theorem or_bit : ∀ i, i < 8 → ∀ S, S < 2 ^ i → nI S ||| (nI 1 <<< (nI i &&& 31)) = nI (S + 2 ^ i) := by decide +kernel
/-- the users at a place, tuned -/
def thB (s : Nat → Nat → Int32) (u a : Nat) : Bool := decide (s 6 u = nI a) && decide (0 < s 25 u)
def isInB (s : Nat → Nat → Int32) (p u : Nat) : Bool := decide (s 35 p = nI u) || decide (s 36 p = nI u) || decide (s 37 p = nI u)
def highF (s : Nat → Nat → Int32) (u : Nat) : Int32 := if s 9 u < s 0 30 then s 9 u else s 0 30
def rightB (s : Nat → Nat → Int32) (u : Nat) : Bool := !decide (s 25 u < s 8 u) && !decide (highF s u < s 25 u) && decide (s 25 (12 + tN (s 25 u)) = 0)
def linkF (s : Nat → Nat → Int32) (p u : Nat) : Int32 := s 12 (3 * tN (s 6 (tN (s 35 p))) + tN (s 6 u))
def mayB (s : Nat → Nat → Int32) (p u : Nat) : Bool := !decide (s 39 p < 0) && !decide (s 25 u = 0) && !isInB s p u && !decide (s 40 p &&& s 25 (73 + u) = 0) && (decide (s 6 u = s 6 (tN (s 35 p))) || (!decide (linkF s p u = -2) && !decide (s 39 p < linkF s p u)))
def hitB (s : Nat → Nat → Int32) (p u : Nat) : Bool := mayB s p u && !decide (s 0 31 < absI (s 25 u - s 38 p))
/-- the set of users below i with a property, as a number -/
def setN (f : Nat → Bool) : Nat → Nat
  | 0 => 0
  | i + 1 => if f i = true then setN f i + 2 ^ i else setN f i
theorem setN_lt (f : Nat → Bool) (i : Nat) : setN f i < 2 ^ i := by
  induction i with
  | zero => exact Nat.zero_lt_one
  | succ i ih => rw [setN, Nat.pow_succ]; split <;> omega
theorem setN_256 (f : Nat → Bool) {i : Nat} (h : i ≤ 8) : setN f i < 256 := Nat.lt_of_lt_of_le (setN_lt f i) (Nat.pow_le_pow_right (by decide) h)
theorem setN_64 (f : Nat → Bool) {i : Nat} (h : i ≤ 6) : setN f i < 64 := Nat.lt_of_lt_of_le (setN_lt f i) (Nat.pow_le_pow_right (by decide) h)
theorem setN_t {f : Nat → Bool} {i : Nat} (hi : i < 8) (h : f i = true) : nI (setN f i) ||| (nI 1 <<< (nI i &&& 31)) = nI (setN f (i + 1)) := by
  rw [or_bit i hi _ (setN_lt f i), setN, if_pos h]
theorem setN_f {f : Nat → Bool} {i : Nat} (h : ¬ f i = true) : setN f i = setN f (i + 1) := by
  rw [setN, if_neg h]
theorem setN_congr {f g : Nat → Bool} {i : Nat} (h : ∀ u, u < i → f u = g u) : setN f i = setN g i := by
  induction i with
  | zero => rfl
  | succ i ih => rw [setN, setN, ih (fun u hu => h u (by omega)), h i (by omega)]
def crowdB (s : Nat → Nat → Int32) (a b : Nat) : Bool := !decide (a = b) && decide (s 6 a = s 6 b) && !decide (s 25 (73 + a) &&& s 25 (73 + b) = 0) && decide (0 < s 25 a) && decide (0 < s 25 b) && decide (absI (s 25 a - s 25 b) < s 0 32)
/-- a sum of what is below i -/
def sumN (f : Nat → Nat) : Nat → Nat
  | 0 => 0
  | i + 1 => sumN f i + f i
theorem sumN_congr {f g : Nat → Nat} {i : Nat} (h : ∀ u, u < i → f u = g u) : sumN f i = sumN g i := by
  induction i with
  | zero => rfl
  | succ i ih => rw [sumN, sumN, ih (fun u hu => h u (by omega)), h i (by omega)]
theorem sumN_le {f : Nat → Nat} {i k : Nat} (h : ∀ u, u < i → f u ≤ k) : sumN f i ≤ i * k := by
  induction i with
  | zero => simp [sumN]
  | succ i ih =>
    have h1 := ih (fun u hu => h u (by omega))
    have h2 := h i (by omega)
    rw [sumN, Nat.add_mul]
    omega
theorem pop_le (S : Nat) : pop S ≤ 8 := by
  unfold pop
  omega
