/-! THE SPEC, part 6: answers over the products -/
set_option maxRecDepth 100000
def cntF (f : Nat → Bool) (p : Nat) : Nat := if f p = true then 1 else 0
def cntN (f : Nat → Bool) (n : Nat) : Nat := sumN (cntF f) n
/-- the place, one more, of the one behind k others of a kind; 0: none -/
def kthN (f : Nat → Bool) (k : Nat) : Nat → Nat
  | 0 => 0
  | p + 1 => if kthN f k p = 0 then (if f p = true ∧ cntN f p = k then p + 1 else 0) else kthN f k p
theorem kthN_keep {f : Nat → Bool} {k p n : Nat} (hp : p < n) (h : kthN f k p = 0) (hf : f p = true) (hc : cntN f p = k) : kthN f k n = p + 1 := by
  induction n with
  | zero => omega
  | succ n ih =>
    rcases Nat.lt_or_ge p n with h1 | h1
    · rw [kthN, ih h1, if_neg (by omega)]
    · have : p = n := by omega
      subst this
      rw [kthN, if_pos h, if_pos ⟨hf, hc⟩]
theorem kthN_next {f : Nat → Bool} {k p : Nat} (h : kthN f k p = 0) (hc : ¬ (f p = true ∧ cntN f p = k)) : kthN f k (p + 1) = 0 := by rw [kthN, if_pos h, if_neg hc]
theorem cntN_t {f : Nat → Bool} {p : Nat} (h : f p = true) : cntN f (p + 1) = cntN f p + 1 := by unfold cntN; rw [sumN]; unfold cntF; rw [if_pos h]
theorem cntN_f {f : Nat → Bool} {p : Nat} (h : ¬ f p = true) : cntN f (p + 1) = cntN f p := by unfold cntN; rw [sumN]; unfold cntF; rw [if_neg h]; rfl
/-- the first of a kind, one more; 0: none -/
def firstN (f : Nat → Bool) : Nat → Nat
  | 0 => 0
  | p + 1 => if firstN f p = 0 then (if f p = true then p + 1 else 0) else firstN f p
theorem firstN_keep {f : Nat → Bool} {p n : Nat} (hp : p < n) (h : firstN f p = 0) (hf : f p = true) : firstN f n = p + 1 := by
  induction n with
  | zero => omega
  | succ n ih =>
    rcases Nat.lt_or_ge p n with h1 | h1
    · rw [firstN, ih h1, if_neg (by omega)]
    · have : p = n := by omega
      subst this
      rw [firstN, if_pos h, if_pos hf]
theorem firstN_next {f : Nat → Bool} {p : Nat} (h : firstN f p = 0) (hf : ¬ f p = true) : firstN f (p + 1) = 0 := by rw [firstN, if_pos h, if_neg hf]
def hitL (s : Nat → Nat → Int32) (L : List Pr) (u p : Nat) : Bool := hitQ s (qAt L p) u
def aheadB (f : Nat → Nat) (u o : Nat) : Bool := decide (f u < f o) || (decide (f o = f u) && decide (o < u))
def sortF (s : Nat → Nat → Int32) (n : Nat) (L : List Pr) (k w p : Nat) : Nat := if (qAt L p).1 = k then (if w = 0 then 1 else if w = 1 then (if plF s (qAt L p) < 0 then 0 else 1) else pop (hsQ s n (qAt L p))) else 0
def loudF (s : Nat → Nat → Int32) (n : Nat) (L : List Pr) : Nat → Nat
  | 0 => 0
  | p + 1 => if hsQ s n (qAt L p) ≠ 0 ∧ (loudF s n L p = 0 ∨ plF s (qAt L (loudF s n L p - 1)) < plF s (qAt L p)) then p + 1 else loudF s n L p
theorem loudF_le (s : Nat → Nat → Int32) (n : Nat) (L : List Pr) (p : Nat) : loudF s n L p ≤ p := by
  induction p with
  | zero => exact Nat.le_refl _
  | succ p ih => rw [loudF]; split <;> omega
def whenF (s : Nat → Nat → Int32) (L : List Pr) (u : Nat) : Nat → Int32
  | 0 => nI 0
  | p + 1 => if hitQ s (qAt L p) u = true then whenF s L u p ||| (pcF s (qAt L p) &&& s 25 (73 + u)) else whenF s L u p
def farF (s : Nat → Nat → Int32) (L : List Pr) (u p : Nat) : Int32 := absI (s 25 u - pvF s (qAt L p))
def clearF (s : Nat → Nat → Int32) (L : List Pr) (u : Nat) : Nat → Int32
  | 0 => -2
  | p + 1 => if mayQ s (qAt L p) u = true then (if clearF s L u p = -2 ∨ farF s L u p < clearF s L u p then farF s L u p else clearF s L u p) else clearF s L u p
def hits2F (s : Nat → Nat → Int32) (n : Nat) (u : Int32) : Int32 := if isU n u = false then -1 else if s 25 (tN u) = 0 then -2 else nI (cntN (hitL s (prods s n) (tN u)) (prods s n).length)
def hitByF (s : Nat → Nat → Int32) (n : Nat) (u k : Int32) : Int32 := if (isU n u && !decide (k < 0)) = true then optI (kthN (hitL s (prods s n) (tN u)) (tN k) (prods s n).length) else -1
def rankF (s : Nat → Nat → Int32) (n : Nat) (k : Int32) : Int32 := if isU n k = true then (if firstN (fun u => decide (nI (cntN (aheadB (madeN s n (prods s n)) u) n) = k)) n = 0 then -1 else nI (firstN (fun u => decide (nI (cntN (aheadB (madeN s n (prods s n)) u) n) = k)) n - 1)) else -1
def bySortF (s : Nat → Nat → Int32) (n : Nat) (k w : Int32) : Int32 := if (!decide (k < 0) && decide (k < nI 6) && !decide (w < 0) && !decide (nI 2 < w)) = true then nI (sumN (sortF s n (prods s n) (tN k) (tN w)) (prods s n).length) else -1
def prodsF (s : Nat → Nat → Int32) (n : Nat) (w : Int32) : Int32 := match swt w 4 with
  | 0 => nI (prods s n).length
  | 1 => nI (heardN s (prods s n))
  | 2 => nI (hitsT s n (prods s n))
  | 3 => nI (crowdsT s n)
  | _ => -1
def prodF (s : Nat → Nat → Int32) (n : Nat) (k w : Int32) : Int32 := if (!decide (k < 0) && decide (k < nI (prods s n).length)) = true then (match swt w 7 with
  | 0 => nI (qAt (prods s n) (tN k)).1
  | 1 => nI (qAt (prods s n) (tN k)).2.1
  | 2 => nI (qAt (prods s n) (tN k)).2.2.1
  | 3 => cI (qAt (prods s n) (tN k)).2.2.2
  | 4 => pvF s (qAt (prods s n) (tN k))
  | 5 => plF s (qAt (prods s n) (tN k))
  | 6 => nI (hsQ s n (qAt (prods s n) (tN k)))
  | _ => -1000) else -1000
theorem nI_of0 {k : Int32} (h : ¬ k < 0) : ∃ j, j < 2 ^ 31 ∧ k = nI j := nI_of h
theorem sumN_300 {f : Nat → Nat} {L i : Nat} (hi : i ≤ L) (hL : L ≤ 300) (h : ∀ u, f u ≤ 8) : sumN f i ≤ 2400 := by
  have := sumN_le (f := f) (i := i) (k := 8) (fun u _ => h u)
  omega
theorem nI_dec2 {i b : Nat} (h : b < i) : nI (i - b) + Int32.ofInt (-1) = nI (i - (b + 1)) := by
  have e : i - b = (i - (b + 1)) + 1 := by omega
  rw [e]; exact pk_m1 _
theorem us_ofL {u : Int32} {n : Nat} (h : ¬ u < 0) (h2 : u < nI n) (hn : n ≤ 300) : ∃ j, j < n ∧ u = nI j := by
  obtain ⟨j, hj, rfl⟩ := nI_of h
  exact ⟨j, (nI_ltI hj (by omega)).mp h2, rfl⟩
theorem us_of6 {u : Int32} (h : ¬ u < 0) (h2 : u < nI 6) : ∃ j, j < 6 ∧ u = nI j := us_ofL h h2 (by omega)
theorem us_of2 {u : Int32} (h : ¬ u < 0) (h2 : ¬ nI 2 < u) : ∃ j, j < 3 ∧ u = nI j := by
  obtain ⟨j, hj, rfl⟩ := nI_of h
  refine ⟨j, ?_, rfl⟩
  rw [nI_ltI (by decide) hj] at h2; omega
