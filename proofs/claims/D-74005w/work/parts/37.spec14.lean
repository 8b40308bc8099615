/-! THE SPEC, part 14: signs, words, names, numbers of a text -/
set_option maxRecDepth 100000
def wsB (v : Int32) : Bool := decide (v = nI 10) || decide (v = nI 32)
def smB (v : Int32) : Bool := !decide (v < nI 97) && !decide (nI 122 < v)
def dgB (v : Int32) : Bool := !decide (v < nI 48) && !decide (nI 57 < v)
def see (t : Nat → Int32) (n a : Nat) : Int32 := if a < n then t a else -1
def scanF (p : Int32 → Bool) (t : Nat → Int32) : Nat → Nat → Nat
  | 0, a => a
  | f + 1, a => if p (t a) = true then scanF p t f (a + 1) else a
def scan (p : Int32 → Bool) (t : Nat → Int32) (n a : Nat) : Nat := scanF p t (n - a) a
theorem scanF_p (p : Int32 → Bool) (t : Nat → Int32) : ∀ f a, a ≤ scanF p t f a ∧ scanF p t f a ≤ a + f ∧ (scanF p t f a < a + f → ¬ p (t (scanF p t f a)) = true) ∧ ∀ k, a ≤ k → k < scanF p t f a → p (t k) = true := by
  intro f
  induction f with
  | zero => intro a; exact ⟨Nat.le_refl _, Nat.le_refl _, fun h => absurd h (Nat.lt_irrefl _), fun k h1 h2 => absurd h2 (by rw [scanF]; omega)⟩
  | succ f ih =>
    intro a
    rw [scanF]
    split
    · rename_i h
      obtain ⟨h1, h2, h3, h4⟩ := ih (a + 1)
      refine ⟨by omega, by omega, fun h5 => h3 (by omega), fun k hk1 hk2 => ?_⟩
      by_cases e : k = a
      · subst e; exact h
      · exact h4 k (by omega) hk2
    · rename_i h
      exact ⟨Nat.le_refl _, by omega, fun _ => h, fun k h1 h2 => by omega⟩
theorem scan_p (p : Int32 → Bool) (t : Nat → Int32) {n a : Nat} (h : a ≤ n) : a ≤ scan p t n a ∧ scan p t n a ≤ n ∧ (scan p t n a < n → ¬ p (t (scan p t n a)) = true) ∧ ∀ k, a ≤ k → k < scan p t n a → p (t k) = true := by
  have := scanF_p p t (n - a) a
  unfold scan
  exact ⟨this.1, by omega, fun h1 => this.2.2.1 (by omega), this.2.2.2⟩
theorem scan_s {p : Int32 → Bool} {t : Nat → Int32} {n a : Nat} (h : a < n) (hp : p (t a) = true) : scan p t n a = scan p t n (a + 1) := by
  unfold scan
  rw [show n - a = (n - (a + 1)) + 1 by omega, scanF, if_pos hp]
theorem scan_e {p : Int32 → Bool} {t : Nat → Int32} {n a : Nat} (h : ¬ (a < n ∧ p (t a) = true)) (ha : a ≤ n) : scan p t n a = a := by
  unfold scan
  rcases Nat.lt_or_ge a n with q | q
  · rw [show n - a = (n - (a + 1)) + 1 by omega, scanF, if_neg (fun h9 => h ⟨q, h9⟩)]
  · rw [show n - a = 0 by omega]; rfl
def wSt (n : Nat) : Nat := ([0, 5, 11, 17, 24, 29, 34, 40, 46, 51, 57, 62] : List Nat).getD n 0
def wEn (n : Nat) : Nat := ([4, 10, 16, 23, 28, 33, 39, 45, 50, 56, 61] : List Nat).getD n 0
theorem w_facts : ∀ n, n < 11 → wSt n ≤ wEn n ∧ wEn n < 62 ∧ sByt 1 (wEn n) = nI 32 ∧ wSt (n + 1) = wEn n + 1 ∧ ∀ j, j < wEn n → wSt n ≤ j → ¬ sByt 1 j = nI 32 := by decide +kernel
/-- a word of the table stands at b, e is behind it -/
def sameB (t : Nat → Int32) (b e w i : Nat) : Bool := decide (t (b + i) = sByt 1 (wSt w + i))
def matchB (t : Nat → Int32) (b e w : Nat) : Bool := decide (wEn w - wSt w = e - b) && allB (sameB t b e w) (e - b)
def wordI (t : Nat → Int32) (b e : Nat) : Int32 := m1I (firstN (matchB t b e) 11)
def nmF (t : Nat → Int32) (b e : Nat) : Nat → Int32
  | 0 => nI 0
  | k + 1 => (nmF t b e k <<< (nI 5 &&& 31)) ||| (if b + k < e then t (b + k) - nI 97 + nI 1 else nI 0)
def nuF (t : Nat → Int32) (b : Nat) : Nat → Int32
  | 0 => nI 0
  | k + 1 => if nI 99999 < nuF t b k then nuF t b k else nI 10 * nuF t b k + t (b + k) - nI 48
/-- a sign from a on: behind it, where it begins, its sort, its value -/
def tokF (t : Nat → Int32) (n a : Nat) (v : Int32) : Nat × Nat × Int32 × Int32 :=
  if scan wsB t n a = n then (n, n, nI 4, v)
  else if smB (t (scan wsB t n a)) = true then
    (if ¬ wordI t (scan wsB t n a) (scan smB t n (scan wsB t n a)) = -1 then (scan smB t n (scan wsB t n a), scan wsB t n a, nI 0, wordI t (scan wsB t n a) (scan smB t n (scan wsB t n a)))
     else if 6 < scan smB t n (scan wsB t n a) - scan wsB t n a then (scan smB t n (scan wsB t n a), scan wsB t n a, nI 5, -1)
     else (scan smB t n (scan wsB t n a), scan wsB t n a, nI 1, nmF t (scan wsB t n a) (scan smB t n (scan wsB t n a)) 6))
  else if dgB (t (scan wsB t n a)) = true then (scan dgB t n (scan wsB t n a), scan wsB t n a, nI 2, nuF t (scan wsB t n a) (scan dgB t n (scan wsB t n a) - scan wsB t n a))
  else (scan wsB t n a + 1, scan wsB t n a, (if t (scan wsB t n a) = nI 59 then nI 3 else nI 5), v)
def setT (s : Nat → Nat → Int32) (q : Nat × Nat × Int32 × Int32) : Nat → Nat → Int32 := st1 (st1 (st1 (st1 s 0 17 (nI q.1)) 0 18 (nI q.2.1)) 0 19 q.2.2.1) 0 20 q.2.2.2
theorem setT_of {s s2 : Nat → Nat → Int32} {q : Nat × Nat × Int32 × Int32} (h0 : ∀ r, r ≠ 0 → s2 r = s r) (h1 : ∀ j, j < 17 ∨ 20 < j → s2 0 j = s 0 j) (a : s2 0 17 = nI q.1) (b : s2 0 18 = nI q.2.1) (c : s2 0 19 = q.2.2.1) (d : s2 0 20 = q.2.2.2) : setT s q = s2 := by
  unfold setT
  funext r
  by_cases e : r = 0
  · subst e
    funext j
    by_cases e1 : j = 20
    · subst e1; rw [st1_eq, d]
    rw [st1_nj e1]
    by_cases e2 : j = 19
    · subst e2; rw [st1_eq, c]
    rw [st1_nj e2]
    by_cases e3 : j = 18
    · subst e3; rw [st1_eq, b]
    rw [st1_nj e3]
    by_cases e4 : j = 17
    · subst e4; rw [st1_eq, a]
    rw [st1_nj e4]
    exact (h1 j (by omega)).symm
  · rw [st1_ne e, st1_ne e, st1_ne e, st1_ne e]; exact (h0 r e).symm
/-- bytes -/
def BY (s : Nat → Nat → Int32) : Prop := ∀ k, k < 700 → In (s 1 k) 256
theorem In.m1 {x : Int32} {k : Nat} (h : In x k) (hk : k ≤ 2 ^ 31) : ¬ x = -1 := by
  intro e
  have h1 := h.1
  have h2 := h.2
  rw [e] at h1
  have := nI_toInt (n := tN (-1)) (by rw [e] at h2; omega)
  rw [← h1] at this
  have e9 : (-1 : Int32).toInt = -1 := by decide
  rw [e9] at this; omega
def byteOf (a b c d e : Int32) (k : Nat) : Int32 := ((if k < 4 then a else if k < 8 then b else if k < 12 then c else if k < 16 then d else e) >>> ((nI 24 - nI 8 * nI (k % 4)) &&& 31)) &&& nI 255
def fedF (s : Nat → Nat → Int32) (n : Nat) (a b c d e : Int32) (k : Nat) : Nat → Int32 := fun j => if n ≤ j ∧ j < n + k then byteOf a b c d e (j - n) else s 1 j
def feedS (s : Nat → Nat → Int32) (n : Nat) (a b c d e : Int32) : Nat → Nat → Int32 := st1 (upR s 1 (fedF s n a b c d e 20)) 0 2 (nI (n + 20))
theorem fed_0 {s : Nat → Nat → Int32} {n : Nat} {a b c d e : Int32} : upR s 1 (fedF s n a b c d e 0) = s := upR_self (by funext j; unfold fedF; rw [if_neg (by omega)])
theorem fed_s {s : Nat → Nat → Int32} {n k N : Nat} {a b c d e v : Int32} (hN : N = n + k) (hv : v = byteOf a b c d e k) : st1 (upR s 1 (fedF s n a b c d e k)) 1 N v = upR s 1 (fedF s n a b c d e (k + 1)) := by
  rw [st1_upR, hN, hv]
  congr 1
  funext j
  by_cases q : j = n + k
  · subst q; simp only [upd, if_true]; unfold fedF; rw [if_pos (by omega), show n + k - n = k by omega]
  · simp only [upd, if_neg q]; unfold fedF
    by_cases g : n ≤ j ∧ j < n + k
    · rw [if_pos g, if_pos (by omega)]
    · rw [if_neg g, if_neg (by omega)]
