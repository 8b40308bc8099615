/-! THE SPEC, part 5: answers of the reference -/
set_option maxRecDepth 100000
theorem us_of {u : Int32} {n : Nat} (h : ¬ u < 0 ∧ u < nI n) (hn : n ≤ 6) : ∃ j, j < n ∧ u = nI j := by
  obtain ⟨j, hj, rfl⟩ := nI_of h.1
  exact ⟨j, (nI_ltI hj (by omega)).mp h.2, rfl⟩
theorem ch_of {u b : Int32} {B : Nat} (h : ¬ u < nI 1 ∧ ¬ b < u) (hb : b = nI B) (hB : B ≤ 60) : ∃ j, 1 ≤ j ∧ j ≤ B ∧ u = nI j := by
  have h0 : ¬ u < 0 := by
    intro h9; apply h.1
    exact Int32.lt_trans h9 (by decide)
  obtain ⟨j, hj, rfl⟩ := nI_of h0
  refine ⟨j, ?_, ?_, rfl⟩
  · have := h.1
    rw [nI_ltI hj (by decide)] at this; omega
  · have := h.2
    rw [hb, nI_ltI (by omega) hj] at this; omega
theorem sw_c (x : Int32) (n : Nat) (hn : n < 2 ^ 31) : (∃ j, j < n ∧ x = nI j) ∨ (x.toInt < 0 ∨ ((n : Int) - 1) < x.toInt) := by
  by_cases h : x < 0
  · right; left; exact Int32.lt_iff_toInt_lt.mp h
  · obtain ⟨j, hj, rfl⟩ := nI_of h
    rcases Nat.lt_or_ge j n with h1 | h1
    · exact Or.inl ⟨j, h1, rfl⟩
    · right; right; rw [nI_toInt hj]; omega
/-- a switch's place: n where none fits -/
def swt (x : Int32) (n : Nat) : Nat := if x.toInt < 0 ∨ ((n : Int) - 1) < x.toInt then n else tN x
theorem swt_out {x : Int32} {n : Nat} (h : x.toInt < 0 ∨ ((n : Int) - 1) < x.toInt) : swt x n = n := if_pos h
theorem swt_in {j n : Nat} (h : j < n) (hn : n < 2 ^ 31) : swt (nI j) n = j := by
  unfold swt; rw [if_neg, tN_nI (by omega)]; rw [nI_toInt (by omega)]; omega
def isU (n : Nat) (u : Int32) : Bool := !decide (u < 0) && decide (u < nI n)
def isC (s : Nat → Nat → Int32) (c : Int32) : Bool := !decide (c < nI 1) && !decide (s 3 0 < c)
theorem isU_t {n : Nat} {u : Int32} (h : ¬ u < 0 ∧ u < nI n) : isU n u = true := by simp [isU, h.2, Int32.not_lt.mp h.1]
theorem isU_f {n : Nat} {u : Int32} (h : ¬ (¬ u < 0 ∧ u < nI n)) : isU n u = false := by
  unfold isU
  by_cases h1 : u < 0
  · simp [h1]
  · have h2 : ¬ u < nI n := fun h2 => h ⟨h1, h2⟩
    simp [h2]
theorem isC_t {s : Nat → Nat → Int32} {u : Int32} (h : ¬ u < nI 1 ∧ ¬ s 3 0 < u) : isC s u = true := by
  unfold isC; rw [decide_eq_false h.1, decide_eq_false h.2]; rfl
theorem isC_f {s : Nat → Nat → Int32} {u : Int32} (h : ¬ (¬ u < nI 1 ∧ ¬ s 3 0 < u)) : isC s u = false := by
  unfold isC
  by_cases h1 : u < nI 1
  · simp [h1]
  · have h2 : s 3 0 < u := Classical.byContradiction fun h2 => h ⟨h1, h2⟩
    simp [h2]
/-- the place of a name, from base on -/
def nameF (s : Nat → Nat → Int32) (base : Nat) (x : Int32) : Nat → Int32
  | 0 => -1
  | k + 1 => if nameF s base x k = -1 then (if s 5 (base + k) = x then nI k else -1) else nameF s base x k
theorem nameF_keep {s : Nat → Nat → Int32} {base k n : Nat} {x : Int32} (hk : k < n) (h : nameF s base x k = -1) (e : s 5 (base + k) = x) (h31 : n < 2 ^ 31) : nameF s base x n = nI k := by
  have hne : ¬ nI k = -1 := by
    intro h9
    have := nI_toInt (n := k) (by omega)
    rw [h9] at this
    have e9 : (-1 : Int32).toInt = -1 := by decide
    rw [e9] at this; omega
  induction n with
  | zero => omega
  | succ n ih =>
    rcases Nat.lt_or_ge k n with h1 | h1
    · have := ih h1 (by omega)
      rw [nameF, this, if_neg hne]
    · have : k = n := by omega
      subst this
      rw [nameF, if_pos h, if_pos e]
theorem nameF_next {s : Nat → Nat → Int32} {base k : Nat} {x : Int32} (h : nameF s base x k = -1) (e : ¬ s 5 (base + k) = x) : nameF s base x (k + 1) = -1 := by rw [nameF, if_pos h, if_neg e]
def blockF (s : Nat → Nat → Int32) : Nat → Int32
  | 0 => nI 0
  | c + 1 => blockF s c + s 25 (12 + (c + 1))
def countF (s : Nat → Nat → Int32) (n B K : Nat) (what : Int32) : Int32 := match swt what 9 with
  | 0 => nI n
  | 1 => s 3 0
  | 2 => s 3 1
  | 3 => s 3 2
  | 4 => s 3 3
  | 5 => blockF s B
  | 6 => nI (tunedN s n)
  | 7 => nI K
  | 8 => s 0 2
  | _ => -1
/-- what a user is asked: the word 'thrown', the answer -/
def userF (s : Nat → Nat → Int32) (n : Nat) (u what : Int32) : Int32 × Int32 := if isU n u = false then (nI 1, nI 0) else match swt what 7 with
  | 0 => (nI 0, s 6 (tN u))
  | 1 => (nI 0, s 25 (6 + tN u))
  | 2 => (nI 0, s 8 (tN u))
  | 3 => (nI 0, s 9 (tN u))
  | 4 => (nI 0, s 25 (tN u))
  | 5 => (nI 0, bI ((decide (0 < s 25 (tN u)) && rightB s (tN u)) = true))
  | 6 => (nI 0, s 25 (73 + tN u))
  | _ => (nI 2, nI 0)
def linkedF (s : Nat → Nat → Int32) (a b : Int32) : Int32 := if (!decide (a < 0) && decide (a < nI 3) && !decide (b < 0) && decide (b < nI 3) && !decide (a = b)) = true then s 12 (3 * tN a + tN b) else -1
def nearK (s : Nat → Nat → Int32) (u o : Nat) : Bool := !decide (o = u) && decide (s 6 o = s 6 u) && !decide (s 25 o = 0) && !decide (s 25 u = 0)
/-- the nearest of those below o: 0 none, else one more than its number -/
def nearF (s : Nat → Nat → Int32) (u : Nat) : Nat → Nat
  | 0 => 0
  | o + 1 => if nearK s u o = true then (if nearF s u o = 0 then o + 1 else if absI (s 25 o - s 25 u) < absI (s 25 (nearF s u o - 1) - s 25 u) then o + 1 else nearF s u o) else nearF s u o
def optI (k : Nat) : Int32 := if k = 0 then -2 else nI (k - 1)
theorem nearF_le (s : Nat → Nat → Int32) (u o : Nat) : nearF s u o ≤ o := by
  induction o with
  | zero => exact Nat.le_refl _
  | succ o ih => rw [nearF]; split; split; omega; split <;> omega; omega
theorem optI_0 {k : Nat} (h : optI k = -2) (hk : k < 2 ^ 31) : k = 0 := by
  unfold optI at h
  split at h
  · assumption
  · exact absurd h (nI_m2 (by omega))
theorem optI_s {k : Nat} (h : ¬ optI k = -2) : 0 < k ∧ optI k = nI (k - 1) := by
  unfold optI at h ⊢
  split at h
  · exact absurd rfl h
  · rename_i hk; exact ⟨by omega, by rw [if_neg hk]⟩
theorem rem_25 {s : Nat → Nat → Int32} {K : Nat} {j : Nat} : remF s K 25 j = s 25 j := by
  unfold remF
  split <;> rfl
theorem zt_zt {s : Nat → Nat → Int32} : st1 (zt s) 0 0 (nI 0) = zt s := by
  unfold zt
  funext a
  by_cases e : a = 0
  · subst e
    funext j
    by_cases q : j = 0
    · subst q; rw [st1_eq, st1_eq]
    · rw [st1_nj q]
  · rw [st1_ne e]
