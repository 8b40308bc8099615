theorem us_isU {n : Nat} {u : Int32} (h : isU n u = true) (hn : n ≤ 6) : ∃ j, j < n ∧ u = nI j := ⟨tN u, (isU_In h hn).2, (isU_In h hn).1⟩
theorem in_rng {v : Int32} {k : Nat} (h : ¬ v < nI 0 ∧ ¬ nI k < v) (hk : k < 2 ^ 31) : ∃ j, j ≤ k ∧ v = nI j := by
  obtain ⟨j, hj, rfl⟩ := nI_of h.1
  refine ⟨j, ?_, rfl⟩
  rcases Nat.lt_or_ge k j with c | c
  · exact absurd (nI_lt c hj) h.2
  · exact c
theorem swt_un {v : Int32} {k : Nat} (h : ¬ (¬ v < nI 0 ∧ ¬ nI k < v)) (hk : k + 1 < 2 ^ 31) : swt v (k + 1) = k + 1 := by
  refine swt_out ?_
  by_cases h0 : v < nI 0
  · left
    have := Int32.lt_iff_toInt_lt.mp h0
    rw [nI_toInt (by decide)] at this
    exact this
  · right
    have h1 : nI k < v := by
      by_cases z : nI k < v
      · exact z
      · exact absurd ⟨h0, z⟩ h
    have := Int32.lt_iff_toInt_lt.mp h1
    rw [nI_toInt (by omega)] at this
    omega
def prodsV (s : Nat → Nat → Int32) (n : Nat) : Nat → Int32 := fun j => match j with
  | 0 => nI (prods s n).length
  | 1 => nI (heardN s (prods s n))
  | 2 => nI (hitsT s n (prods s n))
  | 3 => nI (crowdsT s n)
  | _ => -1
theorem prodsF_j {s : Nat → Nat → Int32} {n j : Nat} (h : j < 4) : prodsF s n (nI j) = prodsV s n j := by unfold prodsF; rw [swt_in h (by decide)]; rfl
theorem prodsF_o {s : Nat → Nat → Int32} {n : Nat} {v : Int32} (h : ¬ (¬ v < nI 0 ∧ ¬ nI 3 < v)) : prodsF s n v = -1 := by unfold prodsF; rw [swt_un h (by decide)]; rfl
/-- an air counted, seen in the class's world -/
theorem ALx {σ Y : Nat → Nat → Int32} (k : Nat) : airU0 σ Y 10 k = Y 0 k := rfl
theorem madeN_mx {s : Nat → Nat → Int32} {n : Nat} {L : List Pr} (hL : L.length ≤ 9216) (u : Nat) : madeN s n L u ≤ 73728 := by
  unfold madeN
  have := sumN_le (f := madeF s n L u) (i := L.length) (k := 8) (fun p _ => by unfold madeF; split; exact pop_le _; exact Nat.zero_le _)
  omega
/-- the first of the greatest -/
def argW (f : Nat → Nat) : Nat → Nat
  | 0 => 0
  | u + 1 => if u = 0 then 0 else if f (argW f u) < f u then u else argW f u
theorem argW_lt (f : Nat → Nat) : ∀ u, 0 < u → argW f u < u := by
  intro u
  induction u with
  | zero => intro h; omega
  | succ u ih =>
    intro _
    rw [argW]
    split
    · omega
    · split
      · omega
      · have := ih (by omega); omega
theorem argW_max (f : Nat → Nat) : ∀ u, ∀ v, v < u → f v ≤ f (argW f u) := by
  intro u
  induction u with
  | zero => intro v h; omega
  | succ u ih =>
    intro v hv
    rw [argW]
    by_cases e : u = 0
    · subst e; rw [if_pos rfl, show v = 0 by omega]; exact Nat.le_refl _
    · rw [if_neg e]
      by_cases k : f (argW f u) < f u
      · rw [if_pos k]
        by_cases e2 : v = u
        · rw [e2]; exact Nat.le_refl _
        · have := ih v (by omega); omega
      · rw [if_neg k]
        by_cases e2 : v = u
        · rw [e2]; omega
        · exact ih v (by omega)
theorem bestW_arg (f : Nat → Nat) : ∀ n, (∀ u, u < n → f u = 0) → bestW f n = -2 ∧ mostW f n = 0 := by
  intro n
  induction n with
  | zero => intro _; exact ⟨rfl, rfl⟩
  | succ n ih =>
    intro h
    obtain ⟨h1, h2⟩ := ih (fun u hu => h u (by omega))
    have h3 := h n (by omega)
    rw [bestW, mostW, h2, h3]
    exact ⟨by rw [if_neg (by omega)]; exact h1, by rw [if_neg (by omega)]⟩
theorem bestW_arg2 (f : Nat → Nat) : ∀ n, 0 < n → 0 < f (argW f n) → bestW f n = nI (argW f n) ∧ mostW f n = f (argW f n) := by
  intro n
  induction n with
  | zero => intro h; omega
  | succ n ih =>
    intro _ hp
    by_cases e : n = 0
    · subst e
      have h0 : 0 < f 0 := hp
      exact ⟨if_pos h0, if_pos h0⟩
    · rw [argW, if_neg e] at hp ⊢
      by_cases k : f (argW f n) < f n
      · rw [if_pos k] at hp ⊢
        by_cases z : 0 < f (argW f n)
        · obtain ⟨h1, h2⟩ := ih (by omega) z
          rw [bestW, mostW, h2, if_pos k, if_pos k]
          exact ⟨rfl, rfl⟩
        · have hz : ∀ u, u < n → f u = 0 := fun u hu => by have := argW_max f n u hu; omega
          obtain ⟨h1, h2⟩ := bestW_arg f n hz
          rw [bestW, mostW, h2, if_pos (by omega), if_pos (by omega)]
          exact ⟨rfl, rfl⟩
      · rw [if_neg k] at hp ⊢
        obtain ⟨h1, h2⟩ := ih (by omega) hp
        rw [bestW, mostW, h2, if_neg k, if_neg k]
        exact ⟨h1, rfl⟩
theorem hits_made {s : Nat → Nat → Int32} {n : Nat} {L : List Pr} (hw : ∀ q ∈ L, q.2.1 < n) : hitsT s n L = 0 ↔ ∀ u, u < n → madeN s n L u = 0 := by
  unfold hitsT madeN
  rw [sumN_zero]
  constructor
  · intro h u _
    rw [sumN_zero]
    intro p hp
    unfold madeF
    split
    · exact h p hp
    · rfl
  · intro h p hp
    have h1 := h _ (hw _ (qAt_mem hp))
    rw [sumN_zero] at h1
    have h2 := h1 p hp
    unfold madeF at h2
    rw [if_pos (by simp [inQ])] at h2
    exact h2
theorem prods_u {s : Nat → Nat → Int32} {n : Nat} : ∀ q ∈ prods s n, q.2.1 < n := fun q hq => (prods_wf hq).2.1
theorem loud_one {s : Nat → Nat → Int32} {n : Nat} : (if hitsT s n (prods s n) = 0 then (-2 : Int32) else nI (argW (madeN s n (prods s n)) n)) = bestW (madeN s n (prods s n)) n := by
  by_cases h : hitsT s n (prods s n) = 0
  · rw [if_pos h, (bestW_arg _ n ((hits_made prods_u).mp h)).1]
  · rw [if_neg h]
    have h1 : 0 < madeN s n (prods s n) (argW (madeN s n (prods s n)) n) := by
      rcases Nat.eq_zero_or_pos (madeN s n (prods s n) (argW (madeN s n (prods s n)) n)) with e | e
      · exact absurd ((hits_made prods_u).mpr fun u hu => by have := argW_max (madeN s n (prods s n)) n u hu; omega) h
      · exact e
    have h2 : 0 < n := by
      rcases Nat.eq_zero_or_pos n with e | e
      · subst e; exact absurd ((hits_made (s := s) (n := 0) prods_u).mpr fun u hu => absurd hu (Nat.not_lt_zero _)) h
      · exact e
    rw [(bestW_arg2 _ n h2 h1).1]
theorem kthN_lt {f : Nat → Bool} {k : Nat} : ∀ p, kthN f k p ≤ p := by
  intro p
  induction p with
  | zero => exact Nat.le_refl _
  | succ p ih =>
    rw [kthN]
    split
    · split <;> omega
    · omega
/-- what the air says of a product that it was asked for -/
def prodV (s : Nat → Nat → Int32) (n p : Nat) : Nat → Int32 := fun j => match j with
  | 0 => nI (qAt (prods s n) p).1
  | 1 => nI (qAt (prods s n) p).2.1
  | 2 => nI (qAt (prods s n) p).2.2.1
  | 3 => cI (qAt (prods s n) p).2.2.2
  | 4 => pvF s (qAt (prods s n) p)
  | 5 => plF s (qAt (prods s n) p)
  | 6 => nI (hsQ s n (qAt (prods s n) p))
  | _ => -1000
theorem prodF_j {s : Nat → Nat → Int32} {n p j : Nat} (h : p < (prods s n).length) (hj : j < 7) (hl : (prods s n).length < 2 ^ 31) : prodF s n (nI p) (nI j) = prodV s n p j := by
  unfold prodF
  rw [if_pos (by simp only [Bool.and_eq_true, Bool.not_eq_true', decide_eq_false_iff_not, decide_eq_true_eq]; exact ⟨nI_pos (by omega), nI_lt h hl⟩), swt_in hj (by decide), tN_nI (by omega)]
  rfl
theorem prodF_k {s : Nat → Nat → Int32} {n : Nat} {k w : Int32} (h : k < 0 ∨ ¬ k < nI (prods s n).length) : prodF s n k w = -1000 := by
  unfold prodF
  rw [if_neg]
  simp only [Bool.and_eq_true, Bool.not_eq_true', decide_eq_false_iff_not, decide_eq_true_eq]
  rcases h with h | h
  · exact fun k => k.1 h
  · exact fun k => h k.2
theorem prodF_w {s : Nat → Nat → Int32} {n : Nat} {k w : Int32} (h : ¬ (¬ w < nI 0 ∧ ¬ nI 6 < w)) : prodF s n k w = -1000 := by
  unfold prodF
  rw [swt_un h (by decide)]
  split <;> rfl
theorem bit_hs {s : Nat → Nat → Int32} {n : Nat} {q : Pr} {u : Nat} (hn : n ≤ 6) (hu : u < n) : (nI (hsQ s n q) >>> (nI u &&& 31)) &&& nI 1 = nI (if hitQ s q u = true then 1 else 0) := by
  unfold hsQ
  rw [bit_at u (by omega) _ (setN_256 _ (by omega))]
  exact congrArg nI (setN_bit _ n u hu)
theorem ite10_t {P : Prop} [Decidable P] (h : ¬ nI (if P then 1 else 0) = 0) : P := by
  by_cases p : P
  · exact p
  · rw [if_neg p] at h; exact absurd rfl h
theorem ite10_f {P : Prop} [Decidable P] (h : nI (if P then 1 else 0) = 0) : ¬ P := by
  intro p
  rw [if_pos p] at h
  exact absurd h (by decide)
theorem bySort_o {s : Nat → Nat → Int32} {n : Nat} {k w : Int32} (h : ¬ (¬ k < nI 0 ∧ ¬ nI 5 < k) ∨ ¬ (¬ w < nI 0 ∧ ¬ nI 2 < w)) : bySortF s n k w = -1 := by
  unfold bySortF
  rw [if_neg]
  simp only [Bool.and_eq_true, Bool.not_eq_true', decide_eq_false_iff_not, decide_eq_true_eq]
  rintro ⟨⟨⟨h1, h2⟩, h3⟩, h4⟩
  rcases h with h | h
  · refine h ⟨h1, fun z => ?_⟩
    obtain ⟨j, hj, rfl⟩ := nI_of h1
    have a := (nI_ltI hj (by decide)).mp h2
    have b := (nI_ltI (by decide) hj).mp z
    omega
  · exact h ⟨h3, h4⟩
theorem linked_o {s : Nat → Nat → Int32} {a b : Int32} (h : ¬ (¬ a < nI 0 ∧ ¬ nI 2 < a) ∨ ¬ (¬ b < nI 0 ∧ ¬ nI 2 < b) ∨ a = b) : linkedF s a b = -1 := by
  unfold linkedF
  rw [if_neg]
  simp only [Bool.and_eq_true, Bool.not_eq_true', decide_eq_false_iff_not, decide_eq_true_eq]
  rintro ⟨⟨⟨⟨h1, h2⟩, h3⟩, h4⟩, h5⟩
  have key : ∀ x : Int32, ¬ x < 0 → x < nI 3 → ¬ nI 2 < x := by
    intro x p q z
    obtain ⟨j, hj, rfl⟩ := nI_of p
    have a := (nI_ltI hj (by decide)).mp q
    have b := (nI_ltI (by decide) hj).mp z
    omega
  rcases h with h | h | h
  · exact h ⟨h1, key a h1 h2⟩
  · exact h ⟨h3, key b h3 h4⟩
  · exact h5 h
theorem linked_i {s : Nat → Nat → Int32} {a b : Nat} (ha : a ≤ 2) (hb : b ≤ 2) (h : ¬ a = b) : linkedF s (nI a) (nI b) = s 12 (3 * a + b) := by
  unfold linkedF
  rw [if_pos, tN_nI (by omega), tN_nI (by omega)]
  simp only [Bool.and_eq_true, Bool.not_eq_true', decide_eq_false_iff_not, decide_eq_true_eq]
  exact ⟨⟨⟨⟨nI_pos (by omega), nI_lt (by omega) (by decide)⟩, nI_pos (by omega)⟩, nI_lt (by omega) (by decide)⟩, fun e => h ((nI_eq (by omega) (by omega)).mp e)⟩
theorem lnk_ne {τ : Nat → Nat → Int32} {a b : Nat} (ha : a ≤ 2) (hb : b ≤ 2) (h : ¬ a = b) : lnkF τ (3 * a + b) = τ 12 (3 * a + b) := by
  unfold lnkF
  rw [if_pos (by omega), if_neg (by omega)]
