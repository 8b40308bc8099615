/-! A READER's signs and those of the reference -/
set_option maxRecDepth 100000
def kp (w : Nat) : Nat := ([0, 1, 2, 3, 4, 6, 7, 8, 9, 10, 5] : List Nat).getD w 0
theorem kp_facts : ∀ w, w < 11 → kp w < 11 ∧ kEn (kp w) - kSt (kp w) = wEn w - wSt w ∧ ∀ i, i < 7 → i < wEn w - wSt w → sByt 0 (kSt (kp w) + i) = sByt 1 (wSt w + i) := by decide +kernel
theorem kp_on : ∀ k, k < 11 → ∃ w, w < 11 ∧ kp w = k := by decide +kernel
theorem w_len : ∀ w, w < 11 → wEn w - wSt w ≤ 6 := by decide +kernel
theorem w_apart : ∀ w, w < 11 → ∀ v, v < 11 → w ≠ v → wEn w - wSt w = wEn v - wSt v → ∃ i, i < 6 ∧ i < wEn w - wSt w ∧ ¬ sByt 1 (wSt w + i) = sByt 1 (wSt v + i) := by decide +kernel
theorem allB_at {f : Nat → Bool} {i n : Nat} (h : allB f n = true) (hi : i < n) : f i = true := by
  induction n with
  | zero => omega
  | succ n ih =>
    rw [allB, Bool.and_eq_true] at h
    rcases Nat.lt_or_ge i n with q | q
    · exact ih h.1 q
    · rw [show i = n by omega]; exact h.2
theorem match_kp {t : Nat → Int32} {b e w : Nat} (hw : w < 11) : matchK t b e (kp w) = matchB t b e w := by
  obtain ⟨h1, h2, h3⟩ := kp_facts w hw
  have h6 := w_len w hw
  unfold matchK matchB
  rw [h2]
  by_cases q : wEn w - wSt w = e - b
  · rw [decide_eq_true q]
    have : allB (sameK t b (kp w)) (e - b) = allB (sameB t b e w) (e - b) := by
      refine allB_congr fun i hi => ?_
      unfold sameK sameB
      rw [h3 i (by omega) (by omega)]
      exact decide_eq_decide.mpr eq_comm
    rw [this]
  · rw [decide_eq_false q]; rfl
theorem match_uniq {t : Nat → Int32} {b e w v : Nat} (hw : w < 11) (hv : v < 11) (h1 : matchB t b e w = true) (h2 : matchB t b e v = true) : w = v := by
  by_cases q : w = v
  · exact q
  · exfalso
    unfold matchB at h1 h2
    rw [Bool.and_eq_true, decide_eq_true_eq] at h1 h2
    obtain ⟨i, -, hi, hne⟩ := w_apart w hw v hv q (h1.1.trans h2.1.symm)
    have a := allB_at h1.2 (show i < e - b by omega)
    have c := allB_at h2.2 (show i < e - b by omega)
    unfold sameB at a c
    rw [decide_eq_true_eq] at a c
    exact hne (a.symm.trans c)
theorem firstN_none {f : Nat → Bool} {n : Nat} (h : ∀ j, j < n → ¬ f j = true) : firstN f n = 0 := by
  induction n with
  | zero => rfl
  | succ n ih => rw [firstN, if_pos (ih (fun j hj => h j (by omega))), if_neg (h n (by omega))]
theorem firstN_uniq {f : Nat → Bool} {p n : Nat} (hp : p < n) (h : f p = true) (hu : ∀ j, j < n → f j = true → j = p) : firstN f n = p + 1 :=
  firstN_keep hp (firstN_none (fun j hj hf => by have := hu j (by omega) hf; omega)) h
theorem firstN_some {f : Nat → Bool} : ∀ n, firstN f n = 0 ∧ (∀ j, j < n → ¬ f j = true) ∨ ∃ p, p < n ∧ f p = true ∧ firstN f n = p + 1 := by
  intro n
  induction n with
  | zero => exact Or.inl ⟨rfl, fun j h => absurd h (Nat.not_lt_zero _)⟩
  | succ n ih =>
    rw [firstN]
    rcases ih with ⟨h1, h2⟩ | ⟨p, h1, h2, h3⟩
    · rw [if_pos h1]
      by_cases q : f n = true
      · rw [if_pos q]; exact Or.inr ⟨n, by omega, q, rfl⟩
      · rw [if_neg q]
        refine Or.inl ⟨rfl, fun j hj => ?_⟩
        rcases Nat.lt_or_ge j n with k | k
        · exact h2 j k
        · rw [show j = n by omega]; exact q
    · rw [if_neg (by omega)]; exact Or.inr ⟨p, by omega, h2, h3⟩
/-- the same word, by both tables -/
theorem word_key (t : Nat → Int32) (b e : Nat) : (wordI t b e = -1 ∧ keyI t b e = -1) ∨ ∃ w, w < 11 ∧ wordI t b e = nI w ∧ keyI t b e = nI (kp w) := by
  unfold wordI keyI
  rcases firstN_some (f := matchB t b e) 11 with ⟨h1, h2⟩ | ⟨w, h1, h2, h3⟩
  · left
    have : firstN (matchK t b e) 11 = 0 := firstN_none fun j hj => by
      obtain ⟨w, hw, hk⟩ := kp_on j hj
      rw [← hk, match_kp hw]; exact h2 w hw
    rw [h1, this]; exact ⟨rfl, rfl⟩
  · right
    have : firstN (matchK t b e) 11 = kp w + 1 := firstN_uniq (kp_facts w h1).1 (by rw [match_kp h1]; exact h2) fun j hj hf => by
      obtain ⟨v, hv, hk⟩ := kp_on j hj
      rw [← hk, match_kp hv] at hf
      rw [← hk, match_uniq hv h1 hf h2]
    rw [h3, this]
    exact ⟨w, h1, m1I_s, m1I_s⟩
theorem nI_m1n {n : Nat} (h : n < 2 ^ 31) : ¬ nI n = -1 := by
  intro e
  have := nI_pos h
  rw [e] at this
  exact this (by decide)
theorem nu_two {t : Nat → Int32} {b : Nat} : ∀ k, (∀ j, b ≤ j → j < b + k → dgB (t j) = true) → ∃ j, j < 1000000 ∧ nuF t b k = nI j ∧ nuX t b k = nI (if 100000 < j then 100000 else j) := by
  intro k
  induction k with
  | zero => intro _; exact ⟨0, by decide, rfl, rfl⟩
  | succ k ih =>
    intro h
    obtain ⟨j, h1, h2, h3⟩ := ih (fun i a c => h i a (by omega))
    have hd := h (b + k) (by omega) (by omega)
    unfold dgB at hd
    simp only [Bool.and_eq_true, Bool.not_eq_true', decide_eq_false_iff_not] at hd
    obtain ⟨d, hd1, hd2, hd3⟩ := rng hd (by decide) (by decide)
    have e1 : ∀ x, nI 10 * nI x + nI d - nI 48 = nI (10 * x + (d - 48)) := fun x => by
      rw [pk_mul, nI_add, pk_sub (by omega)]
      congr 1; omega
    rw [nuF, nuX, h2, h3, hd1, e1, e1]
    by_cases q : 99999 < j
    · rw [if_pos ((nI_ltI (by decide) (by omega)).mpr q)]
      refine ⟨j, h1, rfl, ?_⟩
      by_cases z : 100000 < j
      · rw [if_pos z, if_pos ((nI_ltI (by decide) (by omega)).mpr (by omega))]
      · obtain rfl : j = 100000 := by omega
        rw [if_neg z]
        by_cases y : d = 48
        · subst y
          rw [if_pos ((nI_ltI (by decide) (by decide)).mpr (by decide))]
        · rw [if_pos ((nI_ltI (by decide) (by omega)).mpr (by omega))]
    · rw [if_neg (fun z => q ((nI_ltI (by decide) (by omega)).mp z))]
      refine ⟨10 * j + (d - 48), by omega, rfl, ?_⟩
      rw [if_neg (show ¬ 100000 < j by omega)]
      by_cases y : 100000 < 10 * j + (d - 48)
      · rw [if_pos ((nI_ltI (by decide) (by omega)).mpr y), if_pos y]
      · rw [if_neg (fun z => y ((nI_ltI (by decide) (by omega)).mp z)), if_neg y]
/-- a sign of the reference (q) and of the class (x) -/
def TR2 (q x : Nat × Nat × Int32 × Int32) : Prop := x.1 = q.1 ∧ x.2.1 = q.2.1 ∧ ((q.2.2.1 = nI 4 ∧ x.2.2.1 = nI 0) ∨ (q.2.2.1 = nI 0 ∧ x.2.2.1 = nI 1 ∧ ∃ w, w < 11 ∧ q.2.2.2 = nI w ∧ x.2.2.2 = nI (kp w)) ∨ (q.2.2.1 = nI 1 ∧ x.2.2.1 = nI 2 ∧ x.2.2.2 = q.2.2.2) ∨ (q.2.2.1 = nI 2 ∧ x.2.2.1 = nI 3 ∧ ∃ j, j < 1000000 ∧ q.2.2.2 = nI j ∧ x.2.2.2 = nI (if 100000 < j then 100000 else j)) ∨ (q.2.2.1 = nI 3 ∧ x.2.2.1 = nI 4) ∨ (q.2.2.1 = nI 5 ∧ x.2.2.1 = nI 5))
theorem tok_two {t : Nat → Int32} {n a : Nat} (v w : Int32) (ha : a ≤ n) : TR2 (tokF t n a v) (tokX t n a w) := by
  obtain ⟨h1, h2, -, -⟩ := scan_p wsB t ha
  unfold tokF tokX
  by_cases c : scan wsB t n a = n
  · rw [if_pos c, if_pos c]; exact ⟨rfl, rfl, Or.inl ⟨rfl, rfl⟩⟩
  · rw [if_neg c, if_neg c]
    by_cases d : smB (t (scan wsB t n a)) = true
    · rw [if_pos d, if_pos d]
      rcases word_key t (scan wsB t n a) (scan smB t n (scan wsB t n a)) with ⟨k1, k2⟩ | ⟨w0, k0, k1, k2⟩
      · rw [if_neg (fun h => h k1)]
        have hneg : keyI t (scan wsB t n a) (scan smB t n (scan wsB t n a)) < 0 := by rw [k2]; decide
        by_cases f : 6 < scan smB t n (scan wsB t n a) - scan wsB t n a
        · rw [if_pos f, twX_b hneg f]; exact ⟨rfl, rfl, Or.inr (Or.inr (Or.inr (Or.inr (Or.inr ⟨rfl, rfl⟩))))⟩
        · rw [if_neg f, twX_n hneg f]; exact ⟨rfl, rfl, Or.inr (Or.inr (Or.inl ⟨rfl, rfl, rfl⟩))⟩
      · rw [if_pos (by rw [k1]; exact nI_m1n (by omega)), twX_k (by rw [k2]; exact nI_pos (by have := (kp_facts w0 k0).1; omega))]
        unfold TR2
        dsimp only
        exact ⟨rfl, rfl, Or.inr (Or.inl ⟨rfl, rfl, w0, k0, k1, k2⟩)⟩
    · rw [if_neg d, if_neg d]
      by_cases f : dgB (t (scan wsB t n a)) = true
      · rw [if_pos f, if_pos f]
        obtain ⟨p1, p2, -, p4⟩ := scan_p dgB t h2
        refine ⟨rfl, rfl, Or.inr (Or.inr (Or.inr (Or.inl ⟨rfl, rfl, nu_two _ (fun j x y => p4 j x (by omega))⟩)))⟩
      · rw [if_neg f, if_neg f]
        by_cases g : t (scan wsB t n a) = nI 59
        · rw [if_pos g, if_pos g]; exact ⟨rfl, rfl, Or.inr (Or.inr (Or.inr (Or.inr (Or.inl ⟨rfl, rfl⟩))))⟩
        · rw [if_neg g, if_neg g]; exact ⟨rfl, rfl, Or.inr (Or.inr (Or.inr (Or.inr (Or.inr ⟨rfl, rfl⟩))))⟩
