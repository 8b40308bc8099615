/-! THE SPEC, part 11: the least band, spare channels, chance -/
set_option maxRecDepth 100000
theorem CE.rf (s : Nat → Nat → Int32) : CE s s := ⟨rfl, rfl, rfl, rfl, rfl, rfl, rfl, rfl, rfl, rfl⟩
theorem full_bit : ∀ n, n < 7 → ∀ j, j < n → bit (2 ^ n - 1) j = 1 := by decide +kernel
theorem full_int : ∀ n, n < 7 → (nI 1 <<< (nI n &&& 31)) - nI 1 = nI (2 ^ n - 1) := by decide +kernel
theorem one_int : ∀ u, u < 7 → nI 1 <<< (nI u &&& 31) = nI (2 ^ u) := by decide +kernel
theorem one_bit : ∀ u, u < 7 → ∀ j, j < 7 → bit (2 ^ u) j = if j = u then 1 else 0 := by decide +kernel
theorem zF_full {s : Nat → Nat → Int32} {n : Nat} (hn : n ≤ 6) (k : Nat) (hk : k ≤ n) (j : Nat) : zF s (2 ^ n - 1) k 25 j = if j < k then nI 0 else s 25 j := by
  induction k with
  | zero => rw [if_neg (by omega)]; rfl
  | succ k ih =>
    rw [zF, if_pos (full_bit n (by omega) k (by omega))]
    by_cases e : j = k
    · subst e; rw [st1_eq, if_pos (by omega)]
    · rw [st1_nj e, ih (by omega)]
      by_cases q : j < k
      · rw [if_pos q, if_pos (by omega)]
      · rw [if_neg q, if_neg (by omega)]
/-- alike but for the users' channels -/
def CF (s0 s : Nat → Nat → Int32) (n : Nat) : Prop := (∀ j, n ≤ j → s 25 j = s0 25 j) ∧ s 6 = s0 6 ∧ s 3 = s0 3 ∧ s 12 = s0 12 ∧ s 8 = s0 8 ∧ s 9 = s0 9 ∧ s 0 30 = s0 0 30 ∧ s 0 31 = s0 0 31 ∧ s 0 32 = s0 0 32 ∧ s 0 33 = s0 0 33
theorem CF.z {s0 s : Nat → Nat → Int32} {n : Nat} (hn : n ≤ 6) (h : CF s0 s n) : CE (zF s0 (2 ^ n - 1) n) (zF s (2 ^ n - 1) n) := by
  obtain ⟨a, b, c, d, e, f, g, i, j, k⟩ := h
  have p := fun t => zF_pl t (2 ^ n - 1) n n (Nat.le_refl _)
  refine ⟨?_, ?_, ?_, ?_, ?_, ?_, ?_, ?_, ?_, ?_⟩
  · funext x
    rw [zF_full hn n (Nat.le_refl _), zF_full hn n (Nat.le_refl _)]
    split
    · rfl
    · exact a x (by omega)
  · rw [(p s).1 6 (by decide), (p s0).1 6 (by decide), b]
  · rw [(p s).1 3 (by decide), (p s0).1 3 (by decide), c]
  · rw [(p s).1 12 (by decide), (p s0).1 12 (by decide), d]
  · rw [(p s).1 8 (by decide), (p s0).1 8 (by decide), e]
  · rw [(p s).1 9 (by decide), (p s0).1 9 (by decide), f]
  · rw [(p s).1 0 (by decide), (p s0).1 0 (by decide), g]
  · rw [(p s).1 0 (by decide), (p s0).1 0 (by decide), i]
  · rw [(p s).1 0 (by decide), (p s0).1 0 (by decide), j]
  · rw [(p s).1 0 (by decide), (p s0).1 0 (by decide), k]
theorem CF.v {s0 s : Nat → Nat → Int32} {n : Nat} (hn : n ≤ 6) (h : CF s0 s n) : srV s n (2 ^ n - 1) = srV s0 n (2 ^ n - 1) := by
  have h1 := srF_ce (n := n) (S := 2 ^ n - 1) 5000 (nxF (2 ^ n - 1) 7 0 + 1) _ _ 0 (h.z hn)
  unfold srV
  by_cases e : 2 ^ n - 1 = 0
  · rw [if_pos e, if_pos e]
    have n0 : n = 0 := by
      rcases Nat.eq_zero_or_pos n with q | q
      · exact q
      · have : 2 ^ 1 ≤ 2 ^ n := Nat.pow_le_pow_right (by decide) q
        omega
    subst n0
    obtain ⟨a, b, c, d, f, g, i, j, k, m⟩ := h
    rw [cleanB_ce ⟨funext fun x => a x (Nat.zero_le _), b, c, d, f, g, i, j, k, m⟩]
  · rw [if_neg e, if_neg e]
    unfold srR
    rw [h1.1, h1.2.1]
def bandB (s : Nat → Nat → Int32) (n i : Nat) : Bool := !decide (srV (st1 s 0 30 (nI (i + 4))) n (2 ^ n - 1) < 0)
def optB (k : Nat) : Int32 := if k = 0 then -2 else nI (k + 3)
theorem optB_0 {k : Nat} (h : optB k = -2) (hk : k < 100) : k = 0 := by
  unfold optB at h
  split at h
  · assumption
  · exact absurd h (nI_m2 (by omega))
theorem optB_n {k : Nat} (h : ¬ optB k = -2) : k ≠ 0 := by intro e; subst e; exact h rfl
theorem firstN_le (f : Nat → Bool) (q : Nat) : firstN f q ≤ q := by
  induction q with
  | zero => exact Nat.le_refl _
  | succ q ih => rw [firstN]; split; split <;> omega; omega
theorem firstN_stay {f : Nat → Bool} {q n : Nat} (h : firstN f q ≠ 0) (hq : q ≤ n) : firstN f n = firstN f q := by
  induction n with
  | zero => have : q = 0 := by omega
            rw [this]
  | succ n ih =>
    rcases Nat.lt_or_ge n q with h1 | h1
    · have : q = n + 1 := by omega
      rw [this]
    · rw [firstN, ih h1, if_neg h]
/-- while bands are tried -/
def LB (z w : Nat → Nat → Int32) (n : Nat) : Prop := AW z w ∧ (∀ j, n ≤ j → w 25 j = z 25 j) ∧ In25 w n ∧ ∀ j, 31 ≤ j ∧ j ≤ 33 → w 0 j = z 0 j
theorem LB.of {z : Nat → Nat → Int32} {n : Nat} (h : In25 z n) : LB z (asideF z) n := ⟨AW.of z, fun _ _ => rfl, h, fun _ _ => rfl⟩
theorem LB.cf {z w : Nat → Nat → Int32} {n : Nat} {v : Int32} (h : LB z w n) : CF (st1 z 0 30 v) (st1 w 0 30 v) n := by
  obtain ⟨⟨a, b, c, d⟩, e, f, g⟩ := h
  refine ⟨fun j hj => by rw [st1_ne (by decide), st1_ne (by decide)]; exact e j hj, ?_, ?_, ?_, ?_, ?_, ?_, ?_, ?_, ?_⟩
  · rw [st1_ne (by decide), st1_ne (by decide)]; exact c 6 (by decide) (by decide) (by decide) (by decide)
  · rw [st1_ne (by decide), st1_ne (by decide)]; exact c 3 (by decide) (by decide) (by decide) (by decide)
  · rw [st1_ne (by decide), st1_ne (by decide)]; exact c 12 (by decide) (by decide) (by decide) (by decide)
  · rw [st1_ne (by decide), st1_ne (by decide)]; exact c 8 (by decide) (by decide) (by decide) (by decide)
  · rw [st1_ne (by decide), st1_ne (by decide)]; exact c 9 (by decide) (by decide) (by decide) (by decide)
  · rw [st1_eq, st1_eq]
  · rw [st1_nj (by decide), st1_nj (by decide)]; exact g 31 (by decide)
  · rw [st1_nj (by decide), st1_nj (by decide)]; exact g 32 (by decide)
  · rw [st1_nj (by decide), st1_nj (by decide)]; exact g 33 (by decide)
theorem LB.next {z w w2 : Nat → Nat → Int32} {n S : Nat} {v : Int32} (hn : n ≤ 6) (h : LB z w n) (k : HS (st1 w 0 30 v) w2 n S) (hi : In25 w2 n) : LB z w2 n := by
  obtain ⟨a, e, f, g⟩ := h
  refine ⟨(a.fld (k := 30) (v := v) (by decide)).hs hn k, fun j hj => ?_, hi, fun j hj => ?_⟩
  · rw [k.2.2 j (Or.inl hj), st1_ne (by decide)]; exact e j hj
  · rw [k.2.1 j (by omega) (by omega), st1_nj (by omega)]; exact g j hj
theorem LB.cm {z w : Nat → Nat → Int32} {n : Nat} {v : Int32} (h : LB z w n) (hC : CM z n) : CM (st1 w 0 30 v) n := by
  obtain ⟨⟨a, b, c, d⟩, e, f, g⟩ := h
  refine ⟨?_, hC.2.1, ?_, ?_⟩
  · rw [st1_ne (by decide), c 3 (by decide) (by decide) (by decide) (by decide)]; exact hC.1
  · rw [st1_ne (by decide), c 6 (by decide) (by decide) (by decide) (by decide)]; exact hC.2.2.1
  · rw [st1_ne (by decide)]; exact f
theorem LB.lh {z w : Nat → Nat → Int32} {n : Nat} {v : Int32} (h : LB z w n) (hl : LH z n) (hv : In v 61) : LH (st1 w 0 30 v) n := by
  obtain ⟨⟨a, b, c, d⟩, e, f, g⟩ := h
  refine ⟨?_, by rw [st1_eq]; exact hv⟩
  rw [st1_ne (by decide), st1_ne (by decide), c 8 (by decide) (by decide) (by decide) (by decide), c 9 (by decide) (by decide) (by decide) (by decide)]
  exact hl.1
def spareB (s : Nat → Nat → Int32) (n u i : Nat) : Bool := cleanB (st1 s 25 u (nI (i + 1))) n && !decide (srV (st1 s 25 u (nI (i + 1))) n (FS (st1 s 25 u (nI (i + 1))) n) < 0)
theorem LH.put {s : Nat → Nat → Int32} {n u : Nat} {v : Int32} (h : LH s n) : LH (st1 s 25 u v) n := by
  unfold LH at h ⊢
  rw [st1_ne (by decide), st1_ne (by decide), st1_ne (by decide)]; exact h
/-- numbers drawn -/
def dwN (d : Nat) : Nat := (d * 1103515245 + 12345) % 2147483648
theorem dwN_lt (d : Nat) : dwN d < 2 ^ 31 := Nat.mod_lt _ (by decide)
theorem dw_int (d : Nat) : (nI d * nI 1103515245 + nI 12345) &&& nI 2147483647 = nI (dwN d) := by
  rw [pk_mul, nI_add, pk_and _ 31 (by decide)]
  unfold dwN
  congr 1
  show (BitVec.ofNat 32 _).toNat % 2 ^ 31 = _
  rw [BitVec.toNat_ofNat]
  omega
def drawN (B d : Nat) : Nat := dwN d / 65536 % B
/-- by chance: what u has is lost where it is c, and looked for anew -/
def chU (n c : Nat) : Nat → (Nat → Nat → Int32) × Nat → (Nat → Nat → Int32) × Nat
  | 0, x => x
  | u + 1, x => if (chU n c u x).1 25 u = nI c then ((if srV (chU n c u x).1 n (2 ^ u) < 0 then st1 (chU n c u x).1 25 u (nI 0) else upR (chU n c u x).1 25 (foundP (chU n c u x).1 n (2 ^ u))), (chU n c u x).2 + 1) else chU n c u x
def chK (s : Nat → Nat → Int32) (n B d : Nat) : Nat → (Nat → Nat → Int32) × Nat × Nat
  | 0 => (s, 0, d)
  | k + 1 => ((chU n (drawN B (chK s n B d k).2.2 + 1) n (st1 (chK s n B d k).1 25 (12 + (drawN B (chK s n B d k).2.2 + 1)) (nI 1), (chK s n B d k).2.1)).1, (chU n (drawN B (chK s n B d k).2.2 + 1) n (st1 (chK s n B d k).1 25 (12 + (drawN B (chK s n B d k).2.2 + 1)) (nI 1), (chK s n B d k).2.1)).2, dwN (chK s n B d k).2.2)
def chOk (a b c : Int32) : Bool := !decide (a < -1) && !decide (b < nI 1) && !decide (nI 20 < b) && !decide (c < 0) && !decide (nI 2 < c)
def seedN (s : Nat → Nat → Int32) (a : Int32) : Nat := if a = -1 then tN (s 3 9) else tN a
def chF (s : Nat → Nat → Int32) (n B : Nat) (a b c : Int32) : Int32 := if chOk a b c = true then (if c = 0 then nI (tunedN (chK s n B (seedN s a) (tN b)).1 n) else if c = nI 1 then nI (chK s n B (seedN s a) (tN b)).2.1 else bI (cleanB (chK s n B (seedN s a) (tN b)).1 n = true)) else -1
/-- while chance is tried: s is how it looks, the row is kept in 'first' -/
def CW (z s w : Nat → Nat → Int32) (n : Nat) : Prop := CE s w ∧ (∀ j, j < 79 → w 45 j = z 25 j) ∧ (∀ j, 79 ≤ j → w 25 j = z 25 j) ∧ (∀ r, r ≠ 0 → r ≠ 25 → r ≠ 27 → r ≠ 45 → ¬ (34 ≤ r ∧ r ≤ 40) → w r = z r) ∧ (∀ j, j ≠ 0 → j ≠ 41 → j ≠ 42 → j ≠ 44 → w 0 j = z 0 j) ∧ In25 w n
theorem CW.hr {z s w w2 : Nat → Nat → Int32} {n : Nat} (h : CW z s w n) (k : HR w w2) : CW z s w2 n := by
  obtain ⟨a, b, c, d, e, f⟩ := h
  refine ⟨a.tr k.ce, fun j hj => ?_, fun j hj => ?_, fun r h0 h1 h2 h3 h4 => ?_, fun j h0 h1 h2 h3 => ?_, ?_⟩
  · rw [k.1 45 (by omega) (by omega)]; exact b j hj
  · rw [k.1 25 (by omega) (by omega)]; exact c j hj
  · rw [k.1 r h4 h0]; exact d r h0 h1 h2 h3 h4
  · rw [k.2 j h1]; exact e j h0 h1 h2 h3
  · unfold In25; rw [k.1 25 (by omega) (by omega)]; exact f
theorem CW.put {z s w : Nat → Nat → Int32} {n u : Nat} {v : Int32} (h : CW z s w n) (hu : u < 79) (hv : u < 6 → In v 61) (hn : n ≤ 6) : CW z (st1 s 25 u v) (st1 w 25 u v) n := by
  obtain ⟨a, b, c, d, e, f⟩ := h
  refine ⟨a.put, fun j hj => by rw [st1_ne (by decide)]; exact b j hj, fun j hj => by rw [st1_nj (by omega)]; exact c j hj, fun r h0 h1 h2 h3 h4 => by rw [st1_ne h1]; exact d r h0 h1 h2 h3 h4, fun j h0 h1 h2 h3 => by rw [st1_ne (by decide)]; exact e j h0 h1 h2 h3, fun q hq => ?_⟩
  by_cases e9 : q = u
  · subst e9; rw [st1_eq]; exact hv (by omega)
  · rw [st1_nj e9]; exact f q hq
theorem CW.fit {z s w w2 : Nat → Nat → Int32} {n S : Nat} (hn : n ≤ 6) (h : CW z s w n) (k : HS w w2 n S) (hi : In25 w2 n) (hf : w2 25 = foundP s n S) : CW z (upR s 25 (foundP s n S)) w2 n := by
  obtain ⟨a, b, c, d, e, f⟩ := h
  obtain ⟨a0, a1, a2, a3, a4, a5, a6, a7, a8, a9⟩ := a
  refine ⟨⟨by rw [upR_eq]; exact hf, ?_, ?_, ?_, ?_, ?_, ?_, ?_, ?_, ?_⟩, fun j hj => ?_, fun j hj => ?_, fun r h0 h1 h2 h3 h4 => ?_, fun j h0 h1 h2 h3 => ?_, hi⟩
  · rw [upR_ne (by decide), k.1 6 (by decide) (by decide) (by decide)]; exact a1
  · rw [upR_ne (by decide), k.1 3 (by decide) (by decide) (by decide)]; exact a2
  · rw [upR_ne (by decide), k.1 12 (by decide) (by decide) (by decide)]; exact a3
  · rw [upR_ne (by decide), k.1 8 (by decide) (by decide) (by decide)]; exact a4
  · rw [upR_ne (by decide), k.1 9 (by decide) (by decide) (by decide)]; exact a5
  · rw [upR_ne (by decide), k.2.1 30 (by decide) (by decide)]; exact a6
  · rw [upR_ne (by decide), k.2.1 31 (by decide) (by decide)]; exact a7
  · rw [upR_ne (by decide), k.2.1 32 (by decide) (by decide)]; exact a8
  · rw [upR_ne (by decide), k.2.1 33 (by decide) (by decide)]; exact a9
  · rw [k.1 45 (by decide) (by decide) (by decide)]; exact b j hj
  · rw [k.2.2 j (Or.inl (by omega))]; exact c j hj
  · rw [k.1 r h0 h1 h4]; exact d r h0 h1 h2 h3 h4
  · rw [k.2.1 j h1 h2]; exact e j h0 h1 h2 h3
theorem CW.lost {z s w w2 : Nat → Nat → Int32} {n u : Nat} (hn : n ≤ 6) (hu : u < n) (h : CW z s w n) (k : HS w w2 n (2 ^ u)) (hi : In25 w2 n) : CW z (st1 s 25 u (nI 0)) (st1 w2 25 u (nI 0)) n := by
  obtain ⟨a, b, c, d, e, f⟩ := h
  obtain ⟨a0, a1, a2, a3, a4, a5, a6, a7, a8, a9⟩ := a
  have g : st1 w2 25 u (nI 0) 25 = st1 s 25 u (nI 0) 25 := by
    funext j
    by_cases q : j = u
    · subst q; rw [st1_eq, st1_eq]
    · rw [st1_nj q, st1_nj q, ← a0]
      refine k.2.2 j ?_
      rcases Nat.lt_or_ge j n with h1 | h1
      · right; rw [one_bit u (by omega) j (by omega), if_neg q]
      · exact Or.inl h1
  refine ⟨⟨g, ?_, ?_, ?_, ?_, ?_, ?_, ?_, ?_, ?_⟩, fun j hj => ?_, fun j hj => ?_, fun r h0 h1 h2 h3 h4 => ?_, fun j h0 h1 h2 h3 => ?_, In25.put hi (In.of (by decide) (by decide))⟩
  · rw [st1_ne (by decide), st1_ne (by decide), k.1 6 (by decide) (by decide) (by decide)]; exact a1
  · rw [st1_ne (by decide), st1_ne (by decide), k.1 3 (by decide) (by decide) (by decide)]; exact a2
  · rw [st1_ne (by decide), st1_ne (by decide), k.1 12 (by decide) (by decide) (by decide)]; exact a3
  · rw [st1_ne (by decide), st1_ne (by decide), k.1 8 (by decide) (by decide) (by decide)]; exact a4
  · rw [st1_ne (by decide), st1_ne (by decide), k.1 9 (by decide) (by decide) (by decide)]; exact a5
  · rw [st1_ne (by decide), st1_ne (by decide), k.2.1 30 (by decide) (by decide)]; exact a6
  · rw [st1_ne (by decide), st1_ne (by decide), k.2.1 31 (by decide) (by decide)]; exact a7
  · rw [st1_ne (by decide), st1_ne (by decide), k.2.1 32 (by decide) (by decide)]; exact a8
  · rw [st1_ne (by decide), st1_ne (by decide), k.2.1 33 (by decide) (by decide)]; exact a9
  · rw [st1_ne (by decide), k.1 45 (by decide) (by decide) (by decide)]; exact b j hj
  · rw [st1_nj (by omega), k.2.2 j (Or.inl (by omega))]; exact c j hj
  · rw [st1_ne h1, k.1 r h0 h1 h4]; exact d r h0 h1 h2 h3 h4
  · rw [st1_ne (by decide), k.2.1 j h1 h2]; exact e j h0 h1 h2 h3
theorem CW.back {z s w : Nat → Nat → Int32} {n : Nat} (h : CW z s w n) : HQ z (upR w 25 (va_cpy (w 45) (w 25) 0 0 79)) := by
  obtain ⟨a, b, c, d, e, f⟩ := h
  refine ⟨fun r r0 r27 r43 r45 rp => ?_, fun j j0 j41 j42 j44 => ?_⟩
  · by_cases q : r = 25
    · subst q
      rw [upR_eq]
      funext j
      rcases Nat.lt_or_ge j 79 with g | g
      · rw [pk_cpy_in (by omega) (by omega), Nat.zero_add, Nat.sub_zero]; exact b j g
      · rw [pk_cpy_out (by omega)]; exact c j g
    · rw [upR_ne q]; exact d r r0 q r27 r45 rp
  · rw [upR_ne (by decide)]; exact e j j0 j41 j42 j44
theorem CW.of {z : Nat → Nat → Int32} {n : Nat} {v : Int32} (h : In25 z n) : CW z z (upR (st1 z 0 44 v) 45 (va_cpy (z 25) (z 45) 0 0 79)) n := by
  refine ⟨⟨?_, ?_, ?_, ?_, ?_, ?_, ?_, ?_, ?_, ?_⟩, fun j hj => ?_, fun j hj => ?_, fun r h0 h1 h2 h3 h4 => ?_, fun j h0 h1 h2 h3 => ?_, ?_⟩
  all_goals first | (rw [upR_ne (by decide), st1_ne (by decide)]; done) | (rw [upR_ne (by decide), st1_nj (by decide)]; done) | skip
  · rw [upR_eq, pk_cpy_in (by omega) (by omega), Nat.zero_add, Nat.sub_zero]
  · rw [upR_ne h3, st1_ne h0]
  · rw [upR_ne (by decide), st1_nj h3]
  · unfold In25; rw [upR_ne (by decide), st1_ne (by decide)]; exact h
theorem CW.drawn {z s w : Nat → Nat → Int32} {n : Nat} {v : Int32} (h : CW z s w n) : CW z s (st1 w 0 44 v) n := by
  obtain ⟨a, b, c, d, e, f⟩ := h
  refine ⟨a.tr ?_, fun j hj => by rw [st1_ne (by decide)]; exact b j hj, fun j hj => by rw [st1_ne (by decide)]; exact c j hj, fun r h0 h1 h2 h3 h4 => by rw [st1_ne h0]; exact d r h0 h1 h2 h3 h4, fun j h0 h1 h2 h3 => by rw [st1_nj h3]; exact e j h0 h1 h2 h3, by unfold In25; rw [st1_ne (by decide)]; exact f⟩
  refine ⟨?_, ?_, ?_, ?_, ?_, ?_, ?_, ?_, ?_, ?_⟩
  all_goals first | exact st1_ne (by decide) | exact st1_nj (by decide)
section
variable {p : Program} {l : Launch} {e : Env} {R : Room} {s : State} {m : MethodId} {args : Array Value} {below : List Frame} {meth : Method} {c : Code} {Q : State → Prop} {A : Nat → Prop} {D : va_G} {nL cells slots : Nat} {ws : va_W} {pc : Nat} {L : List (Nat × Value)} {S : List Value}
variable {cc : ByteArray} {own : String} {ret : Option FieldType} {tys : List (ClassId × FieldType)} {gt : Nat → Nat}
theorem s_ldcw (E : En p s m args meth c A cc nL own ret D tys gt) {index : Nat} {v : Int32} (d : decode cc pc = .ok (.ldc_w index, 3)) (hq : Jvm.Cond.constant own index v ∈ lw_all) (K : Sm p l e R s m args below meth c Q A D nL cells slots ws (pc + 3) L (.int v :: S)) : Sm p l e R s m args below meth c Q A D nL cells slots ws pc L S := fun H locs ls hP hD hS hl => lv_ldcw E.1 E.2.1 E.2.2.2.1 (E.2.2.2.2.1 _ hq) d (K H locs ls hP hD hS hl)
end
