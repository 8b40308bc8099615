/-! THE SPEC, part 7: a user otherwise, swaps, turning down, the most of something -/
set_option maxRecDepth 100000
def noiseN (s : Nat → Nat → Int32) (n : Nat) : Nat := hitsT s n (prods s n) + crowdsT s n
theorem noiseN_le (s : Nat → Nat → Int32) {n : Nat} (hn : n ≤ 6) : noiseN s n ≤ 2500 := by
  have h1 : hitsT s n (prods s n) ≤ (prods s n).length * 8 := sumN_le fun p _ => pop_le _
  have h2 := prods_len (s := s) hn
  have h3 : sumN (crowdF s n) n ≤ n * 8 := sumN_le fun p _ => pop_le _
  unfold noiseN crowdsT; omega
theorem noiseN_ce {s0 s : Nat → Nat → Int32} (h : CE s0 s) (n : Nat) : noiseN s n = noiseN s0 n := by
  unfold noiseN; rw [hitsT_ce h, prods_ce h, crowdsT_ce h]
def fitB (s : Nat → Nat → Int32) (n u i : Nat) : Bool := cleanB (st1 s 25 u (nI (i + 1))) n
def qtS (s : Nat → Nat → Int32) (n u : Nat) (x : Nat × Nat) (c : Nat) : Nat × Nat := if s 25 (12 + c) = nI 1 then x else if x.1 = 0 ∨ noiseN (st1 s 25 u (nI c)) n < x.2 then (c + 1, noiseN (st1 s 25 u (nI c)) n) else x
def qtF (s : Nat → Nat → Int32) (n u lo : Nat) : Nat → Nat × Nat
  | 0 => (0, 0)
  | i + 1 => qtS s n u (qtF s n u lo i) (lo + i)
theorem qtF_le (s : Nat → Nat → Int32) {n : Nat} (u lo i : Nat) (hn : n ≤ 6) : (qtF s n u lo i).1 ≤ lo + i ∧ (qtF s n u lo i).2 ≤ 2500 := by
  induction i with
  | zero => exact ⟨by simp [qtF], by simp [qtF]⟩
  | succ i ih =>
    have := noiseN_le (st1 s 25 u (nI (lo + i))) hn
    rw [qtF]; unfold qtS
    split
    · exact ⟨by omega, by omega⟩
    · split
      · exact ⟨by simp; omega, this⟩
      · exact ⟨by omega, by omega⟩
theorem CE.put {s0 s : Nat → Nat → Int32} {u : Nat} {v : Int32} (h : CE s0 s) : CE (st1 s0 25 u v) (st1 s 25 u v) := by
  obtain ⟨a, b, c, d, e, f, g, i, j, k⟩ := h
  refine ⟨?_, ?_, ?_, ?_, ?_, ?_, ?_, ?_, ?_, ?_⟩
  · simp only [st1, upR, if_true]; rw [a]
  all_goals (first | (rw [st1_ne (by decide), st1_ne (by decide)]; assumption) | (rw [st1_ne (by decide)]; rw [st1_ne (by decide)]; assumption))
def swapF (s : Nat → Nat → Int32) (a b : Nat) : Nat → Nat → Int32 := st1 (st1 s 25 a (s 25 b)) 25 b (s 25 a)
theorem swapF_hr {s0 s : Nat → Nat → Int32} {a b : Nat} (h : HR s0 s) : HR (swapF s0 a b) (swapF s a b) := by
  unfold swapF
  rw [h.ce.1]
  exact HR.put (by omega) (by omega) (HR.put (by omega) (by omega) h)
theorem swapF_2 {s : Nat → Nat → Int32} {a b : Nat} (h : a ≠ b) : swapF (swapF s a b) a b = s := by
  funext r
  by_cases e : r = 25
  · subst e
    funext j
    unfold swapF
    by_cases e1 : j = b
    · subst e1; rw [st1_eq]; rw [st1_nj (by omega), st1_eq]
    · by_cases e2 : j = a
      · subst e2; rw [st1_nj e1, st1_eq, st1_eq]
      · rw [st1_nj e1, st1_nj e2, st1_nj e1, st1_nj e2]
  · unfold swapF; rw [st1_ne e, st1_ne e, st1_ne e, st1_ne e]
theorem HR.swap {s0 s : Nat → Nat → Int32} {a b : Nat} (hab : a ≠ b) (h : HR (swapF s0 a b) s) : HR s0 (swapF s a b) := by
  have := swapF_hr (a := a) (b := b) h
  rwa [swapF_2 hab] at this
def bsS (s : Nat → Nat → Int32) (n a : Nat) (x : Nat × Nat) (b : Nat) : Nat × Nat := if s 25 a = 0 ∨ s 25 b = 0 then x else if noiseN (swapF s a b) n < x.2 then (6 * a + b + 1, noiseN (swapF s a b) n) else x
def bsI (s : Nat → Nat → Int32) (n a : Nat) (x : Nat × Nat) : Nat → Nat × Nat
  | 0 => x
  | i + 1 => bsS s n a (bsI s n a x i) (a + 1 + i)
def bsO (s : Nat → Nat → Int32) (n : Nat) : Nat → Nat × Nat
  | 0 => (0, noiseN s n)
  | a + 1 => bsI s n a (bsO s n a) (n - (a + 1))
theorem bsI_le (s : Nat → Nat → Int32) {n : Nat} (a : Nat) (x : Nat × Nat) (i : Nat) (hn : n ≤ 6) (h : x.2 ≤ 2500) : (bsI s n a x i).2 ≤ 2500 := by
  induction i with
  | zero => exact h
  | succ i ih =>
    have := noiseN_le (swapF s a (a + 1 + i)) hn
    rw [bsI]; unfold bsS
    split
    · exact ih
    · split
      · exact this
      · exact ih
theorem bsO_le (s : Nat → Nat → Int32) {n : Nat} (a : Nat) (hn : n ≤ 6) : (bsO s n a).2 ≤ 2500 := by
  induction a with
  | zero => exact noiseN_le s hn
  | succ a ih => exact bsI_le s a _ _ hn ih
def worstF (s : Nat → Nat → Int32) (n : Nat) : Int32 := bestW (madeN s n (prods s n)) n
theorem bestW_c (f : Nat → Nat) (i : Nat) : bestW f i = -2 ∨ ∃ u, u < i ∧ bestW f i = nI u := by
  induction i with
  | zero => exact Or.inl rfl
  | succ i ih =>
    rw [bestW]; split
    · exact Or.inr ⟨i, by omega, rfl⟩
    · rcases ih with h | ⟨u, h1, h2⟩
      · exact Or.inl h
      · exact Or.inr ⟨u, by omega, h2⟩
def downF (s : Nat → Nat → Int32) (u : Nat) : Nat → Nat → Int32 := st1 s 25 (6 + u) (s 25 (6 + u) - nI 1)
def tdF (n : Nat) : Nat → (Nat → Nat → Int32) → Nat × (Nat → Nat → Int32)
  | 0, s => (0, s)
  | f + 1, s => if worstF s n = -2 ∨ ¬ 0 < s 25 (6 + tN (worstF s n)) then (0, s) else ((tdF n f (downF s (tN (worstF s n)))).1 + 1, (tdF n f (downF s (tN (worstF s n)))).2)
def powT (s : Nat → Nat → Int32) (n : Nat) : Nat := sumN (fun u => tN (s 25 (6 + u))) n
theorem worstF_ce {s0 s : Nat → Nat → Int32} (h : CE s0 s) (n : Nat) : worstF s n = worstF s0 n := by
  unfold worstF; rw [madeN_ce h, prods_ce h]
theorem sumN_dec {f g : Nat → Nat} {n u : Nat} (hu : u < n) (h1 : g u + 1 = f u) (h2 : ∀ v, v ≠ u → g v = f v) : sumN g n + 1 = sumN f n := by
  induction n with
  | zero => omega
  | succ n ih =>
    rw [sumN, sumN]
    rcases Nat.lt_or_ge u n with q | q
    · have := ih q
      rw [h2 n (by omega)]; omega
    · have : u = n := by omega
      subst this
      have e : sumN g u = sumN f u := sumN_congr fun v hv => h2 v (by omega)
      omega
theorem In.dec {x : Int32} {k : Nat} (h : In x k) (hk : k ≤ 2 ^ 31) (h0 : 0 < x) : In (x - nI 1) k ∧ tN (x - nI 1) + 1 = tN x := by
  obtain ⟨e, hl⟩ := h
  have hp : 0 < tN x := by
    rcases Nat.eq_zero_or_pos (tN x) with q | q
    · rw [q] at e; rw [e] at h0; exact absurd h0 (by decide)
    · exact q
  rw [e, nI_dec hp, tN_nI (by omega), tN_nI (by omega)]
  exact ⟨In.of (by omega) hk, by omega⟩
theorem powT_down {s : Nat → Nat → Int32} {n u : Nat} (hu : u < n) (h : ∀ v, v < n → In (s 25 (6 + v)) 31) (h0 : 0 < s 25 (6 + u)) : powT (downF s u) n + 1 = powT s n ∧ ∀ v, v < n → In (downF s u 25 (6 + v)) 31 := by
  have hd := (h u hu).dec (by decide) h0
  constructor
  · refine sumN_dec hu ?_ fun v hv => ?_
    · unfold downF; rw [st1_eq]; exact hd.2
    · unfold downF; rw [st1_nj (by omega)]
  · intro v hv
    unfold downF
    by_cases e : v = u
    · subst e; rw [st1_eq]; exact hd.1
    · rw [st1_nj (by omega)]; exact h v hv
def m1I (i : Nat) : Int32 := if i = 0 then -1 else nI (i - 1)
def msF (s : Nat → Nat → Int32) (n : Nat) : Nat → Nat
  | 0 => 0
  | i + 1 => if crowdsT (st1 s 0 32 (nI (i + 1))) n = 0 then i + 1 else msF s n i
def mgF (s : Nat → Nat → Int32) (n : Nat) : Nat → Nat
  | 0 => 0
  | i + 1 => if hitsT (st1 s 0 31 (nI i)) n (prods (st1 s 0 31 (nI i)) n) = 0 then i + 1 else mgF s n i
def mpF (s : Nat → Nat → Int32) (n u : Nat) : Nat → Nat
  | 0 => 0
  | i + 1 => if hitsT (st1 s 25 (6 + u) (nI i)) n (prods (st1 s 25 (6 + u) (nI i)) n) = 0 then i + 1 else mpF s n u i
/-- band, guard, space, orders are as told -/
def TO (s : Nat → Nat → Int32) : Prop := s 0 30 = s 3 0 ∧ s 0 31 = s 3 1 ∧ s 0 32 = s 3 2 ∧ s 0 33 = s 3 3
theorem TO.back {s t : Nat → Nat → Int32} (h : TO s) (h0 : ∀ r, r ≠ 0 → t r = s r) (h1 : ∀ j, j < 30 ∨ 33 < j → t 0 j = s 0 j) : toldF t = s := by
  obtain ⟨a, b, c, d⟩ := h
  have e3 : t 3 = s 3 := h0 3 (by decide)
  funext r
  by_cases e : r = 0
  · subst e
    funext j
    unfold toldF
    by_cases e1 : j = 33
    · subst e1; rw [st1_eq, e3, d]
    rw [st1_nj e1]
    by_cases e2 : j = 32
    · subst e2; rw [st1_eq, e3, c]
    rw [st1_nj e2]
    by_cases e4 : j = 31
    · subst e4; rw [st1_eq, e3, b]
    rw [st1_nj e4]
    by_cases e5 : j = 30
    · subst e5; rw [st1_eq, e3, a]
    rw [st1_nj e5]
    exact h1 j (by omega)
  · unfold toldF; rw [st1_ne e, st1_ne e, st1_ne e, st1_ne e]; exact h0 r e
theorem toldF_hr {s t : Nat → Nat → Int32} (h : HR s t) : HR (toldF s) (toldF t) := by
  have e3 : t 3 = s 3 := h.ce.2.2.1
  refine ⟨fun r a b => ?_, fun j a => ?_⟩
  · unfold toldF; rw [st1_ne b, st1_ne b, st1_ne b, st1_ne b, st1_ne b, st1_ne b, st1_ne b, st1_ne b]; exact h.1 r a b
  · unfold toldF
    rw [e3]
    by_cases e1 : j = 33
    · subst e1; rw [st1_eq, st1_eq]
    rw [st1_nj e1, st1_nj e1]
    by_cases e2 : j = 32
    · subst e2; rw [st1_eq, st1_eq]
    rw [st1_nj e2, st1_nj e2]
    by_cases e4 : j = 31
    · subst e4; rw [st1_eq, st1_eq]
    rw [st1_nj e4, st1_nj e4]
    by_cases e5 : j = 30
    · subst e5; rw [st1_eq, st1_eq]
    rw [st1_nj e5, st1_nj e5]
    exact h.2 j a
theorem HR.putF {s0 s : Nat → Nat → Int32} {j : Nat} {v : Int32} (h : HR s0 s) : HR (st1 s0 0 j v) (st1 s 0 j v) := by
  refine ⟨fun r a b => ?_, fun k a => ?_⟩
  · rw [st1_ne b, st1_ne b]; exact h.1 r a b
  · by_cases e : k = j
    · subst e; rw [st1_eq, st1_eq]
    · rw [st1_nj e, st1_nj e]; exact h.2 k a
/-- the row, gone aside, is back -/
theorem come_back {s t : Nat → Nat → Int32} (h : TO s) (h27 : ∀ j, j < 79 → t 27 j = s 25 j) (h25 : ∀ j, 79 ≤ j → t 25 j = s 25 j) (h0 : ∀ r, r ≠ 0 → r ≠ 25 → r ≠ 27 → ¬ (34 ≤ r ∧ r ≤ 40) → t r = s r) (h1 : ∀ j, j < 30 ∨ 33 < j → j ≠ 41 → j ≠ 42 → t 0 j = s 0 j) :
    (∀ r, r ≠ 0 → r ≠ 27 → ¬ (34 ≤ r ∧ r ≤ 40) → comeF t r = s r) ∧ ∀ j, j ≠ 41 → j ≠ 42 → comeF t 0 j = s 0 j := by
  have e3 : t 3 = s 3 := h0 3 (by decide) (by decide) (by decide) (by decide)
  obtain ⟨a, b, c, d⟩ := h
  constructor
  · intro r r0 r27 rp
    unfold comeF toldF
    rw [st1_ne r0, st1_ne r0, st1_ne r0, st1_ne r0]
    by_cases e : r = 25
    · subst e
      rw [upR_eq]
      funext j
      rcases Nat.lt_or_ge j 79 with q | q
      · rw [pk_cpy_in (by omega) (by omega)]; rw [Nat.zero_add, Nat.sub_zero]; exact h27 j q
      · rw [pk_cpy_out (by omega)]; exact h25 j q
    · rw [upR_ne e]; exact h0 r r0 e r27 rp
  · intro j j41 j42
    unfold comeF toldF
    have e3' : upR t 25 (va_cpy (t 27) (t 25) 0 0 79) 3 = s 3 := by rw [upR_ne (by decide)]; exact e3
    rw [e3']
    by_cases e1 : j = 33
    · subst e1; rw [st1_eq, d]
    rw [st1_nj e1]
    by_cases e2 : j = 32
    · subst e2; rw [st1_eq, c]
    rw [st1_nj e2]
    by_cases e4 : j = 31
    · subst e4; rw [st1_eq, b]
    rw [st1_nj e4]
    by_cases e5 : j = 30
    · subst e5; rw [st1_eq, a]
    rw [st1_nj e5, upR_ne (by decide)]
    exact h1 j (by omega) j41 j42
/-- all that counts stays: what is laid aside, the products, the looks may differ -/
def HQ (s0 s : Nat → Nat → Int32) : Prop := (∀ r, r ≠ 0 → r ≠ 27 → r ≠ 43 → r ≠ 45 → ¬ (34 ≤ r ∧ r ≤ 40) → s r = s0 r) ∧ ∀ j, j ≠ 0 → j ≠ 41 → j ≠ 42 → j ≠ 44 → s 0 j = s0 0 j
theorem HQ.rf (s : Nat → Nat → Int32) : HQ s s := ⟨fun _ _ _ _ _ _ => rfl, fun _ _ _ _ _ => rfl⟩
theorem HR.hq {s0 s : Nat → Nat → Int32} (h : HR s0 s) : HQ s0 s := ⟨fun r a _ _ _ b => h.1 r b a, fun j _ a _ _ => h.2 j a⟩
theorem HQ.tr {s0 s1 s2 : Nat → Nat → Int32} (h : HQ s0 s1) (k : HQ s1 s2) : HQ s0 s2 := ⟨fun r a b c d e => (k.1 r a b c d e).trans (h.1 r a b c d e), fun j a b c d => (k.2 j a b c d).trans (h.2 j a b c d)⟩
theorem HQ.ce {s0 s : Nat → Nat → Int32} (h : HQ s0 s) : CE s0 s := ⟨h.1 25 (by decide) (by decide) (by decide) (by decide) (by decide), h.1 6 (by decide) (by decide) (by decide) (by decide) (by decide), h.1 3 (by decide) (by decide) (by decide) (by decide) (by decide), h.1 12 (by decide) (by decide) (by decide) (by decide) (by decide), h.1 8 (by decide) (by decide) (by decide) (by decide) (by decide), h.1 9 (by decide) (by decide) (by decide) (by decide) (by decide), h.2 30 (by decide) (by decide) (by decide) (by decide), h.2 31 (by decide) (by decide) (by decide) (by decide), h.2 32 (by decide) (by decide) (by decide) (by decide), h.2 33 (by decide) (by decide) (by decide) (by decide)⟩
