/-! THE SPEC, part 9: the search -/
set_option maxRecDepth 100000
def zF (s : Nat → Nat → Int32) (S : Nat) : Nat → Nat → Nat → Int32
  | 0 => s
  | k + 1 => if bit S k = 1 then st1 (zF s S k) 25 k (nI 0) else zF s S k
/-- a next channel for u from c on: found (1), none (0), given up (3); which one; how many looks -/
def nfF (s : Nat → Nat → Int32) (n u : Nat) : Nat → Nat → Nat → Nat × Nat × Nat
  | 0, c, k => (0, c, k)
  | f + 1, c, k => if k = 600 then (3, c, k) else if cleanB (st1 s 25 u (nI c)) n = true then (1, c, k + 1) else nfF s n u f (c + 1) (k + 1)
def nfV (R : Nat × Nat × Nat) : Int32 := if R.1 = 3 then -3 else if R.1 = 1 then nI R.2.1 else nI 0
def fromF (s : Nat → Nat → Int32) (u : Nat) : Nat := if s 25 u = 0 then tN (s 8 u) else tN (s 25 u) + 1
def nfR (s : Nat → Nat → Int32) (n u k : Nat) : Nat × Nat × Nat := nfF s n u (tN (highF s u) + 1 - fromF s u) (fromF s u) k
theorem nfF_p (s : Nat → Nat → Int32) (n u : Nat) : ∀ f c k, k ≤ 600 → (let R := nfF s n u f c k; (R.1 = 0 ∨ (R.1 = 1 ∧ k < R.2.2 ∧ c ≤ R.2.1 ∧ R.2.1 < c + f) ∨ R.1 = 3) ∧ k ≤ R.2.2 ∧ R.2.2 ≤ 600) := by
  intro f
  induction f with
  | zero => intro c k hk; exact ⟨Or.inl rfl, Nat.le_refl _, hk⟩
  | succ f ih =>
    intro c k hk
    dsimp only
    rw [nfF]
    split
    · exact ⟨Or.inr (Or.inr rfl), Nat.le_refl _, hk⟩
    · split
      · exact ⟨Or.inr (Or.inl ⟨rfl, by dsimp only; omega, by dsimp only; omega, by dsimp only; omega⟩), by dsimp only; omega, by dsimp only; omega⟩
      · obtain ⟨h1, h2, h3⟩ := ih (c + 1) (k + 1) (by omega)
        refine ⟨?_, by omega, h3⟩
        rcases h1 with h1 | ⟨h1, h4, h5, h6⟩ | h1
        · exact Or.inl h1
        · exact Or.inr (Or.inl ⟨h1, by omega, by omega, by omega⟩)
        · exact Or.inr (Or.inr h1)
/-- the search from a place p (0: ahead of all, u + 1: at u, 7: behind all): found (0), nothing (2), given up (3) -/
def srF (n S : Nat) : Nat → Nat → (Nat → Nat → Int32) → Nat → Nat × (Nat → Nat → Int32) × Nat
  | 0, _, s, k => (9, s, k)
  | f + 1, p, s, k => if p = 0 then (2, s, k) else if p = 7 then (0, s, k) else if (nfR s n (p - 1) k).1 = 3 then (3, s, (nfR s n (p - 1) k).2.2) else if (nfR s n (p - 1) k).1 = 1 then srF n S f (nxF S 7 p + 1) (st1 s 25 (p - 1) (nI (nfR s n (p - 1) k).2.1)) (nfR s n (p - 1) k).2.2 else srF n S f (avF S (p - 1)) (st1 s 25 (p - 1) (nI 0)) (nfR s n (p - 1) k).2.2
def srR (s : Nat → Nat → Int32) (n S : Nat) : Nat × (Nat → Nat → Int32) × Nat := srF n S 5000 (nxF S 7 0 + 1) (zF s S n) 0
def srV (s : Nat → Nat → Int32) (n S : Nat) : Int32 := if S = 0 then (if cleanB s n = true then nI 0 else -2) else if (srR s n S).1 = 0 then nI (srR s n S).2.2 else if (srR s n S).1 = 2 then -2 else -3
/-- only the channels of a set may differ -/
def PL (s0 s : Nat → Nat → Int32) (n S : Nat) : Prop := (∀ r, r ≠ 25 → s r = s0 r) ∧ ∀ j, (n ≤ j ∨ bit S j = 0) → s 25 j = s0 25 j
theorem PL.rf (s : Nat → Nat → Int32) (n S : Nat) : PL s s n S := ⟨fun _ _ => rfl, fun _ _ => rfl⟩
theorem PL.put {s0 s : Nat → Nat → Int32} {n S u : Nat} {v : Int32} (h : PL s0 s n S) (hu : u < n) (hb : bit S u = 1) : PL s0 (st1 s 25 u v) n S := by
  refine ⟨fun r hr => by rw [st1_ne hr]; exact h.1 r hr, fun j hj => ?_⟩
  have : j ≠ u := by
    intro e; subst e
    rcases hj with h1 | h1
    · omega
    · rw [hb] at h1; cases h1
  rw [st1_nj this]; exact h.2 j hj
theorem zF_pl (s : Nat → Nat → Int32) (S n : Nat) (k : Nat) (hk : k ≤ n) : PL s (zF s S k) n S := by
  induction k with
  | zero => exact PL.rf _ _ _
  | succ k ih =>
    rw [zF]; split
    · exact (ih (by omega)).put (by omega) (by assumption)
    · exact ih (by omega)
def In25 (s : Nat → Nat → Int32) (n : Nat) : Prop := ∀ v, v < n → In (s 25 v) 61
theorem In25.put {s : Nat → Nat → Int32} {n u : Nat} {v : Int32} (h : In25 s n) (hv : In v 61) : In25 (st1 s 25 u v) n := by
  intro w hw
  by_cases e : w = u
  · subst e; rw [st1_eq]; exact hv
  · rw [st1_nj e]; exact h w hw
theorem zF_in {s : Nat → Nat → Int32} {S n : Nat} (h : In25 s n) (k : Nat) : In25 (zF s S k) n := by
  induction k with
  | zero => exact h
  | succ k ih =>
    rw [zF]; split
    · exact ih.put (In.of (by decide) (by decide))
    · exact ih
theorem nxF_p (S : Nat) : ∀ f j, j ≤ 6 → 6 < j + f → j ≤ nxF S f j ∧ nxF S f j ≤ 6 ∧ (nxF S f j < 6 → bit S (nxF S f j) = 1) := by
  intro f
  induction f with
  | zero => intro j h1 h2; omega
  | succ f ih =>
    intro j h1 h2
    rw [nxF]
    split
    · rename_i hc
      obtain ⟨a, b, c⟩ := ih (j + 1) (by omega) (by omega)
      exact ⟨by omega, b, c⟩
    · rename_i hc
      refine ⟨Nat.le_refl _, h1, fun h6 => ?_⟩
      rcases bit_01 S j with h | h
      · exact absurd ⟨h6, h⟩ hc
      · exact h
theorem avF_p (S : Nat) (j : Nat) : avF S j ≤ j ∧ (avF S j ≠ 0 → bit S (avF S j - 1) = 1) := by
  induction j with
  | zero => exact ⟨Nat.le_refl _, fun h => absurd rfl h⟩
  | succ j ih =>
    rw [avF]; split
    · exact ⟨by omega, ih.2⟩
    · rename_i hc
      refine ⟨Nat.le_refl _, fun _ => ?_⟩
      rcases bit_01 S j with h | h
      · exact absurd h hc
      · exact h
/-- a set of some of n users -/
def Sub (S n : Nat) : Prop := S < 2 ^ n ∧ n ≤ 6
theorem Sub.lt {S n u : Nat} (h : Sub S n) (hb : bit S u = 1) : u < n := by
  rcases Nat.lt_or_ge u n with q | q
  · exact q
  · exfalso
    have : 2 ^ n ≤ 2 ^ u := Nat.pow_le_pow_right (by decide) q
    have h1 := h.1
    have : S / 2 ^ u = 0 := Nat.div_eq_of_lt (by omega)
    unfold bit at hb; rw [this] at hb; cases hb
theorem Sub.s64 {S n : Nat} (h : Sub S n) : S < 64 := by
  have : 2 ^ n ≤ 2 ^ 6 := Nat.pow_le_pow_right (by decide) h.2
  have := h.1; omega
theorem nfV_3 {R : Nat × Nat × Nat} (h : nfV R = -3) : R.1 = 3 ∨ 2 ^ 31 ≤ R.2.1 := by
  unfold nfV at h
  split at h
  · left; assumption
  · split at h
    · rcases Nat.lt_or_ge R.2.1 (2 ^ 31) with q | q
      · have := nI_toInt q
        rw [h] at this
        have e : (-3 : Int32).toInt = -3 := by decide
        rw [e] at this; omega
      · exact Or.inr q
    · exact absurd h (by decide)
theorem st1_cm {s : Nat → Nat → Int32} {a i b j : Nat} {v w : Int32} (h : a ≠ b) : st1 (st1 s a i v) b j w = st1 (st1 s b j w) a i v := by
  funext r
  by_cases e : r = a
  · subst e
    rw [st1_ne h]
    funext q
    by_cases e2 : q = i
    · subst e2; rw [st1_eq, st1_eq]
    · rw [st1_nj e2, st1_nj e2, st1_ne h]
  · rw [st1_ne (a := r) (r := a) e]
    by_cases e3 : r = b
    · subst e3
      funext q
      by_cases e2 : q = j
      · subst e2; rw [st1_eq, st1_eq]
      · rw [st1_nj e2, st1_nj e2, st1_ne e]
    · rw [st1_ne e3, st1_ne e3, st1_ne e]
theorem st1_id {s : Nat → Nat → Int32} {r u : Nat} : st1 s r u (s r u) = s := by
  funext a
  by_cases e : a = r
  · subst e
    funext j
    by_cases q : j = u
    · subst q; rw [st1_eq]
    · rw [st1_nj q]
  · rw [st1_ne e]
theorem highF_pl {s0 s : Nat → Nat → Int32} (h9 : s 9 = s0 9) (h30 : s 0 30 = s0 0 30) (u : Nat) : highF s u = highF s0 u := by unfold highF; rw [h9, h30]
theorem CE.lk {s : Nat → Nat → Int32} {v : Int32} : CE s (st1 s 0 42 v) := by
  refine ⟨?_, ?_, ?_, ?_, ?_, ?_, ?_, ?_, ?_, ?_⟩
  all_goals first | exact st1_ne (by decide) | exact st1_nj (by decide)
theorem CE.tr {s0 s1 s2 : Nat → Nat → Int32} (h : CE s0 s1) (k : CE s1 s2) : CE s0 s2 := by
  obtain ⟨a, b, c, d, e, f, g, i, j, z⟩ := h
  obtain ⟨a', b', c', d', e', f', g', i', j', z'⟩ := k
  exact ⟨a'.trans a, b'.trans b, c'.trans c, d'.trans d, e'.trans e, f'.trans f, g'.trans g, i'.trans i, j'.trans j, z'.trans z⟩
theorem CM.ce {s0 s : Nat → Nat → Int32} {n : Nat} (h : CM s0 n) (k : CE s0 s) : CM s n := by
  obtain ⟨a, b, c, d⟩ := h
  exact ⟨by rw [k.2.2.1]; exact a, b, by rw [k.2.1]; exact c, by rw [k.1]; exact d⟩
theorem CM.pl {s0 s : Nat → Nat → Int32} {n S : Nat} (h : CM s0 n) (k : PL s0 s n S) (hi : In25 s n) : CM s n := by
  obtain ⟨a, b, c, d⟩ := h
  exact ⟨by rw [k.1 3 (by decide)]; exact a, b, by rw [k.1 6 (by decide)]; exact c, hi⟩
/-- low and high of n users, within 60 -/
def LH (s : Nat → Nat → Int32) (n : Nat) : Prop := (∀ v, v < n → In (s 8 v) 61 ∧ In (s 9 v) 61 ∧ 1 ≤ tN (s 8 v)) ∧ In (s 0 30) 61
theorem LH.high {s : Nat → Nat → Int32} {n u : Nat} (h : LH s n) (hu : u < n) : In (highF s u) 61 := by
  unfold highF; split
  · exact (h.1 u hu).2.1
  · exact h.2
theorem LH.pl {s0 s : Nat → Nat → Int32} {n S : Nat} (h : LH s0 n) (k : PL s0 s n S) : LH s n := by
  unfold LH at h ⊢
  rw [k.1 8 (by decide), k.1 9 (by decide), k.1 0 (by decide)]; exact h
theorem nfR_in {s : Nat → Nat → Int32} {n u k : Nat} (hk : k ≤ 600) (hl : LH s n) (hu : u < n) (h1 : (nfR s n u k).1 = 1) : (nfR s n u k).2.1 < 61 := by
  have h := nfF_p s n u (tN (highF s u) + 1 - fromF s u) (fromF s u) k hk
  dsimp only at h
  have hh := (hl.high hu).2
  unfold nfR at h1 ⊢
  rcases h.1 with h2 | ⟨-, -, -, h2⟩ | h2
  · rw [h1] at h2; cases h2
  · omega
  · rw [h1] at h2; cases h2
theorem srF_pl {n S : Nat} (hS : Sub S n) (f : Nat) : ∀ p s k s0, k ≤ 600 → p ≤ 7 → (p ≠ 0 → p ≠ 7 → bit S (p - 1) = 1) → PL s0 s n S → LH s0 n → In25 s n → PL s0 (srF n S f p s k).2.1 n S ∧ In25 (srF n S f p s k).2.1 n := by
  induction f with
  | zero => intro p s k s0 hk hp hb h hl hi; exact ⟨h, hi⟩
  | succ f ih =>
    intro p s k s0 hk hp hb h hl hi
    rw [srF]
    split
    · exact ⟨h, hi⟩
    · split
      · exact ⟨h, hi⟩
      · rename_i h0 h7
        have hb1 := hb h0 h7
        have hu := hS.lt hb1
        have hq := (nfF_p s n (p - 1) (tN (highF s (p - 1)) + 1 - fromF s (p - 1)) (fromF s (p - 1)) k hk).2.2
        split
        · exact ⟨h, hi⟩
        · split
          · rename_i h1
            have hx := nxF_p S 7 p (by omega) (by omega)
            exact ih _ _ _ s0 hq (by omega) (fun _ h9 => by rw [Nat.add_sub_cancel]; exact hx.2.2 (by omega)) (h.put hu hb1) hl (hi.put (In.of (nfR_in hk (hl.pl h) hu h1) (by decide)))
          · have hx := avF_p S (p - 1)
            exact ih _ _ _ s0 hq (by omega) (fun h9 _ => hx.2 h9) (h.put hu hb1) hl (hi.put (In.of (by decide) (by decide)))
theorem nx_step {S f k : Nat} (h : k < 6 ∧ bit S k = 0) : nxF S (f + 1) k = nxF S f (k + 1) := by rw [nxF, if_pos h]
theorem av_step {S k : Nat} (h0 : 0 < k) (h : bit S (k - 1) = 0) : avF S k = avF S (k - 1) := by
  obtain ⟨q, rfl⟩ : ∃ q, k = q + 1 := ⟨k - 1, by omega⟩
  rw [avF, if_pos (by exact h)]; rfl
theorem av_stop {S k : Nat} (h0 : 0 < k) (h : ¬ bit S (k - 1) = 0) : avF S k = k := by
  obtain ⟨q, rfl⟩ : ∃ q, k = q + 1 := ⟨k - 1, by omega⟩
  rw [avF, if_neg (by exact h)]
theorem nfR_ce {s0 s : Nat → Nat → Int32} (h : CE s0 s) (n u k : Nat) : nfR s n u k = nfR s0 n u k := by
  have e : ∀ f c q, nfF s n u f c q = nfF s0 n u f c q := by
    intro f
    induction f with
    | zero => intro c q; rfl
    | succ f ih => intro c q; rw [nfF, nfF, cleanB_ce (CE.put h), ih]
  unfold nfR
  rw [e]
  unfold fromF highF
  rw [h.1, h.2.2.2.2.1, h.2.2.2.2.2.1, h.2.2.2.2.2.2.1]
theorem LH.ce {s0 s : Nat → Nat → Int32} {n : Nat} (h : LH s0 n) (k : CE s0 s) : LH s n := by
  unfold LH at h ⊢
  rw [k.2.2.2.2.1, k.2.2.2.2.2.1, k.2.2.2.2.2.2.1]; exact h
theorem m1I_s {x : Nat} : m1I (x + 1) = nI x := by unfold m1I; rw [if_neg (by omega), Nat.add_sub_cancel]
theorem m1I_eq {p : Nat} (hp : p < 2 ^ 31) (h : m1I p = -1) : p = 0 := by
  unfold m1I at h
  split at h
  · assumption
  · have := nI_toInt (n := p - 1) (by omega)
    rw [h] at this
    have e : (-1 : Int32).toInt = -1 := by decide
    rw [e] at this; omega
theorem m1I_ne {p : Nat} (h : ¬ m1I p = -1) : p ≠ 0 ∧ m1I p = nI (p - 1) := by
  unfold m1I at h ⊢
  split at h
  · exact absurd rfl h
  · rename_i hk; exact ⟨hk, by rw [if_neg hk]⟩
theorem nfR_1 {s : Nat → Nat → Int32} {n u k : Nat} (hk : k ≤ 600) (hl : LH s n) (hu : u < n) (h1 : (nfR s n u k).1 = 1) : 1 ≤ (nfR s n u k).2.1 ∧ (nfR s n u k).2.1 < 61 ∧ k < (nfR s n u k).2.2 := by
  refine ⟨?_, nfR_in hk hl hu h1, ?_⟩
  all_goals
    have h := nfF_p s n u (tN (highF s u) + 1 - fromF s u) (fromF s u) k hk
    dsimp only at h
    unfold nfR at h1 ⊢
    rcases h.1 with h2 | ⟨-, h2, h3, -⟩ | h2
    · rw [h1] at h2; cases h2
    · have hf : 1 ≤ fromF s u := by
        unfold fromF; split
        · exact (hl.1 u hu).2.2
        · omega
      omega
    · rw [h1] at h2; cases h2
theorem nfR_q {s : Nat → Nat → Int32} {n u k : Nat} (hk : k ≤ 600) : k ≤ (nfR s n u k).2.2 ∧ (nfR s n u k).2.2 ≤ 600 := (nfF_p s n u _ _ k hk).2
theorem nfV_is3 {R : Nat × Nat × Nat} (h : nfV R = -3) (h1 : R.1 = 1 → R.2.1 < 61) : R.1 = 3 := by
  by_cases e : R.1 = 3
  · exact e
  · exfalso
    unfold nfV at h
    rw [if_neg e] at h
    split at h
    · rename_i e1
      have hb := h1 e1
      have := nI_toInt (n := R.2.1) (by omega)
      rw [h] at this
      have e : (-3 : Int32).toInt = -3 := by decide
      rw [e] at this; omega
    · exact absurd h (by decide)
theorem nfV_n3 {R : Nat × Nat × Nat} (h : ¬ nfV R = -3) : ¬ R.1 = 3 := by
  intro e; apply h; unfold nfV; rw [if_pos e]
theorem nfV_n0 {R : Nat × Nat × Nat} (h3 : ¬ R.1 = 3) (h : ¬ nfV R = 0) : R.1 = 1 ∧ nfV R = nI R.2.1 := by
  unfold nfV at h ⊢
  rw [if_neg h3] at h ⊢
  split at h
  · rename_i e; exact ⟨e, by rw [if_pos e]⟩
  · exact absurd rfl h
theorem nfV_0 {R : Nat × Nat × Nat} (h3 : ¬ R.1 = 3) (h : nfV R = 0) (h1 : R.1 = 1 → 1 ≤ R.2.1 ∧ R.2.1 < 61) : ¬ R.1 = 1 ∧ nfV R = nI 0 := by
  have e1 : ¬ R.1 = 1 := by
    intro e
    unfold nfV at h
    rw [if_neg h3, if_pos e] at h
    exact nI_ne0 (h1 e).1 (by have := (h1 e).2; omega) h
  exact ⟨e1, by unfold nfV; rw [if_neg h3, if_neg e1]⟩
theorem zF_hr {s w : Nat → Nat → Int32} {S k : Nat} {v : Int32} (h : HR (st1 s 0 42 v) w) : HR (st1 (zF s S k) 0 42 v) (zF w S k) := by
  induction k with
  | zero => exact h
  | succ k ih =>
    rw [zF, zF]; split
    · rw [st1_cm (by decide)]; exact HR.put (by omega) (by omega) ih
    · exact ih
theorem PL.tr {s0 s1 s2 : Nat → Nat → Int32} {n S : Nat} (h : PL s0 s1 n S) (k : PL s1 s2 n S) : PL s0 s2 n S := ⟨fun r a => (k.1 r a).trans (h.1 r a), fun j a => (k.2 j a).trans (h.2 j a)⟩
theorem HR.fit {s w2 w : Nat → Nat → Int32} {u : Nat} {v q k : Int32} (h : HR (st1 s 0 42 q) w2) (h2 : HR (st1 (st1 w2 25 u v) 0 42 k) w) : HR (st1 (st1 s 25 u v) 0 42 k) w := by
  have h9 := HR.putF (j := 42) (v := k) (HR.put (r := 25) (u := u) (v := v) (by omega) (by omega) h)
  rw [st1_cm (s := s) (by decide), st1_2] at h9
  exact h9.tr h2
theorem HR.set {s w : Nat → Nat → Int32} {u : Nat} {v k x : Int32} (h : HR (st1 (st1 s 25 u v) 0 42 k) w) : HR (st1 (st1 s 25 u x) 0 42 k) (st1 w 25 u x) := by
  have h9 := HR.put (r := 25) (u := u) (v := x) (by omega) (by omega) h
  rw [st1_cm (s := st1 s 25 u v) (by decide), st1_2] at h9
  exact h9
theorem srF_found {n S f p k : Nat} {s : Nat → Nat → Int32} (h0 : p ≠ 0) (h7 : ¬ p = 7) (h3 : ¬ (nfR s n (p - 1) k).1 = 3) (h1 : (nfR s n (p - 1) k).1 = 1) : srF n S (f + 1) p s k = srF n S f (nxF S 7 p + 1) (st1 s 25 (p - 1) (nI (nfR s n (p - 1) k).2.1)) (nfR s n (p - 1) k).2.2 := by
  rw [srF, if_neg h0, if_neg h7, if_neg h3, if_pos h1]
theorem srF_none {n S f p k : Nat} {s : Nat → Nat → Int32} (h0 : p ≠ 0) (h7 : ¬ p = 7) (h3 : ¬ (nfR s n (p - 1) k).1 = 3) (h1 : ¬ (nfR s n (p - 1) k).1 = 1) : srF n S (f + 1) p s k = srF n S f (avF S (p - 1)) (st1 s 25 (p - 1) (nI 0)) (nfR s n (p - 1) k).2.2 := by
  rw [srF, if_neg h0, if_neg h7, if_neg h3, if_neg h1]
