/-! THE SPEC, part 8: while the row is laid aside -/
set_option maxRecDepth 100000
def AW (z w : Nat → Nat → Int32) : Prop := (∀ j, j < 79 → w 27 j = z 25 j) ∧ (∀ j, 79 ≤ j → w 25 j = z 25 j) ∧ (∀ r, r ≠ 0 → r ≠ 25 → r ≠ 27 → ¬ (34 ≤ r ∧ r ≤ 40) → w r = z r) ∧ ∀ j, j < 30 ∨ 33 < j → j ≠ 41 → j ≠ 42 → w 0 j = z 0 j
theorem AW.of (z : Nat → Nat → Int32) : AW z (asideF z) := by
  refine ⟨fun j hj => ?_, fun j _ => rfl, fun r _ _ h _ => by unfold asideF; rw [upR_ne h], fun j _ _ _ => rfl⟩
  unfold asideF; rw [upR_eq, pk_cpy_in (by omega) (by omega), Nat.zero_add, Nat.sub_zero]
theorem AW.back {z w : Nat → Nat → Int32} (h : AW z w) (ht : TO z) : HQ z (comeF w) := by
  obtain ⟨h1, h2⟩ := come_back ht h.1 h.2.1 h.2.2.1 h.2.2.2
  exact ⟨fun r a b _ _ c => h1 r a b c, fun j _ a b _ => h2 j a b⟩
theorem AW.hr {z w w2 : Nat → Nat → Int32} (h : AW z w) (k : HR w w2) : AW z w2 := by
  obtain ⟨a, b, c, d⟩ := h
  refine ⟨fun j hj => ?_, fun j hj => ?_, fun r h0 h1 h2 h3 => ?_, fun j h0 h1 h2 => ?_⟩
  · rw [k.1 27 (by omega) (by omega)]; exact a j hj
  · rw [k.1 25 (by omega) (by omega)]; exact b j hj
  · rw [k.1 r h3 h0]; exact c r h0 h1 h2 h3
  · rw [k.2 j h1]; exact d j h0 h1 h2
theorem AW.put {z w : Nat → Nat → Int32} {u : Nat} {v : Int32} (h : AW z w) (hu : u < 79) : AW z (st1 w 25 u v) := by
  obtain ⟨a, b, c, d⟩ := h
  refine ⟨fun j hj => by rw [st1_ne (by decide)]; exact a j hj, fun j hj => by rw [st1_nj (by omega)]; exact b j hj, fun r h0 h1 h2 h3 => by rw [st1_ne h1]; exact c r h0 h1 h2 h3, fun j h0 h1 h2 => by rw [st1_ne (by decide)]; exact d j h0 h1 h2⟩
theorem AW.looks {z w : Nat → Nat → Int32} {v : Int32} (h : AW z w) : AW z (st1 w 0 42 v) := by
  obtain ⟨a, b, c, d⟩ := h
  refine ⟨fun j hj => by rw [st1_ne (by decide)]; exact a j hj, fun j hj => by rw [st1_ne (by decide)]; exact b j hj, fun r h0 h1 h2 h3 => by rw [st1_ne h0]; exact c r h0 h1 h2 h3, fun j h0 h1 h2 => by rw [st1_nj h2]; exact d j h0 h1 h2⟩
theorem AW.fld {z w : Nat → Nat → Int32} {k : Nat} {v : Int32} (h : AW z w) (hk : 30 ≤ k ∧ k ≤ 33) : AW z (st1 w 0 k v) := by
  obtain ⟨a, b, c, d⟩ := h
  refine ⟨fun j hj => by rw [st1_ne (by decide)]; exact a j hj, fun j hj => by rw [st1_ne (by decide)]; exact b j hj, fun r h0 h1 h2 h3 => by rw [st1_ne h0]; exact c r h0 h1 h2 h3, fun j h0 h1 h2 => by rw [st1_nj (by omega)]; exact d j h0 h1 h2⟩
theorem tdF_aw {z : Nat → Nat → Int32} {n : Nat} (hn : n ≤ 6) (f : Nat) : ∀ s, AW z s → AW z (tdF n f s).2 := by
  induction f with
  | zero => intro s h; exact h
  | succ f ih =>
    intro s h
    rw [tdF]
    split
    · exact h
    · rename_i hc
      refine ih _ (h.put ?_)
      rcases bestW_c (madeN s n (prods s n)) n with h9 | ⟨u, hu, h9⟩
      · exact absurd (Or.inl h9) hc
      · have e : worstF s n = nI u := h9
        rw [e, tN_nI (by omega)]; omega
theorem st1_2 {s : Nat → Nat → Int32} {r k : Nat} {v w : Int32} : st1 (st1 s r k v) r k w = st1 s r k w := by
  funext a
  by_cases e : a = r
  · subst e
    funext j
    by_cases q : j = k
    · subst q; rw [st1_eq, st1_eq]
    · rw [st1_nj q, st1_nj q, st1_nj q]
  · rw [st1_ne e, st1_ne e, st1_ne e]
theorem msF_s {s : Nat → Nat → Int32} {n i : Nat} (h : 0 < i) (hc : ¬ crowdsT (st1 s 0 32 (nI i)) n = 0) : msF s n i = msF s n (i - 1) := by
  obtain ⟨k, rfl⟩ : ∃ k, i = k + 1 := ⟨i - 1, by omega⟩
  rw [msF, if_neg hc]; rfl
theorem msF_e {s : Nat → Nat → Int32} {n i : Nat} (h : 0 < i) (hc : crowdsT (st1 s 0 32 (nI i)) n = 0) : msF s n i = i := by
  obtain ⟨k, rfl⟩ : ∃ k, i = k + 1 := ⟨i - 1, by omega⟩
  rw [msF, if_pos hc]
theorem mgF_s {s : Nat → Nat → Int32} {n i : Nat} (h : 0 < i) (hc : ¬ hitsT (st1 s 0 31 (m1I i)) n (prods (st1 s 0 31 (m1I i)) n) = 0) : mgF s n i = mgF s n (i - 1) := by
  obtain ⟨k, rfl⟩ : ∃ k, i = k + 1 := ⟨i - 1, by omega⟩
  rw [mgF, if_neg (by exact hc)]; rfl
theorem mgF_e {s : Nat → Nat → Int32} {n i : Nat} (h : 0 < i) (hc : hitsT (st1 s 0 31 (m1I i)) n (prods (st1 s 0 31 (m1I i)) n) = 0) : mgF s n i = i := by
  obtain ⟨k, rfl⟩ : ∃ k, i = k + 1 := ⟨i - 1, by omega⟩
  rw [mgF, if_pos (by exact hc)]
theorem mpF_s {s : Nat → Nat → Int32} {n i u : Nat} (h : 0 < i) (hc : ¬ hitsT (st1 s 25 (6 + u) (m1I i)) n (prods (st1 s 25 (6 + u) (m1I i)) n) = 0) : mpF s n u i = mpF s n u (i - 1) := by
  obtain ⟨k, rfl⟩ : ∃ k, i = k + 1 := ⟨i - 1, by omega⟩
  rw [mpF, if_neg (by exact hc)]; rfl
theorem mpF_e {s : Nat → Nat → Int32} {n i u : Nat} (h : 0 < i) (hc : hitsT (st1 s 25 (6 + u) (m1I i)) n (prods (st1 s 25 (6 + u) (m1I i)) n) = 0) : mpF s n u i = i := by
  obtain ⟨k, rfl⟩ : ∃ k, i = k + 1 := ⟨i - 1, by omega⟩
  rw [mpF, if_pos (by exact hc)]
theorem m1I_n {i : Nat} (hi : i < 2 ^ 31) (h : m1I i < 0) : i = 0 := by
  unfold m1I at h
  split at h
  · assumption
  · exact absurd h (nI_pos (by omega))
theorem m1I_p {i : Nat} (h : ¬ m1I i < 0) : 0 < i ∧ m1I i = nI (i - 1) := by
  unfold m1I at h ⊢
  split at h
  · exact absurd (by decide) h
  · rename_i hk; exact ⟨by omega, by rw [if_neg hk]⟩
theorem m1I_d {i : Nat} (h : 0 < i) : m1I i - nI 1 = m1I (i - 1) := by
  unfold m1I
  rw [if_neg (by omega)]
  split
  · rename_i h1; rw [h1]; decide
  · exact nI_dec (by omega)
theorem m1I_d2 {i : Nat} (h : 0 < i) : m1I i + Int32.ofInt (-1) = m1I (i - 1) := by
  rw [← m1I_d h]
  show m1I i + (-1) = m1I i - 1
  rw [Int32.sub_eq_add_neg]
theorem optI_m1 {i : Nat} (h : 0 < i) : optI i = m1I i := by
  unfold optI m1I; rw [if_neg (by omega), if_neg (by omega)]
theorem crowdsT_le (s : Nat → Nat → Int32) {n : Nat} (hn : n ≤ 6) : crowdsT s n ≤ 2500 := by
  have h3 : sumN (crowdF s n) n ≤ n * 8 := sumN_le fun p _ => pop_le _
  unfold crowdsT; omega
theorem hitsT_le (s : Nat → Nat → Int32) {n : Nat} (hn : n ≤ 6) : hitsT s n (prods s n) ≤ 2500 := by
  have h1 : hitsT s n (prods s n) ≤ (prods s n).length * 8 := sumN_le fun p _ => pop_le _
  have h2 := prods_len (s := s) hn
  omega
