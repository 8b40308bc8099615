/-! A SEARCH: what it goes through -/
set_option maxRecDepth 100000
theorem XT.lh {τ : Nat → Nat → Int32} {n : Nat} {P : Nat → Int32} {b : Int32} (h : XT τ n) (hb : In b 61) : LH (vwB τ P b) n := by
  refine ⟨fun v hv => ?_, by rw [vwB_30]; exact hb⟩
  rw [vwB_r (by decide) (by decide), vwB_r (by decide) (by decide)]
  exact h.2.2.2.1 v hv
/-- what a search answers -/
def goV (s : Nat → Nat → Int32) (n S : Nat) : Int32 := if S = 0 then (if cleanB s n = true then nI 0 else -2) else if (srR s n S).1 = 0 then nI 0 else if (srR s n S).1 = 2 then -2 else -3
/-- the users of a set, their channels off -/
def zP (P : Nat → Int32) (S : Nat) : Nat → Nat → Int32
  | 0 => P
  | k + 1 => if bit S k = 1 then upd (zP P S k) k (nI 0) else zP P S k
theorem zP_vw {τ : Nat → Nat → Int32} {P : Nat → Int32} {b : Int32} {S : Nat} (k : Nat) : vwB τ (zP P S k) b = zF (vwB τ P b) S k := by
  induction k with
  | zero => rfl
  | succ k ih =>
    rw [zP, zF]; split
    · rw [vwB_upd, ih]
    · exact ih
theorem zP_at {P : Nat → Int32} {S : Nat} (k : Nat) : ∀ j, zP P S k j = if j < k ∧ bit S j = 1 then nI 0 else P j := by
  induction k with
  | zero => intro j; rw [if_neg (by omega)]; rfl
  | succ k ih =>
    intro j
    rw [zP]
    split
    · rename_i hb
      unfold upd
      by_cases e : j = k
      · subst e; rw [if_pos rfl, if_pos ⟨by omega, hb⟩]
      · rw [if_neg e, ih]
        by_cases q : j < k ∧ bit S j = 1
        · rw [if_pos q, if_pos ⟨by omega, q.2⟩]
        · rw [if_neg q, if_neg (fun z => q ⟨by omega, z.2⟩)]
    · rename_i hb
      rw [ih]
      by_cases q : j < k ∧ bit S j = 1
      · rw [if_pos q, if_pos ⟨by omega, q.2⟩]
      · rw [if_neg q, if_neg (fun z => q ⟨Nat.lt_of_le_of_ne (Nat.le_of_lt_succ z.1) (fun e => hb (by rw [← e]; exact z.2)), z.2⟩)]
theorem zP_PC {P : Nat → Int32} {S n : Nat} (h : PC P n) (k : Nat) : PC (zP P S k) n := by
  intro v hv
  rw [zP_at]
  split
  · exact In.of (by decide) (by decide)
  · exact h v hv
theorem zP_RC {τ : Nat → Nat → Int32} {P : Nat → Int32} {S n : Nat} {b : Int32} (hb : In b 61) (h : RC τ P n b) (k : Nat) : RC τ (zP P S k) n b := by
  intro v hv
  rw [zP_at]
  split
  · exact Or.inl (lt0 hb.1 (by have := hb.2; omega))
  · exact h v hv
theorem RC.put2 {τ : Nat → Nat → Int32} {n u : Nat} {P : Nat → Int32} {b v : Int32} (h : RC τ P n b) (hv : ¬ b < v ∨ v = P u) : RC τ (upd P u v) n b := by
  rcases hv with k | k
  · exact h.put k
  · rw [k, upd_id]; exact h
theorem posP_0 {S : Nat} : posP S 0 = 0 := by unfold posP; rw [if_pos rfl]
theorem posP_e {S a : Nat} (h : (el S).length < a) : posP S a = 7 := by unfold posP; rw [if_neg (by omega), if_neg (by omega)]
/-- at a place: its user, and the places on both sides -/
theorem posP_m {S a : Nat} (hS : S < 64) (h0 : 0 < a) (ha : a ≤ (el S).length) : (∃ u, posP S a = u + 1 ∧ u < 6 ∧ bit S u = 1 ∧ (el S).getD (a - 1) 0 = u ∧ nxF S 7 (u + 1) + 1 = posP S (a + 1) ∧ avF S u = posP S (a - 1)) := by
  have h6 := (pos_f1 S hS).2
  obtain ⟨b, rfl⟩ : ∃ b, a = b + 1 := ⟨a - 1, by omega⟩
  obtain ⟨p1, p2, p3, p4⟩ := pos_f3 S hS b (by omega) (by omega)
  obtain ⟨q1, q2⟩ := pos_f2 S hS b (by omega) (by omega)
  refine ⟨posP S (b + 1) - 1, by omega, by omega, p1, ?_, ?_, ?_⟩
  · rw [Nat.add_sub_cancel]; exact p4
  · rw [Nat.sub_add_cancel p2]; exact q1
  · rw [Nat.add_sub_cancel]; exact q2
theorem posP_7 {S a : Nat} (hS : S < 64) (ha : a ≤ (el S).length + 1) : posP S a ≤ 7 := by
  rcases Nat.eq_zero_or_pos a with h | h
  · rw [h, posP_0]; decide
  · rcases Nat.lt_or_ge (el S).length a with k | k
    · rw [posP_e k]; decide
    · obtain ⟨u, e, h6, -⟩ := posP_m hS h k
      omega
theorem nfF_low (s : Nat → Nat → Int32) (n u : Nat) {f c k : Nat} (hk : k ≤ 600) (h1 : (nfF s n u f c k).1 = 1) : c ≤ (nfF s n u f c k).2.1 := by
  have h := nfF_p s n u f c k hk
  dsimp only at h
  rcases h.1 with h2 | ⟨-, -, h3, -⟩ | h2
  · rw [h1] at h2; cases h2
  · exact h3
  · rw [h1] at h2; cases h2
/-- the users of a set have no channel, or one not below their low one -/
def GE (τ : Nat → Nat → Int32) (P : Nat → Int32) (n S : Nat) : Prop := ∀ u, u < n → bit S u = 1 → P u = 0 ∨ tN (τ 8 u) ≤ tN (P u)
theorem GE.put0 {τ : Nat → Nat → Int32} {P : Nat → Int32} {n S u : Nat} (h : GE τ P n S) : GE τ (upd P u (nI 0)) n S := by
  intro v hv hb
  unfold upd
  split
  · exact Or.inl rfl
  · exact h v hv hb
theorem GE.putR {τ : Nat → Nat → Int32} {P : Nat → Int32} {n S u k : Nat} {b : Int32} (h : GE τ P n S) (hu : u < n) (hb : bit S u = 1) (hk : k ≤ 600) (hl : XT τ n) (hbd : In b 61) (h1 : (nxtR τ P b n u k).1 = 1) : GE τ (upd P u (nI (nxtR τ P b n u k).2.1)) n S := by
  intro v hv hb2
  unfold upd
  split
  · rename_i e
    right
    subst e
    have h2 : (nxtR τ P b n v k).2.1 < 61 := nfR_in hk (hl.lh hbd) hu h1
    rw [tN_nI (by omega)]
    unfold nxtR nfR at h1 ⊢
    have := nfF_low _ _ _ hk h1
    refine Nat.le_trans ?_ this
    unfold fromF
    rw [vwB_25, vwB_r (by decide) (by decide)]
    rcases h v hu hb with q | q
    · rw [if_pos q]; exact Nat.le_refl _
    · split
      · exact Nat.le_refl _
      · omega
  · exact h v hv hb2
theorem zP_GE {τ : Nat → Nat → Int32} {P : Nat → Int32} {n S : Nat} : GE τ (zP P S n) n S := by
  intro u hu hb
  rw [zP_at, if_pos ⟨hu, hb⟩]
  exact Or.inl rfl
theorem m1_up {a : Nat} : m1I a + nI 1 = m1I (a + 1) := by
  rw [m1I_s]; unfold m1I; split
  · rename_i h; subst h; decide
  · rename_i h; rw [nI_add, Nat.sub_add_cancel (by omega)]
theorem m1_dn {a : Nat} (h : 0 < a) : m1I a + (-1) = m1I (a - 1) := m1I_d2 h
theorem zF_0 {s : Nat → Nat → Int32} (k : Nat) : zF s 0 k = s := by
  induction k with
  | zero => rfl
  | succ k ih => rw [zF, if_neg (by unfold bit; rw [Nat.zero_div]; decide)]; exact ih
/-- the row that a search has left where it has found -/
theorem found_P {τ : Nat → Nat → Int32} {P Q : Nat → Int32} {b : Int32} {n S q : Nat} (hS : S ≠ 0) (hR : srR (vwB τ P b) n S = (0, vwB τ Q b, q)) : Q = foundP (vwB τ P b) n S := by
  unfold foundP; rw [if_neg hS, hR]; exact (vwB_25 (τ := τ) (P := Q) (b := b)).symm
theorem goV_srV {s : Nat → Nat → Int32} {n S : Nat} (hq : S ≠ 0 → (srR s n S).2.2 < 2 ^ 31) : (goV s n S = nI 0 ∧ ¬ srV s n S < 0) ∨ (goV s n S = srV s n S ∧ srV s n S < 0) := by
  unfold goV srV
  by_cases h : S = 0
  · rw [if_pos h, if_pos h]; split
    · exact Or.inl ⟨rfl, by decide⟩
    · exact Or.inr ⟨rfl, by decide⟩
  · rw [if_neg h, if_neg h]
    by_cases k : (srR s n S).1 = 0
    · rw [if_pos k, if_pos k]; exact Or.inl ⟨rfl, nI_pos (hq h)⟩
    · rw [if_neg k, if_neg k]
      by_cases k2 : (srR s n S).1 = 2
      · rw [if_pos k2]; exact Or.inr ⟨rfl, by decide⟩
      · rw [if_neg k2]; exact Or.inr ⟨rfl, by decide⟩
theorem tkV_3 {R : Nat × Nat × Nat} (h : tkV R = -3) : R.1 = 3 := by
  unfold tkV at h
  split at h
  · exact absurd h (by decide)
  · split at h
    · assumption
    · exact absurd h (by decide)
theorem tkV_n3 {R : Nat × Nat × Nat} (h : ¬ tkV R = -3) : ¬ R.1 = 3 := fun e => h (by unfold tkV; rw [if_neg (by omega), if_pos e])
theorem tkV_0 {R : Nat × Nat × Nat} (h : tkV R = 0) : R.1 = 1 := by
  unfold tkV at h
  split at h
  · assumption
  · split at h
    · exact absurd h (by decide)
    · exact absurd h (by decide)
theorem tkV_n0 {R : Nat × Nat × Nat} (h : ¬ tkV R = 0) : ¬ R.1 = 1 := fun e => h (by unfold tkV; rw [if_pos e])
theorem srF_up {n S f a u q : Nat} {s : Nat → Nat → Int32} {R : Nat × (Nat → Nat → Int32) × Nat} (hp : posP S a = u + 1) (h6 : u < 6) (hnx : nxF S 7 (u + 1) + 1 = posP S (a + 1)) (h3 : ¬ (nfR s n u q).1 = 3) (h1 : (nfR s n u q).1 = 1) (hf : 1 ≤ f) (hR : srF n S (f + 1) (posP S a) s q = R) : srF n S (f - 1 + 1) (posP S (a + 1)) (st1 s 25 u (nI (nfR s n u q).2.1)) (nfR s n u q).2.2 = R := by
  rw [← hR, hp, srF_found (p := u + 1) (by omega) (by omega) h3 h1, hnx, Nat.sub_add_cancel hf]
  rfl
theorem srF_dn {n S f a u q : Nat} {s : Nat → Nat → Int32} {R : Nat × (Nat → Nat → Int32) × Nat} (hp : posP S a = u + 1) (h6 : u < 6) (hav : avF S u = posP S (a - 1)) (h3 : ¬ (nfR s n u q).1 = 3) (h1 : ¬ (nfR s n u q).1 = 1) (hf : 1 ≤ f) (hR : srF n S (f + 1) (posP S a) s q = R) : srF n S (f - 1 + 1) (posP S (a - 1)) (st1 s 25 u (nI 0)) (nfR s n u q).2.2 = R := by
  rw [← hR, hp, srF_none (p := u + 1) (by omega) (by omega) h3 h1, Nat.add_sub_cancel, hav, Nat.sub_add_cancel hf]
