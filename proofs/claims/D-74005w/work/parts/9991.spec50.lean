/-! A READER and the reference, side by side -/
set_option maxRecDepth 100000
def KD (a v k w : Int32) : Prop := (a = nI 4 ∧ k = nI 0) ∨ (a = nI 0 ∧ k = nI 1 ∧ ∃ x, x < 11 ∧ v = nI x ∧ w = nI (kp x)) ∨ (a = nI 1 ∧ k = nI 2 ∧ w = v) ∨ (a = nI 2 ∧ k = nI 3 ∧ ∃ j, j < 1000000 ∧ v = nI j ∧ w = nI (if 100000 < j then 100000 else j)) ∨ (a = nI 3 ∧ k = nI 4) ∨ (a = nI 5 ∧ k = nI 5)
theorem KD.k3 {a v k w : Int32} (h : KD a v k w) : (k = nI 3 ↔ a = nI 2) ∧ (k = nI 2 ↔ a = nI 1) ∧ (k = nI 1 ↔ a = nI 0) ∧ (k = nI 4 ↔ a = nI 3) ∧ (k = nI 0 ↔ a = nI 4) := by
  rcases h with ⟨rfl, rfl⟩ | ⟨rfl, rfl, -⟩ | ⟨rfl, rfl, -⟩ | ⟨rfl, rfl, -⟩ | ⟨rfl, rfl⟩ | ⟨rfl, rfl⟩ <;> decide
theorem KD.num {a v k w : Int32} (h : KD a v k w) (ha : a = nI 2) : ∃ j, j < 1000000 ∧ v = nI j ∧ w = nI (if 100000 < j then 100000 else j) := by
  rcases h with ⟨rfl, -⟩ | ⟨rfl, -⟩ | ⟨rfl, -⟩ | ⟨-, -, h⟩ | ⟨rfl, -⟩ | ⟨rfl, -⟩
  · exact absurd ha (by decide)
  · exact absurd ha (by decide)
  · exact absurd ha (by decide)
  · exact h
  · exact absurd ha (by decide)
  · exact absurd ha (by decide)
/-- between two bounds, capped or not -/
theorem cap_rng {j lo hi : Nat} (hj : j < 1000000) (hl : lo ≤ 99999) (hh : hi ≤ 99999) : (¬ nI (if 100000 < j then 100000 else j) < nI lo ∧ ¬ nI hi < nI (if 100000 < j then 100000 else j)) ↔ (¬ nI j < nI lo ∧ ¬ nI hi < nI j) := by
  have e : (if 100000 < j then 100000 else j) < 2 ^ 31 := by split <;> omega
  rw [nI_ltI e (by omega), nI_ltI (by omega) e, nI_ltI (by omega) (by omega), nI_ltI (by omega) (by omega)]
  split <;> omega
/-- what is told is the same; the sign that was taken is the same; no fault -/
def RM (s σ : Nat → Nat → Int32) : Prop := (∀ r, (r = 3 ∨ (5 ≤ r ∧ r ≤ 12)) → σ r = s r) ∧ σ 0 14 = s 0 14 ∧ σ 0 15 = s 0 15
def RL (s σ : Nat → Nat → Int32) : Prop := RI s ∧ s 0 21 = 0 ∧ σ 0 16 = s 0 16 ∧ σ 0 17 = s 0 17 ∧ σ 0 18 = s 0 18 ∧ KD (s 0 19) (s 0 20) (σ 0 19) (σ 0 20) ∧ RM s σ
/-- only the sign has changed -/
def RF (σ σ2 : Nat → Nat → Int32) : Prop := (∀ r, r ≠ 0 → σ2 r = σ r) ∧ ∀ j, j < 17 ∨ 20 < j → σ2 0 j = σ 0 j
theorem RF.rf (σ : Nat → Nat → Int32) : RF σ σ := ⟨fun _ _ => rfl, fun _ _ => rfl⟩
theorem RF.tr {a b c : Nat → Nat → Int32} (h : RF a b) (k : RF b c) : RF a c := ⟨fun r hr => (k.1 r hr).trans (h.1 r hr), fun j hj => (k.2 j hj).trans (h.2 j hj)⟩
theorem RF.set {σ : Nat → Nat → Int32} {q : Nat × Nat × Int32 × Int32} : RF σ (setT σ q) := ⟨setT_rd.2.2.2.2.2.2, setT_rd.2.2.2.2.2.1⟩
theorem RL.tok {s σ : Nat → Nat → Int32} (h : RL s σ) : RL (tokS s) (setT σ (tokX (s 1) (tN (s 0 16)) (tN (s 0 17)) (σ 0 20))) := by
  obtain ⟨h1, h2, h3, h4, h5, h6, h7, h8, h9⟩ := h
  have ha : tN (s 0 17) ≤ tN (s 0 16) := by have := h1.1.2.1.2; omega
  obtain ⟨t1, t2, t3⟩ := tok_two (t := s 1) (s 0 20) (σ 0 20) ha
  have q := setT_rd (s := s) (q := tokF (s 1) (tN (s 0 16)) (tN (s 0 17)) (s 0 20))
  have x := setT_rd (s := σ) (q := tokX (s 1) (tN (s 0 16)) (tN (s 0 17)) (σ 0 20))
  refine ⟨h1.tok, (q.2.2.2.2.2.1 21 (by decide)).trans h2, ?_, ?_, ?_, ?_, ?_, ?_, ?_⟩
  · exact x.1.trans (h3.trans q.1.symm)
  · exact x.2.1.trans ((congrArg nI t1).trans q.2.1.symm)
  · exact x.2.2.1.trans ((congrArg nI t2).trans q.2.2.1.symm)
  · have a1 := x.2.2.2.1
    have a2 := x.2.2.2.2.1
    have b1 := q.2.2.2.1
    have b2 := q.2.2.2.2.1
    show KD ((setT s _) 0 19) ((setT s _) 0 20) _ _
    rw [a1, a2, b1, b2]
    exact t3
  · intro r hr
    have e : r ≠ 0 := by omega
    exact (x.2.2.2.2.2.2 r e).trans ((h7 r hr).trans (q.2.2.2.2.2.2 r e).symm)
  · exact (x.2.2.2.2.2.1 14 (by decide)).trans (h8.trans (q.2.2.2.2.2.1 14 (by decide)).symm)
  · exact (x.2.2.2.2.2.1 15 (by decide)).trans (h9.trans (q.2.2.2.2.2.1 15 (by decide)).symm)
theorem num_1 {s : Nat → Nat → Int32} {lo hi : Int32} (h0 : s 0 21 = 0) (h : ¬ s 0 19 = nI 2) : numS lo hi s 0 21 = nI 1 ∧ numS lo hi s 0 22 = s 0 18 := by
  unfold numS wrongS
  rw [if_pos h0, if_neg h, if_pos h0]
  exact ⟨by rw [st1_nj (by decide), st1_eq], st1_eq⟩
theorem num_2 {s : Nat → Nat → Int32} {lo hi : Int32} (h0 : s 0 21 = 0) (h : s 0 19 = nI 2) (k : ¬ (¬ s 0 20 < lo ∧ ¬ hi < s 0 20)) : numS lo hi s 0 21 = nI 2 ∧ numS lo hi s 0 22 = s 0 18 := by
  unfold numS wrongS
  rw [if_pos h0, if_pos h, if_neg k, if_pos h0]
  exact ⟨by rw [st1_nj (by decide), st1_eq], st1_eq⟩
theorem num_ok {s : Nat → Nat → Int32} {lo hi : Int32} (h0 : s 0 21 = 0) (h : s 0 19 = nI 2) (k : ¬ s 0 20 < lo ∧ ¬ hi < s 0 20) : numS lo hi s = tokS s ∧ numV lo hi s = s 0 20 := by
  unfold numS numV
  exact ⟨by rw [if_pos h0, if_pos h, if_pos k], if_pos ⟨h0, h, k⟩⟩
theorem cap_le {j hi : Nat} (hj : j < 1000000) (hh : hi ≤ 99999) (h : ¬ nI hi < nI j) : ¬ 100000 < j := by
  intro k
  exact h ((nI_ltI (by omega) (by omega)).mpr (by omega))
