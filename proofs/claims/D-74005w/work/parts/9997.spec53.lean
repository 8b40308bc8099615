/-! A READER's lines about a user -/
set_option maxRecDepth 100000
def NMk (n : Nat) (s : Nat → Nat → Int32) : Int32 := nameF (tokS s) 6 (tokS s 0 20) n
theorem tok_21 {s : Nat → Nat → Int32} : tokS s 0 21 = s 0 21 := setT_rd.2.2.2.2.2.1 21 (by decide)
theorem wr_two {s : Nat → Nat → Int32} {v : Int32} (h : s 0 21 = 0) : wrongS v s 0 21 = v ∧ wrongS v s 0 22 = s 0 18 := by
  unfold wrongS
  rw [if_pos h]
  exact ⟨by rw [st1_nj (by decide), st1_eq], st1_eq⟩
theorem uo_bad {r n : Nat} {s : Nat → Nat → Int32} (h0 : s 0 21 = 0) (h : ¬ (tokS s 0 19 = nI 1 ∧ ¬ nameF (tokS s) 6 (tokS s 0 20) n = -1)) : uoS r n s 0 21 = (if tokS s 0 19 = nI 1 then nI 4 else nI 1) ∧ uoS r n s 0 22 = tokS s 0 18 := by
  have h1 : tokS s 0 21 = 0 := tok_21.trans h0
  unfold uoS
  rw [goOnS_0 h0, if_pos h1]
  by_cases a : tokS s 0 19 = nI 1
  · rw [if_pos a, if_pos a, if_pos (Classical.byContradiction fun k => h ⟨a, k⟩)]
    exact wr_two h1
  · rw [if_neg a, if_neg a]
    exact wr_two h1
theorem uo_3 {r n k : Nat} {s : Nat → Nat → Int32} (h0 : s 0 21 = 0) (hA : tokS s 0 19 = nI 1) (hN : nameF (tokS s) 6 (tokS s 0 20) n = nI k) (hk : k < 2 ^ 31) (h : 0 < tokS s r (6 + k)) : uoS r n s 0 21 = nI 3 ∧ uoS r n s 0 22 = tokS s 0 18 := by
  have h1 : tokS s 0 21 = 0 := tok_21.trans h0
  unfold uoS
  rw [goOnS_0 h0, if_pos h1, if_pos hA, hN, if_neg (nI_m1n hk), tN_nI hk, if_pos h]
  exact wr_two h1
theorem uo_ok {r n k : Nat} {s : Nat → Nat → Int32} (h0 : s 0 21 = 0) (hA : tokS s 0 19 = nI 1) (hN : nameF (tokS s) 6 (tokS s 0 20) n = nI k) (hk : k < 2 ^ 31) (h : ¬ 0 < tokS s r (6 + k)) : uoS r n s = tokS (tokS s) ∧ uoN n s = k := by
  have h1 : tokS s 0 21 = 0 := tok_21.trans h0
  unfold uoS uoN
  rw [goOnS_0 h0, if_pos h1, if_pos hA, hN, if_neg (nI_m1n hk), tN_nI hk, if_neg h]
  exact ⟨rfl, if_pos ⟨h1, hA, nI_m1n hk⟩⟩
def rgX (r n hi : Nat) (s : Nat → Nat → Int32) : Nat → Nat → Int32 := if numS (nI 1) (nI hi) (uoS r n s) 0 21 = 0 then st1 (numS (nI 1) (nI hi) (uoS r n s)) r (6 + uoN n s) (numV (nI 1) (nI hi) (uoS r n s)) else numS (nI 1) (nI hi) (uoS r n s)
theorem num_id {s : Nat → Nat → Int32} {lo hi : Int32} (h : ¬ s 0 21 = 0) : numS lo hi s = s := by unfold numS; rw [if_neg h]
theorem rg_f {r n hi : Nat} {s : Nat → Nat → Int32} (h : ¬ uoS r n s 0 21 = 0) : rgX r n hi s = uoS r n s := by
  unfold rgX
  rw [num_id h, if_neg h]
theorem rg_bad {r n hi : Nat} {s : Nat → Nat → Int32} (h0 : s 0 21 = 0) (h : ¬ (tokS s 0 19 = nI 1 ∧ ¬ nameF (tokS s) 6 (tokS s 0 20) n = -1)) : rgX r n hi s 0 21 = (if tokS s 0 19 = nI 1 then nI 4 else nI 1) ∧ rgX r n hi s 0 22 = tokS s 0 18 ∧ ¬ rgX r n hi s 0 21 = 0 := by
  obtain ⟨a, b⟩ := uo_bad (r := r) h0 h
  have c : ¬ uoS r n s 0 21 = 0 := by rw [a]; split <;> decide
  rw [rg_f c]
  exact ⟨a, b, c⟩
theorem rg_3 {r n hi k : Nat} {s : Nat → Nat → Int32} (h0 : s 0 21 = 0) (hA : tokS s 0 19 = nI 1) (hN : nameF (tokS s) 6 (tokS s 0 20) n = nI k) (hk : k < 2 ^ 31) (h : 0 < tokS s r (6 + k)) : rgX r n hi s 0 21 = nI 3 ∧ rgX r n hi s 0 22 = tokS s 0 18 ∧ ¬ rgX r n hi s 0 21 = 0 := by
  obtain ⟨a, b⟩ := uo_3 h0 hA hN hk h
  have c : ¬ uoS r n s 0 21 = 0 := by rw [a]; decide
  rw [rg_f c]
  exact ⟨a, b, c⟩
theorem rg_n {r n hi k : Nat} {s : Nat → Nat → Int32} (h0 : s 0 21 = 0) (hA : tokS s 0 19 = nI 1) (hN : nameF (tokS s) 6 (tokS s 0 20) n = nI k) (hk : k < 2 ^ 31) (h : ¬ 0 < tokS s r (6 + k)) (hx : ¬ numS (nI 1) (nI hi) (tokS (tokS s)) 0 21 = 0) : rgX r n hi s = numS (nI 1) (nI hi) (tokS (tokS s)) := by
  unfold rgX
  rw [(uo_ok h0 hA hN hk h).1, if_neg hx]
theorem rg_ok {r n hi k : Nat} {s : Nat → Nat → Int32} (h0 : s 0 21 = 0) (hA : tokS s 0 19 = nI 1) (hN : nameF (tokS s) 6 (tokS s 0 20) n = nI k) (hk : k < 2 ^ 31) (h : ¬ 0 < tokS s r (6 + k)) (hx : numS (nI 1) (nI hi) (tokS (tokS s)) 0 21 = 0) : rgX r n hi s = st1 (numS (nI 1) (nI hi) (tokS (tokS s))) r (6 + k) (numV (nI 1) (nI hi) (tokS (tokS s))) := by
  unfold rgX
  rw [(uo_ok h0 hA hN hk h).1, (uo_ok h0 hA hN hk h).2, if_pos hx]
theorem slots_rg (n : Nat) (s : Nat → Nat → Int32) : readSlotsS n s = rgX 11 n 255 s := rfl
theorem fixed_rg {n B : Nat} {s : Nat → Nat → Int32} (h : fx1 n s 3 10 = nI B) : readFixedS n s = rgX 10 n B (st1 s 0 14 (nI 1)) := by
  unfold readFixedS fx2
  rw [h]
  rfl
theorem RL.put {s σ : Nat → Nat → Int32} {r N : Nat} {v : Int32} (h : RL s σ) (hr : r = 3 ∨ (5 ≤ r ∧ r ≤ 12)) : RL (st1 s r N v) (st1 σ r N v) := by
  have h0 : r ≠ 0 := by omega
  obtain ⟨h1, h2, h3, h4, h5, h6, h7, h8, h9⟩ := h
  refine ⟨h1.st (by omega) (Or.inl h0), by rw [st1_ne (Ne.symm h0)]; exact h2, ?_, ?_, ?_, ?_, ?_, ?_, ?_⟩
  · rw [st1_ne (Ne.symm h0), st1_ne (Ne.symm h0)]; exact h3
  · rw [st1_ne (Ne.symm h0), st1_ne (Ne.symm h0)]; exact h4
  · rw [st1_ne (Ne.symm h0), st1_ne (Ne.symm h0)]; exact h5
  · rw [st1_ne (Ne.symm h0), st1_ne (Ne.symm h0)]; exact h6
  · intro q hq
    by_cases e : q = r
    · subst e
      funext j
      by_cases z : j = N
      · subst z; rw [st1_eq, st1_eq]
      · rw [st1_nj z, st1_nj z, h7 q hq]
    · rw [st1_ne e, st1_ne e]; exact h7 q hq
  · rw [st1_ne (Ne.symm h0), st1_ne (Ne.symm h0)]; exact h8
  · rw [st1_ne (Ne.symm h0), st1_ne (Ne.symm h0)]; exact h9
theorem In.pos0 {x : Int32} {m : Nat} (h : In x m) (hm : m ≤ 2 ^ 31) : ¬ x = 0 → 0 < x := fun hne => Int32.lt_of_le_of_ne (Int32.not_lt.mp (by rw [h.1]; exact nI_pos (by have := h.2; omega))) (Ne.symm hne)
