/-! THE LAW: what changes the plan -/
set_option maxRecDepth 100000
theorem rem_r {s : Nat → Nat → Int32} {K r : Nat} (h0 : r ≠ 0) (h : r ≠ 26) : remF s K r = s r := by
  unfold remF
  split
  · rw [st1_ne h0]; unfold layF; rw [upR_ne h]; unfold shiftF; rw [st1_ne h0, upR_ne h]
  · rw [st1_ne h0]; unfold layF; rw [upR_ne h]
theorem rem_j {s : Nat → Nat → Int32} {K j : Nat} (h : j ≠ 28) : remF s K 0 j = s 0 j := by
  unfold remF
  split
  · rw [st1_nj h]; unfold layF; rw [upR_ne (by decide)]; unfold shiftF; rw [st1_nj h, upR_ne (by decide)]
  · rw [st1_nj h]; unfold layF; rw [upR_ne (by decide)]
theorem rem_28 {s : Nat → Nat → Int32} {K : Nat} : remF s K 0 28 = nI (upK K) := by
  unfold remF upK
  split
  · rw [st1_eq]
  · rw [st1_eq]
theorem lay_26 {s : Nat → Nat → Int32} {k j : Nat} : layF s k 26 j = if 79 * k ≤ j ∧ j < 79 * k + 79 then s 25 (j - 79 * k) else s 26 j := by
  unfold layF
  rw [upR_eq]
  unfold va_cpy
  by_cases q : 79 * k ≤ j ∧ j < 79 * k + 79
  · rw [if_pos q, if_pos q, Nat.zero_add]
  · rw [if_neg q, if_neg q]
theorem shift_26 {s : Nat → Nat → Int32} {j : Nat} : shiftF s 26 j = if j < 1501 then s 26 (79 + j) else s 26 j := by
  unfold shiftF
  rw [st1_ne (by decide), upR_eq]
  unfold va_cpy
  by_cases q : j < 1501
  · rw [if_pos ⟨Nat.zero_le _, by omega⟩, if_pos q, Nat.sub_zero]
  · rw [if_neg (by omega), if_neg q]
theorem shift_25 {s : Nat → Nat → Int32} : shiftF s 25 = s 25 := by unfold shiftF; rw [st1_ne (by decide), upR_ne (by decide)]
theorem rem_26 {s : Nat → Nat → Int32} {K k j : Nat} (hk : k < upK K) (hj : j < 79) : remF s K 26 (79 * k + j) = if K = 20 then (if k = 19 then s 25 j else s 26 (79 * (k + 1) + j)) else if k = K then s 25 j else s 26 (79 * k + j) := by
  unfold upK at hk
  unfold remF
  by_cases e : K = 20
  · rw [if_pos e, if_pos e, st1_ne (by decide), lay_26, shift_25, shift_26]
    rw [if_pos e] at hk
    by_cases q : k = 19
    · subst q
      rw [if_pos rfl, if_pos (by omega)]
      congr 1
      omega
    · rw [if_neg q, if_neg (by omega), if_pos (by omega)]
      congr 1
      omega
  · rw [if_neg e, if_neg e, st1_ne (by decide), lay_26]
    rw [if_neg e] at hk
    by_cases q : k = K
    · subst q
      rw [if_pos rfl, if_pos (by omega)]
      congr 1
      omega
    · rw [if_neg q, if_neg (by omega)]
theorem rem_im {s : Nat → Nat → Int32} {K j : Nat} (hK : K ≤ 20) : remF s K 26 (1580 + j) = s 26 (1580 + j) := by
  unfold remF
  by_cases e : K = 20
  · rw [if_pos e, st1_ne (by decide), lay_26, if_neg (by omega), shift_26, if_neg (by omega)]
  · rw [if_neg e, st1_ne (by decide), lay_26, if_neg (by omega)]
section
variable {n K tp : Nat} {μ σ : Nat → Nat → Int32} {pl : List KP}
theorem LI.done {μ2 σ2 : Nat → Nat → Int32} {pl2 : List KP} {P' : Nat → Int32} (h : LI n K tp μ σ pl) (hku : KU K pl (σ 1) pl2) (hm : HQ (doneF (zt μ) K P') μ2) (hx : σ2 2 = σ 2 ∧ σ2 9 = σ 9 ∧ ∀ j, j ≠ 9 → j ≠ 13 → σ2 0 j = σ 0 j) (h9 : σ2 0 9 = nI (upK K)) (h1 : σ2 1 = P') (hG : PG n (tN (μ 3 0)) P') : LI n (upK K) tp μ2 σ2 pl2 ∧ TE (zt μ) μ2 := by
  have hrow : ∀ r, 1 ≤ r ∧ r ≤ 24 → μ2 r = μ r := fun r hr => by
    rw [hm.1 r (by omega) (by omega) (by omega) (by omega) (by omega)]
    unfold doneF
    rw [upR_ne (by omega), rem_r (by omega) (by omega), zt_r (by omega)]
  have hfld : ∀ j, 1 ≤ j ∧ j ≤ 40 → j ≠ 28 → μ2 0 j = μ 0 j := fun j hj h8 => by
    rw [hm.2 j (by omega) (by omega) (by omega) (by omega)]
    unfold doneF
    rw [upR_ne (by decide), rem_j h8, zt_j (by omega)]
  have r25 : μ2 25 = P' := by
    rw [hm.1 25 (by decide) (by decide) (by decide) (by decide) (by decide)]
    unfold doneF
    rw [upR_eq]
  have r26 : μ2 26 = remF (zt μ) K 26 := by
    rw [hm.1 26 (by decide) (by decide) (by decide) (by decide) (by decide)]
    unfold doneF
    rw [upR_ne (by decide)]
  have r28 : μ2 0 28 = nI (upK K) := by
    rw [hm.2 28 (by decide) (by decide) (by decide) (by decide)]
    unfold doneF
    rw [upR_ne (by decide), rem_28]
  have hte : TE (zt μ) μ2 := TE.of fun r hr => (zt_r (by omega)).trans (hrow r (by omega)).symm
  have hK20 := h.k20
  have hn6 := h.n6
  obtain ⟨⟨hX, hls, hlo, h30, h31, h32, h33⟩, ⟨h25, hG0⟩, ⟨k1, k2, k3, k4, k5⟩, ⟨i1, i2⟩, ⟨t1, t2, t3, t4, t5, t6⟩, f1, f2⟩ := h
  obtain ⟨x2, x9, x0⟩ := hx
  obtain ⟨u1, u2, u3⟩ := hku
  have r3 := hrow 3 (by decide)
  refine ⟨⟨⟨(hX.cg hte).cg (TE.of fun r hr => (zt_r (by omega)).symm), by rw [r3]; exact hls, by rw [hrow 8 (by decide), hrow 9 (by decide)]; exact hlo, ?_⟩, ⟨by rw [h1, r25], by rw [r3, r25]; exact hG⟩, ⟨r28, h9, u2, u1, fun k hk => ?_⟩, ⟨by rw [x0 _ (by decide) (by decide), hfld _ (by decide) (by decide)]; exact i1, fun h29 => ?_⟩, ⟨by rw [hfld _ (by decide) (by decide)]; exact t1, by rw [x0 _ (by decide) (by decide)]; exact t2, t3, by rw [hrow 1 (by decide)]; exact t4.cg x9, t5.cg (hrow 1 (by decide)), t6.cg (hrow 13 (by decide))⟩, by rw [x0 _ (by decide) (by decide), hfld _ (by decide) (by decide)]; exact f1, by rw [x0 _ (by decide) (by decide), hfld _ (by decide) (by decide)]; exact f2⟩, hte⟩
  · unfold TO
    rw [r3, hfld _ (by decide) (by decide), hfld _ (by decide) (by decide), hfld _ (by decide) (by decide), hfld _ (by decide) (by decide)]
    exact ⟨h30, h31, h32, h33⟩
  · rw [r3, u3 k hk]
    have key : ∀ P, (∀ j, j < 79 → μ2 26 (79 * k + j) = P j) → ∀ Q, PE n Q P → PG n (tN (μ 3 0)) Q → PE n Q (fun j => μ2 26 (79 * k + j)) ∧ PG n (tN (μ 3 0)) Q := fun P hP Q hQ hg => ⟨hQ.tr (PE.of79 hn6 (fun j hj => (hP j hj).symm)), hg⟩
    have e26 : ∀ j, j < 79 → μ2 26 (79 * k + j) = if K = 20 then (if k = 19 then μ 25 j else μ 26 (79 * (k + 1) + j)) else if k = K then μ 25 j else μ 26 (79 * k + j) := fun j hj => by rw [r26, rem_26 hk hj, zt_r (by decide), zt_r (by decide)]
    by_cases e : K = 20
    · simp only [e, if_true] at e26 ⊢
      by_cases q : k = 19
      · simp only [q, if_true] at e26 ⊢
        subst q
        exact key _ e26 _ (by rw [h25]; exact PE.rf _ _) (by rw [h25]; exact hG0)
      · simp only [q, if_false] at e26 ⊢
        have hk2 : k < 20 := by unfold upK at hk; rw [if_pos e] at hk; exact hk
        exact key _ e26 _ (k5 (k + 1) (by omega)).1 (k5 (k + 1) (by omega)).2
    · simp only [e, if_false] at e26 ⊢
      by_cases q : k = K
      · simp only [q, if_true] at e26 ⊢
        subst q
        exact key _ e26 _ (by rw [h25]; exact PE.rf _ _) (by rw [h25]; exact hG0)
      · simp only [q, if_false] at e26 ⊢
        have hk2 : k < K := by unfold upK at hk; rw [if_neg e] at hk; omega
        exact key _ e26 _ (k5 k hk2).1 (k5 k hk2).2
  · rw [hfld _ (by decide) (by decide)] at h29
    obtain ⟨j1, j2⟩ := i2 h29
    rw [x2, r3]
    exact ⟨j1.tr (PE.of79 hn6 (fun j hj => by rw [r26, rem_im hK20, zt_r (by decide)])), j2⟩
/-- one entry of the plan put anew -/
theorem LI.put {pl2 : List KP} {N : Nat} {v : Int32} (h : LI n K tp μ σ pl) (hku : KU K pl (σ 1) pl2) (hG : PG n (tN (μ 3 0)) (upd (σ 1) N v)) : LI n (upK K) tp (st1 (remF (zt μ) K) 25 N v) (st1 (st1 σ 0 9 (nI (upK K))) 1 N v) pl2 ∧ TE (zt μ) (st1 (remF (zt μ) K) 25 N v) := by
  refine h.done hku (HQ.of_eq ?_) ⟨by rw [st1_ne (by decide), st1_ne (by decide)], by rw [st1_ne (by decide), st1_ne (by decide)], fun j h9 _ => by rw [st1_ne (by decide), st1_nj h9]⟩ (by rw [st1_ne (by decide), st1_eq]) (P' := upd (σ 1) N v) (by rw [st1_row, st1_ne (by decide)]) hG
  unfold doneF st1
  rw [show remF (zt μ) K 25 = σ 1 by rw [rem_r (by decide) (by decide), zt_r (by decide), h.2.1.1]]
theorem PG.found {S : Nat} (h : LI n K tp μ σ pl) (hS : Sub S n) : PG n (tN (μ 3 0)) (foundP (zt μ) n S) := by
  have hX := h.1.1
  have hP := h.pc
  have hn6 := h.n6
  have e := h.vwz
  have f := (foundP_pl hS (LH.vw hX) hP.i25).1
  rw [e] at f
  have g : ∀ j, n ≤ j → foundP (zt μ) n S j = σ 1 j := fun j hj => by rw [f j (Or.inl hj), zt_r (by decide), h.2.1.1]
  have hPG : PG n (tN (μ 3 0)) (σ 1) := by rw [h.2.1.1]; exact h.2.1.2
  refine ⟨by have := hP.found hX hS; rw [e] at this; exact this, by have := h.bb.found hP hX hS; rw [e] at this; exact this, fun c hc hz => ?_, fun v hv => ?_⟩
  · rw [g _ (by omega)]; exact hPG.2.2.1 c hc hz
  · rw [g _ (by omega)]; exact hPG.2.2.2 v hv
end
