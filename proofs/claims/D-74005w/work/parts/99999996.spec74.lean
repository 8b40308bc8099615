/-! WHAT IS READ: powers, ranges, channel nought -/
set_option maxRecDepth 100000
def UB (s : Nat → Nat → Int32) : Prop := (∀ k, k < tN (s 3 17) → In (s 7 (6 + k)) 31 ∧ tN (s 8 (6 + k)) ≤ tN (s 9 (6 + k))) ∧ s 13 61 = nI 0
theorem UB.cg {s w : Nat → Nat → Int32} (h : UB s) (e7 : w 7 = s 7) (e8 : w 8 = s 8) (e9 : w 9 = s 9) (e13 : w 13 = s 13) (e17 : w 3 17 = s 3 17) : UB w := by
  unfold UB
  rw [e7, e8, e9, e13, e17]
  exact h
theorem UB.once {s : Nat → Nat → Int32} {k f : Nat} {lo hi : Int32} (h : UB s) (hf : f ≠ 7) : UB (readOnceS k f lo hi s) := h.cg (ro_row (by decide) (by decide) (by decide)) (ro_row (by decide) (by decide) (by decide)) (ro_row (by decide) (by decide) (by decide)) (ro_row (by decide) (by decide) (by decide)) (by rw [ro_r3, upd_ne (by omega)])
theorem UB.user {s : Nat → Nat → Int32} {n : Nat} (h : UB s) (hb : RB s) (hn : s 3 17 = nI n) (hn6 : n ≤ 6) (hz : readUserS n s 0 21 = 0) : UB (readUserS n s) := by
  obtain ⟨hn5, e⟩ := us_z hn hn6 hz
  obtain ⟨⟨a1, a2, a3, a4, -, -, -, -⟩, -, -, -, -, -⟩ := hb
  obtain ⟨hu, h13⟩ := h
  obtain ⟨B, hB⟩ : ∃ B, tN (s 3 10) = B := ⟨_, rfl⟩
  have hBe : s 3 10 = nI B := by rw [← hB]; exact a3.1
  have hB60 := a3.2
  rw [hn, tN_nI (by omega)] at hu
  have hw3 : us1 s 3 = s 3 := us1_r (by decide)
  have exc : xc n (us1 s) 3 10 = nI B := by rw [xc_r3, hw3, hBe]
  have exd : xd n (us1 s) 3 10 = nI B := by rw [xd_r3, hw3, hBe]
  obtain ⟨x5, x6, x7, x8⟩ := xd_rows (n := n) (w := us1 s)
  rw [exc] at x8
  have v8 := numV_In (s := xc n (us1 s)) (a := 1) (b := B) (by omega) (by omega)
  obtain ⟨lo, hlo⟩ : ∃ lo, tN (numV (nI 1) (nI B) (xc n (us1 s))) = lo := ⟨_, rfl⟩
  have elo : numV (nI 1) (nI B) (xc n (us1 s)) = nI lo := by rw [← hlo]; exact v8.1.1
  have hlo1 := v8.2
  have hlo2 := v8.1.2
  rw [hlo] at hlo1 hlo2
  rw [elo] at x8
  have v9 := numV_In (s := xd n (us1 s)) (a := lo) (b := B) (by omega) (by omega)
  have v7 := numV_In (s := xb n (us1 s)) (a := 0) (b := 30) (by decide) (by decide)
  have E := us3_of (n := n) (lo := lo) (B := B) (w := us1 s) (by rw [hw3]; exact hn) x8 exd
  have r17 : us3 n (us1 s) 3 17 = nI (n + 1) := by rw [E, st1_eq]
  have r7 : us3 n (us1 s) 7 (6 + n) = numV (nI 0) (nI 30) (xb n (us1 s)) := by rw [E, st1_ne (by decide), st1_ne (by decide), st1_ne (by decide), st1_ne (by decide), numS_r (by decide), x7]
  have r8 : us3 n (us1 s) 8 (6 + n) = nI lo := by rw [E, st1_ne (by decide), st1_ne (by decide), st1_ne (by decide), st1_ne (by decide), numS_r (by decide), x8]
  have r9 : us3 n (us1 s) 9 (6 + n) = numV (nI lo) (nI B) (xd n (us1 s)) := by rw [E, st1_ne (by decide), st1_ne (by decide), st1_ne (by decide), st1_eq]
  have rk : ∀ r, r ≠ 0 → r ≠ 3 → ∀ k, k < n → us3 n (us1 s) r (6 + k) = s r (6 + k) := fun r p q k hk => by rw [us3_k p q (by omega), us1_r p]
  have r13 : us3 n (us1 s) 13 = s 13 := by rw [us3_o (by decide) (by decide) (by decide), us1_r (by decide)]
  rw [e]
  unfold UB
  rw [r17, r13, tN_nI (by omega)]
  refine ⟨fun k hk => ?_, h13⟩
  by_cases q : k = n
  · subst q
    rw [r7, r8, r9, tN_nI (by omega)]
    exact ⟨v7.1, v9.2⟩
  · rw [rk 7 (by decide) (by decide) k (by omega), rk 8 (by decide) (by decide) k (by omega), rk 9 (by decide) (by decide) k (by omega)]
    exact hu k (by omega)
theorem UB.block {s : Nat → Nat → Int32} (h : UB s) (hb : RB s) (hz : readBlockS s 0 21 = 0) : UB (readBlockS s) := by
  obtain ⟨r13, r18, r3⟩ := block_13 hz
  have hA := blA_of (s := s) hb.1.2.2.1 (by have := hb.1.2.2.2.1; omega)
  unfold UB
  rw [block_o (q := 7) (by decide) (by decide) (by decide), block_o (q := 8) (by decide) (by decide) (by decide), block_o (q := 9) (by decide) (by decide) (by decide), r3 17 (by decide), r13]
  refine ⟨h.1, ?_⟩
  unfold blkF
  rw [if_neg (by omega)]
  exact h.2
theorem UB.rg {s w : Nat → Nat → Int32} {r n hi : Nat} (h : UB s) (hr : r = 10 ∨ r = 11) (hw : ∀ r, r ≠ 0 → w r = s r) : UB (rgX r n hi w) :=
  h.cg (by rw [rgX_o (by decide) (by omega), hw _ (by decide)]) (by rw [rgX_o (by decide) (by omega), hw _ (by decide)]) (by rw [rgX_o (by decide) (by omega), hw _ (by decide)]) (by rw [rgX_o (by decide) (by omega), hw _ (by decide)]) (by rw [rgX_o (by decide) (by omega), hw _ (by decide)])
theorem UB.lnw {s : Nat → Nat → Int32} {n : Nat} (h : UB s) (hb : RB s) (hn : s 3 17 = nI n) (hn6 : n ≤ 6) (hz : lnW n s 0 21 = 0) : UB (lnW n s) := by
  have h0 : s 0 21 = 0 := Re.rlnW.zero hz
  have hB := hb.1.2.2.1
  have key : ∀ w, lnW n s = w → w 0 21 = 0 → UB w := by
    intro w hw hz
    unfold lnW at hw
    repeat' split at hw
    · subst hw; exact absurd hz (wr_ne h0 (by decide))
    · subst hw
      have h14 : s 0 14 = 0 := Classical.byContradiction fun z => (band_1 h0 z).2.2 hz
      rw [band_ok h14]
      exact h.once (by decide)
    · subst hw; exact h.once (by decide)
    · subst hw; exact h.once (by decide)
    · subst hw; exact h.once (by decide)
    · subst hw
      have er : ∀ r, r ≠ 0 → r ≠ 3 → r ≠ 4 → readLossS s r = s r := fun r p q z => by unfold readLossS; rw [lossIt_r p q, onceS_r p z]
      exact h.cg (er _ (by decide) (by decide) (by decide)) (er _ (by decide) (by decide) (by decide)) (er _ (by decide) (by decide) (by decide)) (er _ (by decide) (by decide) (by decide)) (by unfold readLossS; rw [lossIt_j (Or.inr (by decide)) 3 (by decide), onceS_3])
    · subst hw; exact h.user hb hn hn6 hz
    · subst hw
      rw [fixed_eq hB.1]
      exact h.rg (Or.inl rfl) (fun r hr => st1_ne hr)
    · subst hw; exact h.block hb hz
    · subst hw
      exact h.cg (link_o (by decide) (by decide)) (link_o (by decide) (by decide)) (link_o (by decide) (by decide)) (link_o (by decide) (by decide)) (by rw [link_o (by decide) (by decide)])
    · subst hw
      rw [slots_rg]
      exact h.rg (Or.inr rfl) (fun r hr => rfl)
    · subst hw; exact h.once (by decide)
  exact key _ rfl hz
theorem UB.line {s : Nat → Nat → Int32} {n : Nat} (h : UB s) (hb : RB s) (hn : s 3 17 = nI n) (hn6 : n ≤ 6) (hz : lnW n s 0 21 = 0) : UB (lineS n s) := by
  have e : ∀ r, r ≠ 0 → lineS n s r = lnW n s r := fun r hr => by unfold lineS; rw [st1_ne hr, lnE_r hr]
  exact (h.lnw hb hn hn6 hz).cg (e _ (by decide)) (e _ (by decide)) (e _ (by decide)) (e _ (by decide)) (by rw [e _ (by decide)])
theorem line_z {s : Nat → Nat → Int32} {n : Nat} (h0 : lineS n s 0 21 = 0) : lnW n s 0 21 = 0 := by
  have he : lnE (lnW n s) 0 21 = 0 := h0
  exact (Re.rlnE (w := lnW n s)).zero he
theorem lnF_ub : ∀ f (w : Nat → Nat → Int32), RB w → UB w → lnF f w 0 21 = 0 → UB (lnF f w) := by
  intro f
  induction f with
  | zero => intro w _ h _; exact h
  | succ f ih =>
    intro w h1 h2 hz
    rw [lnF] at hz ⊢
    split at hz
    · rename_i hc
      rw [if_pos hc]
      have hl : lineS (tN (w 3 17)) w 0 21 = 0 := by
        by_cases q : lineS (tN (w 3 17)) w 0 21 = 0
        · exact q
        · rw [lnF_stop (fun z => q z.1)] at hz; exact hz
      have hn6 : tN (w 3 17) ≤ 6 := by have := h1.1.1.2; omega
      exact ih _ (h1.line h1.1.1.1 hn6 (line_z hl)) (h2.line h1 h1.1.1.1 hn6 (line_z hl)) hz
    · rename_i hc
      rw [if_neg hc]
      exact h2
theorem UB.fr {s : Nat → Nat → Int32} : UB (frS s) := by
  have e3 : frS s 3 = fr3 (s 3) := rfl
  have e13 : frS s 13 = frR (nI 0) 61 (s 13) 61 := rfl
  unfold UB
  rw [e3, e13]
  refine ⟨fun k hk => ?_, by unfold frR; rw [if_pos (by decide)]⟩
  have : tN (fr3 (s 3) 17) = 0 := by show tN (nI 0) = 0; decide
  omega
theorem readTextS_ub {N : Nat} {s : Nat → Nat → Int32} (hz : readTextS N s 0 21 = 0) : UB (readTextS N s) := by
  have e : ∀ r, r ≠ 0 → rt1 N s r = frS (rt0 N s) r := fun r hr => tokS_r hr
  refine lnF_ub (N + 1) (rt1 N s) (RB.fr.cg (s := frS (rt0 N s)) (fun r hr => e r (by omega)) (fun z => ?_)) (UB.fr.cg (s := frS (rt0 N s)) (e _ (by decide)) (e _ (by decide)) (e _ (by decide)) (e _ (by decide)) (by rw [e _ (by decide)])) hz
  unfold frS
  rw [st1_eq]
  rfl
