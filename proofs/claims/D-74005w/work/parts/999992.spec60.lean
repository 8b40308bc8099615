/-! WHAT A TEXT LEAVES: its bounds -/
set_option maxRecDepth 100000
def RB (s : Nat → Nat → Int32) : Prop := (In (s 3 17) 7 ∧ In (s 3 18) 7 ∧ In (s 3 10) 61 ∧ 4 ≤ tN (s 3 10) ∧ In (s 3 11) 6 ∧ In (s 3 12) 21 ∧ In (s 3 13) 8 ∧ In (s 3 19) 100000) ∧ (∀ k, k < tN (s 3 17) → In (s 6 (6 + k)) 3 ∧ In (s 8 (6 + k)) 61 ∧ In (s 9 (6 + k)) 61 ∧ 1 ≤ tN (s 8 (6 + k)) ∧ tN (s 9 (6 + k)) ≤ tN (s 3 10) ∧ In (s 10 (6 + k)) 61 ∧ In (s 11 (6 + k)) 256) ∧ (∀ j, j < 9 → s 12 (9 + j) = -2 ∨ ¬ s 12 (9 + j) < 0) ∧ (s 0 14 = 0 → tN (s 3 17) = 0 ∧ ∀ c, c < 61 → s 13 (61 + c) = nI 0) ∧ (∀ c, c < 61 → tN (s 3 10) < c → s 13 (61 + c) = nI 0) ∧ ∀ j, j < 3 → In (s 3 (14 + j)) 100
theorem RB.cg {s w : Nat → Nat → Int32} (h : RB s) (e : ∀ r, r = 3 ∨ r = 6 ∨ (8 ≤ r ∧ r ≤ 13) → w r = s r) (e14 : w 0 14 = 0 → s 0 14 = 0) : RB w := by
  obtain ⟨a, b, c, d, f, g⟩ := h
  unfold RB
  rw [e 3 (by decide), e 6 (by decide), e 8 (by decide), e 9 (by decide), e 10 (by decide), e 11 (by decide), e 12 (by decide), e 13 (by decide)]
  exact ⟨a, b, c, fun z => d (e14 z), f, g⟩
theorem tok14 {s : Nat → Nat → Int32} : tokS s 0 14 = s 0 14 := setT_rd.2.2.2.2.2.1 14 (by decide)
theorem wr14 {s : Nat → Nat → Int32} {v : Int32} : wrongS v s 0 14 = s 0 14 := by
  unfold wrongS
  split
  · rw [st1_nj (by decide), st1_nj (by decide)]
  · rfl
theorem go14 {s : Nat → Nat → Int32} : goOnS s 0 14 = s 0 14 := by
  unfold goOnS
  split
  · exact tok14
  · rfl
theorem num14 {s : Nat → Nat → Int32} {lo hi : Int32} : numS lo hi s 0 14 = s 0 14 := by
  unfold numS
  split
  · split
    · split
      · exact tok14
      · exact wr14
    · exact wr14
  · rfl
theorem once14 {s : Nat → Nat → Int32} {k : Nat} : onceS k s 0 14 = s 0 14 := by
  unfold onceS
  rw [go14, st1_ne (by decide)]
  split
  · rfl
  · exact wr14
theorem uo14 {r n : Nat} {s : Nat → Nat → Int32} : uoS r n s 0 14 = s 0 14 := by
  unfold uoS
  split
  · split
    · split
      · rw [wr14, go14]
      · split
        · rw [wr14, go14]
        · rw [tok14, go14]
    · rw [wr14, go14]
  · exact go14
theorem ro14 {s : Nat → Nat → Int32} {k f : Nat} {lo hi : Int32} : readOnceS k f lo hi s 0 14 = s 0 14 := by
  unfold readOnceS rdS
  rw [st1_ne (by decide), num14, once14]
theorem ro_row {s : Nat → Nat → Int32} {k f r : Nat} {lo hi : Int32} (h0 : r ≠ 0) (h3 : r ≠ 3) (h4 : r ≠ 4) : readOnceS k f lo hi s r = s r := by
  unfold readOnceS rdS
  rw [st1_ne h3, numS_r h0, onceS_r h0 h4]
theorem ro_r3 {s : Nat → Nat → Int32} {k f : Nat} {lo hi : Int32} : readOnceS k f lo hi s 3 = upd (s 3) (10 + f) (numV lo hi (onceS k s)) := by
  unfold readOnceS rdS
  rw [st1_row, numS_r (by decide), onceS_3]
theorem upd_ne {f : Nat → Int32} {k j : Nat} {v : Int32} (h : j ≠ k) : upd f k v j = f j := by unfold upd; rw [if_neg h]
theorem upd_at {f : Nat → Int32} {k : Nat} {v : Int32} : upd f k v k = v := by unfold upd; rw [if_pos rfl]
/-- something told once, no band -/
theorem RB.once {s : Nat → Nat → Int32} {k f a b : Nat} (h : RB s) (hab : a ≤ b) (hf : (f = 1 ∧ b ≤ 5) ∨ (f = 2 ∧ b ≤ 20) ∨ (f = 3 ∧ b ≤ 7) ∨ (f = 9 ∧ b ≤ 99999)) : RB (readOnceS k f (nI a) (nI b) s) := by
  obtain ⟨⟨a1, a2, a3, a4, a5, a6, a7, a8⟩, hu, hl, hz, hy, hg⟩ := h
  have hv := (numV_In (s := onceS k s) hab (by omega)).1
  unfold RB
  rw [ro14, ro_r3, ro_row (r := 6) (by decide) (by decide) (by decide), ro_row (r := 8) (by decide) (by decide) (by decide), ro_row (r := 9) (by decide) (by decide) (by decide), ro_row (r := 10) (by decide) (by decide) (by decide), ro_row (r := 11) (by decide) (by decide) (by decide), ro_row (r := 12) (by decide) (by decide) (by decide), ro_row (r := 13) (by decide) (by decide) (by decide)]
  rw [upd_ne (show 17 ≠ 10 + f by omega), upd_ne (show 18 ≠ 10 + f by omega), upd_ne (show 10 ≠ 10 + f by omega)]
  refine ⟨⟨a1, a2, a3, a4, ?_, ?_, ?_, ?_⟩, hu, hl, hz, hy, fun j hj => by rw [upd_ne (by omega)]; exact hg j hj⟩
  · by_cases q : f = 1
    · subst q; rw [show 10 + 1 = 11 from rfl, upd_at]; exact hv.mono (by omega)
    · rw [upd_ne (by omega)]; exact a5
  · by_cases q : f = 2
    · subst q; rw [show 10 + 2 = 12 from rfl, upd_at]; exact hv.mono (by omega)
    · rw [upd_ne (by omega)]; exact a6
  · by_cases q : f = 3
    · subst q; rw [show 10 + 3 = 13 from rfl, upd_at]; exact hv.mono (by omega)
    · rw [upd_ne (by omega)]; exact a7
  · by_cases q : f = 9
    · subst q; rw [show 10 + 9 = 19 from rfl, upd_at]; exact hv.mono (by omega)
    · rw [upd_ne (by omega)]; exact a8
theorem RB.band {s : Nat → Nat → Int32} (h : RB s) (h0 : s 0 21 = 0) (hz : readBandS s 0 21 = 0) : RB (readBandS s) := by
  have h14 : s 0 14 = 0 := Classical.byContradiction fun z => (band_1 h0 z).2.2 hz
  obtain ⟨⟨a1, a2, a3, a4, a5, a6, a7, a8⟩, hu, hl, hf, hy, hg⟩ := h
  obtain ⟨n0, b0⟩ := hf h14
  have hv := numV_In (s := onceS 0 s) (a := 4) (b := 60) (by decide) (by decide)
  rw [band_ok h14]
  unfold RB
  rw [ro14, ro_r3, ro_row (r := 6) (by decide) (by decide) (by decide), ro_row (r := 8) (by decide) (by decide) (by decide), ro_row (r := 9) (by decide) (by decide) (by decide), ro_row (r := 10) (by decide) (by decide) (by decide), ro_row (r := 11) (by decide) (by decide) (by decide), ro_row (r := 12) (by decide) (by decide) (by decide), ro_row (r := 13) (by decide) (by decide) (by decide)]
  rw [show 10 + 0 = 10 from rfl, upd_at, upd_ne (by decide), upd_ne (by decide), upd_ne (by decide), upd_ne (by decide), upd_ne (by decide), upd_ne (by decide)]
  exact ⟨⟨a1, a2, hv.1, hv.2, a5, a6, a7, a8⟩, fun k hk => by omega, hl, hf, fun c hc _ => b0 c hc, fun j hj => by rw [upd_ne (by omega)]; exact hg j hj⟩
theorem lossIt_at {w : Nat → Nat → Int32} {j : Nat} : ∀ k, j < k → k ≤ 3 → lossIt w k 3 (14 + j) = numV (nI 0) (nI 99) (lossIt w j)
  | 0, h, _ => absurd h (Nat.not_lt_zero _)
  | k + 1, h, hk => by
    rw [loss_s]
    by_cases q : j = k
    · subst q; rw [show 14 + j = 10 + (4 + j) by omega, st1_eq]
    · rw [st1_nj (by omega), numS_r (by decide), lossIt_at k (by omega) (by omega)]
theorem RB.loss {s : Nat → Nat → Int32} (h : RB s) : RB (readLossS s) := by
  obtain ⟨⟨a1, a2, a3, a4, a5, a6, a7, a8⟩, hu, hl, hf, hy, hg⟩ := h
  have e3 : ∀ j, j < 14 ∨ 16 < j → readLossS s 3 j = s 3 j := fun j hj => by unfold readLossS; rw [lossIt_j hj 3 (by decide), onceS_3]
  have er : ∀ r, r ≠ 0 → r ≠ 3 → r ≠ 4 → readLossS s r = s r := fun r p q z => by unfold readLossS; rw [lossIt_r p q, onceS_r p z]
  have e14 : readLossS s 0 14 = s 0 14 := by
    have : ∀ w k, lossIt w k 0 14 = w 0 14 := by
      intro w k
      induction k with
      | zero => rfl
      | succ k ih => rw [loss_s, st1_ne (by decide), num14, ih]
    unfold readLossS
    rw [this, once14]
  unfold RB
  rw [e14, e3 17 (by decide), e3 18 (by decide), e3 10 (by decide), e3 11 (by decide), e3 12 (by decide), e3 13 (by decide), e3 19 (by decide), er 6 (by decide) (by decide) (by decide), er 8 (by decide) (by decide) (by decide), er 9 (by decide) (by decide) (by decide), er 10 (by decide) (by decide) (by decide), er 11 (by decide) (by decide) (by decide), er 12 (by decide) (by decide) (by decide), er 13 (by decide) (by decide) (by decide)]
  exact ⟨⟨a1, a2, a3, a4, a5, a6, a7, a8⟩, hu, hl, hf, hy, fun j hj => by unfold readLossS; rw [lossIt_at 3 hj (by decide)]; exact (numV_In (a := 0) (b := 99) (by decide) (by decide)).1⟩
theorem st1_o {s : Nat → Nat → Int32} {r N a j : Nat} {v : Int32} (h : a ≠ r ∨ j ≠ N) : st1 s r N v a j = s a j := by
  by_cases e : a = r
  · subst e; exact st1_nj (by omega)
  · rw [st1_ne e]
theorem us3_k {n r k : Nat} {w : Nat → Nat → Int32} (h0 : r ≠ 0) (h3 : r ≠ 3) (hk : k ≠ n) : us3 n w r (6 + k) = w r (6 + k) := by
  have z : (6 + k) ≠ 6 + n := by omega
  unfold us3 xf xe xd xc xb xa putN
  rw [st1_o (Or.inl h3), st1_o (Or.inr z), st1_o (Or.inr z), st1_o (Or.inr z), numS_r h0, st1_o (Or.inr z), numS_r h0, st1_o (Or.inr z), numS_r h0, st1_o (Or.inr z), numS_r h0, tokS_r h0, st1_o (Or.inr z)]
theorem us3_14 {n : Nat} {w : Nat → Nat → Int32} : us3 n w 0 14 = w 0 14 := by
  unfold us3 xf xe xd xc xb xa putN
  rw [st1_ne (by decide), st1_ne (by decide), st1_ne (by decide), st1_ne (by decide), num14, st1_ne (by decide), num14, st1_ne (by decide), num14, st1_ne (by decide), num14, tok14, st1_ne (by decide)]
theorem us_z {n : Nat} {s : Nat → Nat → Int32} (hn : s 3 17 = nI n) (hn6 : n ≤ 6) (hz : readUserS n s 0 21 = 0) : n < 6 ∧ readUserS n s = us3 n (us1 s) := by
  have h1 : us1 s 0 21 = 0 := by
    unfold readUserS us2 at hz
    split at hz
    · assumption
    · exact hz
  refine ⟨?_, ?_⟩
  · rcases Nat.lt_or_ge n 6 with z | z
    · exact z
    · exact absurd h1 (us1_6 (by rw [hn, show n = 6 by omega]))
  · unfold readUserS us2 at hz ⊢
    rw [if_pos h1] at hz ⊢
    split at hz
    · rename_i q
      rw [if_pos q]
      split at hz
      · rename_i q2; rw [if_pos q2]
      · exact absurd hz (wr_ne h1 (by decide))
    · exact absurd hz (wr_ne h1 (by decide))
theorem nI_nn {a b : Nat} {s : Nat → Nat → Int32} (hab : a ≤ b) (hb : b < 2 ^ 31) : ¬ numV (nI a) (nI b) s < 0 := by
  rw [(numV_In (s := s) hab hb).1.1]
  exact nI_pos (by have := (numV_In (s := s) hab hb).1.2; omega)
theorem RB.user {s : Nat → Nat → Int32} {n : Nat} (h : RB s) (hn : s 3 17 = nI n) (hn6 : n ≤ 6) (hz : readUserS n s 0 21 = 0) : RB (readUserS n s) := by
  obtain ⟨hn5, e⟩ := us_z hn hn6 hz
  obtain ⟨⟨a1, a2, a3, a4, a5, a6, a7, a8⟩, hu, hl, hf, hy, hg⟩ := h
  obtain ⟨B, hB⟩ : ∃ B, tN (s 3 10) = B := ⟨_, rfl⟩
  have hBe : s 3 10 = nI B := by rw [← hB]; exact a3.1
  have hB60 := a3.2
  rw [hn, tN_nI (by omega)] at hu hf
  have hw3 : us1 s 3 = s 3 := us1_r (by decide)
  have exc : xc n (us1 s) 3 10 = nI B := by rw [xc_r3, hw3, hBe]
  have exd : xd n (us1 s) 3 10 = nI B := by rw [xd_r3, hw3, hBe]
  obtain ⟨x5, x6, x7, x8⟩ := xd_rows (n := n) (w := us1 s)
  rw [exc] at x8
  have v8 := numV_In (s := xc n (us1 s)) (a := 1) (b := B) (by omega) (by omega)
  obtain ⟨lo, hlo⟩ : ∃ lo, tN (numV (nI 1) (nI B) (xc n (us1 s))) = lo := ⟨_, rfl⟩
  have elo : numV (nI 1) (nI B) (xc n (us1 s)) = nI lo := by rw [← hlo]; exact v8.1.1
  have hlo1 := v8.2
  have hlo2 := v8.1.2
  rw [hlo] at hlo1 hlo2
  rw [elo] at x8
  have v9 := numV_In (s := xd n (us1 s)) (a := lo) (b := B) (by omega) (by omega)
  have v6 := numV_In (s := xa n (us1 s)) (a := 0) (b := 2) (by decide) (by decide)
  have E := us3_of (n := n) (lo := lo) (B := B) (w := us1 s) (by rw [hw3]; exact hn) x8 exd
  have r3 : ∀ j, j ≠ 17 → us3 n (us1 s) 3 j = s 3 j := fun j hj => by rw [E, st1_nj hj, st1_ne (by decide), st1_ne (by decide), st1_ne (by decide), numS_r (by decide), xd_r3, hw3]
  have r17 : us3 n (us1 s) 3 17 = nI (n + 1) := by rw [E, st1_eq]
  have r6 : us3 n (us1 s) 6 (6 + n) = numV (nI 0) (nI 2) (xa n (us1 s)) := by rw [E, st1_ne (by decide), st1_ne (by decide), st1_ne (by decide), st1_ne (by decide), numS_r (by decide), x6]
  have r8 : us3 n (us1 s) 8 (6 + n) = nI lo := by rw [E, st1_ne (by decide), st1_ne (by decide), st1_ne (by decide), st1_ne (by decide), numS_r (by decide), x8]
  have r9 : us3 n (us1 s) 9 (6 + n) = numV (nI lo) (nI B) (xd n (us1 s)) := by rw [E, st1_ne (by decide), st1_ne (by decide), st1_ne (by decide), st1_eq]
  have r10 : us3 n (us1 s) 10 (6 + n) = nI 0 := by rw [E, st1_ne (by decide), st1_ne (by decide), st1_eq]
  have r11 : us3 n (us1 s) 11 (6 + n) = nI 0 := by rw [E, st1_ne (by decide), st1_eq]
  have r14 : ¬ us3 n (us1 s) 0 14 = 0 := by
    rw [us3_14]
    unfold us1
    rw [go14]
    split
    · rw [wr14, st1_eq]; decide
    · rw [st1_eq]; decide
  have rk : ∀ r, r ≠ 0 → r ≠ 3 → ∀ k, k < n → us3 n (us1 s) r (6 + k) = s r (6 + k) := fun r p q k hk => by rw [us3_k p q (by omega), us1_r p]
  have r12 : us3 n (us1 s) 12 = s 12 := by rw [us3_o (by decide) (by decide) (by decide), us1_r (by decide)]
  have r13 : us3 n (us1 s) 13 = s 13 := by rw [us3_o (by decide) (by decide) (by decide), us1_r (by decide)]
  rw [e]
  unfold RB
  rw [r17, r12, r13, r3 18 (by decide), r3 10 (by decide), r3 11 (by decide), r3 12 (by decide), r3 13 (by decide), r3 19 (by decide), tN_nI (by omega)]
  refine ⟨⟨In.of (by omega) (by decide), a2, a3, a4, a5, a6, a7, a8⟩, fun k hk => ?_, hl, fun z => absurd z r14, hy, fun j hj => by rw [r3 _ (by omega)]; exact hg j hj⟩
  by_cases q : k = n
  · subst q
    rw [r6, r8, r9, r10, r11, tN_nI (by omega)]
    exact ⟨v6.1, In.of (by omega) (by decide), v9.1.mono (by omega), hlo1, by have := v9.1.2; omega, In.of (by decide) (by decide), In.of (by decide) (by decide)⟩
  · rw [rk 6 (by decide) (by decide) k (by omega), rk 8 (by decide) (by decide) k (by omega), rk 9 (by decide) (by decide) k (by omega), rk 10 (by decide) (by decide) k (by omega), rk 11 (by decide) (by decide) k (by omega)]
    exact hu k (by omega)
theorem RB.rg {s w : Nat → Nat → Int32} {r n hi : Nat} (h : RB s) (hr : r = 10 ∧ hi ≤ 60 ∨ r = 11 ∧ hi ≤ 255) (h1 : 1 ≤ hi) (h14 : w 0 14 = 0 → s 0 14 = 0) (hw : ∀ r, r ≠ 0 → w r = s r) : RB (rgX r n hi w) := by
  have hv := (numV_In (s := uoS r n w) (a := 1) (b := hi) h1 (by omega)).1
  have e14 : rgX r n hi w 0 14 = w 0 14 := by
    unfold rgX
    split
    · rw [st1_ne (by omega), num14, uo14]
    · rw [num14, uo14]
  have eo : ∀ q, q ≠ 0 → q ≠ r → rgX r n hi w q = s q := fun q p z => by rw [rgX_o p z, hw q p]
  have er : ∀ j, rgX r n hi w r j = s r j ∨ rgX r n hi w r j = numV (nI 1) (nI hi) (uoS r n w) := by
    intro j
    unfold rgX
    split
    · by_cases q : j = 6 + uoN n w
      · subst q; right; rw [st1_eq]
      · left; rw [st1_nj q, numS_r (by omega), uoS_r (by omega), hw r (by omega)]
    · left; rw [numS_r (by omega), uoS_r (by omega), hw r (by omega)]
  obtain ⟨⟨a1, a2, a3, a4, a5, a6, a7, a8⟩, hu, hl, hf, hy, hg⟩ := h
  unfold RB
  rw [e14, eo 3 (by decide) (by omega), eo 6 (by decide) (by omega), eo 8 (by decide) (by omega), eo 9 (by decide) (by omega), eo 12 (by decide) (by omega), eo 13 (by decide) (by omega)]
  refine ⟨⟨a1, a2, a3, a4, a5, a6, a7, a8⟩, fun k hk => ?_, hl, fun z => hf (h14 z), hy, hg⟩
  obtain ⟨b1, b2, b3, b4, b5, b6, b7⟩ := hu k hk
  refine ⟨b1, b2, b3, b4, b5, ?_, ?_⟩
  · rcases hr with ⟨rfl, hh⟩ | ⟨rfl, hh⟩
    · rcases er (6 + k) with q | q
      · rw [q]; exact b6
      · rw [q]; exact hv.mono (by omega)
    · rw [eo 10 (by decide) (by decide)]; exact b6
  · rcases hr with ⟨rfl, hh⟩ | ⟨rfl, hh⟩
    · rw [eo 11 (by decide) (by decide)]; exact b7
    · rcases er (6 + k) with q | q
      · rw [q]; exact b7
      · rw [q]; exact hv.mono (by omega)
theorem RB.block {s : Nat → Nat → Int32} (h : RB s) (hz : readBlockS s 0 21 = 0) : RB (readBlockS s) := by
  obtain ⟨r13, r18, r3⟩ := block_13 hz
  obtain ⟨⟨a1, a2, a3, a4, a5, a6, a7, a8⟩, hu, hl, hf, hy, hg⟩ := h
  have hA := blA_of (s := s) a3 (by omega)
  have hC := blB_of (s := s) a3 (by omega)
  have ho : ∀ q, q ≠ 0 → q ≠ 3 → q ≠ 13 → readBlockS s q = s q := fun q x y z => block_o x y z
  have h6 : tN (s 3 18) ≠ 6 := fun z => by
    have h0 : s 0 21 = 0 := Re.readBlock.zero hz
    exact (bk_6 h0 (by rw [a2.1, z])).2.2 hz
  have e14 : ¬ readBlockS s 0 14 = 0 := by
    rw [bk_ok (bk_z hz), st1_ne (by decide), upR_ne (by decide)]
    unfold bl3 bl2
    rw [num14, num14]
    unfold bl1
    rw [go14]
    split
    · rw [wr14, st1_eq]; decide
    · rw [st1_eq]; decide
  unfold RB
  rw [r13, r18, r3 17 (by decide), r3 10 (by decide), r3 11 (by decide), r3 12 (by decide), r3 13 (by decide), r3 19 (by decide), ho 6 (by decide) (by decide) (by decide), ho 8 (by decide) (by decide) (by decide), ho 9 (by decide) (by decide) (by decide), ho 10 (by decide) (by decide) (by decide), ho 11 (by decide) (by decide) (by decide), ho 12 (by decide) (by decide) (by decide)]
  refine ⟨⟨a1, ?_, a3, a4, a5, a6, a7, a8⟩, hu, hl, fun z => absurd z e14, fun c hc hB => ?_, fun j hj => by rw [r3 _ (by omega)]; exact hg j hj⟩
  · rw [a2.1, nI_add]; exact In.of (by have := a2.2; omega) (by decide)
  · unfold blkF
    rw [if_neg (by omega)]
    exact hy c hc hB
theorem RB.link {s : Nat → Nat → Int32} (h : RB s) (hz : readLinkS s 0 21 = 0) : RB (readLinkS s) := by
  obtain ⟨⟨a1, a2, a3, a4, a5, a6, a7, a8⟩, hu, hl, hf, hy, hg⟩ := h
  have ho : ∀ q, q ≠ 0 → q ≠ 12 → readLinkS s q = s q := fun q x y => link_o x y
  have e7 : lk7 s 12 = s 12 := lk7_q (by decide)
  have hv : ¬ lkV s < 0 := nI_nn (by decide) (by decide)
  have e12 : ∀ j, readLinkS s 12 j = s 12 j ∨ readLinkS s 12 j = lkV s := by
    intro j
    unfold readLinkS
    split
    · by_cases q : j = 9 + 3 * lkB s + lkA s
      · subst q; right; rw [st1_eq]
      · rw [st1_nj q]
        by_cases z : j = 9 + 3 * lkA s + lkB s
        · subst z; right; rw [st1_eq]
        · left; rw [st1_nj z, e7]
    · left; rw [e7]
  have e14 : readLinkS s 0 14 = s 0 14 := by
    have q2 : lk2 s 0 14 = s 0 14 := by unfold lk2; rw [num14, go14]
    have q3 : lk3 s 0 14 = s 0 14 := by
      unfold lk3
      split
      · rw [wr14, q2]
      · exact q2
    have q4 : lk4 s 0 14 = s 0 14 := by
      unfold lk4
      split
      · rw [wr14, q3]
      · exact q3
    have q5 : lk5 s 0 14 = s 0 14 := by
      unfold lk5
      split
      · rw [wr14, q4]
      · exact q4
    have q7 : lk7 s 0 14 = s 0 14 := by unfold lk7; rw [num14, go14, q5]
    unfold readLinkS
    split
    · rw [st1_ne (by decide), st1_ne (by decide), q7]
    · exact q7
  unfold RB
  rw [e14, ho 3 (by decide) (by decide), ho 6 (by decide) (by decide), ho 8 (by decide) (by decide), ho 9 (by decide) (by decide), ho 10 (by decide) (by decide), ho 11 (by decide) (by decide), ho 13 (by decide) (by decide)]
  refine ⟨⟨a1, a2, a3, a4, a5, a6, a7, a8⟩, hu, fun j hj => ?_, hf, hy, hg⟩
  rcases e12 (9 + j) with q | q
  · rw [q]; exact hl j hj
  · rw [q]; exact Or.inr hv
theorem RB.lnw {s : Nat → Nat → Int32} {n : Nat} (h : RB s) (hn : s 3 17 = nI n) (hn6 : n ≤ 6) (hz : lnW n s 0 21 = 0) : RB (lnW n s) := by
  have h0 : s 0 21 = 0 := Re.rlnW.zero hz
  have hB := h.1.2.2.1
  have hB4 := h.1.2.2.2.1
  have key : ∀ w, lnW n s = w → w 0 21 = 0 → RB w := by
    intro w hw hz
    unfold lnW at hw
    repeat' split at hw
    · subst hw; exact absurd hz (wr_ne h0 (by decide))
    · subst hw; exact h.band h0 hz
    · subst hw; exact h.once (by decide) (Or.inl ⟨rfl, by decide⟩)
    · subst hw; exact h.once (by decide) (Or.inr (Or.inl ⟨rfl, by decide⟩))
    · subst hw; exact h.once (by decide) (Or.inr (Or.inr (Or.inl ⟨rfl, by decide⟩)))
    · subst hw; exact h.loss
    · subst hw; exact h.user hn hn6 hz
    · subst hw
      rw [fixed_eq hB.1]
      exact h.rg (Or.inl ⟨rfl, by have := hB.2; omega⟩) (by omega) (fun z => absurd z (by rw [st1_eq]; decide)) (fun r hr => st1_ne hr)
    · subst hw; exact h.block hz
    · subst hw; exact h.link hz
    · subst hw
      rw [slots_rg]
      exact h.rg (Or.inr ⟨rfl, by decide⟩) (by decide) (fun z => z) (fun r hr => rfl)
    · subst hw; exact h.once (by decide) (Or.inr (Or.inr (Or.inr ⟨rfl, by decide⟩)))
  exact key _ rfl hz
theorem RB.fr {s : Nat → Nat → Int32} : RB (frS s) := by
  have e3 : frS s 3 = fr3 (s 3) := rfl
  have e12 : frS s 12 = frR (-2) 9 (s 12) 9 := rfl
  have e13 : frS s 13 = frR (nI 0) 61 (s 13) 61 := rfl
  unfold RB
  rw [e3, e12, e13]
  refine ⟨⟨In.of (n := 0) (by decide) (by decide), In.of (n := 0) (by decide) (by decide), In.of (n := 30) (by decide) (by decide), by show 4 ≤ tN (nI 30); decide, In.of (n := 0) (by decide) (by decide), In.of (n := 1) (by decide) (by decide), In.of (n := 2) (by decide) (by decide), In.of (n := 0) (by decide) (by decide)⟩, fun k hk => absurd hk (by show ¬ k < tN (nI 0); rw [tN_nI (by decide)]; omega), fun j hj => ?_, fun _ => ⟨by show tN (nI 0) = 0; decide, fun c hc => ?_⟩, fun c hc _ => ?_, fun j hj => ?_⟩
  · left; unfold frR; rw [if_pos (by omega)]
  · unfold frR; rw [if_pos (by omega)]
  · unfold frR; rw [if_pos (by omega)]
  · obtain rfl | rfl | rfl : j = 0 ∨ j = 1 ∨ j = 2 := by omega
    · exact In.of (n := 5) (by decide) (by decide)
    · exact In.of (n := 10) (by decide) (by decide)
    · exact In.of (n := 20) (by decide) (by decide)
theorem lnE_r {w : Nat → Nat → Int32} {r : Nat} (h : r ≠ 0) : lnE w r = w r := by
  unfold lnE
  rw [goOnS_r h]
  split
  · exact wrongS_r h
  · rfl
theorem RB.line {s : Nat → Nat → Int32} {n : Nat} (h : RB s) (hn : s 3 17 = nI n) (hn6 : n ≤ 6) (hz : lnW n s 0 21 = 0) : RB (lineS n s) := by
  refine (h.lnw hn hn6 hz).cg (fun r hr => ?_) ?_
  · unfold lineS
    rw [st1_ne (by omega), lnE_r (by omega)]
  · unfold lineS
    rw [st1_nj (by decide)]
    unfold lnE
    rw [go14]
    split
    · rw [wr14]; exact id
    · exact id
