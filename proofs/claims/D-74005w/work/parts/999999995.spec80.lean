/-! THE LAW: a text read -/
set_option maxRecDepth 100000
section
variable {n K tp : Nat} {μ σ R : Nat → Nat → Int32} {pl : List KP}
theorem LI.textF {a b : Int32} (h : LI n K tp μ σ pl) (hR : RK (zt μ) R) (hbo : BO R) : LI n K 0 (st1 (st1 (st1 R 0 2 (nI 0)) 0 23 a) 0 24 b) (st1 (st1 (st1 σ 0 1 (nI 0)) 0 2 a) 0 3 b) pl ∧ TE (zt μ) (st1 (st1 (st1 R 0 2 (nI 0)) 0 23 a) 0 24 b) := by
  have er : ∀ r, r ≠ 0 → st1 (st1 (st1 R 0 2 (nI 0)) 0 23 a) 0 24 b r = R r := fun r h0 => by rw [st1_ne h0, st1_ne h0, st1_ne h0]
  have eb : ∀ r, r = 1 ∨ r = 25 ∨ r = 26 → st1 (st1 (st1 R 0 2 (nI 0)) 0 23 a) 0 24 b r = μ r := fun r hr => by rw [er r (by omega), hR.1 r (by omega) (by omega) (by omega) (by omega), zt_r (by omega)]
  have ef : ∀ j, 24 < j → st1 (st1 (st1 R 0 2 (nI 0)) 0 23 a) 0 24 b 0 j = μ 0 j := fun j hj => by rw [st1_nj (by omega), st1_nj (by omega), st1_nj (by omega), hR.2.1 j (Or.inr (by omega)), zt_j (by omega)]
  have sr : ∀ r, r ≠ 0 → st1 (st1 (st1 σ 0 1 (nI 0)) 0 2 a) 0 3 b r = σ r := fun r h0 => by rw [st1_ne h0, st1_ne h0, st1_ne h0]
  have sf : ∀ j, 3 < j → st1 (st1 (st1 σ 0 1 (nI 0)) 0 2 a) 0 3 b 0 j = σ 0 j := fun j hj => by rw [st1_nj (by omega), st1_nj (by omega), st1_nj (by omega)]
  have hte : TE (zt μ) (st1 (st1 (st1 R 0 2 (nI 0)) 0 23 a) 0 24 b) := hR.2.2.tr (TE.of fun r hr => (er r (by omega)).symm)
  have r3 : ∀ j, j < 10 → st1 (st1 (st1 R 0 2 (nI 0)) 0 23 a) 0 24 b 3 j = μ 3 j := fun j hj => (hte.1 j hj).symm
  have rr : ∀ r, 5 ≤ r ∧ r ≤ 11 → ∀ k, k < 6 → st1 (st1 (st1 R 0 2 (nI 0)) 0 23 a) 0 24 b r k = μ r k := fun r hr k hk => (hte.2.1 r hr k hk).symm.trans (congrFun (zt_r (by omega)) k)
  have hn6 := h.n6
  obtain ⟨⟨hX, hls, hlo, h30, h31, h32, h33⟩, ⟨h25, hG⟩, ⟨k1, k2, k3, k4, k5⟩, ⟨i1, i2⟩, ⟨t1, t2, t3, t4, t5, t6⟩, f1, f2⟩ := h
  refine ⟨⟨⟨(hX.cg hte).cg (TE.of fun r hr => (zt_r (by omega)).symm), fun j hj => by rw [r3 _ (by omega)]; exact hls j hj, fun v hv => by rw [rr 8 (by decide) v (by omega), rr 9 (by decide) v (by omega)]; exact hlo v hv, ?_⟩, ⟨by rw [sr 1 (by decide), eb 25 (by decide)]; exact h25, by rw [r3 0 (by decide), eb 25 (by decide)]; exact hG⟩, ⟨by rw [ef _ (by decide)]; exact k1, by rw [sf _ (by decide)]; exact k2, k3, k4, by rw [eb 26 (by decide), r3 0 (by decide)]; exact k5⟩, ⟨by rw [sf _ (by decide), ef _ (by decide)]; exact i1, by rw [ef _ (by decide), sr 2 (by decide), eb 26 (by decide), r3 0 (by decide)]; exact i2⟩, ⟨?_, ?_, Nat.zero_le _, by rw [eb 1 (by decide)]; exact t4.cg (sr 9 (by decide)), t5.cg (eb 1 (by decide)), hbo.cg (er 13 (by decide))⟩, ?_, ?_⟩, hte⟩
  · unfold TO
    rw [ef _ (by decide), ef _ (by decide), ef _ (by decide), ef _ (by decide), r3 0 (by decide), r3 1 (by decide), r3 2 (by decide), r3 3 (by decide)]
    exact ⟨h30, h31, h32, h33⟩
  · rw [st1_nj (by decide), st1_nj (by decide), st1_eq]
  · rw [st1_nj (by decide), st1_nj (by decide), st1_eq]
  · rw [st1_nj (by decide), st1_eq, st1_nj (by decide), st1_eq]
  · rw [st1_eq, st1_eq]
/-- the reference behind a text read -/
def txG (R : Nat → Nat → Int32) (n : Nat) (a b : Int32) : Nat → Nat → Int32 := st1 (st1 (begS n (takeS (st1 (st1 (st1 R 0 2 (nI 0)) 0 23 a) 0 24 b))) 0 28 (nI 0)) 0 29 (nI 0)
variable {a b : Int32}
theorem txG_3 {j : Nat} (hj : j < 10) : txG R n a b 3 j = R 3 (10 + j) := by
  show tkR 10 (R 3) 10 j = _
  unfold tkR
  rw [if_pos hj]
theorem txG_r {r k : Nat} (hr : 5 ≤ r ∧ r ≤ 11) (hk : k < 6) : txG R n a b r k = R r (6 + k) := by
  have er : txG R n a b r = tkR 6 (R r) 6 := by
    obtain rfl | rfl | rfl | rfl | rfl | rfl | rfl : r = 5 ∨ r = 6 ∨ r = 7 ∨ r = 8 ∨ r = 9 ∨ r = 10 ∨ r = 11 := by omega
    all_goals rfl
  rw [er]
  unfold tkR
  rw [if_pos hk]
theorem txG_te : TE (takeS R) (txG R n a b) := TE.of fun r hr => by
  obtain rfl | rfl | rfl | rfl | rfl | rfl | rfl | rfl | rfl : r = 3 ∨ r = 5 ∨ r = 6 ∨ r = 7 ∨ r = 8 ∨ r = 9 ∨ r = 10 ∨ r = 11 ∨ r = 12 := by omega
  all_goals rfl
theorem txG_25 : txG R n a b 25 = bgF (takeS (st1 (st1 (st1 R 0 2 (nI 0)) 0 23 a) 0 24 b)) n 61 79 := rfl
theorem txG_13 {j : Nat} : txG R n a b 13 j = if j < 61 then R 13 (61 + j) else R 13 j := rfl
theorem tx_p (hn : n ≤ 6) : (∀ k, k < n → txG R n a b 25 k = R 10 (6 + k) ∧ txG R n a b 25 (6 + k) = R 7 (6 + k) ∧ txG R n a b 25 (73 + k) = if R 11 (6 + k) = 0 then nI 255 else R 11 (6 + k)) ∧ ∀ c, c < 61 → txG R n a b 25 (12 + c) = if c = 0 then nI 0 else if R 13 (61 + c) = 0 then nI 0 else nI 1 := by
  rw [txG_25]
  obtain ⟨S, hS⟩ : ∃ S, S = takeS (st1 (st1 (st1 R 0 2 (nI 0)) 0 23 a) 0 24 b) := ⟨_, rfl⟩
  have s10 : ∀ k, k < 6 → S 10 k = R 10 (6 + k) := fun k hk => by rw [hS]; show tkR 6 (R 10) 6 k = _; unfold tkR; rw [if_pos hk]
  have s7 : ∀ k, k < 6 → S 7 k = R 7 (6 + k) := fun k hk => by rw [hS]; show tkR 6 (R 7) 6 k = _; unfold tkR; rw [if_pos hk]
  have s11 : ∀ k, k < 6 → S 11 k = R 11 (6 + k) := fun k hk => by rw [hS]; show tkR 6 (R 11) 6 k = _; unfold tkR; rw [if_pos hk]
  have s13 : ∀ k, k < 61 → S 13 k = R 13 (61 + k) := fun k hk => by rw [hS]; show tkR 61 (R 13) 61 k = _; unfold tkR; rw [if_pos hk]
  rw [← hS]
  refine ⟨fun k hk => ⟨?_, ?_, ?_⟩, fun c hc => ?_⟩
  · unfold bgF
    rw [if_pos hk, s10 k (by omega)]
  · unfold bgF
    rw [if_neg (by omega), if_pos (by omega), Nat.add_sub_cancel_left, s7 k (by omega)]
  · unfold bgF
    rw [if_neg (by omega), if_neg (by omega), if_pos (by omega), Nat.add_sub_cancel_left, s11 k (by omega)]
  · unfold bgF
    rw [if_neg (by omega), if_neg (by omega), if_neg (by omega)]
    by_cases q : c = 0
    · rw [if_neg (by omega), if_pos (by omega), if_pos q]
    · rw [if_pos (by omega), if_neg q, Nat.add_sub_cancel_left, s13 c hc]
theorem frP_at {τ : Nat → Nat → Int32} {P bl : Nat → Int32} {m : Nat} (hn : n ≤ 6) : (∀ k, k < n → frP τ P bl n m k = τ 10 k ∧ frP τ P bl n m (6 + k) = τ 7 k ∧ frP τ P bl n m (73 + k) = if τ 11 k = 0 then nI 255 else τ 11 k) ∧ ∀ c, c < 61 → frP τ P bl n m (12 + c) = if blkB bl m c = true then nI 1 else nI 0 := by
  refine ⟨fun k hk => ⟨?_, ?_, ?_⟩, fun c hc => ?_⟩
  · unfold frP bkF zrF usF2
    rw [if_neg (by omega), if_neg (by omega), if_pos hk]
  · unfold frP bkF zrF usF2
    rw [if_neg (by omega), if_neg (by omega), if_neg (by omega), if_pos (by omega), Nat.add_sub_cancel_left]
  · unfold frP bkF zrF usF2
    rw [if_neg (by omega), if_neg (by omega), if_neg (by omega), if_neg (by omega), if_pos (by omega), Nat.add_sub_cancel_left]
  · unfold frP bkF
    rw [Nat.add_sub_cancel_left]
    by_cases q : blkB bl m c = true
    · rw [if_pos ⟨by omega, by omega, Or.inl q⟩, if_pos q]
    · rw [if_neg (fun z => z.2.2.elim q (fun y => absurd y.2 (Nat.not_lt_zero _))), if_neg q]
      unfold zrF
      rw [if_pos (by omega)]
theorem LI.textT {n2 N : Nat} {ρ : Nat → Nat → Int32} (h : LI n K tp μ σ pl) (hR : RK (zt μ) R) (hbo : BO R) (hz : R 0 21 = 0) (hRB : RB R) (hUB : UB R) (hBI : BIk R ρ) (hn2 : R 3 17 = nI n2) (hn6 : n2 ≤ 6) :
    (LI n2 0 0 (txG R n2 (R 0 21) (-1)) (upR (begX (takeS R) (txσ n (st1 (st1 (st1 σ 0 1 (nI 0)) 0 2 (nI 0)) 0 3 (-1)) ρ) n2) 1 (txG R n2 (R 0 21) (-1) 25)) (pl.map (rnK n)) ∧ TE (takeS R) (txG R n2 (R 0 21) (-1))) ∧ PE n2 (begX (takeS R) (txσ n (st1 (st1 (st1 σ 0 1 (nI 0)) 0 2 (nI 0)) 0 3 (-1)) ρ) n2 1) (txG R n2 (R 0 21) (-1) 25) := by
  obtain ⟨g1, g2⟩ := tx_p (R := R) (a := R 0 21) (b := -1) hn6
  have hX := xt_of hRB hn2 hn6
  have e10 : R 3 18 = takeS R 3 8 := ((txG_te (R := R) (n := n2) (a := R 0 21) (b := -1)).1 8 (by decide) |>.trans (txG_3 (j := 8) (by decide))).symm
  obtain ⟨⟨b1, b2, b3, b4, b5, b6, b7, b8⟩, hu, hl, hf, hy, hg⟩ := hRB
  rw [hn2, tN_nI (by omega)] at hu
  obtain ⟨u1, u13⟩ := hUB
  rw [hn2, tN_nI (by omega)] at u1
  have hB : txG R n2 (R 0 21) (-1) 3 0 = R 3 10 := txG_3 (by decide)
  have hPE : PE n2 (begX (takeS R) (txσ n (st1 (st1 (st1 σ 0 1 (nI 0)) 0 2 (nI 0)) 0 3 (-1)) ρ) n2 1) (txG R n2 (R 0 21) (-1) 25) := by
    show PE n2 (frP (takeS R) _ (ρ 31) n2 (tN (takeS R 3 8))) _
    obtain ⟨f1, f2⟩ := frP_at (τ := takeS R) (P := txσ n (st1 (st1 (st1 σ 0 1 (nI 0)) 0 2 (nI 0)) 0 3 (-1)) ρ 1) (bl := ρ 31) (m := tN (takeS R 3 8)) hn6
    have te := (txG_te (R := R) (n := n2) (a := R 0 21) (b := -1)).2.1
    have tr : ∀ r, 5 ≤ r ∧ r ≤ 11 → ∀ k, k < 6 → takeS R r k = R r (6 + k) := fun r hr k hk => (te r hr k hk).trans (txG_r hr hk)
    refine ⟨fun k hk => ⟨?_, ?_, ?_⟩, fun c hc => ?_⟩
    · rw [(f1 k hk).1, (g1 k hk).1, tr 10 (by decide) k (by omega)]
    · rw [(f1 k hk).2.1, (g1 k hk).2.1, tr 7 (by decide) k (by omega)]
    · rw [(f1 k hk).2.2, (g1 k hk).2.2, tr 11 (by decide) k (by omega)]
    · rw [f2 c hc, g2 c hc]
      have z := hBI.1 c hc
      rw [e10] at z
      by_cases q : blkB (ρ 31) (tN (takeS R 3 8)) c = true
      · rw [bI_t (P := blkB (ρ 31) (tN (takeS R 3 8)) c = true) q] at z
        rw [if_pos q, if_neg (fun y => by subst y; rw [u13] at z; exact absurd z (by decide)), z, if_neg (by decide)]
      · rw [bI_f (P := blkB (ρ 31) (tN (takeS R 3 8)) c = true) q] at z
        rw [if_neg q, z]
        split
        · rfl
        · rw [if_pos (by decide)]
  have hPG : PG n2 (tN (R 3 10)) (txG R n2 (R 0 21) (-1) 25) := by
    refine ⟨fun v hv => by rw [(g1 v hv).1]; exact (hu v hv).2.2.2.2.2.1, fun c hc => ?_, fun c hc hz => ?_, fun v hv => by rw [(g1 v hv).2.1]; exact (u1 v hv).1⟩
    · rw [g2 c hc]
      split
      · exact Or.inl rfl
      · split
        · exact Or.inl rfl
        · exact Or.inr rfl
    · rw [g2 c hc]
      rcases hz with hz | hz
      · rw [if_pos hz]
      · rw [hy c hc hz]
        split
        · rfl
        · rw [if_pos (by decide)]
  have e1 : txG R n2 (R 0 21) (-1) 1 = μ 1 := by
    show R 1 = μ 1
    rw [hR.1 1 (by decide) (by decide) (by decide) (by decide), zt_r (by decide)]
  obtain ⟨-, -, ⟨k1, k2, k3, k4, k5⟩, -, ⟨t1, t2, t3, t4, t5, t6⟩, -, -⟩ := h
  refine ⟨⟨⟨⟨hX.cg (txG_te.tr (TE.of fun r hr => (zt_r (by omega)).symm)), fun j hj => ?_, fun v hv => ?_, ⟨rfl, rfl, rfl, rfl⟩⟩, ⟨by rw [upR_eq], by rw [hB]; exact hPG⟩, ⟨rfl, rfl, Nat.zero_le _, by rw [List.length_map]; exact k4, fun k hk => absurd hk (Nat.not_lt_zero _)⟩, ⟨rfl, fun z => absurd rfl z⟩, ⟨rfl, rfl, Nat.zero_le _, ?_, t5.cg e1, fun j hj => ?_⟩, ?_, rfl⟩, txG_te⟩, hPE⟩
  · rw [txG_3 (by omega), show 10 + (4 + j) = 14 + j by omega]; exact hg j hj
  · rw [txG_r (by decide) (by omega), txG_r (by decide) (by omega)]; exact (u1 v hv).2
  · rw [e1]; exact t4.cg rfl
  · rw [txG_13]
    split
    · exact hbo _ (by omega)
    · exact hbo j hj
  · show nI 0 = R 0 21
    rw [hz]
    rfl
end
