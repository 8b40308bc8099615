/-! THE LAW: undo, keep, back, the tape -/
set_option maxRecDepth 100000
section
variable {n K tp : Nat} {μ σ : Nat → Nat → Int32} {pl : List KP}
theorem LI.gen {K2 : Nat} {μ2 σ2 : Nat → Nat → Int32} {pl2 : List KP} (h : LI n K tp μ σ pl) (hr : ∀ r, 1 ≤ r ∧ r ≤ 24 → μ2 r = μ r) (hf : ∀ j, 1 ≤ j ∧ j ≤ 40 → j ≠ 28 → j ≠ 29 → μ2 0 j = μ 0 j) (h9 : σ2 9 = σ 9) (h0 : ∀ j, j ≠ 9 → j ≠ 10 → j ≠ 13 → σ2 0 j = σ 0 j) (h25 : σ2 1 = μ2 25) (hG : PG n (tN (μ 3 0)) (μ2 25))
    (hk : μ2 0 28 = nI K2 ∧ σ2 0 9 = nI K2 ∧ K2 ≤ pl2.length ∧ pl2.length ≤ 20 ∧ ∀ k, k < K2 → PE n (rowK pl2 k) (fun j => μ2 26 (79 * k + j)) ∧ PG n (tN (μ 3 0)) (rowK pl2 k)) (hi : σ2 0 10 = μ2 0 29 ∧ (¬ μ2 0 29 = 0 → PE n (σ2 2) (fun j => μ2 26 (1580 + j)) ∧ PG n (tN (μ 3 0)) (σ2 2))) : LI n K2 tp μ2 σ2 pl2 ∧ TE (zt μ) μ2 := by
  have hte : TE (zt μ) μ2 := TE.of fun r h9 => (zt_r (by omega)).trans (hr r (by omega)).symm
  obtain ⟨⟨hX, hls, hlo, h30, h31, h32, h33⟩, ⟨-, -⟩, -, -, ⟨t1, t2, t3, t4, t5, t6⟩, f1, f2⟩ := h
  have r3 := hr 3 (by decide)
  refine ⟨⟨⟨(hX.cg hte).cg (TE.of fun r hr => (zt_r (by omega)).symm), by rw [r3]; exact hls, by rw [hr 8 (by decide), hr 9 (by decide)]; exact hlo, ?_⟩, ⟨h25, by rw [r3]; exact hG⟩, by rw [r3]; exact hk, by rw [r3]; exact hi, ⟨by rw [hf _ (by decide) (by decide) (by decide)]; exact t1, by rw [h0 _ (by decide) (by decide) (by decide)]; exact t2, t3, by rw [hr 1 (by decide)]; exact t4.cg h9, t5.cg (hr 1 (by decide)), t6.cg (hr 13 (by decide))⟩, by rw [h0 _ (by decide) (by decide) (by decide), hf _ (by decide) (by decide) (by decide)]; exact f1, by rw [h0 _ (by decide) (by decide) (by decide), hf _ (by decide) (by decide) (by decide)]; exact f2⟩, hte⟩
  unfold TO
  rw [r3, hf _ (by decide) (by decide) (by decide), hf _ (by decide) (by decide) (by decide), hf _ (by decide) (by decide) (by decide), hf _ (by decide) (by decide) (by decide)]
  exact ⟨h30, h31, h32, h33⟩
theorem back_25 {s : Nat → Nat → Int32} {k j : Nat} (hj : j < 79) : backF s k 25 j = s 26 (79 * k + j) := by
  unfold backF
  rw [upR_eq]
  unfold va_cpy
  rw [if_pos ⟨Nat.zero_le _, by omega⟩, Nat.sub_zero]
theorem back_r {s : Nat → Nat → Int32} {k r : Nat} (h : r ≠ 25) : backF s k r = s r := by unfold backF; rw [upR_ne h]
theorem LI.undo {J : Nat → Int32} (h : LI n K tp μ σ pl) (hK : K ≠ 0) : (LI n (K - 1) tp (backF (st1 (zt μ) 0 28 (nI (K - 1))) (K - 1)) (upR (upR (upR (st1 σ 0 9 (nI (K - 1))) 1 (rowK pl (K - 1))) 5 J) 1 (backF (st1 (zt μ) 0 28 (nI (K - 1))) (K - 1) 25)) pl ∧ TE (zt μ) (backF (st1 (zt μ) 0 28 (nI (K - 1))) (K - 1))) ∧ PE n (upR (upR (st1 σ 0 9 (nI (K - 1))) 1 (rowK pl (K - 1))) 5 J 1) (backF (st1 (zt μ) 0 28 (nI (K - 1))) (K - 1) 25) := by
  obtain ⟨a1, a2⟩ := h.2.2.1.2.2.2.2 (K - 1) (by omega)
  have e26 : ∀ j, j < 79 → backF (st1 (zt μ) 0 28 (nI (K - 1))) (K - 1) 25 j = μ 26 (79 * (K - 1) + j) := fun j hj => by rw [back_25 hj, st1_ne (by decide), zt_r (by decide)]
  have hPE : PE n (rowK pl (K - 1)) (backF (st1 (zt μ) 0 28 (nI (K - 1))) (K - 1) 25) := a1.tr (PE.of79 h.n6 (fun j hj => (e26 j hj).symm))
  have er : ∀ r, r ≠ 0 → r ≠ 25 → backF (st1 (zt μ) 0 28 (nI (K - 1))) (K - 1) r = μ r := fun r h0 h5 => by rw [back_r h5, st1_ne h0, zt_r h0]
  have ef : ∀ j, j ≠ 0 → j ≠ 28 → backF (st1 (zt μ) 0 28 (nI (K - 1))) (K - 1) 0 j = μ 0 j := fun j h0 h5 => by rw [back_r (by decide), st1_nj h5, zt_j h0]
  refine ⟨h.gen (fun r hr => er r (by omega) (by omega)) (fun j hj h8 _ => ef j (by omega) h8) (by rw [upR_ne (by decide), upR_ne (by decide), upR_ne (by decide), st1_ne (by decide)]) (fun j h9 _ _ => by rw [upR_ne (by decide), upR_ne (by decide), upR_ne (by decide), st1_nj h9]) (by rw [upR_eq]) (a2.cg hPE) ⟨by rw [back_r (by decide), st1_eq], by rw [upR_ne (by decide), upR_ne (by decide), upR_ne (by decide), st1_eq], by have := h.2.2.1.2.2.1; omega, h.2.2.1.2.2.2.1, fun k hk => ?_⟩ ⟨?_, fun z => ?_⟩, ?_⟩
  · rw [er 26 (by decide) (by decide)]; exact h.2.2.1.2.2.2.2 k (by omega)
  · rw [upR_ne (by decide), upR_ne (by decide), upR_ne (by decide), st1_nj (by decide), ef 29 (by decide) (by decide)]; exact h.2.2.2.1.1
  · rw [ef 29 (by decide) (by decide)] at z
    rw [upR_ne (by decide), upR_ne (by decide), upR_ne (by decide), st1_ne (by decide), er 26 (by decide) (by decide)]
    exact h.2.2.2.1.2 z
  · rw [upR_ne (by decide), upR_eq]; exact hPE
theorem LI.keep (h : LI n K tp μ σ pl) : LI n K tp (st1 (layF (zt μ) 20) 0 29 (nI 1)) (st1 (likS 1 0 σ) 0 10 (nI 1)) pl ∧ TE (zt μ) (st1 (layF (zt μ) 20) 0 29 (nI 1)) := by
  have er : ∀ r, r ≠ 0 → r ≠ 26 → st1 (layF (zt μ) 20) 0 29 (nI 1) r = μ r := fun r h0 h5 => by rw [st1_ne h0]; unfold layF; rw [upR_ne h5, zt_r h0]
  have ef : ∀ j, j ≠ 0 → j ≠ 29 → st1 (layF (zt μ) 20) 0 29 (nI 1) 0 j = μ 0 j := fun j h0 h5 => by rw [st1_nj h5]; unfold layF; rw [upR_ne (by decide), zt_j h0]
  have e26 : ∀ j, st1 (layF (zt μ) 20) 0 29 (nI 1) 26 j = if 1580 ≤ j ∧ j < 1659 then μ 25 (j - 1580) else μ 26 j := fun j => by rw [st1_ne (by decide), lay_26, zt_r (by decide), zt_r (by decide)]
  have s1 : ∀ r, r ≠ 0 → r ≠ 2 → r ≠ 6 → st1 (likS 1 0 σ) 0 10 (nI 1) r = σ r := fun r h0 h2 h6 => by rw [st1_ne h0]; unfold likS; rw [upR_ne (by omega), upR_ne (by omega)]
  have s2 : st1 (likS 1 0 σ) 0 10 (nI 1) 2 = σ 1 := by rw [st1_ne (by decide)]; unfold likS; rw [upR_ne (by decide), upR_eq]
  have s0 : ∀ j, j ≠ 10 → st1 (likS 1 0 σ) 0 10 (nI 1) 0 j = σ 0 j := fun j hj => by rw [st1_nj hj]; unfold likS; rw [upR_ne (by decide), upR_ne (by decide)]
  have hK20 := h.k20
  refine h.gen (fun r hr => er r (by omega) (by omega)) (fun j hj _ h9 => ef j (by omega) h9) (s1 9 (by decide) (by decide) (by decide)) (fun j _ h10 _ => s0 j h10) (by rw [s1 1 (by decide) (by decide) (by decide), er 25 (by decide) (by decide)]; exact h.2.1.1) (by rw [er 25 (by decide) (by decide)]; exact h.2.1.2) ⟨by rw [ef _ (by decide) (by decide)]; exact h.2.2.1.1, by rw [s0 _ (by decide)]; exact h.2.2.1.2.1, h.2.2.1.2.2.1, h.2.2.1.2.2.2.1, fun k hk => ?_⟩ ⟨by rw [st1_eq, st1_eq], fun _ => ?_⟩
  · refine ⟨(h.2.2.1.2.2.2.2 k hk).1.tr (PE.of79 h.n6 (fun j hj => by rw [e26, if_neg (by omega)])), (h.2.2.1.2.2.2.2 k hk).2⟩
  · rw [s2, h.2.1.1]
    exact ⟨PE.of79 h.n6 (fun j hj => by rw [e26, if_pos (by omega), Nat.add_sub_cancel_left]), h.2.1.2⟩
theorem LI.back (h : LI n K tp μ σ pl) (hi : ¬ μ 0 29 = 0) : (LI n 0 tp (st1 (backF (zt μ) 20) 0 28 (nI 0)) (upR (st1 (likS 0 1 σ) 0 9 (nI 0)) 1 (st1 (backF (zt μ) 20) 0 28 (nI 0) 25)) pl ∧ TE (zt μ) (st1 (backF (zt μ) 20) 0 28 (nI 0))) ∧ PE n (st1 (likS 0 1 σ) 0 9 (nI 0) 1) (st1 (backF (zt μ) 20) 0 28 (nI 0) 25) := by
  obtain ⟨i1, i2⟩ := h.2.2.2.1.2 hi
  have e25 : ∀ j, j < 79 → st1 (backF (zt μ) 20) 0 28 (nI 0) 25 j = μ 26 (1580 + j) := fun j hj => by rw [st1_ne (by decide), back_25 hj, zt_r (by decide)]
  have hPE : PE n (σ 2) (st1 (backF (zt μ) 20) 0 28 (nI 0) 25) := i1.tr (PE.of79 h.n6 (fun j hj => (e25 j hj).symm))
  have er : ∀ r, r ≠ 0 → r ≠ 25 → st1 (backF (zt μ) 20) 0 28 (nI 0) r = μ r := fun r h0 h5 => by rw [st1_ne h0, back_r h5, zt_r h0]
  have ef : ∀ j, j ≠ 0 → j ≠ 28 → st1 (backF (zt μ) 20) 0 28 (nI 0) 0 j = μ 0 j := fun j h0 h5 => by rw [st1_nj h5, back_r (by decide), zt_j h0]
  have s1 : ∀ r, r ≠ 0 → r ≠ 1 → r ≠ 5 → st1 (likS 0 1 σ) 0 9 (nI 0) r = σ r := fun r h0 h2 h6 => by rw [st1_ne h0]; unfold likS; rw [upR_ne (by omega), upR_ne (by omega)]
  have s2 : st1 (likS 0 1 σ) 0 9 (nI 0) 1 = σ 2 := by rw [st1_ne (by decide)]; unfold likS; rw [upR_ne (by decide), upR_eq]
  have s0 : ∀ j, j ≠ 9 → st1 (likS 0 1 σ) 0 9 (nI 0) 0 j = σ 0 j := fun j hj => by rw [st1_nj hj]; unfold likS; rw [upR_ne (by decide), upR_ne (by decide)]
  refine ⟨h.gen (fun r hr => er r (by omega) (by omega)) (fun j hj h8 _ => ef j (by omega) h8) (by rw [upR_ne (by decide), s1 9 (by decide) (by decide) (by decide)]) (fun j h9 _ _ => by rw [upR_ne (by decide), s0 j h9]) (by rw [upR_eq]) (i2.cg hPE) ⟨by rw [st1_eq], by rw [upR_ne (by decide), st1_eq], Nat.zero_le _, h.2.2.1.2.2.2.1, fun k hk => absurd hk (Nat.not_lt_zero _)⟩ ⟨by rw [upR_ne (by decide), s0 _ (by decide), ef _ (by decide) (by decide)]; exact h.2.2.2.1.1, fun z => ?_⟩, by rw [s2]; exact hPE⟩
  rw [upR_ne (by decide), s1 2 (by decide) (by decide) (by decide), er 26 (by decide) (by decide)]
  exact ⟨i1, i2⟩
theorem and_nI (x : Int32) {q : Nat} (hq : q < 2 ^ 31) : ∃ m, m ≤ q ∧ x &&& nI q = nI m := by
  refine ⟨x.toBitVec.toNat &&& q, Nat.and_le_right, ?_⟩
  have hle : x.toBitVec.toNat &&& q ≤ q := Nat.and_le_right
  apply Int32.toBitVec_inj.mp
  rw [Int32.toBitVec_and]
  apply BitVec.eq_of_toNat_eq
  rw [BitVec.toNat_and]
  show _ &&& (BitVec.ofNat 32 q).toNat = (BitVec.ofNat 32 (x.toBitVec.toNat &&& q)).toNat
  rw [BitVec.toNat_ofNat, BitVec.toNat_ofNat, Nat.mod_eq_of_lt (by omega), Nat.mod_eq_of_lt (by omega)]
theorem LI.feed {a b c d e : Int32} (h : LI n K tp μ σ pl) (hp : ¬ 680 < tp) : LI n K (tp + 20) (feedS (zt μ) tp a b c d e) (feedX σ tp a b c d e) pl ∧ TE (zt μ) (feedS (zt μ) tp a b c d e) := by
  have er : ∀ r, r ≠ 0 → r ≠ 1 → feedS (zt μ) tp a b c d e r = μ r := fun r h0 h1 => by unfold feedS; rw [st1_ne h0, upR_ne h1, zt_r h0]
  have ef : ∀ j, j ≠ 0 → j ≠ 2 → feedS (zt μ) tp a b c d e 0 j = μ 0 j := fun j h0 h1 => by unfold feedS; rw [st1_nj h1, upR_ne (by decide), zt_j h0]
  have e1 : ∀ j, feedS (zt μ) tp a b c d e 1 j = if tp ≤ j ∧ j < tp + 20 then byteOf a b c d e (j - tp) else μ 1 j := fun j => by unfold feedS; rw [st1_ne (by decide), upR_eq]; unfold fedF; rw [zt_r (by decide)]
  have sr : ∀ r, r ≠ 0 → r ≠ 9 → feedX σ tp a b c d e r = σ r := fun r h0 h1 => by unfold feedX; rw [st1_ne h0, upR_ne h1]
  have sf : ∀ j, j ≠ 1 → feedX σ tp a b c d e 0 j = σ 0 j := fun j h1 => by unfold feedX; rw [st1_nj h1, upR_ne (by decide)]
  have s9 : ∀ j, feedX σ tp a b c d e 9 j = if tp ≤ j ∧ j < tp + 20 then byteW a b c d e (j - tp) else σ 9 j := fun j => by unfold feedX; rw [st1_ne (by decide), upR_eq]; rfl
  have hb : ∀ k, In (byteOf a b c d e k) 256 ∧ byteW a b c d e k &&& nI 255 = byteOf a b c d e k := fun k => by
    obtain ⟨m, hm, he⟩ := and_nI ((if k < 4 then a else if k < 8 then b else if k < 12 then c else if k < 16 then d else e) >>> ((nI 24 - nI 8 * nI (k % 4)) &&& 31)) (q := 255) (by decide)
    refine ⟨?_, byte_and _⟩
    unfold byteOf
    rw [he]
    exact In.of (by omega) (by decide)
  have hte : TE (zt μ) (feedS (zt μ) tp a b c d e) := TE.of fun r h9 => (zt_r (by omega)).trans (er r (by omega) (by omega)).symm
  obtain ⟨⟨hX, hls, hlo, h30, h31, h32, h33⟩, ⟨h25, hG⟩, ⟨k1, k2, k3, k4, k5⟩, ⟨i1, i2⟩, ⟨t1, t2, t3, t4, t5, t6⟩, f1, f2⟩ := h
  have r3 := er 3 (by decide) (by decide)
  refine ⟨⟨⟨(hX.cg hte).cg (TE.of fun r hr => (zt_r (by omega)).symm), by rw [r3]; exact hls, by rw [er 8 (by decide) (by decide), er 9 (by decide) (by decide)]; exact hlo, ?_⟩, ⟨by rw [sr 1 (by decide) (by decide), er 25 (by decide) (by decide)]; exact h25, by rw [r3, er 25 (by decide) (by decide)]; exact hG⟩, ⟨by rw [ef _ (by decide) (by decide)]; exact k1, by rw [sf _ (by decide)]; exact k2, k3, k4, by rw [er 26 (by decide) (by decide), r3]; exact k5⟩, ⟨by rw [sf _ (by decide), ef _ (by decide) (by decide)]; exact i1, by rw [ef _ (by decide) (by decide), sr 2 (by decide) (by decide), er 26 (by decide) (by decide), r3]; exact i2⟩, ⟨by unfold feedS; rw [st1_eq], by unfold feedX; rw [st1_eq], by omega, fun k hk => ?_, fun k hk => ?_, t6.cg (er 13 (by decide) (by decide))⟩, by rw [sf _ (by decide), ef _ (by decide) (by decide)]; exact f1, by rw [sf _ (by decide), ef _ (by decide) (by decide)]; exact f2⟩, hte⟩
  · unfold TO
    rw [r3, ef _ (by decide) (by decide), ef _ (by decide) (by decide), ef _ (by decide) (by decide), ef _ (by decide) (by decide)]
    exact ⟨h30, h31, h32, h33⟩
  · rw [e1, s9]
    by_cases q : tp ≤ k ∧ k < tp + 20
    · rw [if_pos q, if_pos q]; exact ⟨(hb _).2, (hb _).1⟩
    · rw [if_neg q, if_neg q]; exact t4 k hk
  · rw [e1]
    by_cases q : tp ≤ k ∧ k < tp + 20
    · rw [if_pos q]; exact (hb _).1
    · rw [if_neg q]; exact t5 k hk
end
