/-! A READER's line: the law -/
set_option maxRecDepth 100000
def kq (v : Nat) : Nat := ([0, 1, 2, 3, 4, 10, 5, 6, 7, 8, 9] : List Nat).getD v 0
theorem kq_kp : ∀ x, x < 11 → kq (kp x) = x ∧ kp x < 11 := by decide +kernel
theorem ln_0 {n : Nat} {s : Nat → Nat → Int32} (h19 : s 0 19 = 0) (h20 : s 0 20 = nI 0) : lnW n s = readBandS s := by
  unfold lnW
  rw [if_neg (fun h => h h19), h20, if_pos (show (nI 0 : Int32) = 0 from rfl)]
theorem ln_1 {n : Nat} {s : Nat → Nat → Int32} (h19 : s 0 19 = 0) (h20 : s 0 20 = nI 1) : lnW n s = readOnceS 1 1 (nI 0) (nI 5) s := by
  unfold lnW
  rw [if_neg (fun h => h h19), h20, if_neg (show ¬ (nI 1 : Int32) = 0 by decide), if_pos (show (nI 1 : Int32) = nI 1 from rfl)]
theorem ln_2 {n : Nat} {s : Nat → Nat → Int32} (h19 : s 0 19 = 0) (h20 : s 0 20 = nI 2) : lnW n s = readOnceS 2 2 (nI 1) (nI 20) s := by
  unfold lnW
  rw [if_neg (fun h => h h19), h20, if_neg (show ¬ (nI 2 : Int32) = 0 by decide), if_neg (show ¬ (nI 2 : Int32) = nI 1 by decide), if_pos (show (nI 2 : Int32) = nI 2 from rfl)]
theorem ln_3 {n : Nat} {s : Nat → Nat → Int32} (h19 : s 0 19 = 0) (h20 : s 0 20 = nI 3) : lnW n s = readOnceS 3 3 (nI 0) (nI 7) s := by
  unfold lnW
  rw [if_neg (fun h => h h19), h20, if_neg (show ¬ (nI 3 : Int32) = 0 by decide), if_neg (show ¬ (nI 3 : Int32) = nI 1 by decide), if_neg (show ¬ (nI 3 : Int32) = nI 2 by decide), if_pos (show (nI 3 : Int32) = nI 3 from rfl)]
theorem ln_4 {n : Nat} {s : Nat → Nat → Int32} (h19 : s 0 19 = 0) (h20 : s 0 20 = nI 4) : lnW n s = readLossS s := by
  unfold lnW
  rw [if_neg (fun h => h h19), h20, if_neg (show ¬ (nI 4 : Int32) = 0 by decide), if_neg (show ¬ (nI 4 : Int32) = nI 1 by decide), if_neg (show ¬ (nI 4 : Int32) = nI 2 by decide), if_neg (show ¬ (nI 4 : Int32) = nI 3 by decide), if_pos (show (nI 4 : Int32) = nI 4 from rfl)]
theorem ln_5 {n : Nat} {s : Nat → Nat → Int32} (h19 : s 0 19 = 0) (h20 : s 0 20 = nI 5) : lnW n s = readUserS n s := by
  unfold lnW
  rw [if_neg (fun h => h h19), h20, if_neg (show ¬ (nI 5 : Int32) = 0 by decide), if_neg (show ¬ (nI 5 : Int32) = nI 1 by decide), if_neg (show ¬ (nI 5 : Int32) = nI 2 by decide), if_neg (show ¬ (nI 5 : Int32) = nI 3 by decide), if_neg (show ¬ (nI 5 : Int32) = nI 4 by decide), if_pos (show (nI 5 : Int32) = nI 5 from rfl)]
theorem ln_6 {n : Nat} {s : Nat → Nat → Int32} (h19 : s 0 19 = 0) (h20 : s 0 20 = nI 6) : lnW n s = readFixedS n s := by
  unfold lnW
  rw [if_neg (fun h => h h19), h20, if_neg (show ¬ (nI 6 : Int32) = 0 by decide), if_neg (show ¬ (nI 6 : Int32) = nI 1 by decide), if_neg (show ¬ (nI 6 : Int32) = nI 2 by decide), if_neg (show ¬ (nI 6 : Int32) = nI 3 by decide), if_neg (show ¬ (nI 6 : Int32) = nI 4 by decide), if_neg (show ¬ (nI 6 : Int32) = nI 5 by decide), if_pos (show (nI 6 : Int32) = nI 6 from rfl)]
theorem ln_7 {n : Nat} {s : Nat → Nat → Int32} (h19 : s 0 19 = 0) (h20 : s 0 20 = nI 7) : lnW n s = readBlockS s := by
  unfold lnW
  rw [if_neg (fun h => h h19), h20, if_neg (show ¬ (nI 7 : Int32) = 0 by decide), if_neg (show ¬ (nI 7 : Int32) = nI 1 by decide), if_neg (show ¬ (nI 7 : Int32) = nI 2 by decide), if_neg (show ¬ (nI 7 : Int32) = nI 3 by decide), if_neg (show ¬ (nI 7 : Int32) = nI 4 by decide), if_neg (show ¬ (nI 7 : Int32) = nI 5 by decide), if_neg (show ¬ (nI 7 : Int32) = nI 6 by decide), if_pos (show (nI 7 : Int32) = nI 7 from rfl)]
theorem ln_8 {n : Nat} {s : Nat → Nat → Int32} (h19 : s 0 19 = 0) (h20 : s 0 20 = nI 8) : lnW n s = readLinkS s := by
  unfold lnW
  rw [if_neg (fun h => h h19), h20, if_neg (show ¬ (nI 8 : Int32) = 0 by decide), if_neg (show ¬ (nI 8 : Int32) = nI 1 by decide), if_neg (show ¬ (nI 8 : Int32) = nI 2 by decide), if_neg (show ¬ (nI 8 : Int32) = nI 3 by decide), if_neg (show ¬ (nI 8 : Int32) = nI 4 by decide), if_neg (show ¬ (nI 8 : Int32) = nI 5 by decide), if_neg (show ¬ (nI 8 : Int32) = nI 6 by decide), if_neg (show ¬ (nI 8 : Int32) = nI 7 by decide), if_pos (show (nI 8 : Int32) = nI 8 from rfl)]
theorem ln_9 {n : Nat} {s : Nat → Nat → Int32} (h19 : s 0 19 = 0) (h20 : s 0 20 = nI 9) : lnW n s = readSlotsS n s := by
  unfold lnW
  rw [if_neg (fun h => h h19), h20, if_neg (show ¬ (nI 9 : Int32) = 0 by decide), if_neg (show ¬ (nI 9 : Int32) = nI 1 by decide), if_neg (show ¬ (nI 9 : Int32) = nI 2 by decide), if_neg (show ¬ (nI 9 : Int32) = nI 3 by decide), if_neg (show ¬ (nI 9 : Int32) = nI 4 by decide), if_neg (show ¬ (nI 9 : Int32) = nI 5 by decide), if_neg (show ¬ (nI 9 : Int32) = nI 6 by decide), if_neg (show ¬ (nI 9 : Int32) = nI 7 by decide), if_neg (show ¬ (nI 9 : Int32) = nI 8 by decide), if_pos (show (nI 9 : Int32) = nI 9 from rfl)]
theorem ln_10 {n : Nat} {s : Nat → Nat → Int32} (h19 : s 0 19 = 0) (h20 : s 0 20 = nI 10) : lnW n s = readOnceS 10 9 (nI 0) (nI 99999) s := by
  unfold lnW
  rw [if_neg (fun h => h h19), h20, if_neg (show ¬ (nI 10 : Int32) = 0 by decide), if_neg (show ¬ (nI 10 : Int32) = nI 1 by decide), if_neg (show ¬ (nI 10 : Int32) = nI 2 by decide), if_neg (show ¬ (nI 10 : Int32) = nI 3 by decide), if_neg (show ¬ (nI 10 : Int32) = nI 4 by decide), if_neg (show ¬ (nI 10 : Int32) = nI 5 by decide), if_neg (show ¬ (nI 10 : Int32) = nI 6 by decide), if_neg (show ¬ (nI 10 : Int32) = nI 7 by decide), if_neg (show ¬ (nI 10 : Int32) = nI 8 by decide), if_neg (show ¬ (nI 10 : Int32) = nI 9 by decide)]
theorem band_1 {s : Nat → Nat → Int32} (h0 : s 0 21 = 0) (h : ¬ s 0 14 = 0) : readBandS s 0 21 = nI 1 ∧ readBandS s 0 22 = s 0 18 ∧ ¬ readBandS s 0 21 = 0 := by
  have e : readBandS s = readOnceS 0 0 (nI 4) (nI 60) (wrongS (nI 1) s) := by unfold readBandS; rw [if_neg h]
  have k := (Re.readOnce (s := wrongS (nI 1) s) (k := 0) (f := 0) (lo := nI 4) (hi := nI 60)).1 (wr_ne h0 (by decide))
  rw [e, k.1, k.2, (wr_two h0).1, (wr_two h0).2]
  exact ⟨rfl, rfl, by decide⟩
theorem band_ok {s : Nat → Nat → Int32} (h : s 0 14 = 0) : readBandS s = readOnceS 0 0 (nI 4) (nI 60) s := by unfold readBandS; rw [if_pos h]
theorem once_3 {s : Nat → Nat → Int32} {k : Nat} (h0 : s 0 21 = 0) (h : ¬ s 4 k = 0) : onceS k s 0 21 = nI 3 ∧ onceS k s 0 22 = s 0 18 ∧ ¬ onceS k s 0 21 = 0 := by
  have e : onceS k s = st1 (wrongS (nI 3) s) 4 k (nI 1) := by unfold onceS; rw [if_neg h, goOnS_1 (by rw [st1_ne (by decide)]; exact wr_ne h0 (by decide))]
  rw [e, st1_ne (by decide), (wr_two h0).1, (wr_two h0).2]
  exact ⟨rfl, rfl, by decide⟩
theorem ro_3 {s : Nat → Nat → Int32} {k f : Nat} {lo hi : Int32} (h0 : s 0 21 = 0) (h : ¬ s 4 k = 0) : readOnceS k f lo hi s 0 21 = nI 3 ∧ readOnceS k f lo hi s 0 22 = s 0 18 ∧ ¬ readOnceS k f lo hi s 0 21 = 0 := by
  obtain ⟨a, b, c⟩ := once_3 h0 h
  have q := (Re.rd (s := onceS k s) (f := f) (lo := lo) (hi := hi)).1 c
  unfold readOnceS
  rw [q.1, q.2, a, b]
  exact ⟨rfl, rfl, by decide⟩
theorem loss_3 {s : Nat → Nat → Int32} (h0 : s 0 21 = 0) (h : ¬ s 4 4 = 0) : readLossS s 0 21 = nI 3 ∧ readLossS s 0 22 = s 0 18 ∧ ¬ readLossS s 0 21 = 0 := by
  obtain ⟨a, b, c⟩ := once_3 h0 h
  have q := (Re.lossIt (s := onceS 4 s) 3).1 c
  unfold readLossS
  rw [q.1, q.2, a, b]
  exact ⟨rfl, rfl, by decide⟩
theorem once_ok {s : Nat → Nat → Int32} {k : Nat} (h0 : s 0 21 = 0) (h : s 4 k = 0) : onceS k s = tokS (st1 s 4 k (nI 1)) := by
  unfold onceS
  rw [if_pos h, goOnS_0 (by rw [st1_ne (by decide)]; exact h0)]
theorem rd_0 {f j : Nat} {lo hi : Int32} {w : Nat → Nat → Int32} : rdS f lo hi w 0 j = numS lo hi w 0 j := by unfold rdS; rw [st1_ne (by decide)]
theorem ro_n {s w : Nat → Nat → Int32} {k f j : Nat} {lo hi : Int32} (e : onceS k s = w) : readOnceS k f lo hi s 0 j = numS lo hi w 0 j := by unfold readOnceS; rw [e, rd_0]
theorem ro_of {s w : Nat → Nat → Int32} {k f : Nat} {lo hi : Int32} (e : onceS k s = w) : readOnceS k f lo hi s = st1 (numS lo hi w) 3 (10 + f) (numV lo hi w) := by unfold readOnceS; rw [e]; rfl
theorem lossIt_f {w : Nat → Nat → Int32} {k : Nat} (h : ¬ lossIt w k 0 21 = 0) : ∀ d, lossIt w (k + d) 0 21 = lossIt w k 0 21 ∧ lossIt w (k + d) 0 22 = lossIt w k 0 22
  | 0 => ⟨rfl, rfl⟩
  | d + 1 => by
    have ih := lossIt_f h d
    have q := (Re.rd (s := lossIt w (k + d)) (f := 4 + (k + d)) (lo := nI 0) (hi := nI 99)).1 (by rw [ih.1]; exact h)
    exact ⟨q.1.trans ih.1, q.2.trans ih.2⟩
theorem loss_n {s w : Nat → Nat → Int32} {k : Nat} (e : onceS 4 s = w) (hk : k < 3) (h : ¬ numS (nI 0) (nI 99) (lossIt w k) 0 21 = 0) : readLossS s 0 21 = numS (nI 0) (nI 99) (lossIt w k) 0 21 ∧ readLossS s 0 22 = numS (nI 0) (nI 99) (lossIt w k) 0 22 ∧ ¬ readLossS s 0 21 = 0 := by
  have e1 : ∀ j, lossIt w (k + 1) 0 j = numS (nI 0) (nI 99) (lossIt w k) 0 j := fun j => rd_0
  have q := lossIt_f (w := w) (k := k + 1) (by rw [e1]; exact h) (2 - k)
  rw [show k + 1 + (2 - k) = 3 by omega, e1, e1] at q
  unfold readLossS
  rw [e, q.1, q.2]
  exact ⟨rfl, rfl, h⟩
theorem loss_s {w : Nat → Nat → Int32} {k : Nat} : lossIt w (k + 1) = st1 (numS (nI 0) (nI 99) (lossIt w k)) 3 (10 + (4 + k)) (numV (nI 0) (nI 99) (lossIt w k)) := rfl
/-- what is told of what may be told once -/
def BIb (s σ : Nat → Nat → Int32) : Prop := ∃ b, b < 64 ∧ σ 0 30 = nI b ∧ ∀ v, v < 6 → (bit b v = 0 ↔ s 4 (kq v) = 0)
theorem told_or0 : ∀ v, v < 6 → ∀ b, b < 64 → (¬ bit b v = 0 ∨ (nI b ||| (nI 1 <<< (nI v &&& 31)) = nI (b + 2 ^ v) ∧ b + 2 ^ v < 64 ∧ ∀ u, u < 6 → (bit (b + 2 ^ v) u = 0 ↔ bit b u = 0 ∧ u ≠ v))) := by decide +kernel
theorem told_or {v : Nat} (hv : v < 6) {b : Nat} (hb : b < 64) (h : bit b v = 0) : nI b ||| (nI 1 <<< (nI v &&& 31)) = nI (b + 2 ^ v) ∧ b + 2 ^ v < 64 ∧ ∀ u, u < 6 → (bit (b + 2 ^ v) u = 0 ↔ bit b u = 0 ∧ u ≠ v) := (told_or0 v hv b hb).resolve_left (fun z => z h)
theorem kq_uni : ∀ v, v < 6 → ∀ u, u < 6 → kq u = kq v → u = v := by decide +kernel
theorem BIb.cg {s σ s2 σ2 : Nat → Nat → Int32} (h : BIb s σ) (e : s2 4 = s 4) (k : σ2 0 30 = σ 0 30) : BIb s2 σ2 := by unfold BIb; rw [e, k]; exact h
theorem BIb.one {s σ : Nat → Nat → Int32} {v : Nat} (h : BIb s σ) (hv : v < 6) : (σ 0 30 >>> (nI v &&& 31)) &&& nI 1 = bI (¬ s 4 (kq v) = 0) := by
  obtain ⟨b, hb, e, k⟩ := h
  rw [e, bit_at v (by omega) b (by omega)]
  rcases bit_01 b v with q | q
  · rw [q, bI_f (P := ¬ s 4 (kq v) = 0) (fun z => z ((k v hv).mp q))]
  · rw [q, bI_t (P := ¬ s 4 (kq v) = 0) (fun z => by have := (k v hv).mpr z; omega)]
theorem BIb.put {s σ s2 σ2 : Nat → Nat → Int32} {v : Nat} (h : BIb s σ) (hv : v < 6) (hz : s 4 (kq v) = 0) (e : s2 4 = upd (s 4) (kq v) (nI 1)) (k : σ2 0 30 = σ 0 30 ||| (nI 1 <<< (nI v &&& 31))) : BIb s2 σ2 := by
  obtain ⟨b, hb, e0, k0⟩ := h
  obtain ⟨a1, a2, a3⟩ := told_or hv hb ((k0 v hv).mpr hz)
  refine ⟨b + 2 ^ v, a2, by rw [k, e0, a1], fun u hu => ?_⟩
  rw [a3 u hu, e]
  unfold upd
  by_cases q : u = v
  · subst q; rw [if_pos rfl]; exact ⟨fun z => absurd rfl z.2, fun z => absurd z (by decide)⟩
  · rw [if_neg (fun z => q (kq_uni v hv u hu z)), k0 u hu]
    exact ⟨fun z => z.1, fun z => ⟨z, q⟩⟩
/-- the blocks told, by both -/
def BIk (s σ : Nat → Nat → Int32) : Prop := (∀ c, c < 61 → s 13 (61 + c) = bI (blkB (σ 31) (tN (s 3 18)) c = true)) ∧ ∀ k, k < tN (s 3 18) → In (σ 31 (2 * k)) 61 ∧ In (σ 31 (2 * k + 1)) 61
theorem BIk.cg {s σ s2 σ2 : Nat → Nat → Int32} (h : BIk s σ) (e : s2 13 = s 13) (k : σ2 31 = σ 31) (f : s2 3 18 = s 3 18) : BIk s2 σ2 := by unfold BIk; rw [e, k, f]; exact h
theorem exB_cg {f g : Nat → Bool} {m : Nat} (h : ∀ k, k < m → f k = g k) : exB f m = exB g m := by
  induction m with
  | zero => rfl
  | succ m ih => rw [exB, exB, ih (fun k hk => h k (by omega)), h m (by omega)]
theorem BIk.put {s σ s2 σ2 : Nat → Nat → Int32} {m a b : Nat} (h : BIk s σ) (hm : s 3 18 = nI m) (hm6 : m < 6) (ha : a < 61) (hb : b < 61) (e : s2 13 = blkF (s 13) a (b + 1)) (k : σ2 31 = upd (upd (σ 31) (2 * m) (nI a)) (2 * m + 1) (nI b)) (f : s2 3 18 = nI (m + 1)) : BIk s2 σ2 := by
  obtain ⟨h1, h2⟩ := h
  rw [hm, tN_nI (by omega)] at h1 h2
  unfold BIk
  rw [e, k, f, tN_nI (by omega)]
  have u1 : ∀ i, i ≠ 2 * m → i ≠ 2 * m + 1 → upd (upd (σ 31) (2 * m) (nI a)) (2 * m + 1) (nI b) i = σ 31 i := fun i p q => by unfold upd; rw [if_neg q, if_neg p]
  have u2 : upd (upd (σ 31) (2 * m) (nI a)) (2 * m + 1) (nI b) (2 * m) = nI a := by unfold upd; rw [if_neg (by omega), if_pos rfl]
  have u3 : upd (upd (σ 31) (2 * m) (nI a)) (2 * m + 1) (nI b) (2 * m + 1) = nI b := by unfold upd; rw [if_pos rfl]
  refine ⟨fun c hc => ?_, fun k hk => ?_⟩
  · have e1 : blkB (upd (upd (σ 31) (2 * m) (nI a)) (2 * m + 1) (nI b)) (m + 1) c = (blkB (σ 31) m c || (decide (a ≤ c) && decide (c ≤ b))) := by
      unfold blkB
      rw [exB, u2, u3, tN_nI (by omega), tN_nI (by omega)]
      congr 1
      exact exB_cg (fun k hk => by rw [u1 _ (by omega) (by omega), u1 _ (by omega) (by omega)])
    rw [e1]
    unfold blkF
    by_cases q : a ≤ c ∧ c ≤ b
    · rw [if_pos (by omega), bI_t (by simp [q.1, q.2])]
    · rw [if_neg (by omega), h1 c hc]
      have z : (decide (a ≤ c) && decide (c ≤ b)) = false := by simp; omega
      rw [z, Bool.or_false]
  · by_cases q : k = m
    · subst q; rw [u2, u3]; exact ⟨In.of ha (by decide), In.of hb (by decide)⟩
    · rw [u1 _ (by omega) (by omega), u1 _ (by omega) (by omega)]; exact h2 k (by omega)
theorem RL.r4 {s σ : Nat → Nat → Int32} {N : Nat} {v : Int32} (h : RL s σ) : RL (st1 s 4 N v) σ := by
  obtain ⟨h1, h2, h3, h4, h5, h6, h7, h8, h9⟩ := h
  exact ⟨h1.st (by decide) (Or.inl (by decide)), h2, h3, h4, h5, h6, ⟨fun r hr => by rw [st1_ne (by omega)]; exact h7 r hr, h8, h9⟩⟩
theorem RL.x30 {s σ : Nat → Nat → Int32} {v : Int32} (h : RL s σ) : RL s (st1 σ 0 30 v) := by
  obtain ⟨h1, h2, h3, h4, h5, h6, h7, h8, h9⟩ := h
  unfold RL RM
  simp only [st1_nj (show (16 : Nat) ≠ 30 by decide), st1_nj (show (17 : Nat) ≠ 30 by decide), st1_nj (show (18 : Nat) ≠ 30 by decide), st1_nj (show (19 : Nat) ≠ 30 by decide), st1_nj (show (20 : Nat) ≠ 30 by decide), st1_nj (show (14 : Nat) ≠ 30 by decide), st1_nj (show (15 : Nat) ≠ 30 by decide)]
  exact ⟨h1, h2, h3, h4, h5, h6, fun r hr => by rw [st1_ne (by omega)]; exact h7 r hr, h8, h9⟩
theorem RL.x14 {s σ : Nat → Nat → Int32} {v : Int32} (h : RL s σ) : RL (st1 s 0 14 v) (st1 σ 0 14 v) := by
  obtain ⟨h1, h2, h3, h4, h5, h6, h7, h8, h9⟩ := h
  refine ⟨h1.st (by decide) (Or.inr (by decide)), ?_⟩
  unfold RM
  simp only [st1_nj (show (16 : Nat) ≠ 14 by decide), st1_nj (show (17 : Nat) ≠ 14 by decide), st1_nj (show (18 : Nat) ≠ 14 by decide), st1_nj (show (19 : Nat) ≠ 14 by decide), st1_nj (show (20 : Nat) ≠ 14 by decide), st1_nj (show (21 : Nat) ≠ 14 by decide), st1_nj (show (15 : Nat) ≠ 14 by decide), st1_eq]
  exact ⟨h2, h3, h4, h5, h6, fun r hr => by rw [st1_ne (by omega), st1_ne (by omega)]; exact h7 r hr, trivial, h9⟩
theorem RL.x15 {s σ : Nat → Nat → Int32} {v : Int32} (h : RL s σ) : RL (st1 s 0 15 v) (st1 σ 0 15 v) := by
  obtain ⟨h1, h2, h3, h4, h5, h6, h7, h8, h9⟩ := h
  refine ⟨h1.st (by decide) (Or.inr (by decide)), ?_⟩
  unfold RM
  simp only [st1_nj (show (16 : Nat) ≠ 15 by decide), st1_nj (show (17 : Nat) ≠ 15 by decide), st1_nj (show (18 : Nat) ≠ 15 by decide), st1_nj (show (19 : Nat) ≠ 15 by decide), st1_nj (show (20 : Nat) ≠ 15 by decide), st1_nj (show (21 : Nat) ≠ 15 by decide), st1_nj (show (14 : Nat) ≠ 15 by decide), st1_eq]
  exact ⟨h2, h3, h4, h5, h6, fun r hr => by rw [st1_ne (by omega), st1_ne (by omega)]; exact h7 r hr, h8, trivial⟩
theorem lsF_up {σ : Nat → Nat → Int32} {k : Nat} {v : Int32} (h : k < 3) : upd (lsF σ) k v = lsF (st1 σ 3 (10 + (4 + k)) v) := by
  funext i
  unfold upd lsF
  by_cases e : i = k
  · subst e; rw [if_pos rfl, if_pos h, show 14 + i = 10 + (4 + i) by omega, st1_eq]
  · rw [if_neg e]
    split
    · rw [st1_nj (by omega)]
    · rfl
theorem rt_ls {ad ra : Nat → Nat} {ct : Nat → ClassId} {ξ σ : Nat → Nat → Int32} {n k : Nat} {v : Int32} (h : k < 3) : (rw ad ra ct ξ σ (tW ra ct n σ)).set 6 (ra 4, .inl (ct 0, 3, .inl (upd (lsF σ) k v))) = rw ad ra ct ξ (st1 σ 3 (10 + (4 + k)) v) (tW ra ct n (st1 σ 3 (10 + (4 + k)) v)) := by
  have e : tfR ra (st1 σ 3 (10 + (4 + k)) v) = tfR ra σ := by
    unfold tfR
    rw [st1_nj (show (17 : Nat) ≠ 10 + (4 + k) by omega), st1_nj (show (18 : Nat) ≠ 10 + (4 + k) by omega), st1_nj (show (10 : Nat) ≠ 10 + (4 + k) by omega), st1_nj (show (11 : Nat) ≠ 10 + (4 + k) by omega), st1_nj (show (12 : Nat) ≠ 10 + (4 + k) by omega), st1_nj (show (13 : Nat) ≠ 10 + (4 + k) by omega), st1_nj (show (19 : Nat) ≠ 10 + (4 + k) by omega)]
    rfl
  rw [lsF_up h]
  unfold rw tW
  rw [e]
  rfl
theorem st1_row {s : Nat → Nat → Int32} {r N : Nat} {v : Int32} : st1 s r N v r = upd (s r) N v := upR_eq
theorem rgX_o {r n hi q : Nat} {s : Nat → Nat → Int32} (h0 : q ≠ 0) (hr : q ≠ r) : rgX r n hi s q = s q := by
  unfold rgX
  split
  · rw [st1_ne hr, numS_r h0, uoS_r h0]
  · rw [numS_r h0, uoS_r h0]
theorem fixed_eq {n B : Nat} {s : Nat → Nat → Int32} (h : s 3 10 = nI B) : readFixedS n s = rgX 10 n B (st1 s 0 14 (nI 1)) := fixed_rg (by unfold fx1; rw [uoS_r (by decide), st1_ne (by decide)]; exact h)
theorem fixed_o {n B q : Nat} {s : Nat → Nat → Int32} (h : s 3 10 = nI B) (h0 : q ≠ 0) (hr : q ≠ 10) : readFixedS n s q = s q := by rw [fixed_eq h, rgX_o h0 hr, st1_ne h0]
theorem us3_o {n q : Nat} {w : Nat → Nat → Int32} (h0 : q ≠ 0) (h3 : q ≠ 3) (h5 : q < 5 ∨ 11 < q) : us3 n w q = w q := by
  unfold us3 xf xe xd xc xb xa putN
  rw [st1_ne h3, st1_ne (by omega), st1_ne (by omega), st1_ne (by omega), numS_r h0, st1_ne (by omega), numS_r h0, st1_ne (by omega), numS_r h0, st1_ne (by omega), numS_r h0, tokS_r h0, st1_ne (by omega)]
theorem user_o {n q : Nat} {s : Nat → Nat → Int32} (h0 : q ≠ 0) (h3 : q ≠ 3) (h5 : q < 5 ∨ 11 < q) : readUserS n s q = s q := by
  unfold readUserS us2
  split
  · split
    · split
      · rw [us3_o h0 h3 h5, us1_r h0]
      · rw [wrongS_r h0, us1_r h0]
    · rw [wrongS_r h0, us1_r h0]
  · exact us1_r h0
theorem user_3 {n j : Nat} {s : Nat → Nat → Int32} (hj : j ≠ 17) : readUserS n s 3 j = s 3 j := by
  unfold readUserS us2
  split
  · split
    · split
      · unfold us3; rw [st1_nj hj, xf_3, us1_r (by decide)]
      · rw [wrongS_r (by decide), us1_r (by decide)]
    · rw [wrongS_r (by decide), us1_r (by decide)]
  · rw [us1_r (by decide)]
theorem bk_z {s : Nat → Nat → Int32} (h : readBlockS s 0 21 = 0) : bl3 s 0 21 = 0 := Classical.byContradiction fun z => by rw [bk_3 z] at h; exact z h
theorem block_o {q : Nat} {s : Nat → Nat → Int32} (h0 : q ≠ 0) (h3 : q ≠ 3) (h13 : q ≠ 13) : readBlockS s q = s q := by
  unfold readBlockS
  split
  · rw [st1_ne h3, upR_ne h13, bl3_r h0]
  · exact bl3_r h0
theorem block_13 {s : Nat → Nat → Int32} (h : readBlockS s 0 21 = 0) : readBlockS s 13 = blkF (s 13) (blA s) (blB s + 1) ∧ readBlockS s 3 18 = s 3 18 + nI 1 ∧ ∀ j, j ≠ 18 → readBlockS s 3 j = s 3 j := by
  have e := bl3_r (s := s) (r := 3) (by decide)
  have e2 := bl3_r (s := s) (r := 13) (by decide)
  rw [bk_ok (bk_z h)]
  refine ⟨by rw [st1_ne (by decide), upR_eq, e2], by rw [st1_eq, e], fun j hj => by rw [st1_nj hj, upR_ne (by decide), e]⟩
theorem link_o {q : Nat} {s : Nat → Nat → Int32} (h0 : q ≠ 0) (h12 : q ≠ 12) : readLinkS s q = s q := by
  unfold readLinkS
  split
  · rw [st1_ne h12, st1_ne h12, lk7_q h0]
  · exact lk7_q h0
theorem slots_o {n q : Nat} {s : Nat → Nat → Int32} (h0 : q ≠ 0) (hr : q ≠ 11) : readSlotsS n s q = s q := by rw [slots_rg, rgX_o h0 hr]
theorem ro_o {s w : Nat → Nat → Int32} {k f q : Nat} {lo hi : Int32} (e : onceS k s = w) (h0 : q ≠ 0) (h3 : q ≠ 3) : readOnceS k f lo hi s q = w q := by rw [ro_of e, st1_ne h3, numS_r h0]
theorem ro_3j {s w : Nat → Nat → Int32} {k f j : Nat} {lo hi : Int32} (e : onceS k s = w) (h : j ≠ 10 + f) : readOnceS k f lo hi s 3 j = w 3 j := by rw [ro_of e, st1_nj h, numS_r (by decide)]
theorem lossIt_j {s : Nat → Nat → Int32} {j : Nat} (h : j < 14 ∨ 16 < j) : ∀ k, k ≤ 3 → lossIt s k 3 j = s 3 j
  | 0, _ => rfl
  | k + 1, hk => by rw [loss_s, st1_nj (by omega), numS_r (by decide), lossIt_j h k (by omega)]
