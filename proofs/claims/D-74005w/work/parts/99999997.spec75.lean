/-! THE LAW: what class and reference have in common between two calls -/
set_option maxRecDepth 100000
def PE (n : Nat) (P P' : Nat → Int32) : Prop := (∀ k, k < n → P k = P' k ∧ P (6 + k) = P' (6 + k) ∧ P (73 + k) = P' (73 + k)) ∧ ∀ c, c < 61 → P (12 + c) = P' (12 + c)
def PG (n B : Nat) (P : Nat → Int32) : Prop := PC P n ∧ BB P ∧ ZB P B ∧ ∀ v, v < n → In (P (6 + v)) 31
theorem PE.rf (n : Nat) (P : Nat → Int32) : PE n P P := ⟨fun _ _ => ⟨rfl, rfl, rfl⟩, fun _ _ => rfl⟩
theorem PE.sy {n : Nat} {P Q : Nat → Int32} (h : PE n P Q) : PE n Q P := ⟨fun k hk => ⟨(h.1 k hk).1.symm, (h.1 k hk).2.1.symm, (h.1 k hk).2.2.symm⟩, fun c hc => (h.2 c hc).symm⟩
theorem PE.of79 {n : Nat} {P Q : Nat → Int32} (hn : n ≤ 6) (h : ∀ j, j < 79 → P j = Q j) : PE n P Q := ⟨fun k hk => ⟨h _ (by omega), h _ (by omega), h _ (by omega)⟩, fun c hc => h _ (by omega)⟩
theorem PE.tr {n : Nat} {P Q R : Nat → Int32} (h : PE n P Q) (k : PE n Q R) : PE n P R := ⟨fun a ha => ⟨(h.1 a ha).1.trans (k.1 a ha).1, (h.1 a ha).2.1.trans (k.1 a ha).2.1, (h.1 a ha).2.2.trans (k.1 a ha).2.2⟩, fun c hc => (h.2 c hc).trans (k.2 c hc)⟩
theorem PG.cg {n B : Nat} {P Q : Nat → Int32} (h : PG n B P) (e : PE n P Q) : PG n B Q := by
  obtain ⟨h1, h2, h3, h4⟩ := h
  exact ⟨fun v hv => by rw [← (e.1 v hv).1]; exact h1 v hv, fun c hc => by rw [← e.2 c hc]; exact h2 c hc, fun c hc hz => by rw [← e.2 c hc]; exact h3 c hc hz, fun v hv => by rw [← (e.1 v hv).2.1]; exact h4 v hv⟩
/-- of the told rows: alike -/
def TE (τ μ : Nat → Nat → Int32) : Prop := (∀ j, j < 10 → τ 3 j = μ 3 j) ∧ (∀ r, 5 ≤ r ∧ r ≤ 11 → ∀ k, k < 6 → τ r k = μ r k) ∧ ∀ j, j < 9 → τ 12 j = μ 12 j
theorem TE.of {τ μ : Nat → Nat → Int32} (h : ∀ r, r = 3 ∨ (5 ≤ r ∧ r ≤ 12) → τ r = μ r) : TE τ μ := ⟨fun j _ => by rw [h 3 (by decide)], fun r hr k _ => by rw [h r (by omega)], fun j _ => by rw [h 12 (by decide)]⟩
theorem TE.tr {a b c : Nat → Nat → Int32} (h : TE a b) (k : TE b c) : TE a c := ⟨fun j hj => (h.1 j hj).trans (k.1 j hj), fun r hr j hj => (h.2.1 r hr j hj).trans (k.2.1 r hr j hj), fun j hj => (h.2.2 j hj).trans (k.2.2 j hj)⟩
theorem TE.sy {a b : Nat → Nat → Int32} (h : TE a b) : TE b a := ⟨fun j hj => (h.1 j hj).symm, fun r hr j hj => (h.2.1 r hr j hj).symm, fun j hj => (h.2.2 j hj).symm⟩
theorem XT.cg {τ μ : Nat → Nat → Int32} {n : Nat} (h : XT τ n) (e : TE τ μ) : XT μ n := by
  obtain ⟨h1, h2, h3, h4, h5, h6, h7, h8, h9, h10, h11, h12⟩ := h
  obtain ⟨e3, er, e12⟩ := e
  unfold XT
  rw [← e3 7 (by decide), ← e3 0 (by decide), ← e3 3 (by decide), ← e3 9 (by decide), ← e3 1 (by decide), ← e3 2 (by decide)]
  exact ⟨h1, h2, fun v hv => by rw [← er 6 (by decide) v (by omega)]; exact h3 v hv, fun v hv => by rw [← er 8 (by decide) v (by omega), ← er 9 (by decide) v (by omega)]; exact h4 v hv, h5, h6, fun v hv => by rw [← er 9 (by decide) v (by omega)]; exact h7 v hv, h8, fun j hj => by rw [← e12 j hj]; exact h9 j hj, h10, h11, h12⟩
theorem iw_cg {ad : Nat → Nat} {ct : Nat → ClassId} {n : Nat} {τ τ' σ : Nat → Nat → Int32} {P : Nat → Int32} {T : va_W} (ht : TE τ τ') (hp : PE n (σ 1) P) : iw ad ct n τ σ T = iw ad ct n τ' (upR σ 1 P) T := by
  have e1 : tfs ad τ σ = tfs ad τ' (upR σ 1 P) := by
    unfold tfs
    rw [ht.1 7 (by decide), ht.1 8 (by decide), ht.1 0 (by decide), ht.1 1 (by decide), ht.1 2 (by decide), ht.1 3 (by decide), ht.1 9 (by decide)]
    rfl
  have e2 : losF τ = losF τ' := by
    funext j
    unfold losF
    by_cases q : j < 3
    · rw [if_pos q, if_pos q, ht.1 _ (by omega)]
    · rw [if_neg q, if_neg q]
  have e3 : lnkF τ = lnkF τ' := by
    funext j
    unfold lnkF
    by_cases q : j < 9
    · rw [if_pos q, if_pos q, ht.2.2 j q]
    · rw [if_neg q, if_neg q]
  have p : ∀ b, (b = 0 ∨ b = 6 ∨ b = 73) → pch n b (σ 1) (σ 5) = pch n b (upR σ 1 P 1) (upR σ 1 P 5) := by
    intro b hb
    funext j
    show pch n b (σ 1) (σ 5) j = pch n b P (σ 5) j
    unfold pch
    by_cases q : j < n
    · rw [if_pos q, if_pos q]
      rcases hb with rfl | rfl | rfl
      · rw [Nat.zero_add]; exact (hp.1 j q).1
      · exact (hp.1 j q).2.1
      · exact (hp.1 j q).2.2
    · rw [if_neg q, if_neg q]
  have pb : pbl (σ 1) = pbl (upR σ 1 P 1) := by
    funext j
    show pbl (σ 1) j = pbl P j
    unfold pbl
    by_cases q : j < 61
    · rw [if_pos q, if_pos q]; exact hp.2 j q
    · rw [if_neg q, if_neg q]
  unfold iw fw
  rw [e1, e2, e3, p 0 (by decide), p 6 (by decide), p 73 (by decide), pb]
  rfl
theorem us_cg {ad : Nat → Nat} {n : Nat} {τ τ' : Nat → Nat → Int32} (hn : n ≤ 6) (ht : TE τ τ') : usW ad n τ = usW ad n τ' := by
  unfold usW
  refine List.map_congr_left fun k hk => ?_
  have hk := List.mem_range.mp hk
  unfold ufs
  rw [ht.2.1 5 (by decide) k (by omega), ht.2.1 6 (by decide) k (by omega), ht.2.1 7 (by decide) k (by omega), ht.2.1 8 (by decide) k (by omega), ht.2.1 9 (by decide) k (by omega), ht.2.1 10 (by decide) k (by omega), ht.2.1 11 (by decide) k (by omega)]
/-- between two calls -/
def LI (n K tp : Nat) (μ σ : Nat → Nat → Int32) (pl : List KP) : Prop :=
  (XT (zt μ) n ∧ (∀ j, j < 3 → In (μ 3 (4 + j)) 100) ∧ (∀ v, v < n → tN (μ 8 v) ≤ tN (μ 9 v)) ∧ TO μ) ∧
  (σ 1 = μ 25 ∧ PG n (tN (μ 3 0)) (μ 25)) ∧
  (μ 0 28 = nI K ∧ σ 0 9 = nI K ∧ K ≤ pl.length ∧ pl.length ≤ 20 ∧ ∀ k, k < K → PE n (rowK pl k) (fun j => μ 26 (79 * k + j)) ∧ PG n (tN (μ 3 0)) (rowK pl k)) ∧
  (σ 0 10 = μ 0 29 ∧ (¬ μ 0 29 = 0 → PE n (σ 2) (fun j => μ 26 (1580 + j)) ∧ PG n (tN (μ 3 0)) (σ 2))) ∧
  (μ 0 2 = nI tp ∧ σ 0 1 = nI tp ∧ tp ≤ 700 ∧ BT σ (μ 1) ∧ BY μ ∧ BO μ) ∧
  σ 0 2 = μ 0 23 ∧ σ 0 3 = μ 0 24
theorem zt_r {μ : Nat → Nat → Int32} {r : Nat} (h : r ≠ 0) : zt μ r = μ r := st1_ne h
theorem zt_j {μ : Nat → Nat → Int32} {j : Nat} (h : j ≠ 0) : zt μ 0 j = μ 0 j := st1_nj h
theorem TE.zt {μ : Nat → Nat → Int32} : TE (zt μ) μ := TE.of fun r hr => zt_r (by omega)
section
variable {n K tp : Nat} {μ σ : Nat → Nat → Int32} {pl : List KP}
theorem LI.vwz (h : LI n K tp μ σ pl) : vw (zt μ) (σ 1) = zt μ := by
  obtain ⟨⟨hX, hls, hlo, h30, h31, h32, h33⟩, ⟨h25, hG⟩, -⟩ := h
  rw [h25]
  unfold vw
  have e : upR (zt μ) 25 (μ 25) = zt μ := upR_self (zt_r (by decide)).symm
  rw [e]
  unfold toldF
  rw [show zt μ 3 = μ 3 from zt_r (by decide), st1_self (s := zt μ) (show zt μ 0 30 = μ 3 0 from h30), st1_self (s := zt μ) (show zt μ 0 31 = μ 3 1 from h31), st1_self (s := zt μ) (show zt μ 0 32 = μ 3 2 from h32), st1_self (s := zt μ) (show zt μ 0 33 = μ 3 3 from h33)]
theorem LI.n6 (h : LI n K tp μ σ pl) : n ≤ 6 := h.1.1.2.1
theorem LI.n7 (h : LI n K tp μ σ pl) : μ 3 7 = nI n := h.1.1.1
theorem LI.st (h : LI n K tp μ σ pl) : ∀ v, v < n → In (μ 6 v) 3 := h.1.1.2.2.1
theorem LI.lh (h : LI n K tp μ σ pl) : ∀ v, v < n → In (μ 8 v) 61 ∧ In (μ 9 v) 61 ∧ 1 ≤ tN (μ 8 v) := h.1.1.2.2.2.1
theorem LI.b61 (h : LI n K tp μ σ pl) : In (μ 3 0) 61 := h.1.1.2.2.2.2.1
theorem LI.b4 (h : LI n K tp μ σ pl) : 4 ≤ tN (μ 3 0) := h.1.1.2.2.2.2.2.1
theorem LI.hiB (h : LI n K tp μ σ pl) : ∀ v, v < n → tN (μ 9 v) ≤ tN (μ 3 0) := h.1.1.2.2.2.2.2.2.1
theorem LI.sd (h : LI n K tp μ σ pl) : In (μ 3 9) 100000 := h.1.1.2.2.2.2.2.2.2.2.2.1
theorem LI.b30 (h : LI n K tp μ σ pl) : μ 0 30 = nI (tN (μ 3 0)) := h.1.2.2.2.1.trans h.b61.1
theorem LI.cm (h : LI n K tp μ σ pl) : CM μ n := ⟨h.n7, h.n6, h.st, h.2.1.2.1⟩
theorem LI.lhh (h : LI n K tp μ σ pl) : LH μ n := ⟨h.lh, by rw [h.1.2.2.2.1]; exact h.b61⟩
theorem LI.pc (h : LI n K tp μ σ pl) : PC (σ 1) n := by rw [h.2.1.1]; exact h.2.1.2.1
theorem LI.bb (h : LI n K tp μ σ pl) : BB (σ 1) := by rw [h.2.1.1]; exact h.2.1.2.2.1
theorem LI.zb (h : LI n K tp μ σ pl) : ZB (σ 1) (tN (zt μ 3 0)) := by rw [h.2.1.1]; exact h.2.1.2.2.2.1
theorem LI.pw (h : LI n K tp μ σ pl) : ∀ v, v < n → In (σ 1 (6 + v)) 31 := by rw [h.2.1.1]; exact h.2.1.2.2.2.2
theorem LI.k20 (h : LI n K tp μ σ pl) : K ≤ 20 := Nat.le_trans h.2.2.1.2.2.1 h.2.2.1.2.2.2.1
/-- the class's own state: what is read between two calls -/
def QX (σ σ2 : Nat → Nat → Int32) : Prop := σ2 1 = σ 1 ∧ σ2 2 = σ 2 ∧ σ2 9 = σ 9 ∧ ∀ j, j ≠ 13 → σ2 0 j = σ 0 j
theorem QX.rf (σ : Nat → Nat → Int32) : QX σ σ := ⟨rfl, rfl, rfl, fun _ _ => rfl⟩
theorem QX.xa {σ2 : Nat → Nat → Int32} (h : XA σ σ2) : QX σ σ2 := ⟨h 1 (by decide), h 2 (by decide), h 9 (by decide), fun j _ => by rw [h 0 (by decide)]⟩
theorem QX.xs {σ2 : Nat → Nat → Int32} (h : XS σ σ2) : QX σ σ2 := ⟨h 1 (by decide) (by decide) (by decide), h 2 (by decide) (by decide) (by decide), h 9 (by decide) (by decide) (by decide), fun j _ => by rw [h 0 (by decide) (by decide) (by decide)]⟩
theorem QX.xg {σ2 : Nat → Nat → Int32} (h : XG σ σ2) : QX σ σ2 := ⟨h 1 (by decide), h 2 (by decide), h 9 (by decide), fun j _ => by rw [h 0 (by decide)]⟩
theorem QX.xc {σ2 : Nat → Nat → Int32} (h : XC σ σ2) : QX σ σ2 := ⟨h.1 1 (by decide) (by decide) (by decide) (by decide) (by decide) (by decide), h.1 2 (by decide) (by decide) (by decide) (by decide) (by decide) (by decide), h.1 9 (by decide) (by decide) (by decide) (by decide) (by decide) (by decide), h.2⟩
theorem HQ.of_hr {s0 s : Nat → Nat → Int32} (h : HR s0 s) : HQ s0 s := ⟨fun r h0 _ _ _ h4 => h.1 r h4 h0, fun j _ h1 _ _ => h.2 j h1⟩
theorem HQ.of_eq {s0 s : Nat → Nat → Int32} (h : s0 = s) : HQ s0 s := by subst h; exact ⟨fun _ _ _ _ _ _ => rfl, fun _ _ _ _ _ => rfl⟩
/-- rows that a question leaves -/
theorem HQ.rw1 {μ2 : Nat → Nat → Int32} (h : HQ (zt μ) μ2) {r : Nat} (hr : 1 ≤ r ∧ r ≤ 26) : μ2 r = μ r := (h.1 r (by omega) (by omega) (by omega) (by omega) (by omega)).trans (zt_r (by omega))
theorem HQ.fl1 {μ2 : Nat → Nat → Int32} (h : HQ (zt μ) μ2) {j : Nat} (hj : 1 ≤ j ∧ j ≤ 40) : μ2 0 j = μ 0 j := (h.2 j (by omega) (by omega) (by omega) (by omega)).trans (zt_j (by omega))
theorem BT.cg {σ σ2 : Nat → Nat → Int32} {t : Nat → Int32} (h : BT σ t) (e : σ2 9 = σ 9) : BT σ2 t := by unfold BT; rw [e]; exact h
theorem BY.cg {s w : Nat → Nat → Int32} (h : BY s) (e : w 1 = s 1) : BY w := by unfold BY; rw [e]; exact h
/-- a question leaves all that counts -/
theorem LI.q {μ2 σ2 : Nat → Nat → Int32} (h : LI n K tp μ σ pl) (hm : HQ (zt μ) μ2) (hx : QX σ σ2) : LI n K tp μ2 σ2 pl ∧ TE (zt μ) μ2 := by
  have hte : TE (zt μ) μ2 := TE.of fun r hr => (zt_r (by omega)).trans (hm.rw1 (by omega)).symm
  obtain ⟨⟨hX, hls, hlo, h30, h31, h32, h33⟩, ⟨h25, hG⟩, ⟨k1, k2, k3, k4, k5⟩, ⟨i1, i2⟩, ⟨t1, t2, t3, t4, t5, t6⟩, f1, f2⟩ := h
  obtain ⟨x1, x2, x9, x0⟩ := hx
  have r3 := hm.rw1 (r := 3) (by decide)
  have r25 := hm.rw1 (r := 25) (by decide)
  have r26 := hm.rw1 (r := 26) (by decide)
  refine ⟨⟨⟨(hX.cg hte).cg (TE.of fun r hr => (zt_r (by omega)).symm), by rw [r3]; exact hls, by rw [hm.rw1 (r := 8) (by decide), hm.rw1 (r := 9) (by decide)]; exact hlo, ?_⟩, ⟨by rw [x1, r25]; exact h25, by rw [r3, r25]; exact hG⟩, ⟨by rw [hm.fl1 (by decide)]; exact k1, by rw [x0 _ (by decide)]; exact k2, k3, k4, by rw [r26, r3]; exact k5⟩, ⟨by rw [x0 _ (by decide), hm.fl1 (by decide)]; exact i1, by rw [hm.fl1 (by decide), x2, r26, r3]; exact i2⟩, ⟨by rw [hm.fl1 (by decide)]; exact t1, by rw [x0 _ (by decide)]; exact t2, t3, by rw [hm.rw1 (r := 1) (by decide)]; exact t4.cg x9, t5.cg (hm.rw1 (by decide)), t6.cg (hm.rw1 (by decide))⟩, by rw [x0 _ (by decide), hm.fl1 (by decide)]; exact f1, by rw [x0 _ (by decide), hm.fl1 (by decide)]; exact f2⟩, hte⟩
  unfold TO
  rw [r3, hm.fl1 (by decide), hm.fl1 (by decide), hm.fl1 (by decide), hm.fl1 (by decide)]
  exact ⟨h30, h31, h32, h33⟩
end
