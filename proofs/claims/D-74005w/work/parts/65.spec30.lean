/-! THE CLASS'S OWN METHODS: how a plan looks to the answers -/
def vw (τ : Nat → Nat → Int32) (P : Nat → Int32) : Nat → Nat → Int32 := toldF (upR τ 25 P)
def vwB (τ : Nat → Nat → Int32) (P : Nat → Int32) (b : Int32) : Nat → Nat → Int32 := st1 (vw τ P) 0 30 b
theorem vw_r {τ : Nat → Nat → Int32} {P : Nat → Int32} {r : Nat} (h : r ≠ 0) (h2 : r ≠ 25) : vw τ P r = τ r := by
  unfold vw toldF
  rw [st1_ne h, st1_ne h, st1_ne h, st1_ne h, upR_ne h2]
theorem vw_25 {τ : Nat → Nat → Int32} {P : Nat → Int32} : vw τ P 25 = P := by
  unfold vw toldF
  rw [st1_ne (by decide), st1_ne (by decide), st1_ne (by decide), st1_ne (by decide), upR_eq]
theorem vw_30 {τ : Nat → Nat → Int32} {P : Nat → Int32} : vw τ P 0 30 = τ 3 0 := rfl
theorem vw_31 {τ : Nat → Nat → Int32} {P : Nat → Int32} : vw τ P 0 31 = τ 3 1 := rfl
theorem vw_32 {τ : Nat → Nat → Int32} {P : Nat → Int32} : vw τ P 0 32 = τ 3 2 := rfl
theorem vw_33 {τ : Nat → Nat → Int32} {P : Nat → Int32} : vw τ P 0 33 = τ 3 3 := rfl
theorem vwB_r {τ : Nat → Nat → Int32} {P : Nat → Int32} {b : Int32} {r : Nat} (h : r ≠ 0) (h2 : r ≠ 25) : vwB τ P b r = τ r := by
  unfold vwB
  rw [st1_ne h, vw_r h h2]
theorem vwB_25 {τ : Nat → Nat → Int32} {P : Nat → Int32} {b : Int32} : vwB τ P b 25 = P := by
  unfold vwB
  rw [st1_ne (by decide), vw_25]
theorem vwB_30 {τ : Nat → Nat → Int32} {P : Nat → Int32} {b : Int32} : vwB τ P b 0 30 = b := by unfold vwB; exact st1_eq
theorem vwB_j {τ : Nat → Nat → Int32} {P : Nat → Int32} {b : Int32} {j : Nat} (h : j ≠ 30) : vwB τ P b 0 j = vw τ P 0 j := by unfold vwB; exact st1_nj h
theorem vwB_self {τ : Nat → Nat → Int32} {P : Nat → Int32} : vwB τ P (τ 3 0) = vw τ P := by unfold vwB; exact st1_self rfl
/-- what is told, in its bounds -/
def XT (τ : Nat → Nat → Int32) (n : Nat) : Prop := τ 3 7 = nI n ∧ n ≤ 6 ∧ (∀ v, v < n → In (τ 6 v) 3) ∧ (∀ v, v < n → In (τ 8 v) 61 ∧ In (τ 9 v) 61 ∧ 1 ≤ tN (τ 8 v)) ∧ In (τ 3 0) 61 ∧ 4 ≤ tN (τ 3 0) ∧ (∀ v, v < n → tN (τ 9 v) ≤ tN (τ 3 0)) ∧ In (τ 3 3) 8 ∧ (∀ j, j < 9 → τ 12 j = -2 ∨ ¬ τ 12 j < 0) ∧ In (τ 3 9) 100000 ∧ In (τ 3 1) 6 ∧ In (τ 3 2) 21
/-- what a plan has, in its bounds -/
def PC (P : Nat → Int32) (n : Nat) : Prop := ∀ v, v < n → In (P v) 61
def BB (P : Nat → Int32) : Prop := ∀ c, c < 61 → P (12 + c) = nI 0 ∨ P (12 + c) = nI 1
theorem XT.ta {τ : Nat → Nat → Int32} {n : Nat} {P : Nat → Int32} {b : Int32} (h : XT τ n) : TA (vwB τ P b) τ n := by
  obtain ⟨-, -, h6, -, -, -, -, -, hl, -⟩ := h
  refine ⟨fun j _ => by rw [vwB_r (by decide) (by decide)], fun j _ => by rw [vwB_r (by decide) (by decide)], ?_, ?_⟩
  · rw [vwB_r (by decide) (by decide)]; exact hl
  · rw [vwB_r (by decide) (by decide)]; exact h6
theorem XT.nb {τ : Nat → Nat → Int32} {n : Nat} {P : Nat → Int32} {b : Int32} (hP : PC P n) (hb : In b 61) : NB (vwB τ P b) n := by
  refine ⟨?_, ?_⟩
  · rw [vwB_25]; exact hP
  · rw [vwB_30]; exact hb
theorem XT.od {τ : Nat → Nat → Int32} {n : Nat} {P : Nat → Int32} {b : Int32} (h : XT τ n) : In (vwB τ P b 0 33) 8 := by
  rw [vwB_j (by decide), vw_33]
  exact h.2.2.2.2.2.2.2.1
/-- only the air has changed -/
def XA (σ σ2 : Nat → Nat → Int32) : Prop := ∀ r, ¬ (10 ≤ r ∧ r < 20) → σ2 r = σ r
theorem XA.rf (σ : Nat → Nat → Int32) : XA σ σ := fun _ _ => rfl
theorem XA.tr {a b c : Nat → Nat → Int32} (h : XA a b) (k : XA b c) : XA a c := fun r hr => (k r hr).trans (h r hr)
theorem XA.up {σ Y : Nat → Nat → Int32} : XA σ (airU0 σ Y) := fun r hr => if_neg hr
theorem XA.st {σ : Nat → Nat → Int32} {r N : Nat} {v : Int32} (h : 10 ≤ r ∧ r < 20) : XA σ (st1 σ r N v) := fun q hq => st1_ne (fun e => hq (by rw [e]; exact h))
theorem airS_U {σ Y : Nat → Nat → Int32} (r : Nat) (h : r < 10) : airS0 (airU0 σ Y) r = Y r := by
  unfold airS0 airU0
  rw [if_pos (by omega)]
  congr 1
  omega
theorem AI.us {s σ Y : Nat → Nat → Int32} {n : Nat} (h : AI s Y n) : AI s (airS0 (airU0 σ Y)) n := h.cg (fun k _ _ => by rw [airS_U 0 (by decide)]) (airS_U 1 (by decide)) (airS_U 2 (by decide)) (airS_U 3 (by decide)) (airS_U 6 (by decide))
/-- the air, told of a plan up to a user -/
def OF (τ : Nat → Nat → Int32) (P : Nat → Int32) (n : Nat) (σ : Nat → Nat → Int32) (u : Nat) (w : Nat → Nat → Int32) : Prop := XA σ w ∧ w 10 9 = nI n ∧ w 10 10 = τ 3 0 ∧ w 10 11 = τ 3 1 ∧ w 10 12 = τ 3 2 ∧ w 10 13 = τ 3 3 ∧ ∀ v, v < u → w 11 v = τ 6 v ∧ w 12 v = P (6 + v) ∧ w 13 v = P v ∧ w 16 v = P (73 + v)
theorem OF.zero {τ σ : Nat → Nat → Int32} {P : Nat → Int32} {n : Nat} : OF τ P n σ 0 (st1 (st1 (st1 (st1 (st1 σ 10 9 (nI n)) 10 10 (τ 3 0)) 10 11 (τ 3 1)) 10 12 (τ 3 2)) 10 13 (τ 3 3)) := by
  refine ⟨((((XA.st (by decide)).tr (XA.st (by decide))).tr (XA.st (by decide))).tr (XA.st (by decide))).tr (XA.st (by decide)), ?_, ?_, ?_, ?_, st1_eq, fun v h => absurd h (Nat.not_lt_zero _)⟩
  · rw [st1_nj (by decide), st1_nj (by decide), st1_nj (by decide), st1_nj (by decide), st1_eq]
  · rw [st1_nj (by decide), st1_nj (by decide), st1_nj (by decide), st1_eq]
  · rw [st1_nj (by decide), st1_nj (by decide), st1_eq]
  · rw [st1_nj (by decide), st1_eq]
theorem OF.step {τ σ w : Nat → Nat → Int32} {P : Nat → Int32} {n u : Nat} (h : OF τ P n σ u w) : OF τ P n σ (u + 1) (st1 (st1 (st1 (st1 w 11 u (τ 6 u)) 12 u (P (6 + u))) 13 u (P u)) 16 u (P (73 + u))) := by
  obtain ⟨hx, a, b, c, d, e, hv⟩ := h
  have r10 : ∀ j, st1 (st1 (st1 (st1 w 11 u (τ 6 u)) 12 u (P (6 + u))) 13 u (P u)) 16 u (P (73 + u)) 10 j = w 10 j := fun j => by rw [st1_ne (by decide), st1_ne (by decide), st1_ne (by decide), st1_ne (by decide)]
  refine ⟨hx.tr ((((XA.st (by decide)).tr (XA.st (by decide))).tr (XA.st (by decide))).tr (XA.st (by decide))), ?_, ?_, ?_, ?_, ?_, ?_⟩
  · rw [r10]; exact a
  · rw [r10]; exact b
  · rw [r10]; exact c
  · rw [r10]; exact d
  · rw [r10]; exact e
  · intro v hv2
    by_cases e : v = u
    · subst e
      refine ⟨?_, ?_, ?_, st1_eq⟩
      · rw [st1_ne (by decide), st1_ne (by decide), st1_ne (by decide), st1_eq]
      · rw [st1_ne (by decide), st1_ne (by decide), st1_eq]
      · rw [st1_ne (by decide), st1_eq]
    · have := hv v (by omega)
      obtain ⟨t1, t2, t3, t4⟩ := this
      refine ⟨?_, ?_, ?_, ?_⟩
      · rw [st1_ne (by decide), st1_ne (by decide), st1_ne (by decide), st1_nj e]; exact t1
      · rw [st1_ne (by decide), st1_ne (by decide), st1_nj e, st1_ne (by decide)]; exact t2
      · rw [st1_ne (by decide), st1_nj e, st1_ne (by decide), st1_ne (by decide)]; exact t3
      · rw [st1_nj e, st1_ne (by decide), st1_ne (by decide), st1_ne (by decide)]; exact t4
theorem OF.ai {τ σ w : Nat → Nat → Int32} {P : Nat → Int32} {n : Nat} (h : OF τ P n σ n w) : AI (vw τ P) (airS0 w) n := by
  obtain ⟨hx, a, b, c, d, e, hv⟩ := h
  refine ⟨a, b, c, d, e, fun u hu => ?_⟩
  obtain ⟨h1, h2, h3, h4⟩ := hv u hu
  rw [vw_r (by decide) (by decide), vw_25]
  exact ⟨h1, h2, h3, h4⟩
theorem AI.bd {τ Y : Nat → Nat → Int32} {P : Nat → Int32} {n : Nat} {b : Int32} (h : AI (vw τ P) Y n) : AI (vwB τ P b) (st1 Y 0 10 b) n := by
  obtain ⟨a1, a2, a3, a4, a5, a6⟩ := h
  refine ⟨?_, ?_, ?_, ?_, ?_, ?_⟩
  · rw [st1_nj (by decide)]; exact a1
  · rw [st1_eq, vwB_30]
  · rw [st1_nj (by decide), vwB_j (by decide)]; exact a3
  · rw [st1_nj (by decide), vwB_j (by decide)]; exact a4
  · rw [st1_nj (by decide), vwB_j (by decide)]; exact a5
  · intro u hu
    rw [st1_ne (by decide), st1_ne (by decide), st1_ne (by decide), st1_ne (by decide), vwB_r (by decide) (by decide), vwB_25]
    have := a6 u hu
    rw [vw_r (by decide) (by decide), vw_25] at this
    exact this
theorem airS_st {σ : Nat → Nat → Int32} {k : Nat} {v : Int32} : airS0 (st1 σ 10 k v) = st1 (airS0 σ) 0 k v := by
  funext r j
  by_cases h : r = 0
  · subst h
    show st1 σ 10 k v 10 j = _
    by_cases e : j = k
    · subst e; rw [st1_eq, st1_eq]
    · rw [st1_nj e, st1_nj e]; rfl
  · rw [st1_ne h]
    show st1 σ 10 k v (10 + r) j = σ (10 + r) j
    rw [st1_ne (by omega)]
/-- a plan's copy -/
def likS (j i : Nat) (σ : Nat → Nat → Int32) : Nat → Nat → Int32 := upR (upR σ (1 + j) (σ (1 + i))) (5 + j) (σ (5 + i))
theorem cpy_pch {n b : Nat} {P J P2 J2 : Nat → Int32} (hn : n ≤ 6) : va_cpy (pch n b P J) (pch n b P2 J2) 0 0 6 = pch n b P J := by
  funext j
  unfold va_cpy
  by_cases h : j < 6
  · rw [if_pos ⟨Nat.zero_le _, by omega⟩, Nat.zero_add, Nat.sub_zero]
  · rw [if_neg (by omega)]
    unfold pch
    rw [if_neg (by omega), if_neg h, if_neg (by omega), if_neg h]
theorem cpy_pbl {P P2 : Nat → Int32} : va_cpy (pbl P) (pbl P2) 0 0 61 = pbl P := by
  funext j
  unfold va_cpy
  by_cases h : j < 61
  · rw [if_pos ⟨Nat.zero_le _, by omega⟩, Nat.zero_add, Nat.sub_zero]
  · rw [if_neg (by omega)]
    unfold pbl
    rw [if_neg h, if_neg h]
theorem BB.fits {P : Nat → Int32} (h : BB P) : ∀ i, i < 61 → fits .boolean (.int (pbl P (0 + i))) = true := by
  intro i hi
  rw [Nat.zero_add, pbl_at hi]
  rcases h i hi with e | e <;> rw [e] <;> rfl
/-- clean: users at their places, no trouble -/
def rgB (τ : Nat → Nat → Int32) (P : Nat → Int32) (u : Nat) : Bool := !decide (P u < τ 8 u) && !decide (τ 9 u < P u) && decide (P (12 + tN (P u)) = 0)
def RC (τ : Nat → Nat → Int32) (P : Nat → Int32) (n : Nat) (b : Int32) : Prop := ∀ u, u < n → ¬ b < P u ∨ ¬ b < τ 9 u
theorem rg_right {τ : Nat → Nat → Int32} {P : Nat → Int32} {b : Int32} {u : Nat} (h : ¬ b < P u ∨ ¬ b < τ 9 u) : rightB (vwB τ P b) u = rgB τ P u := by
  unfold rightB rgB highF
  rw [vwB_25, vwB_30, vwB_r (by decide) (by decide), vwB_r (by decide) (by decide)]
  by_cases e : τ 9 u < b
  · rw [if_pos e]
  · rw [if_neg e]
    have h2 : decide (b < P u) = decide (τ 9 u < P u) := by
      rcases h with h | h
      · have h3 : ¬ τ 9 u < P u := fun k => h (Int32.lt_of_le_of_lt (Int32.not_lt.mp e) k)
        simp [h, h3]
      · have e2 : τ 9 u = b := Int32.le_antisymm (Int32.not_lt.mp h) (Int32.not_lt.mp e)
        rw [e2]
    rw [h2]
theorem pop_pos : ∀ S, S < 256 → (pop S = 0 ↔ S = 0) := by decide +kernel
theorem sumN_zero {f : Nat → Nat} : ∀ i, sumN f i = 0 ↔ ∀ j, j < i → f j = 0 := by
  intro i
  induction i with
  | zero => exact ⟨fun _ j h => absurd h (Nat.not_lt_zero _), fun _ => rfl⟩
  | succ i ih =>
    rw [sumN]
    constructor
    · intro h j hj
      by_cases e : j = i
      · subst e; omega
      · exact (ih.mp (by omega)) j (by omega)
    · intro h
      have h1 := ih.mpr (fun j hj => h j (by omega))
      have h2 := h i (by omega)
      omega
theorem allB_all {f : Nat → Bool} : ∀ i, allB f i = true ↔ ∀ j, j < i → f j = true := by
  intro i
  induction i with
  | zero => exact ⟨fun _ j h => absurd h (Nat.not_lt_zero _), fun _ => rfl⟩
  | succ i ih =>
    rw [allB, Bool.and_eq_true, ih]
    constructor
    · intro h j hj
      by_cases e : j = i
      · subst e; exact h.2
      · exact h.1 j (by omega)
    · intro h; exact ⟨fun j hj => h j (by omega), h i (by omega)⟩
theorem setN_z {f : Nat → Bool} {n : Nat} (hn : n ≤ 8) : setN f n = 0 ↔ ∀ u, u < n → ¬ f u = true := by
  rw [← pop_pos _ (setN_256 f hn), pop_setN f n hn]
  unfold cntN
  rw [sumN_zero]
  constructor
  · intro h u hu k
    have := h u hu
    unfold cntF at this
    rw [if_pos k] at this
    exact absurd this (by decide)
  · intro h u hu
    unfold cntF
    rw [if_neg (h u hu)]
theorem clean_iff {s : Nat → Nat → Int32} {n : Nat} (hB : NB s n) (hn : n ≤ 8) (hr : ∀ u, u < n → ¬ 0 < s 25 u ∨ rightB s u = true) : hitsT s n (prods s n) + crowdsT s n = 0 ↔ cleanB s n = true := by
  have h1 : hitsT s n (prods s n) = 0 ↔ allB (cleanF s n (prods s n)) (prods s n).length = true := by
    unfold hitsT
    rw [sumN_zero, allB_all]
    constructor
    · intro h j hj
      unfold cleanF
      rw [decide_eq_true_iff]
      exact (pop_pos _ (setN_256 _ hn)).mp (h j hj)
    · intro h j hj
      have := h j hj
      unfold cleanF at this
      rw [decide_eq_true_iff] at this
      exact (pop_pos _ (setN_256 _ hn)).mpr this
  have h2 : crowdsT s n = 0 ↔ ∀ u, u < n → setN (crowdB s u) n = 0 := by
    have e := prN_2 (f := crowdB s) (m := n) (fun a b ha hb => by
      have e : absI (s 25 a - s 25 b) = absI (s 25 b - s 25 a) := by
        rw [(hB.1 a ha).1, (hB.1 b hb).1]
        exact abs_61 _ (hB.1 a ha).2 _ (hB.1 b hb).2
      unfold crowdB
      rw [e, Int32.and_comm (s 25 (73 + a)), show decide (a = b) = decide (b = a) from decide_eq_decide.mpr eq_comm, show decide (s 6 a = s 6 b) = decide (s 6 b = s 6 a) from decide_eq_decide.mpr eq_comm]
      cases decide (b = a) <;> cases decide (s 6 b = s 6 a) <;> cases decide (0 < s 25 a) <;> cases decide (0 < s 25 b) <;> simp) (fun a => by unfold crowdB; simp) n (Nat.le_refl _)
    have z : (crowdsT s n = 0) ↔ sumN (fun u => cntN (crowdB s u) n) n = 0 := by rw [← crowdsT_p hB hn, e]; omega
    rw [z, sumN_zero]
    constructor
    · intro h u hu; exact (pop_pos _ (setN_256 _ hn)).mp ((pop_setN _ _ hn).trans (h u hu))
    · intro h u hu; exact (pop_setN _ _ hn).symm.trans ((pop_pos _ (setN_256 _ hn)).mpr (h u hu))
  have h3 : allB (calmB s n) n = true ↔ ∀ u, u < n → setN (crowdB s u) n = 0 := by
    rw [allB_all]
    constructor
    · intro h u hu
      have := h u hu
      unfold calmB at this
      simp only [Bool.or_eq_true, Bool.not_eq_true', decide_eq_false_iff_not, Bool.and_eq_true, decide_eq_true_eq] at this
      rcases this with k | k
      · refine (setN_z hn).mpr fun v _ hc => ?_
        unfold crowdB at hc
        simp only [Bool.and_eq_true, decide_eq_true_eq] at hc
        exact k hc.1.1.2
      · exact k.2
    · intro h u hu
      unfold calmB
      simp only [Bool.or_eq_true, Bool.not_eq_true', decide_eq_false_iff_not, Bool.and_eq_true, decide_eq_true_eq]
      rcases hr u hu with k | k
      · exact Or.inl k
      · exact Or.inr ⟨k, h u hu⟩
  unfold cleanB
  rw [Bool.and_eq_true, h3, ← h2, ← h1]
  omega
theorem clean_un {s : Nat → Nat → Int32} {n u : Nat} (hu : u < n) (h : 0 < s 25 u) (hr : ¬ rightB s u = true) : ¬ cleanB s n = true := by
  intro k
  unfold cleanB at k
  rw [Bool.and_eq_true, allB_all] at k
  have := k.1 u hu
  unfold calmB at this
  simp only [Bool.or_eq_true, Bool.not_eq_true', decide_eq_false_iff_not, Bool.and_eq_true] at this
  rcases this with z | z
  · exact z h
  · exact hr z.1
