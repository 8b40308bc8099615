/-! ROWS THAT GROW: what is counted, what the reference says -/
set_option maxRecDepth 100000
/-- a row of M channels g, all of one site, heard, in all slots -/
def gwS (τ : Nat → Nat → Int32) (o near far : Int32) (g : Nat → Int32) : Nat → Nat → Int32 := fun r =>
  if r = 0 then (fun j => if j = 30 then nI 60 else if j = 31 then near else if j = 32 then far else if j = 33 then o else 0)
  else if r = 3 then τ 3 else if r = 12 then τ 12 else if r = 6 then (fun _ => nI 0) else if r = 46 then (fun _ => nI 999)
  else if r = 25 then (fun j => if j < 8 then g j else nI 255) else fun _ => 0
theorem gwS_25 {τ : Nat → Nat → Int32} {o near far : Int32} {g : Nat → Int32} {j : Nat} (h : j < 8) : gwS τ o near far g 25 j = g j := by
  show (if j < 8 then g j else nI 255) = g j
  rw [if_pos h]
theorem gwS_73 {τ : Nat → Nat → Int32} {o near far : Int32} {g : Nat → Int32} {j : Nat} : gwS τ o near far g 25 (73 + j) = nI 255 := by
  show (if 73 + j < 8 then g (73 + j) else nI 255) = nI 255
  rw [if_neg (by omega)]
theorem gw_th {τ : Nat → Nat → Int32} {o near far : Int32} {g : Nat → Int32} {M a : Nat} (hM : M ≤ 8) (ha : a < M) (hg : ∀ j, j < M → 0 < g j) : thB (gwS τ o near far g) a 0 = true := by
  unfold thB
  have e : gwS τ o near far g 6 a = nI 0 := rfl
  rw [e, gwS_25 (by omega)]
  simp [hg a ha]
theorem catN_in {f : Nat → List Pr} {i j : Nat} {q : Pr} (hj : j < i) (h : q ∈ f j) : q ∈ catN f i := by
  induction i with
  | zero => omega
  | succ i ih =>
    rw [catN]
    rcases Nat.lt_or_ge j i with z | z
    · exact List.mem_append_left _ (ih z)
    · rw [show j = i by omega] at h; exact List.mem_append_right _ h
theorem okL_in {s : Nat → Nat → Int32} {q : Pr} (h : okP s q = true) : q ∈ okL s q := by unfold okL; rw [if_pos h]; exact List.mem_cons_self
/-- a product of the row -/
def GQ (o : Int32) (M : Nat) (q : Pr) : Prop := q.1 < 6 ∧ ¬ o &&& bO q.1 = 0 ∧ q.2.1 < M ∧ q.2.2.1 < M ∧ q.2.1 ≠ q.2.2.1 ∧ ¬ (ordK q.1 = true ∧ q.2.2.1 < q.2.1) ∧ ((third q.1 = true ∧ ∃ w, q.2.2.2 = some w ∧ w < M ∧ w ≠ q.2.1 ∧ w ≠ q.2.2.1) ∨ (third q.1 = false ∧ q.2.2.2 = none))
theorem gw_prods {τ : Nat → Nat → Int32} {o near far : Int32} {g : Nat → Int32} {M : Nat} (hM : M ≤ 8) (hg : ∀ j, j < M → 0 < g j) (q : Pr) : q ∈ prods (gwS τ o near far g) M ↔ (GQ o M q ∧ okP (gwS τ o near far g) q = true) := by
  have e33 : gwS τ o near far g 0 33 = o := rfl
  constructor
  · intro h
    obtain ⟨at0, hat, h⟩ := catN_mem h
    obtain ⟨k, hk, h⟩ := catN_mem h
    unfold fK at h
    rw [e33] at h
    split at h
    · cases h
    rename_i hor
    obtain ⟨a, ha, h⟩ := catN_mem h
    obtain ⟨b, hb, h⟩ := catN_mem h
    unfold fB at h
    split at h
    · rename_i hc
      simp only [Bool.and_eq_true, Bool.not_eq_true', decide_eq_false_iff_not, Bool.and_eq_false_iff] at hc
      have hord : ¬ (ordK k = true ∧ b < a) := by
        rintro ⟨z1, z2⟩
        rcases hc.2 with z | z
        · rw [z1] at z; cases z
        · exact z z2
      split at h
      · rename_i h3
        obtain ⟨c, hc2, h⟩ := catN_mem h
        unfold fC at h
        split at h
        · rename_i hd
          simp only [Bool.and_eq_true, Bool.not_eq_true', decide_eq_false_iff_not] at hd
          obtain ⟨rfl, ho⟩ := okL_mem h
          exact ⟨⟨hk, hor, ha, hb, hc.1.2, hord, Or.inl ⟨h3, c, rfl, hc2, hd.1.2, hd.2⟩⟩, ho⟩
        · cases h
      · rename_i h3
        obtain ⟨rfl, ho⟩ := okL_mem h
        exact ⟨⟨hk, hor, ha, hb, hc.1.2, hord, Or.inr ⟨by simpa using h3, rfl⟩⟩, ho⟩
    · cases h
  · rintro ⟨⟨hk, hor, ha, hb, hab, hord, hc⟩, ho⟩
    obtain ⟨k, a, b, c⟩ := q
    dsimp only at *
    have hcond : (thB (gwS τ o near far g) a 0 && thB (gwS τ o near far g) b 0 && !decide (a = b) && !(ordK k && decide (b < a))) = true := by
      rw [gw_th hM ha hg, gw_th hM hb hg, decide_eq_false hab]
      cases z : ordK k with
      | false => rfl
      | true =>
        have : ¬ b < a := fun y => hord ⟨z, y⟩
        rw [decide_eq_false this]; rfl
    refine catN_in (show 0 < 3 by decide) (catN_in hk ?_)
    unfold fK
    rw [e33, if_neg hor]
    refine catN_in ha (catN_in hb ?_)
    unfold fB
    rw [if_pos hcond]
    rcases hc with ⟨h3, w, rfl, hw, h1, h2⟩ | ⟨h3, rfl⟩
    · rw [if_pos h3]
      refine catN_in hw ?_
      unfold fC
      rw [if_pos (by rw [gw_th hM hw hg, decide_eq_false h1, decide_eq_false h2]; rfl)]
      exact okL_in ho
    · rw [if_neg (by rw [h3]; decide)]
      exact okL_in ho
theorem gw_pv {τ : Nat → Nat → Int32} {o near far : Int32} {g : Nat → Int32} {M : Nat} (hM : M ≤ 8) {q : Pr} (h : GQ o M q) : pvF (gwS τ o near far g) q = sumR g q.1 q.2.1 q.2.2.1 q.2.2.2 := by
  obtain ⟨hk, hor, ha, hb, hab, hord, hc⟩ := h
  obtain ⟨k, a, b, c⟩ := q
  dsimp only at *
  unfold pvF sumR
  dsimp only
  rw [gwS_25 (by omega), gwS_25 (by omega)]
  rcases hc with ⟨h3, w, rfl, hw, h1, h2⟩ | ⟨h3, rfl⟩
  · dsimp only
    rw [gwS_25 (by omega)]
  · dsimp only
    rw [nI_0, Int32.add_zero]
theorem gw_pc {τ : Nat → Nat → Int32} {o near far : Int32} {g : Nat → Int32} {q : Pr} : pcF (gwS τ o near far g) q = nI 255 := by
  unfold pcF
  rw [gwS_73, gwS_73]
  cases q.2.2.2 with
  | none => dsimp only; decide
  | some w => dsimp only; rw [gwS_73]; decide
theorem gw_pl {τ : Nat → Nat → Int32} {o near far : Int32} {g : Nat → Int32} {M : Nat} (hl : ∀ j, j < 3 → In (τ 3 (4 + j)) 100) {q : Pr} (h : GQ o M q) : ¬ plFg (gwS τ o near far g) q < 0 := by
  obtain ⟨hk, hor, ha, hb, hab, hord, hc⟩ := h
  obtain ⟨k, a, b, c⟩ := q
  dsimp only at *
  have e46 : ∀ j, gwS τ o near far g 46 j = nI 999 := fun _ => rfl
  have e3 : gwS τ o near far g 3 = τ 3 := rfl
  have hk2 := hl (k / 2) (by omega)
  have key : ∀ k, k < 6 → ∀ x, x < 100 → ¬ (tA k * nI 999 + absI (tB k) * nI 999 - nI x < 0) ∧ ¬ (tA k * nI 999 + absI (tB k) * nI 999 + absI (tC k) * nI 999 - nI x < 0) := by decide +kernel
  have kk := key k hk (tN (τ 3 (4 + k / 2))) hk2.2
  unfold plFg
  dsimp only
  cases c with
  | none => dsimp only; rw [e46, e46, e3, hk2.1]; exact kk.1
  | some w => dsimp only; rw [e46, e46, e46, e3, hk2.1]; exact kk.2
theorem gw_hit {τ : Nat → Nat → Int32} {o near far : Int32} {g : Nat → Int32} {M u : Nat} (hM : M ≤ 8) (hg : ∀ j, j < M → 0 < g j) (hl : ∀ j, j < 3 → In (τ 3 (4 + j)) 100) {q : Pr} (h : GQ o M q) (hu : u < M) : hitQg (gwS τ o near far g) q u = (!inQ q u && !decide (near < absI (g u - sumR g q.1 q.2.1 q.2.2.1 q.2.2.2))) := by
  have e31 : gwS τ o near far g 0 31 = near := rfl
  have e6 : ∀ j, gwS τ o near far g 6 j = nI 0 := fun _ => rfl
  have hu0 : ¬ g u = 0 := fun z => by have := hg u hu; rw [z] at this; exact absurd this (by decide)
  unfold hitQg mayQg
  rw [gw_pv hM h, gw_pc, gwS_73, gwS_25 (by omega), e31, e6, e6, decide_eq_false (gw_pl hl h), decide_eq_false hu0, decide_eq_false (show ¬ (nI 255 &&& nI 255 = (0 : Int32)) by decide)]
  cases inQ q u <;> simp
theorem gw_nr {g : Nat → Int32} {v near : Int32} {o : Int32} {M u : Nat} (hM : M ≤ 8) {q : Pr} (h : GQ o M q) (hu : u < M) : nearR g v near q.2.1 q.2.2.1 q.2.2.2 u = (!inQ q u && !decide (near < absI (g u - v))) := by
  obtain ⟨hk, hor, ha, hb, hab, hord, hc⟩ := h
  obtain ⟨k, a, b, c⟩ := q
  dsimp only at *
  unfold nearR inQ
  dsimp only
  have e : decide (nI u = cI c) = decide (c = some u) := by
    apply decide_eq_decide.mpr
    rcases hc with ⟨h3, w, rfl, hw, h1, h2⟩ | ⟨h3, rfl⟩
    · show nI u = nI w ↔ _
      rw [nI_eq (by omega) (by omega)]
      constructor
      · rintro rfl; rfl
      · intro z; cases z; rfl
    · constructor
      · intro z
        exfalso
        have z2 : nI u = -2 := z
        have := nI_pos (n := u) (by omega)
        rw [z2] at this
        exact this (by decide)
      · intro z; cases z
  rw [e, show decide (u = a) = decide (a = u) from decide_eq_decide.mpr eq_comm, show decide (u = b) = decide (b = u) from decide_eq_decide.mpr eq_comm]
  cases decide (a = u) <;> cases decide (b = u) <;> cases decide (c = some u) <;> rfl
theorem exB_iff {f : Nat → Bool} : ∀ i, exB f i = true ↔ ∃ j, j < i ∧ f j = true := by
  intro i
  induction i with
  | zero => exact ⟨fun h => Bool.noConfusion h, fun ⟨j, h, _⟩ => absurd h (Nat.not_lt_zero _)⟩
  | succ i ih =>
    rw [exB, Bool.or_eq_true, ih]
    constructor
    · rintro (⟨j, h1, h2⟩ | h)
      · exact ⟨j, by omega, h2⟩
      · exact ⟨i, by omega, h⟩
    · rintro ⟨j, h1, h2⟩
      by_cases e : j = i
      · subst e; exact Or.inr h2
      · exact Or.inl ⟨j, by omega, h2⟩
/-- one product and the row: hit by nothing -/
def QC (g : Nat → Int32) (near : Int32) (M : Nat) (q : Pr) : Prop := ¬ hitR g (sumR g q.1 q.2.1 q.2.2.1 q.2.2.2) near M q.2.1 q.2.2.1 q.2.2.2 = true
theorem gw_one {τ : Nat → Nat → Int32} {o near far : Int32} {g : Nat → Int32} {M : Nat} (hM : M ≤ 8) (hg : ∀ j, j < M → 0 < g j) (hl : ∀ j, j < 3 → In (τ 3 (4 + j)) 100) {q : Pr} (h : GQ o M q) : (okP (gwS τ o near far g) q = true → hsQg (gwS τ o near far g) M q = 0) ↔ QC g near M q := by
  have e30 : gwS τ o near far g 0 30 = nI 60 := rfl
  have eok : okP (gwS τ o near far g) q = (!decide (sumR g q.1 q.2.1 q.2.2.1 q.2.2.2 < nI 1) && !decide (nI 60 < sumR g q.1 q.2.1 q.2.2.1 q.2.2.2)) := by
    unfold okP
    rw [gw_pv hM h, gw_pc, e30, decide_eq_false (show ¬ (nI 255 = (0 : Int32)) by decide)]
    simp
  have ehs : hsQg (gwS τ o near far g) M q = 0 ↔ ¬ exB (nearR g (sumR g q.1 q.2.1 q.2.2.1 q.2.2.2) near q.2.1 q.2.2.1 q.2.2.2) M = true := by
    unfold hsQg
    rw [setN_z hM, exB_iff]
    constructor
    · rintro z ⟨u, hu, hx⟩
      rw [gw_nr hM h hu] at hx
      refine z u hu ?_
      rw [gw_hit hM hg hl h hu]; exact hx
    · intro z u hu hx
      rw [gw_hit hM hg hl h hu] at hx
      exact z ⟨u, hu, by rw [gw_nr hM h hu]; exact hx⟩
  unfold QC hitR
  rw [eok, ehs]
  simp only [Bool.and_eq_true]
  constructor
  · intro z y; exact z y.1 y.2
  · intro z y1 y2; exact z ⟨y1, y2⟩
theorem crowds_z {s : Nat → Nat → Int32} {n : Nat} (hB : NB s n) (hn : n ≤ 8) : crowdsT s n = 0 ↔ ∀ u, u < n → ∀ v, v < n → ¬ crowdB s u v = true := by
  have e := prN_2 (f := crowdB s) (m := n) (fun a b ha hb => by
    have e : absI (s 25 a - s 25 b) = absI (s 25 b - s 25 a) := by
      rw [(hB.1 a ha).1, (hB.1 b hb).1]
      exact abs_61 _ (hB.1 a ha).2 _ (hB.1 b hb).2
    unfold crowdB
    rw [e, Int32.and_comm (s 25 (73 + a)), show decide (a = b) = decide (b = a) from decide_eq_decide.mpr eq_comm, show decide (s 6 a = s 6 b) = decide (s 6 b = s 6 a) from decide_eq_decide.mpr eq_comm]
    cases decide (b = a) <;> cases decide (s 6 b = s 6 a) <;> cases decide (0 < s 25 a) <;> cases decide (0 < s 25 b) <;> simp) (fun a => by unfold crowdB; simp) n (Nat.le_refl _)
  have z : (crowdsT s n = 0) ↔ sumN (fun u => cntN (crowdB s u) n) n = 0 := by rw [← crowdsT_p hB hn, e]; omega
  rw [z, sumN_zero]
  constructor
  · intro h u hu
    exact (setN_z hn).mp ((pop_pos _ (setN_256 _ hn)).mp ((pop_setN _ _ hn).trans (h u hu)))
  · intro h u hu
    exact (pop_setN _ _ hn).symm.trans ((pop_pos _ (setN_256 _ hn)).mpr ((setN_z hn).mpr (h u hu)))
theorem cK_iff {g : Nat → Int32} {o near : Int32} {M a b k : Nat} (ha : a < M) (hb : b < M) (hab : a ≠ b) (hk : k < 6) : cK g o near M a b k = true ↔ ∀ c, GQ o M (k, a, b, c) → QC g near M (k, a, b, c) := by
  unfold cK
  rw [Bool.or_eq_true, Bool.or_eq_true, Bool.and_eq_true, decide_eq_true_eq, decide_eq_true_eq]
  constructor
  · rintro ((h | h) | h) c hq
    · exact absurd h hq.2.1
    · exact absurd h hq.2.2.2.2.2.1
    · rcases hq.2.2.2.2.2.2 with ⟨h3, w, hc, hw, h1, h2⟩ | ⟨h3, hc⟩
      · have h3 : third k = true := h3
        have hc : c = some w := hc
        subst hc
        rw [if_pos h3, allB_all] at h
        have := h w hw
        unfold cC3 at this
        have h1 : w ≠ a := h1
        have h2 : w ≠ b := h2
        rw [decide_eq_false h1, decide_eq_false h2] at this
        simpa [QC] using this
      · have h3 : third k = false := h3
        have hc : c = none := hc
        subst hc
        rw [h3, if_neg (by decide)] at h
        simpa [QC] using h
  · intro h
    by_cases h0 : o &&& bO k = 0
    · exact Or.inl (Or.inl h0)
    by_cases h1 : ordK k = true ∧ b < a
    · exact Or.inl (Or.inr h1)
    refine Or.inr ?_
    cases h3 : third k with
    | true =>
      rw [if_pos rfl, allB_all]
      intro c hc
      unfold cC3
      by_cases e1 : c = a
      · rw [decide_eq_true e1]; rfl
      by_cases e2 : c = b
      · rw [decide_eq_true e2]; simp
      have := h (some c) ⟨hk, h0, ha, hb, hab, h1, Or.inl ⟨h3, c, rfl, hc, e1, e2⟩⟩
      rw [decide_eq_false e1, decide_eq_false e2]
      simpa [QC] using this
    | false =>
      rw [if_neg (by decide)]
      have := h none ⟨hk, h0, ha, hb, hab, h1, Or.inr ⟨h3, rfl⟩⟩
      simpa [QC] using this
/-- no trouble: the row is clean -/
theorem gw_iff {τ : Nat → Nat → Int32} {o near far : Int32} {g : Nat → Int32} {M : Nat} (hM : M ≤ 8) (hg : ∀ j, j < M → In (g j) 61 ∧ 0 < g j) (hl : ∀ j, j < 3 → In (τ 3 (4 + j)) 100) : hitsTg (gwS τ o near far g) M (prods (gwS τ o near far g) M) + crowdsT (gwS τ o near far g) M = 0 ↔ rcB g o near far M = true := by
  have hg0 : ∀ j, j < M → 0 < g j := fun j hj => (hg j hj).2
  have hB : NB (gwS τ o near far g) M := ⟨fun u hu => by rw [gwS_25 (by omega)]; exact (hg u hu).1, In.of (n := 60) (by decide) (by decide)⟩
  have h1 : hitsTg (gwS τ o near far g) M (prods (gwS τ o near far g) M) = 0 ↔ ∀ q, GQ o M q → QC g near M q := by
    unfold hitsTg
    rw [sumN_zero]
    constructor
    · intro h q hq
      refine (gw_one (τ := τ) (far := far) hM hg0 hl hq).mp fun ho => ?_
      obtain ⟨i, hi⟩ := List.getElem?_of_mem ((gw_prods (τ := τ) (near := near) (far := far) hM hg0 q).mpr ⟨hq, ho⟩)
      have hl2 := (List.getElem?_eq_some_iff.mp hi).1
      have e : qAt (prods (gwS τ o near far g) M) i = q := by unfold qAt; rw [List.getD_eq_getElem?_getD, hi]; rfl
      have := h i hl2
      unfold hitsFg at this
      rw [e] at this
      exact (pop_pos _ (setN_256 _ hM)).mp this
    · intro h i hi
      have hm := (gw_prods (τ := τ) (near := near) (far := far) hM hg0 _).mp (qAt_mem hi)
      unfold hitsFg
      exact (pop_pos _ (setN_256 _ hM)).mpr ((gw_one (τ := τ) (far := far) hM hg0 hl hm.1).mpr (h _ hm.1) hm.2)
  have h2 : crowdsT (gwS τ o near far g) M = 0 ↔ ∀ a, a < M → ∀ b, b < M → a = b ∨ ¬ absI (g a - g b) < far := by
    rw [crowds_z hB hM]
    have ec : ∀ a, a < M → ∀ b, b < M → crowdB (gwS τ o near far g) a b = (!decide (a = b) && decide (absI (g a - g b) < far)) := by
      intro a ha b hb
      have e32 : gwS τ o near far g 0 32 = far := rfl
      have e6 : ∀ j, gwS τ o near far g 6 j = nI 0 := fun _ => rfl
      unfold crowdB
      rw [gwS_73, gwS_73, gwS_25 (by omega), gwS_25 (by omega), e32, e6, e6, decide_eq_true (hg0 a ha), decide_eq_true (hg0 b hb), decide_eq_false (show ¬ (nI 255 &&& nI 255 = (0 : Int32)) by decide)]
      cases decide (a = b) <;> simp
    constructor
    · intro h a ha b hb
      have := h a ha b hb
      rw [ec a ha b hb] at this
      by_cases e : a = b
      · exact Or.inl e
      · right
        intro z
        rw [decide_eq_false e, decide_eq_true z] at this
        exact this rfl
    · intro h a ha b hb z
      rw [ec a ha b hb] at z
      simp only [Bool.and_eq_true, Bool.not_eq_true', decide_eq_false_iff_not, decide_eq_true_eq] at z
      rcases h a ha b hb with e | e
      · exact z.1 e
      · exact e z.2
  have h3 : rcB g o near far M = true ↔ ∀ a, a < M → ∀ b, b < M → a = b ∨ (¬ absI (g a - g b) < far ∧ ∀ k, k < 6 → cK g o near M a b k = true) := by
    unfold rcB
    rw [allB_all]
    constructor
    · intro h a ha b hb
      have := (allB_all _).mp (h a ha) b hb
      unfold cB2 at this
      rw [Bool.or_eq_true, decide_eq_true_eq, Bool.and_eq_true, Bool.not_eq_true', decide_eq_false_iff_not, allB_all] at this
      exact this
    · intro h a ha
      rw [allB_all]
      intro b hb
      unfold cB2
      rw [Bool.or_eq_true, decide_eq_true_eq, Bool.and_eq_true, Bool.not_eq_true', decide_eq_false_iff_not, allB_all]
      exact h a ha b hb
  rw [Nat.add_eq_zero_iff, h1, h2, h3]
  constructor
  · rintro ⟨x, y⟩ a ha b hb
    by_cases e : a = b
    · exact Or.inl e
    · exact Or.inr ⟨(y a ha b hb).resolve_left e, fun k hk => (cK_iff ha hb e hk).mpr fun c hq => x _ hq⟩
  · intro h
    refine ⟨fun q hq => ?_, fun a ha b hb => (h a ha b hb).imp id (fun z => z.1)⟩
    obtain ⟨k, a, b, c⟩ := q
    have hq2 := hq
    obtain ⟨hk, hor, ha, hb, hab, hord, hc⟩ := hq2
    rcases h a ha b hb with e | e
    · exact absurd e hab
    · exact (cK_iff ha hb hab hk).mp (e.2 k hk) c hq
