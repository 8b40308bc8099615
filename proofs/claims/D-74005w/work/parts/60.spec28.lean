/-! AN AIR: the relation of what is counted; one product more -/
def SK (s : Nat → Nat → Int32) (n : Nat) (q : Pr) (Y : Nat → Nat → Int32) : Prop := Y 0 19 = nI q.1 ∧ Y 0 20 = nI q.2.1 ∧ Y 0 21 = nI q.2.2.1 ∧ Y 0 22 = cI q.2.2.2 ∧ Y 0 23 = pvF s q ∧ Y 0 24 = plF s q ∧ Y 0 25 = nI (hsQ s n q)
def AL (s : Nat → Nat → Int32) (n : Nat) (sg : Int32) (L : List Pr) (Y : Nat → Nat → Int32) : Prop := AI s Y n ∧ Y 0 18 = sg ∧ Y 0 14 = nI L.length ∧ Y 0 15 = nI (heardN s L) ∧ Y 0 16 = nI (hitsT s n L) ∧ (∀ k w, k < 6 → w < 3 → Y 9 (3 * k + w) = nI (sortN s n L k w)) ∧ (Y 0 26 = optI (loudN s n L) ∧ (loudN s n L ≠ 0 → Y 0 27 = plF s (qAt L (loudN s n L - 1)))) ∧ (∀ u, u < n → Y 8 u = nearN s L u) ∧ (sg < 0 → ∀ u, u < n → Y 4 u = nI (hitN s L u) ∧ Y 5 u = nI (madeN s n L u) ∧ Y 7 u = whenN s L u) ∧ ∀ p, sg = nI p → p < L.length → SK s n (qAt L p) Y
def NB (s : Nat → Nat → Int32) (n : Nat) : Prop := (∀ u, u < n → In (s 25 u) 61) ∧ In (s 0 30) 61
theorem far_61 : ∀ a, a < 61 → ∀ b, b < 61 → absI (nI a - nI b) = nI (tN (absI (nI a - nI b))) ∧ tN (absI (nI a - nI b)) < 61 := by decide +kernel
theorem pv_61 {s : Nat → Nat → Int32} {n : Nat} {q : Pr} (h : NB s n) (ho : okP s q = true) : In (pvF s q) 61 := by
  unfold okP at ho
  simp only [Bool.and_eq_true, Bool.not_eq_true', decide_eq_false_iff_not] at ho
  obtain ⟨⟨h1, h2⟩, -⟩ := ho
  have hb := h.2
  have h3 : ¬ pvF s q < 0 := fun k => h1 (Int32.lt_trans k (by decide))
  obtain ⟨j, hj, e⟩ := nI_of h3
  rw [e] at h2 ⊢
  rw [hb.1] at h2
  have h4 : j ≤ tN (s 0 30) := by
    rcases Nat.lt_or_ge (tN (s 0 30)) j with c | c
    · exact absurd (nI_lt c hj) h2
    · exact c
  exact In.of (by have := hb.2; omega) (by decide)
theorem far_in {s : Nat → Nat → Int32} {n u : Nat} {q : Pr} (h : NB s n) (hu : u < n) (ho : okP s q = true) : In (farQ s q u) 61 := by
  obtain ⟨a1, a2⟩ := h.1 u hu
  obtain ⟨b1, b2⟩ := pv_61 h ho
  unfold farQ
  rw [a1, b1]
  exact far_61 _ a2 _ b2
theorem near_nn {s : Nat → Nat → Int32} {n u : Nat} (h : NB s n) (hu : u < n) {L : List Pr} (hL : ∀ q ∈ L, okP s q = true) : nearN s L u = -2 ∨ In (nearN s L u) 61 := by
  have key : ∀ p, p ≤ L.length → clearF s L u p = -2 ∨ In (clearF s L u p) 61 := by
    intro p
    induction p with
    | zero => intro _; exact Or.inl rfl
    | succ p ih =>
      intro hp
      have hf : In (farF s L u p) 61 := far_in h hu (hL _ (qAt_mem (by omega)))
      rw [clearF]
      split
      · split
        · exact Or.inr hf
        · exact ih (by omega)
      · exact ih (by omega)
  exact key _ (Nat.le_refl _)
theorem In.nneg {x : Int32} {k : Nat} (h : In x k) (hk : k ≤ 2 ^ 31) : ¬ x < 0 := by rw [h.1]; exact nI_pos (by have := h.2; omega)
theorem nv_near {x far : Int32} (h : x = -2 ∨ In x 61) : nvF x far = if x = -2 ∨ far < x then far else x := by
  unfold nvF
  rcases h with rfl | h
  · rw [if_pos (by decide), if_pos (Or.inl rfl)]
  · have h0 := h.nneg (by decide)
    have h2 : ¬ x = -2 := by intro e; rw [e] at h0; exact h0 (by decide)
    rw [if_neg h0]
    by_cases k : far < x
    · rw [if_neg (Int32.not_lt.mpr (Int32.le_of_lt k)), if_pos (Or.inr k)]
    · have k3 : ¬ (x = -2 ∨ far < x) := fun z => by
        rcases z with z | z
        · exact h2 z
        · exact k z
      rw [if_neg k3]
      by_cases k2 : x < far
      · rw [if_pos k2]
      · rw [if_neg k2]
        exact Int32.le_antisymm (Int32.not_lt.mp k2) (Int32.not_lt.mp k)
def mkZ (s : Nat → Nat → Int32) (n : Nat) (q : Pr) (sg : Int32) (Y : Nat → Nat → Int32) : Nat → Nat → Int32 := if sg < 0 then cntS s q (hsQ s n q) (pcF s q) (nearW s q Y n) n else nearW s q Y n
def srS (k S : Nat) (pl : Int32) (Z : Nat → Nat → Int32) : Nat → Nat → Int32 := st1 (st1 (st1 Z 9 (3 * k) (Z 9 (3 * k) + nI 1)) 9 (3 * k + 1) (Z 9 (3 * k + 1) + nI (if pl < 0 then 0 else 1))) 9 (3 * k + 2) (Z 9 (3 * k + 2) + nI (pop S))
def ldS (S : Nat) (pl : Int32) (Z : Nat → Nat → Int32) : Nat → Nat → Int32 := if S ≠ 0 ∧ (Z 0 26 < 0 ∨ Z 0 27 < pl) then st1 (st1 Z 0 26 (Z 0 14)) 0 27 pl else Z
def skS (s : Nat → Nat → Int32) (n : Nat) (q : Pr) (Z : Nat → Nat → Int32) : Nat → Nat → Int32 := if Z 0 14 = Z 0 18 then st1 (st1 (st1 (st1 (st1 (st1 (st1 Z 0 19 (nI q.1)) 0 20 (nI q.2.1)) 0 21 (nI q.2.2.1)) 0 22 (cI q.2.2.2)) 0 23 (pvF s q)) 0 24 (plF s q)) 0 25 (nI (hsQ s n q)) else Z
def fiS (s : Nat → Nat → Int32) (n : Nat) (q : Pr) (V : Nat → Nat → Int32) : Nat → Nat → Int32 := st1 (st1 (st1 V 0 14 (V 0 14 + nI 1)) 0 15 (V 0 15 + nI (if plF s q < 0 then 0 else 1))) 0 16 (V 0 16 + nI (pop (hsQ s n q)))
def makS (s : Nat → Nat → Int32) (n : Nat) (q : Pr) (sg : Int32) (Y : Nat → Nat → Int32) : Nat → Nat → Int32 := fiS s n q (skS s n q (ldS (hsQ s n q) (plF s q) (srS q.1 (hsQ s n q) (plF s q) (mkZ s n q sg Y))))
theorem mkZ_r {s Y : Nat → Nat → Int32} {n r : Nat} {q : Pr} {sg : Int32} (h8 : r ≠ 8) (h5 : r ≠ 5) (h4 : r ≠ 4) (h7 : r ≠ 7) : mkZ s n q sg Y r = Y r := by
  unfold mkZ
  split
  · rw [cntS_r h5 h4 h7, nearW_r h8]
  · rw [nearW_r h8]
theorem mkZ_8 {s Y : Nat → Nat → Int32} {n u : Nat} {q : Pr} {sg : Int32} (hu : u < n) : mkZ s n q sg Y 8 u = if mayQ s q u = true then nvF (Y 8 u) (farQ s q u) else Y 8 u := by
  have e : mkZ s n q sg Y 8 = nearW s q Y n 8 := by
    unfold mkZ
    split
    · rw [cntS_r (by decide) (by decide) (by decide)]
    · rfl
  rw [e, nearW_8]
  by_cases m : mayQ s q u = true
  · rw [if_pos m, if_pos ⟨hu, m⟩]
  · rw [if_neg m, if_neg (fun k => m k.2)]
theorem srS_r {k S r : Nat} {pl : Int32} {Z : Nat → Nat → Int32} (h : r ≠ 9) : srS k S pl Z r = Z r := by unfold srS; rw [st1_ne h, st1_ne h, st1_ne h]
theorem srS_9 {k S j w : Nat} {pl : Int32} {Z : Nat → Nat → Int32} (hw : w < 3) : srS k S pl Z 9 (3 * j + w) = if k = j then Z 9 (3 * j + w) + nI (if w = 0 then 1 else if w = 1 then (if pl < 0 then 0 else 1) else pop S) else Z 9 (3 * j + w) := by
  unfold srS
  by_cases e : k = j
  · subst e
    rw [if_pos rfl]
    match w, hw with
    | 0, _ => rw [st1_nj (by omega), st1_nj (by omega)]; exact st1_eq
    | 1, _ => rw [st1_nj (by omega), st1_eq]; rfl
    | 2, _ => rw [st1_eq]; rfl
  · rw [if_neg e, st1_nj (by omega), st1_nj (by omega), st1_nj (by omega)]
theorem ldS_r {S r : Nat} {pl : Int32} {Z : Nat → Nat → Int32} (h : r ≠ 0) : ldS S pl Z r = Z r := by
  unfold ldS
  split
  · rw [st1_ne h, st1_ne h]
  · rfl
theorem ldS_j {S j : Nat} {pl : Int32} {Z : Nat → Nat → Int32} (h : j ≠ 26) (h2 : j ≠ 27) : ldS S pl Z 0 j = Z 0 j := by
  unfold ldS
  split
  · rw [st1_nj h2, st1_nj h]
  · rfl
theorem skS_r {s Z : Nat → Nat → Int32} {n r : Nat} {q : Pr} (h : r ≠ 0) : skS s n q Z r = Z r := by
  unfold skS
  split
  · rw [st1_ne h, st1_ne h, st1_ne h, st1_ne h, st1_ne h, st1_ne h, st1_ne h]
  · rfl
theorem skS_j {s Z : Nat → Nat → Int32} {n j : Nat} {q : Pr} (h : j < 19 ∨ 25 < j) : skS s n q Z 0 j = Z 0 j := by
  unfold skS
  split
  · rw [st1_nj (by omega), st1_nj (by omega), st1_nj (by omega), st1_nj (by omega), st1_nj (by omega), st1_nj (by omega), st1_nj (by omega)]
  · rfl
theorem fiS_r {s V : Nat → Nat → Int32} {n r : Nat} {q : Pr} (h : r ≠ 0) : fiS s n q V r = V r := by unfold fiS; rw [st1_ne h, st1_ne h, st1_ne h]
theorem fiS_j {s V : Nat → Nat → Int32} {n j : Nat} {q : Pr} (h : j ≠ 14) (h2 : j ≠ 15) (h3 : j ≠ 16) : fiS s n q V 0 j = V 0 j := by unfold fiS; rw [st1_nj h3, st1_nj h2, st1_nj h]
theorem makS_r {s Y : Nat → Nat → Int32} {n r : Nat} {q : Pr} {sg : Int32} (h0 : r ≠ 0) (h9 : r ≠ 9) : makS s n q sg Y r = mkZ s n q sg Y r := by unfold makS; rw [fiS_r h0, skS_r h0, ldS_r h0, srS_r h9]
theorem makS_j {s Y : Nat → Nat → Int32} {n j : Nat} {q : Pr} {sg : Int32} (h : j < 14 ∨ (16 < j ∧ j < 19) ∨ 27 < j) : makS s n q sg Y 0 j = Y 0 j := by
  unfold makS
  rw [fiS_j (by omega) (by omega) (by omega), skS_j (by omega), ldS_j (by omega) (by omega), srS_r (by decide), mkZ_r (by decide) (by decide) (by decide) (by decide)]
theorem optI_neg {k : Nat} (hk : k < 100000) : optI k < 0 ↔ k = 0 := by
  unfold optI
  constructor
  · intro h
    by_cases e : k = 0
    · exact e
    · rw [if_neg e] at h; exact absurd h (nI_pos (by omega))
  · intro e; rw [if_pos e]; decide
theorem optI_s1 (k : Nat) : optI (k + 1) = nI k := by unfold optI; rw [if_neg (by omega)]; rfl
theorem AL.add {s Y : Nat → Nat → Int32} {n : Nat} {sg : Int32} {L : List Pr} {q : Pr} (h : AL s n sg L Y) (hB : NB s n) (hL : ∀ r ∈ L, okP s r = true) (ho : okP s q = true) (hk : q.1 < 6) (hlen : L.length < 10000) : AL s n sg (L ++ [q]) (makS s n q sg Y) := by
  obtain ⟨hA, h18, h14, h15, h16, h9, ⟨h26, h27⟩, h8, hs, hp⟩ := h
  have hZ0 : mkZ s n q sg Y 0 = Y 0 := mkZ_r (by decide) (by decide) (by decide) (by decide)
  have hsr : ∀ k S pl, srS k S pl (mkZ s n q sg Y) 0 = Y 0 := fun k S pl => by rw [srS_r (by decide), hZ0]
  have hl := loudN_le s n L
  refine ⟨hA.cg (fun k a b => makS_j (by omega)) ?_ ?_ ?_ ?_, ?_, ?_, ?_, ?_, ?_, ?_, ?_, ?_, ?_⟩
  · rw [makS_r (by decide) (by decide), mkZ_r (by decide) (by decide) (by decide) (by decide)]
  · rw [makS_r (by decide) (by decide), mkZ_r (by decide) (by decide) (by decide) (by decide)]
  · rw [makS_r (by decide) (by decide), mkZ_r (by decide) (by decide) (by decide) (by decide)]
  · rw [makS_r (by decide) (by decide), mkZ_r (by decide) (by decide) (by decide) (by decide)]
  · rw [makS_j (by omega), h18]
  · unfold makS fiS
    rw [st1_nj (by decide), st1_nj (by decide), st1_eq, skS_j (by omega), ldS_j (by omega) (by omega), hsr, h14, len_app, nI_add]
  · unfold makS fiS
    rw [st1_nj (by decide), st1_eq, skS_j (by omega), ldS_j (by omega) (by omega), hsr, h15, heardN_app, nI_add]
  · unfold makS fiS
    rw [st1_eq, skS_j (by omega), ldS_j (by omega) (by omega), hsr, h16, hitsT_app, nI_add]
  · intro k w hk6 hw
    have e : makS s n q sg Y 9 = srS q.1 (hsQ s n q) (plF s q) (mkZ s n q sg Y) 9 := by unfold makS; rw [fiS_r (by decide), skS_r (by decide), ldS_r (by decide)]
    rw [e, srS_9 hw, mkZ_r (by decide) (by decide) (by decide) (by decide), h9 k w hk6 hw, sortN_app]
    split
    · rw [nI_add]; rfl
    · rw [Nat.add_zero]
  · have e26 : makS s n q sg Y 0 26 = ldS (hsQ s n q) (plF s q) (srS q.1 (hsQ s n q) (plF s q) (mkZ s n q sg Y)) 0 26 := by unfold makS; rw [fiS_j (by decide) (by decide) (by decide), skS_j (by omega)]
    have e27 : makS s n q sg Y 0 27 = ldS (hsQ s n q) (plF s q) (srS q.1 (hsQ s n q) (plF s q) (mkZ s n q sg Y)) 0 27 := by unfold makS; rw [fiS_j (by decide) (by decide) (by decide), skS_j (by omega)]
    have hiff : (hsQ s n q ≠ 0 ∧ (Y 0 26 < 0 ∨ Y 0 27 < plF s q)) ↔ loudB s n L q := by
      unfold loudB
      rw [h26, optI_neg (by omega)]
      by_cases e : loudN s n L = 0
      · simp [e]
      · rw [h27 e]
    rw [e26, e27]
    unfold ldS
    rw [hsr]
    by_cases b : loudB s n L q
    · rw [if_pos (hiff.mpr b), st1_eq, st1_nj (by decide), st1_eq, loudN_t b, optI_s1, h14]
      refine ⟨rfl, fun _ => ?_⟩
      rw [show L.length + 1 - 1 = L.length by omega, qAt_last]
    · rw [if_neg (fun k => b (hiff.mp k)), hsr, loudN_f b]
      refine ⟨h26, fun k => ?_⟩
      rw [h27 k, qAt_app (by omega)]
  · intro u hu
    rw [makS_r (by decide) (by decide), mkZ_8 hu, nearN_app, h8 u hu, nv_near (near_nn hB hu hL)]
  · intro hneg u hu
    obtain ⟨a4, a5, a7⟩ := hs hneg u hu
    have hb := setN_bit (hitQ s q) n u hu
    rw [makS_r (by decide) (by decide), makS_r (by decide) (by decide), makS_r (by decide) (by decide)]
    unfold mkZ
    rw [if_pos hneg]
    unfold cntS
    simp only [show (4 : Nat) ≠ 5 by decide, show (7 : Nat) ≠ 5 by decide, show (7 : Nat) ≠ 4 by decide, if_false, if_true]
    rw [nearW_r (by decide), nearW_r (by decide), nearW_r (by decide), a4, a5, a7, hitN_app, madeN_app, whenN_app]
    have hbb : bit (hsQ s n q) u = if hitQ s q u = true then 1 else 0 := hb
    rw [hbb]
    refine ⟨?_, ?_, ?_⟩
    · by_cases k : hitQ s q u = true
      · rw [if_pos k, if_pos ⟨hu, rfl⟩, nI_add]
      · rw [if_neg k, if_neg (fun z => absurd z.2 (by decide)), Nat.add_zero]
    · split
      · rw [nI_add]
      · rw [Nat.add_zero]
    · by_cases k : hitQ s q u = true
      · rw [if_pos k, if_pos k, if_pos ⟨hu, rfl⟩]
      · rw [if_neg k, if_neg k, if_neg (fun z => absurd z.2 (by decide))]
  · intro p hp1 hp2
    rw [len_app] at hp2
    have e : ∀ j, 19 ≤ j → j ≤ 25 → makS s n q sg Y 0 j = skS s n q (ldS (hsQ s n q) (plF s q) (srS q.1 (hsQ s n q) (plF s q) (mkZ s n q sg Y))) 0 j := fun j a b => by unfold makS; rw [fiS_j (by omega) (by omega) (by omega)]
    have hc : (ldS (hsQ s n q) (plF s q) (srS q.1 (hsQ s n q) (plF s q) (mkZ s n q sg Y)) 0 14 = ldS (hsQ s n q) (plF s q) (srS q.1 (hsQ s n q) (plF s q) (mkZ s n q sg Y)) 0 18) ↔ p = L.length := by
      rw [ldS_j (by decide) (by decide), ldS_j (by decide) (by decide), hsr, h14, h18, hp1, nI_eq (by omega) (by omega)]
      exact eq_comm
    by_cases c : p = L.length
    · subst c
      rw [qAt_last]
      unfold SK
      rw [e 19 (by decide) (by decide), e 20 (by decide) (by decide), e 21 (by decide) (by decide), e 22 (by decide) (by decide), e 23 (by decide) (by decide), e 24 (by decide) (by decide), e 25 (by decide) (by decide)]
      unfold skS
      rw [if_pos (hc.mpr rfl)]
      refine ⟨?_, ?_, ?_, ?_, ?_, ?_, st1_eq⟩
      · rw [st1_nj (by decide), st1_nj (by decide), st1_nj (by decide), st1_nj (by decide), st1_nj (by decide), st1_nj (by decide), st1_eq]
      · rw [st1_nj (by decide), st1_nj (by decide), st1_nj (by decide), st1_nj (by decide), st1_nj (by decide), st1_eq]
      · rw [st1_nj (by decide), st1_nj (by decide), st1_nj (by decide), st1_nj (by decide), st1_eq]
      · rw [st1_nj (by decide), st1_nj (by decide), st1_nj (by decide), st1_eq]
      · rw [st1_nj (by decide), st1_nj (by decide), st1_eq]
      · rw [st1_nj (by decide), st1_eq]
    · have hlt : p < L.length := by omega
      have h3 := hp p hp1 hlt
      rw [qAt_app hlt]
      have e2 : ∀ j, 19 ≤ j → j ≤ 25 → makS s n q sg Y 0 j = Y 0 j := fun j a b => by
        rw [e j a b]
        unfold skS
        rw [if_neg (fun z => c (hc.mp z)), ldS_j (by omega) (by omega), hsr]
      unfold SK at h3 ⊢
      rw [e2 19 (by decide) (by decide), e2 20 (by decide) (by decide), e2 21 (by decide) (by decide), e2 22 (by decide) (by decide), e2 23 (by decide) (by decide), e2 24 (by decide) (by decide), e2 25 (by decide) (by decide)]
      exact h3
theorem hit_iff {s : Nat → Nat → Int32} {q : Pr} {o : Nat} (h : mayQ s q o = true) : hitQ s q o = true ↔ ¬ s 0 31 < farQ s q o := by
  unfold hitQ farQ
  rw [h]
  simp
theorem prods_len8 (s : Nat → Nat → Int32) {n : Nat} (hn : n ≤ 8) : (prods s n).length ≤ 9216 := by
  have hle : ∀ (f : Nat → List Pr) (i M : Nat), (∀ j, j < i → (f j).length ≤ M) → (catN f i).length ≤ i * M := fun f i M h => by rw [catN_len]; exact sumN_le h
  have hC : ∀ at0 k a b, (catN (fC s at0 k a b) n).length ≤ 8 := fun at0 k a b => Nat.le_trans (hle _ n 1 fun j _ => by unfold fC; split; exact okL_len s _; exact Nat.zero_le _) (by omega)
  have hB : ∀ at0 k a b, (fB s n at0 k a b).length ≤ 8 := fun at0 k a b => by
    unfold fB
    split
    · split
      · exact hC at0 k a b
      · exact Nat.le_trans (okL_len s _) (by decide)
    · exact Nat.zero_le _
  have hA : ∀ at0 k a, (fA s n at0 k a).length ≤ 64 := fun at0 k a => Nat.le_trans (hle _ n 8 fun j _ => hB at0 k a j) (by omega)
  have hK : ∀ at0 k, (fK s n at0 k).length ≤ 512 := fun at0 k => by
    unfold fK
    split
    · exact Nat.zero_le _
    · exact Nat.le_trans (hle _ n 64 fun j _ => hA at0 k j) (by omega)
  have hS : ∀ at0, (fS s n at0).length ≤ 3072 := fun at0 => Nat.le_trans (hle _ 6 512 fun j _ => hK at0 j) (by decide)
  exact Nat.le_trans (hle _ 3 3072 fun j _ => hS j) (by decide)
