set_option maxRecDepth 100000
section
variable {l : Launch} {D : va_G} {gt ad : Nat → Nat} {ct : Nat → ClassId}
theorem mz_isInL {σ : Nat → Nat → Int32} (σ0 : Nat → Nat → Int32) (L : List Pr) (n p u : Nat) (h : HW σ0 σ L n) (hp : p < L.length) (hu : u < 6) : Ct l D gt yX5_isIn cX5_isIn 3 .boolean 0 0 0 0 [.ref (ad 0), .int (nI p), .int (nI u)] (wm ad ct σ) (tysA ct) (fun r σ2 => bI (inQ (qAt L p) u = true) = r ∧ σ = σ2) (fun σ2 => wm ad ct σ2) (fun _ => tysA ct) := by
  have k := mz_isIn (l := l) (D := D) (gt := gt) (ad := ad) (ct := ct) (σ := σ) p u (by have := h.2.2.1; omega)
  rw [h.isIn hp hu] at k
  exact k
theorem mz_mayHitL {σ : Nat → Nat → Int32} (σ0 : Nat → Nat → Int32) (L : List Pr) (n p u : Nat) (h : HW σ0 σ L n) (hp : p < L.length) (hu : u < n) : Ct l D gt yX5_mayHit cX5_mayHit 5 .boolean 1 22 0 0 [.ref (ad 0), .int (nI p), .int (nI u)] (wm ad ct σ) (tysA ct) (fun r σ2 => bI (mayQ σ0 (qAt L p) u = true) = r ∧ σ = σ2) (fun σ2 => wm ad ct σ2) (fun _ => tysA ct) := by
  have k := mz_mayHit (l := l) (D := D) (gt := gt) (ad := ad) (ct := ct) (σ := σ) p u (by have := h.2.2.1; omega) (by have := h.2.2.2.2.1; omega) (h.pa hp) (h.ps hp) (h.pt u hu)
  rw [h.may hp (by have := h.2.2.2.2.1; omega)] at k
  exact k
theorem mz_hitsL {σ : Nat → Nat → Int32} (σ0 : Nat → Nat → Int32) (L : List Pr) (n p u : Nat) (h : HW σ0 σ L n) (hp : p < L.length) (hu : u < n) : Ct l D gt yX5_hits cX5_hits 3 .boolean 2 46 0 0 [.ref (ad 0), .int (nI p), .int (nI u)] (wm ad ct σ) (tysA ct) (fun r σ2 => bI (hitQ σ0 (qAt L p) u = true) = r ∧ σ = σ2) (fun σ2 => wm ad ct σ2) (fun _ => tysA ct) := by
  have k := mz_hits (l := l) (D := D) (gt := gt) (ad := ad) (ct := ct) (σ := σ) p u (by have := h.2.2.1; omega) (by have := h.2.2.2.2.1; omega) (h.pa hp) (h.ps hp) (h.pt u hu)
  rw [h.hit hp (by have := h.2.2.2.2.1; omega)] at k
  exact k
theorem mz_hitsOfL {σ : Nat → Nat → Int32} (σ0 : Nat → Nat → Int32) (L : List Pr) (n p : Nat) (h : HW σ0 σ L n) (hp : p < L.length) : Ct l D gt yX5_hitsOf cX5_hitsOf 4 .int 3 68 0 0 [.ref (ad 0), .int (nI p)] (wm ad ct σ) (tysA ct) (fun r σ2 => nI (hsQ σ0 n (qAt L p)) = r ∧ σ = σ2) (fun σ2 => wm ad ct σ2) (fun _ => tysA ct) := by
  have k := mz_hitsOf (l := l) (D := D) (gt := gt) (ad := ad) (ct := ct) (σ := σ) n p (by have := h.2.2.1; omega) h.users h.2.2.2.2.1 (h.pa hp) (h.ps hp) h.pt
  rw [h.hs hp] at k
  exact k
set_option maxHeartbeats 1000000 in
set_option maxRecDepth 100000 in
theorem mz_allHits {σ : Nat → Nat → Int32} (σ0 : Nat → Nat → Int32) (L : List Pr) (n : Nat) (h : HW σ0 σ L n) : Ct l D gt yX5_allHits cX5_allHits 3 .int 4 91 0 0 [.ref (ad 0)] (wm ad ct σ) (tysA ct) (fun r σ2 => nI (hitsT σ0 n L) = r ∧ σ = σ2) (fun σ2 => wm ad ct σ2) (fun _ => tysA ct) := by
  refine Ct.start RX5 (by decide) rfl (Nat.le_of_ble_eq_true rfl) rfl ?_
  intro pP eE sS mM aA bB hM cC QQ AA E Rt
  have hl := h.2.2.1
  refine s_iconst E dX5_allHits_0 (v := nI 0) (by decide) ?_
  refine s_istore_n E (L2 := [(1, .int (nI 0)), (0, .ref (ad 0))]) dX5_allHits_1 rfl (Nat.le_of_ble_eq_true rfl) rfl ?_
  refine s_iconst E dX5_allHits_2 (v := nI 0) (by decide) ?_
  refine s_istore_n E (L2 := [(2, .int (nI 0)), (1, .int (nI 0)), (0, .ref (ad 0))]) dX5_allHits_3 rfl (Nat.le_of_ble_eq_true rfl) rfl ?_
  have L4 : ∀ (fuel : Nat) (p : Nat), p ≤ L.length → (L.length - p) < fuel → Sm pP l eE { frames := 4, cells := 0, slots := 0, locals := 91 } sS mM aA bB hM cC QQ AA D 3 0 0 (wm ad ct σ) 4 [(0, .ref (ad 0)), (1, .int (nI (sumN (hitsF σ0 n L) p))), (2, .int (nI p))] [] := by
    intro fuel
    induction fuel with
    | zero =>
      intro p hi hf4
      exact absurd hf4 (Nat.not_lt_zero _)
    | succ fuel ih4 =>
      intro p hi hf4
      refine s_iload_n E dX5_allHits_4 (i := 2) (j := 2) rfl rfl ?_
      refine s_aload_n E dX5_allHits_5 (i := 0) (j := 0) rfl rfl ?_
      refine mg41 E (v := nI (L.length)) (h.1.2.1) dX5_allHits_6 ?_
      refine s_icmp_ge E dX5_allHits_9 (tgt := 29) rfl (fun c9 => ?_) (fun c9 => ?_)
      · have c9 : ¬ p < L.length := fun h => absurd c9 (Int32.not_le.mpr ((nI_ltI (a := p) (b := L.length) (by omega) (by omega)).mpr h))
        refine s_iload_n E dX5_allHits_29 (i := 1) (j := 1) rfl rfl ?_
        exact Rt (nI (sumN (hitsF σ0 n L) p)) (σ) dX5_allHits_30 (by rw [show p = L.length by omega]; exact ⟨rfl, rfl⟩) rfl (Nat.le_refl _) (Nat.le_refl _) rfl E.2.2.2.2.2.1
      · have c9 : p < L.length := (nI_ltI (a := p) (b := L.length) (by omega) (by omega)).mp (Int32.not_le.mp c9)
        refine s_iload_n E dX5_allHits_12 (i := 1) (j := 1) rfl rfl ?_
        refine s_aload_n E dX5_allHits_13 (i := 0) (j := 0) rfl rfl ?_
        refine s_iload_n E dX5_allHits_14 (i := 2) (j := 2) rfl rfl ?_
        refine m_calli E (mz_hitsOfL σ0 L n p (h) (by omega)) K5_308 (Nat.le_of_ble_eq_true rfl) (Nat.le_of_ble_eq_true rfl) (Nat.zero_le _) (Nat.zero_le _) rfl rfl (Nat.le_of_ble_eq_true rfl) dX5_allHits_15 (fun r15 w15 h15 => ?_)
        obtain ⟨rfl, rfl⟩ := h15
        refine m_calls E (mz_bits (hsQ σ0 n (qAt L p)) (by have := hsQ_64 σ0 (n := n) (qAt L p) h.2.2.2.2.1; omega)) K5_311 (Nat.le_of_ble_eq_true rfl) (Nat.le_of_ble_eq_true rfl) (Nat.zero_le _) (Nat.zero_le _) rfl rfl (Nat.le_of_ble_eq_true rfl) dX5_allHits_18 (fun r18 h18 => ?_)
        subst h18
        refine s_iadd_ E dX5_allHits_21 (v := nI (sumN (hitsF σ0 n L) (p + 1))) (nI_add _ _) ?_
        refine s_istore_n E (L2 := [(1, .int (nI (sumN (hitsF σ0 n L) (p + 1)))), (0, .ref (ad 0)), (2, .int (nI p))]) dX5_allHits_22 rfl (Nat.le_of_ble_eq_true rfl) rfl ?_
        refine s_iinc E (L2 := [(2, .int (nI (p + 1))), (1, .int (nI (sumN (hitsF σ0 n L) (p + 1)))), (0, .ref (ad 0))]) dX5_allHits_23 (k := 2) rfl (v := nI (p + 1)) (nI_inc _) (Nat.le_of_ble_eq_true rfl) rfl ?_
        refine s_goto E dX5_allHits_26 (tgt := 4) rfl ?_
        refine s_loc (L2 := [(0, .ref (ad 0)), (1, .int (nI (sumN (hitsF σ0 n L) (p + 1)))), (2, .int (nI (p + 1)))]) [2, 1, 0] rfl ?_
        exact ih4 (p + 1) (by omega) (by omega)
  refine s_loc (L2 := [(0, .ref (ad 0)), (1, .int (nI 0)), (2, .int (nI 0))]) [2, 1, 0] rfl ?_
  exact L4 (_ + 1) 0 (Nat.zero_le _) (Nat.lt_succ_self _)
set_option maxHeartbeats 1000000 in
set_option maxRecDepth 100000 in
theorem mz_allCrowds {σ : Nat → Nat → Int32} (n : Nat) (hn : σ 3 7 = nI n) (hn6 : n ≤ 6) : Ct l D gt yX5_allCrowds cX5_allCrowds 3 .int 3 65 0 0 [.ref (ad 0)] (wm ad ct σ) (tysA ct) (fun r σ2 => nI (crowdsT σ n) = r ∧ σ = σ2) (fun σ2 => wm ad ct σ2) (fun _ => tysA ct) := by
  refine Ct.start RX5 (by decide) rfl (Nat.le_of_ble_eq_true rfl) rfl ?_
  intro pP eE sS mM aA bB hM cC QQ AA E Rt
  refine s_iconst E dX5_allCrowds_0 (v := nI 0) (by decide) ?_
  refine s_istore_n E (L2 := [(1, .int (nI 0)), (0, .ref (ad 0))]) dX5_allCrowds_1 rfl (Nat.le_of_ble_eq_true rfl) rfl ?_
  refine s_iconst E dX5_allCrowds_2 (v := nI 0) (by decide) ?_
  refine s_istore_n E (L2 := [(2, .int (nI 0)), (1, .int (nI 0)), (0, .ref (ad 0))]) dX5_allCrowds_3 rfl (Nat.le_of_ble_eq_true rfl) rfl ?_
  have L4 : ∀ (fuel : Nat) (i : Nat), i ≤ n → (n - i) < fuel → Sm pP l eE { frames := 3, cells := 0, slots := 0, locals := 65 } sS mM aA bB hM cC QQ AA D 3 0 0 (wm ad ct σ) 4 [(0, .ref (ad 0)), (1, .int (nI (sumN (crowdF σ n) i))), (2, .int (nI i))] [] := by
    intro fuel
    induction fuel with
    | zero =>
      intro i hi hf4
      exact absurd hf4 (Nat.not_lt_zero _)
    | succ fuel ih4 =>
      intro i hi hf4
      refine s_iload_n E dX5_allCrowds_4 (i := 2) (j := 2) rfl rfl ?_
      refine s_aload_n E dX5_allCrowds_5 (i := 0) (j := 0) rfl rfl ?_
      refine m_calli E (mz_users n (hn)) K5_232 (Nat.le_of_ble_eq_true rfl) (Nat.le_of_ble_eq_true rfl) (Nat.zero_le _) (Nat.zero_le _) rfl rfl (Nat.le_of_ble_eq_true rfl) dX5_allCrowds_6 (fun r6 w6 h6 => ?_)
      obtain ⟨rfl, rfl⟩ := h6
      refine s_icmp_ge E dX5_allCrowds_9 (tgt := 29) rfl (fun c9 => ?_) (fun c9 => ?_)
      · have c9 : ¬ i < n := fun h => absurd c9 (Int32.not_le.mpr ((nI_ltI (a := i) (b := n) (by omega) (by omega)).mpr h))
        refine s_iload_n E dX5_allCrowds_29 (i := 1) (j := 1) rfl rfl ?_
        refine s_iconst E dX5_allCrowds_30 (v := nI 2) (by decide) ?_
        refine s_idiv_ E dX5_allCrowds_31 (by decide) (v := nI (sumN (crowdF σ n) i / 2)) (pk_div (by have := sumN_le (f := crowdF σ n) (i := i) (k := 8) (fun u _ => pop_le _); omega) (by decide) (by decide)) ?_
        exact Rt (nI (sumN (crowdF σ n) i / 2)) (σ) dX5_allCrowds_32 (by obtain rfl : i = n := (by omega); exact ⟨rfl, rfl⟩) rfl (Nat.le_refl _) (Nat.le_refl _) rfl E.2.2.2.2.2.1
      · have c9 : i < n := (nI_ltI (a := i) (b := n) (by omega) (by omega)).mp (Int32.not_le.mp c9)
        refine s_iload_n E dX5_allCrowds_12 (i := 1) (j := 1) rfl rfl ?_
        refine s_aload_n E dX5_allCrowds_13 (i := 0) (j := 0) rfl rfl ?_
        refine s_iload_n E dX5_allCrowds_14 (i := 2) (j := 2) rfl rfl ?_
        refine m_calli E (mz_crowdsOf n i (hn) (hn6) (by omega)) K5_317 (Nat.le_of_ble_eq_true rfl) (Nat.le_of_ble_eq_true rfl) (Nat.zero_le _) (Nat.zero_le _) rfl rfl (Nat.le_of_ble_eq_true rfl) dX5_allCrowds_15 (fun r15 w15 h15 => ?_)
        obtain ⟨rfl, rfl⟩ := h15
        refine m_calls E (mz_bits (setN (crowdB σ i) n) (setN_256 _ (by omega))) K5_311 (Nat.le_of_ble_eq_true rfl) (Nat.le_of_ble_eq_true rfl) (Nat.zero_le _) (Nat.zero_le _) rfl rfl (Nat.le_of_ble_eq_true rfl) dX5_allCrowds_18 (fun r18 h18 => ?_)
        subst h18
        refine s_iadd_ E dX5_allCrowds_21 (v := nI (sumN (crowdF σ n) (i + 1))) (nI_add _ _) ?_
        refine s_istore_n E (L2 := [(1, .int (nI (sumN (crowdF σ n) (i + 1)))), (0, .ref (ad 0)), (2, .int (nI i))]) dX5_allCrowds_22 rfl (Nat.le_of_ble_eq_true rfl) rfl ?_
        refine s_iinc E (L2 := [(2, .int (nI (i + 1))), (1, .int (nI (sumN (crowdF σ n) (i + 1)))), (0, .ref (ad 0))]) dX5_allCrowds_23 (k := 2) rfl (v := nI (i + 1)) (nI_inc _) (Nat.le_of_ble_eq_true rfl) rfl ?_
        refine s_goto E dX5_allCrowds_26 (tgt := 4) rfl ?_
        refine s_loc (L2 := [(0, .ref (ad 0)), (1, .int (nI (sumN (crowdF σ n) (i + 1)))), (2, .int (nI (i + 1)))]) [2, 1, 0] rfl ?_
        exact ih4 (i + 1) (by omega) (by omega)
  refine s_loc (L2 := [(0, .ref (ad 0)), (1, .int (nI 0)), (2, .int (nI 0))]) [2, 1, 0] rfl ?_
  exact L4 (_ + 1) 0 (Nat.zero_le _) (Nat.lt_succ_self _)
set_option maxHeartbeats 1000000 in
set_option maxRecDepth 100000 in
theorem mz_heard {σ : Nat → Nat → Int32} (σ0 : Nat → Nat → Int32) (L : List Pr) (n : Nat) (h : HW σ0 σ L n) : Ct l D gt yX5_heard cX5_heard 3 .int 0 0 0 0 [.ref (ad 0)] (wm ad ct σ) (tysA ct) (fun r σ2 => nI (heardN σ0 L) = r ∧ σ = σ2) (fun σ2 => wm ad ct σ2) (fun _ => tysA ct) := by
  refine Ct.start RX5 (by decide) rfl (Nat.le_of_ble_eq_true rfl) rfl ?_
  intro pP eE sS mM aA bB hM cC QQ AA E Rt
  have hl := h.2.2.1
  refine s_iconst E dX5_heard_0 (v := nI 0) (by decide) ?_
  refine s_istore_n E (L2 := [(1, .int (nI 0)), (0, .ref (ad 0))]) dX5_heard_1 rfl (Nat.le_of_ble_eq_true rfl) rfl ?_
  refine s_iconst E dX5_heard_2 (v := nI 0) (by decide) ?_
  refine s_istore_n E (L2 := [(2, .int (nI 0)), (1, .int (nI 0)), (0, .ref (ad 0))]) dX5_heard_3 rfl (Nat.le_of_ble_eq_true rfl) rfl ?_
  have L4 : ∀ (fuel : Nat) (p : Nat), p ≤ L.length → (L.length - p) < fuel → Sm pP l eE { frames := 0, cells := 0, slots := 0, locals := 0 } sS mM aA bB hM cC QQ AA D 3 0 0 (wm ad ct σ) 4 [(0, .ref (ad 0)), (1, .int (nI (sumN (heardF σ0 L) p))), (2, .int (nI p))] [] := by
    intro fuel
    induction fuel with
    | zero =>
      intro p hi hf4
      exact absurd hf4 (Nat.not_lt_zero _)
    | succ fuel ih4 =>
      intro p hi hf4
      refine s_iload_n E dX5_heard_4 (i := 2) (j := 2) rfl rfl ?_
      refine s_aload_n E dX5_heard_5 (i := 0) (j := 0) rfl rfl ?_
      refine mg41 E (v := nI (L.length)) (h.1.2.1) dX5_heard_6 ?_
      refine s_icmp_ge E dX5_heard_9 (tgt := 35) rfl (fun c9 => ?_) (fun c9 => ?_)
      · have c9 : ¬ p < L.length := fun h => absurd c9 (Int32.not_le.mpr ((nI_ltI (a := p) (b := L.length) (by omega) (by omega)).mpr h))
        refine s_iload_n E dX5_heard_35 (i := 1) (j := 1) rfl rfl ?_
        exact Rt (nI (sumN (heardF σ0 L) p)) (σ) dX5_heard_36 (by rw [show p = L.length by omega]; exact ⟨rfl, rfl⟩) rfl (Nat.le_refl _) (Nat.le_refl _) rfl E.2.2.2.2.2.1
      · have c9 : p < L.length := (nI_ltI (a := p) (b := L.length) (by omega) (by omega)).mp (Int32.not_le.mp c9)
        refine s_iload_n E dX5_heard_12 (i := 1) (j := 1) rfl rfl ?_
        refine s_aload_n E dX5_heard_13 (i := 0) (j := 0) rfl rfl ?_
        refine mg39 E dX5_heard_14 ?_
        refine s_iload_n E dX5_heard_17 (i := 2) (j := 2) rfl rfl ?_
        refine ml39 E (v := plF σ0 (qAt L p)) (p) (rfl) (by omega) ((h.row (by omega)).1.2.2.2.2.2.1) dX5_heard_18 ?_
        have J27 : Sm pP l eE { frames := 0, cells := 0, slots := 0, locals := 0 } sS mM aA bB hM cC QQ AA D 3 0 0 (wm ad ct σ) 27 [(0, .ref (ad 0)), (1, .int (nI (sumN (heardF σ0 L) p))), (2, .int (nI p))] [.int (nI (heardF σ0 L p)), .int (nI (sumN (heardF σ0 L) p))] := by
          refine s_iadd_ E dX5_heard_27 (v := nI (sumN (heardF σ0 L) (p + 1))) (nI_add _ _) ?_
          refine s_istore_n E (L2 := [(1, .int (nI (sumN (heardF σ0 L) (p + 1)))), (0, .ref (ad 0)), (2, .int (nI p))]) dX5_heard_28 rfl (Nat.le_of_ble_eq_true rfl) rfl ?_
          refine s_iinc E (L2 := [(2, .int (nI (p + 1))), (1, .int (nI (sumN (heardF σ0 L) (p + 1)))), (0, .ref (ad 0))]) dX5_heard_29 (k := 2) rfl (v := nI (p + 1)) (nI_inc _) (Nat.le_of_ble_eq_true rfl) rfl ?_
          refine s_goto E dX5_heard_32 (tgt := 4) rfl ?_
          refine s_loc (L2 := [(0, .ref (ad 0)), (1, .int (nI (sumN (heardF σ0 L) (p + 1)))), (2, .int (nI (p + 1)))]) [2, 1, 0] rfl ?_
          exact ih4 (p + 1) (by omega) (by omega)
        refine s_if_lt E dX5_heard_19 (tgt := 26) rfl (fun c19 => ?_) (fun c19 => ?_)
        · refine s_iconst E dX5_heard_26 (v := nI 0) (by decide) ?_
          refine s_top (v2 := nI (heardF σ0 L p)) (by simp [bI, heardF, c9, c19]) ?_
          exact J27
        · refine s_iconst E dX5_heard_22 (v := nI 1) (by decide) ?_
          refine s_goto E dX5_heard_23 (tgt := 27) rfl ?_
          refine s_top (v2 := nI (heardF σ0 L p)) (by simp [bI, heardF, c9, c19]) ?_
          exact J27
  refine s_loc (L2 := [(0, .ref (ad 0)), (1, .int (nI 0)), (2, .int (nI 0))]) [2, 1, 0] rfl ?_
  exact L4 (_ + 1) 0 (Nat.zero_le _) (Nat.lt_succ_self _)
set_option maxHeartbeats 1000000 in
set_option maxRecDepth 100000 in
theorem mz_madeBy {σ : Nat → Nat → Int32} (σ0 : Nat → Nat → Int32) (L : List Pr) (n u : Nat) (h : HW σ0 σ L n) (hu : u < 6) : Ct l D gt yX5_madeBy cX5_madeBy 4 .int 4 91 0 0 [.ref (ad 0), .int (nI u)] (wm ad ct σ) (tysA ct) (fun r σ2 => nI (madeN σ0 n L u) = r ∧ σ = σ2) (fun σ2 => wm ad ct σ2) (fun _ => tysA ct) := by
  refine Ct.start RX5 (by decide) rfl (Nat.le_of_ble_eq_true rfl) rfl ?_
  intro pP eE sS mM aA bB hM cC QQ AA E Rt
  have hl := h.2.2.1
  refine s_iconst E dX5_madeBy_0 (v := nI 0) (by decide) ?_
  refine s_istore_n E (L2 := [(2, .int (nI 0)), (0, .ref (ad 0)), (1, .int (nI u))]) dX5_madeBy_1 rfl (Nat.le_of_ble_eq_true rfl) rfl ?_
  refine s_iconst E dX5_madeBy_2 (v := nI 0) (by decide) ?_
  refine s_istore_n E (L2 := [(3, .int (nI 0)), (2, .int (nI 0)), (0, .ref (ad 0)), (1, .int (nI u))]) dX5_madeBy_3 rfl (Nat.le_of_ble_eq_true rfl) rfl ?_
  have L4 : ∀ (fuel : Nat) (p : Nat), p ≤ L.length → (L.length - p) < fuel → Sm pP l eE { frames := 4, cells := 0, slots := 0, locals := 91 } sS mM aA bB hM cC QQ AA D 4 0 0 (wm ad ct σ) 4 [(0, .ref (ad 0)), (1, .int (nI u)), (2, .int (nI (sumN (madeF σ0 n L u) p))), (3, .int (nI p))] [] := by
    intro fuel
    induction fuel with
    | zero =>
      intro p hi hf4
      exact absurd hf4 (Nat.not_lt_zero _)
    | succ fuel ih4 =>
      intro p hi hf4
      refine s_iload_n E dX5_madeBy_4 (i := 3) (j := 3) rfl rfl ?_
      refine s_aload_n E dX5_madeBy_5 (i := 0) (j := 0) rfl rfl ?_
      refine mg41 E (v := nI (L.length)) (h.1.2.1) dX5_madeBy_6 ?_
      refine s_icmp_ge E dX5_madeBy_9 (tgt := 42) rfl (fun c9 => ?_) (fun c9 => ?_)
      · have c9 : ¬ p < L.length := fun h => absurd c9 (Int32.not_le.mpr ((nI_ltI (a := p) (b := L.length) (by omega) (by omega)).mpr h))
        refine s_iload_n E dX5_madeBy_42 (i := 2) (j := 2) rfl rfl ?_
        exact Rt (nI (sumN (madeF σ0 n L u) p)) (σ) dX5_madeBy_43 (by rw [show p = L.length by omega]; exact ⟨rfl, rfl⟩) rfl (Nat.le_refl _) (Nat.le_refl _) rfl E.2.2.2.2.2.1
      · have c9 : p < L.length := (nI_ltI (a := p) (b := L.length) (by omega) (by omega)).mp (Int32.not_le.mp c9)
        refine s_iload_n E dX5_madeBy_12 (i := 2) (j := 2) rfl rfl ?_
        refine s_aload_n E dX5_madeBy_13 (i := 0) (j := 0) rfl rfl ?_
        refine s_iload_n E dX5_madeBy_14 (i := 3) (j := 3) rfl rfl ?_
        refine s_iload_n E dX5_madeBy_15 (i := 1) (j := 1) rfl rfl ?_
        refine m_calli E (mz_isInL σ0 L n p u (h) (by omega) (hu)) K5_302 (Nat.le_of_ble_eq_true rfl) (Nat.le_of_ble_eq_true rfl) (Nat.zero_le _) (Nat.zero_le _) rfl rfl (Nat.le_of_ble_eq_true rfl) dX5_madeBy_16 (fun r16 w16 h16 => ?_)
        obtain ⟨rfl, rfl⟩ := h16
        have J34 : Sm pP l eE { frames := 4, cells := 0, slots := 0, locals := 91 } sS mM aA bB hM cC QQ AA D 4 0 0 (wm ad ct σ) 34 [(0, .ref (ad 0)), (1, .int (nI u)), (2, .int (nI (sumN (madeF σ0 n L u) p))), (3, .int (nI p))] [.int (nI (madeF σ0 n L u p)), .int (nI (sumN (madeF σ0 n L u) p))] := by
          refine s_iadd_ E dX5_madeBy_34 (v := nI (sumN (madeF σ0 n L u) (p + 1))) (nI_add _ _) ?_
          refine s_istore_n E (L2 := [(2, .int (nI (sumN (madeF σ0 n L u) (p + 1)))), (0, .ref (ad 0)), (1, .int (nI u)), (3, .int (nI p))]) dX5_madeBy_35 rfl (Nat.le_of_ble_eq_true rfl) rfl ?_
          refine s_iinc E (L2 := [(3, .int (nI (p + 1))), (2, .int (nI (sumN (madeF σ0 n L u) (p + 1)))), (0, .ref (ad 0)), (1, .int (nI u))]) dX5_madeBy_36 (k := 3) rfl (v := nI (p + 1)) (nI_inc _) (Nat.le_of_ble_eq_true rfl) rfl ?_
          refine s_goto E dX5_madeBy_39 (tgt := 4) rfl ?_
          refine s_loc (L2 := [(0, .ref (ad 0)), (1, .int (nI u)), (2, .int (nI (sumN (madeF σ0 n L u) (p + 1)))), (3, .int (nI (p + 1)))]) [2, 3, 1, 0] rfl ?_
          exact ih4 (p + 1) (by omega) (by omega)
        refine s_if_eq E dX5_madeBy_19 (tgt := 33) rfl (fun c19 => ?_) (fun c19 => ?_)
        · have c19 := bI_0 c19
          refine s_iconst E dX5_madeBy_33 (v := nI 0) (by decide) ?_
          refine s_top (v2 := nI (madeF σ0 n L u p)) (by simp [bI, madeF, c9, c19]) ?_
          exact J34
        · have c19 := bI_n0 c19
          refine s_aload_n E dX5_madeBy_22 (i := 0) (j := 0) rfl rfl ?_
          refine s_iload_n E dX5_madeBy_23 (i := 3) (j := 3) rfl rfl ?_
          refine m_calli E (mz_hitsOfL σ0 L n p (h) (by omega)) K5_308 (Nat.le_of_ble_eq_true rfl) (Nat.le_of_ble_eq_true rfl) (Nat.zero_le _) (Nat.zero_le _) rfl rfl (Nat.le_of_ble_eq_true rfl) dX5_madeBy_24 (fun r24 w24 h24 => ?_)
          obtain ⟨rfl, rfl⟩ := h24
          refine m_calls E (mz_bits (hsQ σ0 n (qAt L p)) (by have := hsQ_64 σ0 (n := n) (qAt L p) h.2.2.2.2.1; omega)) K5_311 (Nat.le_of_ble_eq_true rfl) (Nat.le_of_ble_eq_true rfl) (Nat.zero_le _) (Nat.zero_le _) rfl rfl (Nat.le_of_ble_eq_true rfl) dX5_madeBy_27 (fun r27 h27 => ?_)
          subst h27
          refine s_goto E dX5_madeBy_30 (tgt := 34) rfl ?_
          refine s_top (v2 := nI (madeF σ0 n L u p)) (by simp [bI, madeF, c9, c19]) ?_
          exact J34
  refine s_loc (L2 := [(0, .ref (ad 0)), (1, .int (nI u)), (2, .int (nI 0)), (3, .int (nI 0))]) [2, 3, 1, 0] rfl ?_
  exact L4 (_ + 1) 0 (Nat.zero_le _) (Nat.lt_succ_self _)
set_option maxHeartbeats 1000000 in
set_option maxRecDepth 100000 in
theorem mz_worstNow {σ : Nat → Nat → Int32} (n : Nat) (hn : σ 3 7 = nI n) (hn6 : n ≤ 6) (hs : ∀ v, v < n → In (σ 6 v) 3) : Ct l D gt yX5_worstNow cX5_worstNow 5 .int 5 114 0 0 [.ref (ad 0)] (wm ad ct σ) (tysA ct) (fun r σ2 => bestW (madeN σ n (prods σ n)) n = r ∧ HW σ σ2 (prods σ n) n) (fun σ2 => wm ad ct σ2) (fun _ => tysA ct) := by
  refine Ct.start RX5 (by decide) rfl (Nat.le_of_ble_eq_true rfl) rfl ?_
  intro pP eE sS mM aA bB hM cC QQ AA E Rt
  refine s_aload_n E dX5_worstNow_0 (i := 0) (j := 0) rfl rfl ?_
  refine m_callv E (mz_laysProducts n (hn) (hn6)) K5_326 (Nat.le_of_ble_eq_true rfl) (Nat.le_of_ble_eq_true rfl) (Nat.zero_le _) (Nat.zero_le _) rfl rfl (Nat.le_of_ble_eq_true rfl) dX5_worstNow_1 (fun w1 h1 => ?_)
  have h := HW.of h1 hn hn6 hs
  refine s_bipush E dX5_worstNow_4 (v := (-2)) (by decide) ?_
  refine s_istore_n E (L2 := [(1, .int ((-2))), (0, .ref (ad 0))]) dX5_worstNow_6 rfl (Nat.le_of_ble_eq_true rfl) rfl ?_
  refine s_iconst E dX5_worstNow_7 (v := nI 0) (by decide) ?_
  refine s_istore_n E (L2 := [(2, .int (nI 0)), (1, .int ((-2))), (0, .ref (ad 0))]) dX5_worstNow_8 rfl (Nat.le_of_ble_eq_true rfl) rfl ?_
  refine s_iconst E dX5_worstNow_9 (v := nI 0) (by decide) ?_
  refine s_istore_n E (L2 := [(3, .int (nI 0)), (2, .int (nI 0)), (1, .int ((-2))), (0, .ref (ad 0))]) dX5_worstNow_10 rfl (Nat.le_of_ble_eq_true rfl) rfl ?_
  have L11 : ∀ (fuel : Nat) (u : Nat), u ≤ n → (n - u) < fuel → Sm pP l eE { frames := 5, cells := 0, slots := 0, locals := 114 } sS mM aA bB hM cC QQ AA D 5 0 0 (wm ad ct w1) 11 [(0, .ref (ad 0)), (1, .int (bestW (madeN σ n (prods σ n)) u)), (2, .int (nI (mostW (madeN σ n (prods σ n)) u))), (3, .int (nI u))] [] := by
    intro fuel
    induction fuel with
    | zero =>
      intro u hu hf11
      exact absurd hf11 (Nat.not_lt_zero _)
    | succ fuel ih11 =>
      intro u hu hf11
      have hb : mostW (madeN σ n (prods σ n)) u ≤ 2400 := mostW_le (fun z => madeN_le σ n h.2.2.1 z) u
      have hb2 : madeN σ n (prods σ n) u ≤ 2400 := madeN_le σ n h.2.2.1 u
      refine s_iload_n E dX5_worstNow_11 (i := 3) (j := 3) rfl rfl ?_
      refine s_aload_n E dX5_worstNow_12 (i := 0) (j := 0) rfl rfl ?_
      refine m_calli E (mz_users n (h.users)) K5_232 (Nat.le_of_ble_eq_true rfl) (Nat.le_of_ble_eq_true rfl) (Nat.zero_le _) (Nat.zero_le _) rfl rfl (Nat.le_of_ble_eq_true rfl) dX5_worstNow_13 (fun r13 w13 h13 => ?_)
      obtain ⟨rfl, rfl⟩ := h13
      refine s_icmp_ge E dX5_worstNow_16 (tgt := 46) rfl (fun c16 => ?_) (fun c16 => ?_)
      · have c16 : ¬ u < n := fun h => absurd c16 (Int32.not_le.mpr ((nI_ltI (a := u) (b := n) (by omega) (by omega)).mpr h))
        refine s_iload_n E dX5_worstNow_46 (i := 1) (j := 1) rfl rfl ?_
        exact Rt (bestW (madeN σ n (prods σ n)) u) (w1) dX5_worstNow_47 (⟨by rw [show u = n by omega], h⟩) rfl (Nat.le_refl _) (Nat.le_refl _) rfl E.2.2.2.2.2.1
      · have c16 : u < n := (nI_ltI (a := u) (b := n) (by omega) (by omega)).mp (Int32.not_le.mp c16)
        refine s_aload_n E dX5_worstNow_19 (i := 0) (j := 0) rfl rfl ?_
        refine s_iload_n E dX5_worstNow_20 (i := 3) (j := 3) rfl rfl ?_
        refine m_calli E (mz_madeBy σ (prods σ n) n u (h) (by omega)) K5_393 (Nat.le_of_ble_eq_true rfl) (Nat.le_of_ble_eq_true rfl) (Nat.zero_le _) (Nat.zero_le _) rfl rfl (Nat.le_of_ble_eq_true rfl) dX5_worstNow_21 (fun r21 w21 h21 => ?_)
        obtain ⟨rfl, rfl⟩ := h21
        refine s_istore E (L2 := [(4, .int (nI (madeN σ n (prods σ n) u))), (0, .ref (ad 0)), (1, .int (bestW (madeN σ n (prods σ n)) u)), (2, .int (nI (mostW (madeN σ n (prods σ n)) u))), (3, .int (nI u))]) dX5_worstNow_24 (Nat.le_of_ble_eq_true rfl) rfl ?_
        refine s_iload E dX5_worstNow_26 (i := 4) (j := 0) rfl ?_
        refine s_iload_n E dX5_worstNow_28 (i := 2) (j := 3) rfl rfl ?_
        refine s_icmp_gt E dX5_worstNow_29 (tgt := 35) rfl (fun c29 => ?_) (fun c29 => ?_)
        · have c29 : mostW (madeN σ n (prods σ n)) u < madeN σ n (prods σ n) u := (nI_ltI (a := mostW (madeN σ n (prods σ n)) u) (b := madeN σ n (prods σ n) u) (by omega) (by omega)).mp c29
          refine s_iload_n E dX5_worstNow_35 (i := 3) (j := 4) rfl rfl ?_
          refine s_istore_n E (L2 := [(1, .int (nI u)), (4, .int (nI (madeN σ n (prods σ n) u))), (0, .ref (ad 0)), (2, .int (nI (mostW (madeN σ n (prods σ n)) u))), (3, .int (nI u))]) dX5_worstNow_36 rfl (Nat.le_of_ble_eq_true rfl) rfl ?_
          refine s_iload E dX5_worstNow_37 (i := 4) (j := 1) rfl ?_
          refine s_istore_n E (L2 := [(2, .int (nI (madeN σ n (prods σ n) u))), (1, .int (nI u)), (4, .int (nI (madeN σ n (prods σ n) u))), (0, .ref (ad 0)), (3, .int (nI u))]) dX5_worstNow_39 rfl (Nat.le_of_ble_eq_true rfl) rfl ?_
          refine s_iinc E (L2 := [(3, .int (nI (u + 1))), (2, .int (nI (madeN σ n (prods σ n) u))), (1, .int (nI u)), (4, .int (nI (madeN σ n (prods σ n) u))), (0, .ref (ad 0))]) dX5_worstNow_40 (k := 4) rfl (v := nI (u + 1)) (nI_inc _) (Nat.le_of_ble_eq_true rfl) rfl ?_
          refine s_goto E dX5_worstNow_43 (tgt := 11) rfl ?_
          refine s_loc (L2 := [(0, .ref (ad 0)), (1, .int (nI u)), (2, .int (nI (madeN σ n (prods σ n) u))), (3, .int (nI (u + 1)))]) [4, 2, 1, 0] rfl ?_
          refine s_L (L2 := [(0, .ref (ad 0)), (1, .int (bestW (madeN σ n (prods σ n)) (u + 1))), (2, .int (nI (mostW (madeN σ n (prods σ n)) (u + 1)))), (3, .int (nI (u + 1)))]) (by rw [bestW, mostW, if_pos c29, if_pos c29]) ?_
          exact ih11 (u + 1) (by omega) (by omega)
        · have c29 : ¬ mostW (madeN σ n (prods σ n)) u < madeN σ n (prods σ n) u := fun h => c29 ((nI_ltI (a := mostW (madeN σ n (prods σ n)) u) (b := madeN σ n (prods σ n) u) (by omega) (by omega)).mpr h)
          refine s_goto E dX5_worstNow_32 (tgt := 40) rfl ?_
          refine s_iinc E (L2 := [(3, .int (nI (u + 1))), (4, .int (nI (madeN σ n (prods σ n) u))), (0, .ref (ad 0)), (1, .int (bestW (madeN σ n (prods σ n)) u)), (2, .int (nI (mostW (madeN σ n (prods σ n)) u)))]) dX5_worstNow_40 (k := 4) rfl (v := nI (u + 1)) (nI_inc _) (Nat.le_of_ble_eq_true rfl) rfl ?_
          refine s_goto E dX5_worstNow_43 (tgt := 11) rfl ?_
          refine s_loc (L2 := [(0, .ref (ad 0)), (1, .int (bestW (madeN σ n (prods σ n)) u)), (2, .int (nI (mostW (madeN σ n (prods σ n)) u))), (3, .int (nI (u + 1)))]) [2, 3, 4, 0] rfl ?_
          refine s_L (L2 := [(0, .ref (ad 0)), (1, .int (bestW (madeN σ n (prods σ n)) (u + 1))), (2, .int (nI (mostW (madeN σ n (prods σ n)) (u + 1)))), (3, .int (nI (u + 1)))]) (by rw [bestW, mostW, if_neg c29, if_neg c29]) ?_
          exact ih11 (u + 1) (by omega) (by omega)
  refine s_loc (L2 := [(0, .ref (ad 0)), (1, .int ((-2))), (2, .int (nI 0)), (3, .int (nI 0))]) [3, 2, 1, 0] rfl ?_
  exact L11 (_ + 1) 0 (Nat.zero_le _) (Nat.lt_succ_self _)
end
