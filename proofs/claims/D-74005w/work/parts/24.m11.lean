set_option maxRecDepth 100000
section
variable {l : Launch} {D : va_G} {gt ad : Nat → Nat} {ct : Nat → ClassId}
set_option maxHeartbeats 1000000 in
set_option maxRecDepth 100000 in
theorem mz_turned {σ : Nat → Nat → Int32} (n : Nat) (v : Int32) (hn : σ 3 7 = nI n) (hn6 : n ≤ 6) (hs : ∀ v, v < n → In (σ 6 v) 3) (hp : ∀ v, v < n → In (σ 25 (6 + v)) 31) (ht : TO σ) : Ct l D gt yX5_turned cX5_turned 4 .int 7 160 0 0 [.ref (ad 0), .int (v)] (wm ad ct σ) (tysA ct) (fun r σ2 => (if v = -1 then nI (tdF n 200 (asideF (zt σ))).1 else if isU n v = true then (tdF n 200 (asideF (zt σ))).2 25 (6 + tN v) else -2) = r ∧ HQ (zt σ) σ2) (fun σ2 => wm ad ct σ2) (fun _ => tysA ct) := by
  refine Ct.start RX5 (by decide) rfl (Nat.le_of_ble_eq_true rfl) rfl ?_
  intro pP eE sS mM aA bB hM cC QQ AA E Rt
  refine s_aload_n E dX5_turned_0 (i := 0) (j := 0) rfl rfl ?_
  refine s_iconst E dX5_turned_1 (v := nI 0) (by decide) ?_
  refine mp0 E dX5_turned_2 ?_
  refine s_ws (ws2 := wm ad ct (zt σ)) (congrArg (wm ad ct) (rfl)) ?_
  refine s_iload_n E dX5_turned_5 (i := 1) (j := 1) rfl rfl ?_
  refine s_iconst E dX5_turned_6 (v := (-1)) (by decide) ?_
  refine s_icmp_eq E dX5_turned_7 (tgt := 21) rfl (fun c7 => ?_) (fun c7 => ?_)
  · refine s_aload_n E dX5_turned_21 (i := 0) (j := 0) rfl rfl ?_
    refine m_calli E (mz_turnsDown n (hn) (hn6) (hs) (hp)) K5_399 (Nat.le_of_ble_eq_true rfl) (Nat.le_of_ble_eq_true rfl) (Nat.zero_le _) (Nat.zero_le _) rfl rfl (Nat.le_of_ble_eq_true rfl) dX5_turned_22 (fun r22 w22 h22 => ?_)
    obtain ⟨rfl, hw⟩ := h22
    have ha := (tdF_aw (z := zt σ) hn6 200 _ (AW.of (zt σ))).hr hw
    refine s_istore_n E (L2 := [(2, .int (nI ((tdF n 200 (asideF (zt σ))).1))), (0, .ref (ad 0)), (1, .int (v))]) dX5_turned_25 rfl (Nat.le_of_ble_eq_true rfl) rfl ?_
    refine s_iload_n E dX5_turned_26 (i := 1) (j := 2) rfl rfl ?_
    refine s_iconst E dX5_turned_27 (v := (-1)) (by decide) ?_
    refine s_icmp_ne E dX5_turned_28 (tgt := 35) rfl (fun c28 => ?_) (fun c28 => ?_)
    · have hU : isU n v = true := by first | exact isU_t c15 | exact absurd c7 c28
      obtain ⟨j, hj, rfl⟩ := us_of (show ¬ v < 0 ∧ v < nI n by unfold isU at hU; simpa using hU) hn6
      refine s_aload_n E dX5_turned_35 (i := 0) (j := 1) rfl rfl ?_
      refine mg25 E dX5_turned_36 ?_
      refine s_bipush E dX5_turned_39 (v := nI 6) (by decide) ?_
      refine s_iload_n E dX5_turned_41 (i := 1) (j := 2) rfl rfl ?_
      refine s_iadd_ E dX5_turned_42 (v := nI (6 + j)) (nI_add _ _) ?_
      refine ml25 E (v := (tdF n 200 (asideF (zt σ))).2 25 (6 + j)) (6 + j) (rfl) (by omega) (by rw [hw.ce.1]) dX5_turned_43 ?_
      refine s_istore_n E (L2 := [(3, .int ((tdF n 200 (asideF (zt σ))).2 25 (6 + j))), (2, .int (nI ((tdF n 200 (asideF (zt σ))).1))), (0, .ref (ad 0)), (1, .int (nI j))]) dX5_turned_44 rfl (Nat.le_of_ble_eq_true rfl) rfl ?_
      refine s_aload_n E dX5_turned_45 (i := 0) (j := 2) rfl rfl ?_
      refine m_callv E (mz_comesBack ) K5_357 (Nat.le_of_ble_eq_true rfl) (Nat.le_of_ble_eq_true rfl) (Nat.zero_le _) (Nat.zero_le _) rfl rfl (Nat.le_of_ble_eq_true rfl) dX5_turned_46 (fun w46 h46 => ?_)
      have hq : HQ (zt σ) (comeF w22) := AW.back ha ht
      subst h46
      refine s_iload_n E dX5_turned_49 (i := 3) (j := 0) rfl rfl ?_
      exact Rt ((tdF n 200 (asideF (zt σ))).2 25 (6 + j)) (comeF w22) dX5_turned_50 (⟨by rw [if_neg c28, if_pos hU, tN_nI (by omega)], hq⟩) rfl (Nat.le_refl _) (Nat.le_refl _) rfl E.2.2.2.2.2.1
    · refine s_iload_n E dX5_turned_31 (i := 2) (j := 0) rfl rfl ?_
      refine s_goto E dX5_turned_32 (tgt := 44) rfl ?_
      refine s_istore_n E (L2 := [(3, .int (nI ((tdF n 200 (asideF (zt σ))).1))), (2, .int (nI ((tdF n 200 (asideF (zt σ))).1))), (0, .ref (ad 0)), (1, .int (v))]) dX5_turned_44 rfl (Nat.le_of_ble_eq_true rfl) rfl ?_
      refine s_aload_n E dX5_turned_45 (i := 0) (j := 2) rfl rfl ?_
      refine m_callv E (mz_comesBack ) K5_357 (Nat.le_of_ble_eq_true rfl) (Nat.le_of_ble_eq_true rfl) (Nat.zero_le _) (Nat.zero_le _) rfl rfl (Nat.le_of_ble_eq_true rfl) dX5_turned_46 (fun w46 h46 => ?_)
      have hq : HQ (zt σ) (comeF w22) := AW.back ha ht
      subst h46
      refine s_iload_n E dX5_turned_49 (i := 3) (j := 0) rfl rfl ?_
      exact Rt (nI ((tdF n 200 (asideF (zt σ))).1)) (comeF w22) dX5_turned_50 (⟨by rw [if_pos c28], hq⟩) rfl (Nat.le_refl _) (Nat.le_refl _) rfl E.2.2.2.2.2.1
  · refine s_aload_n E dX5_turned_10 (i := 0) (j := 0) rfl rfl ?_
    refine s_iload_n E dX5_turned_11 (i := 1) (j := 1) rfl rfl ?_
    refine m_calli E (mz_isUser n v (hn)) K5_259 (Nat.le_of_ble_eq_true rfl) (Nat.le_of_ble_eq_true rfl) (Nat.zero_le _) (Nat.zero_le _) rfl rfl (Nat.le_of_ble_eq_true rfl) dX5_turned_12 (fun r12 w12 h12 => ?_)
    obtain ⟨rfl, rfl⟩ := h12
    refine s_if_ne E dX5_turned_15 (tgt := 21) rfl (fun c15 => ?_) (fun c15 => ?_)
    · have c15 := bI_n0 c15
      have hU := isU_t c15
      refine s_aload_n E dX5_turned_21 (i := 0) (j := 0) rfl rfl ?_
      refine m_calli E (mz_turnsDown n (hn) (hn6) (hs) (hp)) K5_399 (Nat.le_of_ble_eq_true rfl) (Nat.le_of_ble_eq_true rfl) (Nat.zero_le _) (Nat.zero_le _) rfl rfl (Nat.le_of_ble_eq_true rfl) dX5_turned_22 (fun r22 w22 h22 => ?_)
      obtain ⟨rfl, hw⟩ := h22
      have ha := (tdF_aw (z := zt σ) hn6 200 _ (AW.of (zt σ))).hr hw
      refine s_istore_n E (L2 := [(2, .int (nI ((tdF n 200 (asideF (zt σ))).1))), (0, .ref (ad 0)), (1, .int (v))]) dX5_turned_25 rfl (Nat.le_of_ble_eq_true rfl) rfl ?_
      refine s_iload_n E dX5_turned_26 (i := 1) (j := 2) rfl rfl ?_
      refine s_iconst E dX5_turned_27 (v := (-1)) (by decide) ?_
      refine s_icmp_ne E dX5_turned_28 (tgt := 35) rfl (fun c28 => ?_) (fun c28 => ?_)
      · have hU : isU n v = true := by first | exact isU_t c15 | exact absurd c7 c28
        obtain ⟨j, hj, rfl⟩ := us_of (show ¬ v < 0 ∧ v < nI n by unfold isU at hU; simpa using hU) hn6
        refine s_aload_n E dX5_turned_35 (i := 0) (j := 1) rfl rfl ?_
        refine mg25 E dX5_turned_36 ?_
        refine s_bipush E dX5_turned_39 (v := nI 6) (by decide) ?_
        refine s_iload_n E dX5_turned_41 (i := 1) (j := 2) rfl rfl ?_
        refine s_iadd_ E dX5_turned_42 (v := nI (6 + j)) (nI_add _ _) ?_
        refine ml25 E (v := (tdF n 200 (asideF (zt σ))).2 25 (6 + j)) (6 + j) (rfl) (by omega) (by rw [hw.ce.1]) dX5_turned_43 ?_
        refine s_istore_n E (L2 := [(3, .int ((tdF n 200 (asideF (zt σ))).2 25 (6 + j))), (2, .int (nI ((tdF n 200 (asideF (zt σ))).1))), (0, .ref (ad 0)), (1, .int (nI j))]) dX5_turned_44 rfl (Nat.le_of_ble_eq_true rfl) rfl ?_
        refine s_aload_n E dX5_turned_45 (i := 0) (j := 2) rfl rfl ?_
        refine m_callv E (mz_comesBack ) K5_357 (Nat.le_of_ble_eq_true rfl) (Nat.le_of_ble_eq_true rfl) (Nat.zero_le _) (Nat.zero_le _) rfl rfl (Nat.le_of_ble_eq_true rfl) dX5_turned_46 (fun w46 h46 => ?_)
        have hq : HQ (zt σ) (comeF w22) := AW.back ha ht
        subst h46
        refine s_iload_n E dX5_turned_49 (i := 3) (j := 0) rfl rfl ?_
        exact Rt ((tdF n 200 (asideF (zt σ))).2 25 (6 + j)) (comeF w22) dX5_turned_50 (⟨by rw [if_neg c28, if_pos hU, tN_nI (by omega)], hq⟩) rfl (Nat.le_refl _) (Nat.le_refl _) rfl E.2.2.2.2.2.1
      · refine s_iload_n E dX5_turned_31 (i := 2) (j := 0) rfl rfl ?_
        refine s_goto E dX5_turned_32 (tgt := 44) rfl ?_
        refine s_istore_n E (L2 := [(3, .int (nI ((tdF n 200 (asideF (zt σ))).1))), (2, .int (nI ((tdF n 200 (asideF (zt σ))).1))), (0, .ref (ad 0)), (1, .int (v))]) dX5_turned_44 rfl (Nat.le_of_ble_eq_true rfl) rfl ?_
        refine s_aload_n E dX5_turned_45 (i := 0) (j := 2) rfl rfl ?_
        refine m_callv E (mz_comesBack ) K5_357 (Nat.le_of_ble_eq_true rfl) (Nat.le_of_ble_eq_true rfl) (Nat.zero_le _) (Nat.zero_le _) rfl rfl (Nat.le_of_ble_eq_true rfl) dX5_turned_46 (fun w46 h46 => ?_)
        have hq : HQ (zt σ) (comeF w22) := AW.back ha ht
        subst h46
        refine s_iload_n E dX5_turned_49 (i := 3) (j := 0) rfl rfl ?_
        exact Rt (nI ((tdF n 200 (asideF (zt σ))).1)) (comeF w22) dX5_turned_50 (⟨by rw [if_pos c28], hq⟩) rfl (Nat.le_refl _) (Nat.le_refl _) rfl E.2.2.2.2.2.1
    · have c15 := bI_0 c15
      have hU := isU_f c15
      refine s_bipush E dX5_turned_18 (v := (-2)) (by decide) ?_
      exact Rt ((-2)) (zt σ) dX5_turned_20 (⟨by rw [if_neg c7, if_neg (by simp [hU])], HQ.rf _⟩) rfl (Nat.le_refl _) (Nat.le_refl _) rfl E.2.2.2.2.2.1
set_option maxHeartbeats 1000000 in
set_option maxRecDepth 100000 in
theorem mz_left {σ : Nat → Nat → Int32} (n : Nat) (hn : σ 3 7 = nI n) (hn6 : n ≤ 6) (hs : ∀ v, v < n → In (σ 6 v) 3) (hp : ∀ v, v < n → In (σ 25 (6 + v)) 31) (ht : TO σ) : Ct l D gt yX5_left cX5_left 2 .int 7 160 0 0 [.ref (ad 0)] (wm ad ct σ) (tysA ct) (fun r σ2 => nI (hitsT (tdF n 200 (asideF (zt σ))).2 n (prods (tdF n 200 (asideF (zt σ))).2 n)) = r ∧ HQ (zt σ) σ2) (fun σ2 => wm ad ct σ2) (fun _ => tysA ct) := by
  refine Ct.start RX5 (by decide) rfl (Nat.le_of_ble_eq_true rfl) rfl ?_
  intro pP eE sS mM aA bB hM cC QQ AA E Rt
  refine s_aload_n E dX5_left_0 (i := 0) (j := 0) rfl rfl ?_
  refine s_iconst E dX5_left_1 (v := nI 0) (by decide) ?_
  refine mp0 E dX5_left_2 ?_
  refine s_ws (ws2 := wm ad ct (zt σ)) (congrArg (wm ad ct) (rfl)) ?_
  refine s_aload_n E dX5_left_5 (i := 0) (j := 0) rfl rfl ?_
  refine m_calli E (mz_turnsDown n (hn) (hn6) (hs) (hp)) K5_399 (Nat.le_of_ble_eq_true rfl) (Nat.le_of_ble_eq_true rfl) (Nat.zero_le _) (Nat.zero_le _) rfl rfl (Nat.le_of_ble_eq_true rfl) dX5_left_6 (fun r6 w6 h6 => ?_)
  obtain ⟨rfl, hw⟩ := h6
  have ha := (tdF_aw (z := zt σ) hn6 200 _ (AW.of (zt σ))).hr hw
  have ha3 : (tdF n 200 (asideF (zt σ))).2 3 = zt σ 3 := (tdF_aw (z := zt σ) hn6 200 _ (AW.of (zt σ))).2.2.1 3 (by decide) (by decide) (by decide) (by decide)
  have ha6 : (tdF n 200 (asideF (zt σ))).2 6 = zt σ 6 := (tdF_aw (z := zt σ) hn6 200 _ (AW.of (zt σ))).2.2.1 6 (by decide) (by decide) (by decide) (by decide)
  refine s_pop E dX5_left_9 rfl ?_
  refine s_aload_n E dX5_left_10 (i := 0) (j := 0) rfl rfl ?_
  refine m_callv E (mz_laysProducts n (by rw [hw.ce.2.2.1]; rw [ha3]; exact hn) (hn6)) K5_326 (Nat.le_of_ble_eq_true rfl) (Nat.le_of_ble_eq_true rfl) (Nat.zero_le _) (Nat.zero_le _) rfl rfl (Nat.le_of_ble_eq_true rfl) dX5_left_11 (fun w11 h11 => ?_)
  have h := HW.of h11 (by rw [hw.ce.2.2.1]; rw [ha3]; exact hn) hn6 (by rw [hw.ce.2.1]; rw [ha6]; exact hs)
  refine s_aload_n E dX5_left_14 (i := 0) (j := 0) rfl rfl ?_
  refine m_calli E (mz_allHits w6 (prods w6 n) n (h)) K5_381 (Nat.le_of_ble_eq_true rfl) (Nat.le_of_ble_eq_true rfl) (Nat.zero_le _) (Nat.zero_le _) rfl rfl (Nat.le_of_ble_eq_true rfl) dX5_left_15 (fun r15 w15 h15 => ?_)
  obtain ⟨rfl, rfl⟩ := h15
  refine s_top (v2 := nI (hitsT (tdF n 200 (asideF (zt σ))).2 n (prods (tdF n 200 (asideF (zt σ))).2 n))) (by rw [hitsT_ce hw.ce, prods_ce hw.ce]) ?_
  refine s_istore_n E (L2 := [(1, .int (nI (hitsT (tdF n 200 (asideF (zt σ))).2 n (prods (tdF n 200 (asideF (zt σ))).2 n)))), (0, .ref (ad 0))]) dX5_left_18 rfl (Nat.le_of_ble_eq_true rfl) rfl ?_
  refine s_aload_n E dX5_left_19 (i := 0) (j := 1) rfl rfl ?_
  refine m_callv E (mz_comesBack ) K5_357 (Nat.le_of_ble_eq_true rfl) (Nat.le_of_ble_eq_true rfl) (Nat.zero_le _) (Nat.zero_le _) rfl rfl (Nat.le_of_ble_eq_true rfl) dX5_left_20 (fun w20 h20 => ?_)
  have hq : HQ (zt σ) (comeF w11) := AW.back (ha.hr h.1.1) ht
  subst h20
  refine s_iload_n E dX5_left_23 (i := 1) (j := 0) rfl rfl ?_
  exact Rt (nI (hitsT (tdF n 200 (asideF (zt σ))).2 n (prods (tdF n 200 (asideF (zt σ))).2 n))) (comeF w11) dX5_left_24 (⟨rfl, hq⟩) rfl (Nat.le_refl _) (Nat.le_refl _) rfl E.2.2.2.2.2.1
set_option maxHeartbeats 1000000 in
set_option maxRecDepth 100000 in
theorem mz_mostSpace {σ : Nat → Nat → Int32} (n : Nat) (hn : σ 3 7 = nI n) (hn6 : n ≤ 6) (ht : TO σ) : Ct l D gt yX5_mostSpace cX5_mostSpace 2 .int 4 87 0 0 [.ref (ad 0)] (wm ad ct σ) (tysA ct) (fun r σ2 => (if msF (zt σ) n 20 = 0 then -2 else nI (msF (zt σ) n 20)) = r ∧ zt σ = σ2) (fun σ2 => wm ad ct σ2) (fun _ => tysA ct) := by
  refine Ct.start RX5 (by decide) rfl (Nat.le_of_ble_eq_true rfl) rfl ?_
  intro pP eE sS mM aA bB hM cC QQ AA E Rt
  refine s_aload_n E dX5_mostSpace_0 (i := 0) (j := 0) rfl rfl ?_
  refine s_iconst E dX5_mostSpace_1 (v := nI 0) (by decide) ?_
  refine mp0 E dX5_mostSpace_2 ?_
  refine s_ws (ws2 := wm ad ct (zt σ)) (congrArg (wm ad ct) (rfl)) ?_
  refine s_aload_n E dX5_mostSpace_5 (i := 0) (j := 0) rfl rfl ?_
  refine s_bipush E dX5_mostSpace_6 (v := nI 20) (by decide) ?_
  refine mp32 E dX5_mostSpace_8 ?_
  have L11 : ∀ (fuel : Nat) (i : Nat), (i ≤ 20) → (msF (zt σ) n 20 = msF (zt σ) n i) → i < fuel → Sm pP l eE { frames := 4, cells := 0, slots := 0, locals := 87 } sS mM aA bB hM cC QQ AA D 2 0 0 (wm ad ct (st1 (zt σ) 0 32 (nI i))) 11 [(0, .ref (ad 0))] [] := by
    intro fuel
    induction fuel with
    | zero =>
      intro i hi hm hf11
      exact absurd hf11 (Nat.not_lt_zero _)
    | succ fuel ih11 =>
      intro i hi hm hf11
      have hb := crowdsT_le (st1 (zt σ) 0 32 (nI i)) hn6
      refine s_aload_n E dX5_mostSpace_11 (i := 0) (j := 0) rfl rfl ?_
      refine mg32 E (v := nI i) (st1_eq) dX5_mostSpace_12 ?_
      refine s_if_le E dX5_mostSpace_15 (tgt := 38) rfl (fun c15 => ?_) (fun c15 => ?_)
      · have c15 : ¬ 0 < i := fun h => absurd c15 (Int32.not_le.mpr ((nI_ltI (a := 0) (b := i) (by omega) (by omega)).mpr h))
        have he : msF (zt σ) n 20 = i := by rw [hm, show i = 0 by omega]; rfl
        refine s_aload_n E dX5_mostSpace_38 (i := 0) (j := 0) rfl rfl ?_
        refine mg32 E (v := nI i) (st1_eq) dX5_mostSpace_39 ?_
        refine s_if_ne E dX5_mostSpace_42 (tgt := 50) rfl (fun c42 => ?_) (fun c42 => ?_)
        · have c42 : ¬ i = 0 := fun h => c42 ((nI_eq (a := i) (b := 0) (by omega) (by omega)).mpr h)
          refine s_aload_n E dX5_mostSpace_50 (i := 0) (j := 0) rfl rfl ?_
          refine mg32 E (v := nI i) (st1_eq) dX5_mostSpace_51 ?_
          refine s_istore_n E (L2 := [(1, .int (nI i)), (0, .ref (ad 0))]) dX5_mostSpace_54 rfl (Nat.le_of_ble_eq_true rfl) rfl ?_
          refine s_aload_n E dX5_mostSpace_55 (i := 0) (j := 1) rfl rfl ?_
          refine m_callv E (mz_asTold ) K5_235 (Nat.le_of_ble_eq_true rfl) (Nat.le_of_ble_eq_true rfl) (Nat.zero_le _) (Nat.zero_le _) rfl rfl (Nat.le_of_ble_eq_true rfl) dX5_mostSpace_56 (fun w56 h56 => ?_)
          subst h56
          refine s_iload_n E dX5_mostSpace_59 (i := 1) (j := 0) rfl rfl ?_
          exact Rt (nI i) (toldF (st1 (zt σ) 0 32 (nI i))) dX5_mostSpace_60 (⟨by rw [he, if_neg c42], (TO.back (s := zt σ) (t := st1 (zt σ) 0 32 (nI i)) ht (fun r h => st1_ne h) (fun j h => st1_nj (show j ≠ 32 by omega))).symm⟩) rfl (Nat.le_refl _) (Nat.le_refl _) rfl E.2.2.2.2.2.1
        · have c42 : i = 0 := (nI_eq (a := i) (b := 0) (by omega) (by omega)).mp c42
          refine s_bipush E dX5_mostSpace_45 (v := (-2)) (by decide) ?_
          refine s_goto E dX5_mostSpace_47 (tgt := 54) rfl ?_
          refine s_istore_n E (L2 := [(1, .int ((-2))), (0, .ref (ad 0))]) dX5_mostSpace_54 rfl (Nat.le_of_ble_eq_true rfl) rfl ?_
          refine s_aload_n E dX5_mostSpace_55 (i := 0) (j := 1) rfl rfl ?_
          refine m_callv E (mz_asTold ) K5_235 (Nat.le_of_ble_eq_true rfl) (Nat.le_of_ble_eq_true rfl) (Nat.zero_le _) (Nat.zero_le _) rfl rfl (Nat.le_of_ble_eq_true rfl) dX5_mostSpace_56 (fun w56 h56 => ?_)
          subst h56
          refine s_iload_n E dX5_mostSpace_59 (i := 1) (j := 0) rfl rfl ?_
          exact Rt ((-2)) (toldF (st1 (zt σ) 0 32 (nI i))) dX5_mostSpace_60 (⟨by rw [he, if_pos c42], (TO.back (s := zt σ) (t := st1 (zt σ) 0 32 (nI i)) ht (fun r h => st1_ne h) (fun j h => st1_nj (show j ≠ 32 by omega))).symm⟩) rfl (Nat.le_refl _) (Nat.le_refl _) rfl E.2.2.2.2.2.1
      · have c15 : 0 < i := (nI_ltI (a := 0) (b := i) (by omega) (by omega)).mp (Int32.not_le.mp c15)
        refine s_aload_n E dX5_mostSpace_18 (i := 0) (j := 0) rfl rfl ?_
        refine m_calli E (mz_allCrowds n (hn) (hn6)) K5_384 (Nat.le_of_ble_eq_true rfl) (Nat.le_of_ble_eq_true rfl) (Nat.zero_le _) (Nat.zero_le _) rfl rfl (Nat.le_of_ble_eq_true rfl) dX5_mostSpace_19 (fun r19 w19 h19 => ?_)
        obtain ⟨rfl, rfl⟩ := h19
        refine s_if_le E dX5_mostSpace_22 (tgt := 38) rfl (fun c22 => ?_) (fun c22 => ?_)
        · have c22 : ¬ 0 < crowdsT (st1 (zt σ) 0 32 (nI i)) n := fun h => absurd c22 (Int32.not_le.mpr ((nI_ltI (a := 0) (b := crowdsT (st1 (zt σ) 0 32 (nI i)) n) (by omega) (by omega)).mpr h))
          have he : msF (zt σ) n 20 = i := by rw [hm]; exact msF_e c15 (by omega)
          refine s_aload_n E dX5_mostSpace_38 (i := 0) (j := 0) rfl rfl ?_
          refine mg32 E (v := nI i) (st1_eq) dX5_mostSpace_39 ?_
          refine s_if_ne E dX5_mostSpace_42 (tgt := 50) rfl (fun c42 => ?_) (fun c42 => ?_)
          · have c42 : ¬ i = 0 := fun h => c42 ((nI_eq (a := i) (b := 0) (by omega) (by omega)).mpr h)
            refine s_aload_n E dX5_mostSpace_50 (i := 0) (j := 0) rfl rfl ?_
            refine mg32 E (v := nI i) (st1_eq) dX5_mostSpace_51 ?_
            refine s_istore_n E (L2 := [(1, .int (nI i)), (0, .ref (ad 0))]) dX5_mostSpace_54 rfl (Nat.le_of_ble_eq_true rfl) rfl ?_
            refine s_aload_n E dX5_mostSpace_55 (i := 0) (j := 1) rfl rfl ?_
            refine m_callv E (mz_asTold ) K5_235 (Nat.le_of_ble_eq_true rfl) (Nat.le_of_ble_eq_true rfl) (Nat.zero_le _) (Nat.zero_le _) rfl rfl (Nat.le_of_ble_eq_true rfl) dX5_mostSpace_56 (fun w56 h56 => ?_)
            subst h56
            refine s_iload_n E dX5_mostSpace_59 (i := 1) (j := 0) rfl rfl ?_
            exact Rt (nI i) (toldF (st1 (zt σ) 0 32 (nI i))) dX5_mostSpace_60 (⟨by rw [he, if_neg c42], (TO.back (s := zt σ) (t := st1 (zt σ) 0 32 (nI i)) ht (fun r h => st1_ne h) (fun j h => st1_nj (show j ≠ 32 by omega))).symm⟩) rfl (Nat.le_refl _) (Nat.le_refl _) rfl E.2.2.2.2.2.1
          · have c42 : i = 0 := (nI_eq (a := i) (b := 0) (by omega) (by omega)).mp c42
            refine s_bipush E dX5_mostSpace_45 (v := (-2)) (by decide) ?_
            refine s_goto E dX5_mostSpace_47 (tgt := 54) rfl ?_
            refine s_istore_n E (L2 := [(1, .int ((-2))), (0, .ref (ad 0))]) dX5_mostSpace_54 rfl (Nat.le_of_ble_eq_true rfl) rfl ?_
            refine s_aload_n E dX5_mostSpace_55 (i := 0) (j := 1) rfl rfl ?_
            refine m_callv E (mz_asTold ) K5_235 (Nat.le_of_ble_eq_true rfl) (Nat.le_of_ble_eq_true rfl) (Nat.zero_le _) (Nat.zero_le _) rfl rfl (Nat.le_of_ble_eq_true rfl) dX5_mostSpace_56 (fun w56 h56 => ?_)
            subst h56
            refine s_iload_n E dX5_mostSpace_59 (i := 1) (j := 0) rfl rfl ?_
            exact Rt ((-2)) (toldF (st1 (zt σ) 0 32 (nI i))) dX5_mostSpace_60 (⟨by rw [he, if_pos c42], (TO.back (s := zt σ) (t := st1 (zt σ) 0 32 (nI i)) ht (fun r h => st1_ne h) (fun j h => st1_nj (show j ≠ 32 by omega))).symm⟩) rfl (Nat.le_refl _) (Nat.le_refl _) rfl E.2.2.2.2.2.1
        · have c22 : 0 < crowdsT (st1 (zt σ) 0 32 (nI i)) n := (nI_ltI (a := 0) (b := crowdsT (st1 (zt σ) 0 32 (nI i)) n) (by omega) (by omega)).mp (Int32.not_le.mp c22)
          refine s_aload_n E dX5_mostSpace_25 (i := 0) (j := 0) rfl rfl ?_
          refine s_dup E dX5_mostSpace_26 rfl ?_
          refine mg32 E (v := nI i) (st1_eq) dX5_mostSpace_27 ?_
          refine s_iconst E dX5_mostSpace_30 (v := nI 1) (by decide) ?_
          refine s_isub_ E dX5_mostSpace_31 (v := nI (i - 1)) (nI_dec (by omega)) ?_
          refine mp32 E dX5_mostSpace_32 ?_
          refine s_ws (ws2 := wm ad ct (st1 (zt σ) 0 32 (nI (i - 1)))) (congrArg (wm ad ct) (st1_2)) ?_
          refine s_goto E dX5_mostSpace_35 (tgt := 11) rfl ?_
          exact ih11 (i - 1) (by omega) (by rw [hm]; exact msF_s c15 (by omega)) (by omega)
  exact L11 (_ + 1) 20 (Nat.le_refl _) (rfl) (Nat.lt_succ_self _)
set_option maxHeartbeats 1000000 in
set_option maxRecDepth 100000 in
theorem mz_mostGuard {σ : Nat → Nat → Int32} (n : Nat) (hn : σ 3 7 = nI n) (hn6 : n ≤ 6) (hs : ∀ v, v < n → In (σ 6 v) 3) (ht : TO σ) : Ct l D gt yX5_mostGuard cX5_mostGuard 2 .int 6 133 0 0 [.ref (ad 0)] (wm ad ct σ) (tysA ct) (fun r σ2 => optI (mgF (zt σ) n 6) = r ∧ HR (zt σ) σ2) (fun σ2 => wm ad ct σ2) (fun _ => tysA ct) := by
  refine Ct.start RX5 (by decide) rfl (Nat.le_of_ble_eq_true rfl) rfl ?_
  intro pP eE sS mM aA bB hM cC QQ AA E Rt
  refine s_aload_n E dX5_mostGuard_0 (i := 0) (j := 0) rfl rfl ?_
  refine s_iconst E dX5_mostGuard_1 (v := nI 0) (by decide) ?_
  refine mp0 E dX5_mostGuard_2 ?_
  refine s_ws (ws2 := wm ad ct (zt σ)) (congrArg (wm ad ct) (rfl)) ?_
  refine s_aload_n E dX5_mostGuard_5 (i := 0) (j := 0) rfl rfl ?_
  refine s_iconst E dX5_mostGuard_6 (v := nI 5) (by decide) ?_
  refine mp31 E dX5_mostGuard_7 ?_
  have L10 : ∀ (fuel : Nat) (i : Nat) (w2 : Nat → Nat → Int32), (i ≤ 6) → (HR (st1 (zt σ) 0 31 (m1I i)) w2) → (mgF (zt σ) n 6 = mgF (zt σ) n i) → i < fuel → Sm pP l eE { frames := 6, cells := 0, slots := 0, locals := 133 } sS mM aA bB hM cC QQ AA D 2 0 0 (wm ad ct w2) 10 [(0, .ref (ad 0))] [] := by
    intro fuel
    induction fuel with
    | zero =>
      intro i w2 hi hw hm hf10
      exact absurd hf10 (Nat.not_lt_zero _)
    | succ fuel ih10 =>
      intro i w2 hi hw hm hf10
      have hb := hitsT_le (st1 (zt σ) 0 31 (m1I i)) hn6
      refine s_aload_n E dX5_mostGuard_10 (i := 0) (j := 0) rfl rfl ?_
      refine mg31 E (v := m1I i) (by rw [hw.2 31 (by omega), st1_eq]) dX5_mostGuard_11 ?_
      refine s_if_lt E dX5_mostGuard_14 (tgt := 37) rfl (fun c14 => ?_) (fun c14 => ?_)
      · have hk0 := m1I_n (by omega) c14
        have he : mgF (zt σ) n 6 = i := by rw [hm, hk0]; rfl
        have hv : HR (st1 (zt σ) 0 31 (m1I i)) w2 := hw
        refine s_aload_n E dX5_mostGuard_37 (i := 0) (j := 0) rfl rfl ?_
        refine mg31 E (v := m1I i) (by rw [hw.2 31 (by omega), st1_eq]) dX5_mostGuard_38 ?_
        refine s_if_ge E dX5_mostGuard_41 (tgt := 49) rfl (fun c41 => ?_) (fun c41 => ?_)
        · have c41 := Int32.not_lt.mpr c41
          have hk2 := m1I_p c41
          refine s_aload_n E dX5_mostGuard_49 (i := 0) (j := 0) rfl rfl ?_
          refine mg31 E (v := m1I i) (by rw [hw.2 31 (by omega), st1_eq]) dX5_mostGuard_50 ?_
          refine s_istore_n E (L2 := [(1, .int (m1I i)), (0, .ref (ad 0))]) dX5_mostGuard_53 rfl (Nat.le_of_ble_eq_true rfl) rfl ?_
          refine s_aload_n E dX5_mostGuard_54 (i := 0) (j := 1) rfl rfl ?_
          refine m_callv E (mz_asTold ) K5_235 (Nat.le_of_ble_eq_true rfl) (Nat.le_of_ble_eq_true rfl) (Nat.zero_le _) (Nat.zero_le _) rfl rfl (Nat.le_of_ble_eq_true rfl) dX5_mostGuard_55 (fun w55 h55 => ?_)
          subst h55
          refine s_iload_n E dX5_mostGuard_58 (i := 1) (j := 0) rfl rfl ?_
          exact Rt (m1I i) (toldF w2) dX5_mostGuard_59 (⟨by rw [he]; first | exact optI_m1 hk2.1 | (rw [m1I_n (by omega) (Int32.not_le.mp c41)]; rfl) | (rw [m1I_n (by omega) c41]; rfl), by have h9 := toldF_hr hv; rwa [TO.back (t := st1 (zt σ) 0 31 (m1I i)) (s := zt σ) ht (fun r h => st1_ne h) (fun j h => st1_nj (show j ≠ 31 by omega))] at h9⟩) rfl (Nat.le_refl _) (Nat.le_refl _) rfl E.2.2.2.2.2.1
        · have c41 := Int32.not_le.mp c41
          refine s_bipush E dX5_mostGuard_44 (v := (-2)) (by decide) ?_
          refine s_goto E dX5_mostGuard_46 (tgt := 53) rfl ?_
          refine s_istore_n E (L2 := [(1, .int ((-2))), (0, .ref (ad 0))]) dX5_mostGuard_53 rfl (Nat.le_of_ble_eq_true rfl) rfl ?_
          refine s_aload_n E dX5_mostGuard_54 (i := 0) (j := 1) rfl rfl ?_
          refine m_callv E (mz_asTold ) K5_235 (Nat.le_of_ble_eq_true rfl) (Nat.le_of_ble_eq_true rfl) (Nat.zero_le _) (Nat.zero_le _) rfl rfl (Nat.le_of_ble_eq_true rfl) dX5_mostGuard_55 (fun w55 h55 => ?_)
          subst h55
          refine s_iload_n E dX5_mostGuard_58 (i := 1) (j := 0) rfl rfl ?_
          exact Rt ((-2)) (toldF w2) dX5_mostGuard_59 (⟨by rw [he]; first | exact optI_m1 hk2.1 | (rw [m1I_n (by omega) (Int32.not_le.mp c41)]; rfl) | (rw [m1I_n (by omega) c41]; rfl), by have h9 := toldF_hr hv; rwa [TO.back (t := st1 (zt σ) 0 31 (m1I i)) (s := zt σ) ht (fun r h => st1_ne h) (fun j h => st1_nj (show j ≠ 31 by omega))] at h9⟩) rfl (Nat.le_refl _) (Nat.le_refl _) rfl E.2.2.2.2.2.1
      · have hk := m1I_p c14
        refine s_aload_n E dX5_mostGuard_17 (i := 0) (j := 0) rfl rfl ?_
        refine m_calli E (mz_hasHits n (by rw [hw.ce.2.2.1]; exact hn) (hn6) (by rw [hw.ce.2.1]; exact hs)) K5_405 (Nat.le_of_ble_eq_true rfl) (Nat.le_of_ble_eq_true rfl) (Nat.zero_le _) (Nat.zero_le _) rfl rfl (Nat.le_of_ble_eq_true rfl) dX5_mostGuard_18 (fun r18 w18 h18 => ?_)
        obtain ⟨rfl, h18⟩ := h18
        refine s_top (v2 := bI (0 < hitsT (st1 (zt σ) 0 31 (m1I i)) n (prods (st1 (zt σ) 0 31 (m1I i)) n))) (by rw [hitsT_ce hw.ce, prods_ce hw.ce]) ?_
        refine s_if_eq E dX5_mostGuard_21 (tgt := 37) rfl (fun c21 => ?_) (fun c21 => ?_)
        · have c21 := bI_0 c21
          have he : mgF (zt σ) n 6 = i := by rw [hm]; exact mgF_e hk.1 (by omega)
          have hv := hw.tr h18
          refine s_aload_n E dX5_mostGuard_37 (i := 0) (j := 0) rfl rfl ?_
          refine mg31 E (v := m1I i) (by rw [h18.2 31 (by omega), hw.2 31 (by omega), st1_eq]) dX5_mostGuard_38 ?_
          refine s_if_ge E dX5_mostGuard_41 (tgt := 49) rfl (fun c41 => ?_) (fun c41 => ?_)
          · have c41 := Int32.not_lt.mpr c41
            have hk2 := m1I_p c41
            refine s_aload_n E dX5_mostGuard_49 (i := 0) (j := 0) rfl rfl ?_
            refine mg31 E (v := m1I i) (by rw [h18.2 31 (by omega), hw.2 31 (by omega), st1_eq]) dX5_mostGuard_50 ?_
            refine s_istore_n E (L2 := [(1, .int (m1I i)), (0, .ref (ad 0))]) dX5_mostGuard_53 rfl (Nat.le_of_ble_eq_true rfl) rfl ?_
            refine s_aload_n E dX5_mostGuard_54 (i := 0) (j := 1) rfl rfl ?_
            refine m_callv E (mz_asTold ) K5_235 (Nat.le_of_ble_eq_true rfl) (Nat.le_of_ble_eq_true rfl) (Nat.zero_le _) (Nat.zero_le _) rfl rfl (Nat.le_of_ble_eq_true rfl) dX5_mostGuard_55 (fun w55 h55 => ?_)
            subst h55
            refine s_iload_n E dX5_mostGuard_58 (i := 1) (j := 0) rfl rfl ?_
            exact Rt (m1I i) (toldF w18) dX5_mostGuard_59 (⟨by rw [he]; first | exact optI_m1 hk2.1 | (rw [m1I_n (by omega) (Int32.not_le.mp c41)]; rfl) | (rw [m1I_n (by omega) c41]; rfl), by have h9 := toldF_hr hv; rwa [TO.back (t := st1 (zt σ) 0 31 (m1I i)) (s := zt σ) ht (fun r h => st1_ne h) (fun j h => st1_nj (show j ≠ 31 by omega))] at h9⟩) rfl (Nat.le_refl _) (Nat.le_refl _) rfl E.2.2.2.2.2.1
          · have c41 := Int32.not_le.mp c41
            refine s_bipush E dX5_mostGuard_44 (v := (-2)) (by decide) ?_
            refine s_goto E dX5_mostGuard_46 (tgt := 53) rfl ?_
            refine s_istore_n E (L2 := [(1, .int ((-2))), (0, .ref (ad 0))]) dX5_mostGuard_53 rfl (Nat.le_of_ble_eq_true rfl) rfl ?_
            refine s_aload_n E dX5_mostGuard_54 (i := 0) (j := 1) rfl rfl ?_
            refine m_callv E (mz_asTold ) K5_235 (Nat.le_of_ble_eq_true rfl) (Nat.le_of_ble_eq_true rfl) (Nat.zero_le _) (Nat.zero_le _) rfl rfl (Nat.le_of_ble_eq_true rfl) dX5_mostGuard_55 (fun w55 h55 => ?_)
            subst h55
            refine s_iload_n E dX5_mostGuard_58 (i := 1) (j := 0) rfl rfl ?_
            exact Rt ((-2)) (toldF w18) dX5_mostGuard_59 (⟨by rw [he]; first | exact optI_m1 hk2.1 | (rw [m1I_n (by omega) (Int32.not_le.mp c41)]; rfl) | (rw [m1I_n (by omega) c41]; rfl), by have h9 := toldF_hr hv; rwa [TO.back (t := st1 (zt σ) 0 31 (m1I i)) (s := zt σ) ht (fun r h => st1_ne h) (fun j h => st1_nj (show j ≠ 31 by omega))] at h9⟩) rfl (Nat.le_refl _) (Nat.le_refl _) rfl E.2.2.2.2.2.1
        · have c21 := bI_n0 c21
          refine s_aload_n E dX5_mostGuard_24 (i := 0) (j := 0) rfl rfl ?_
          refine s_dup E dX5_mostGuard_25 rfl ?_
          refine mg31 E (v := m1I i) (by rw [h18.2 31 (by omega), hw.2 31 (by omega), st1_eq]) dX5_mostGuard_26 ?_
          refine s_iconst E dX5_mostGuard_29 (v := nI 1) (by decide) ?_
          refine s_isub_ E dX5_mostGuard_30 (v := m1I (i - 1)) (m1I_d hk.1) ?_
          refine mp31 E dX5_mostGuard_31 ?_
          refine s_goto E dX5_mostGuard_34 (tgt := 10) rfl ?_
          exact ih10 (i - 1) (st1 w18 0 31 (m1I (i - 1))) (by omega) (by have h9 := HR.putF (j := 31) (v := m1I (i - 1)) (hw.tr h18); rwa [st1_2] at h9) (by rw [hm]; exact mgF_s hk.1 (by omega)) (by omega)
  exact L10 (_ + 1) 6 (st1 (zt σ) 0 31 (nI 5)) (Nat.le_refl _) (HR.rf _) (rfl) (Nat.lt_succ_self _)
set_option maxHeartbeats 1000000 in
set_option maxRecDepth 100000 in
theorem mz_mostPower {σ : Nat → Nat → Int32} (n : Nat) (u : Int32) (hn : σ 3 7 = nI n) (hn6 : n ≤ 6) (hs : ∀ v, v < n → In (σ 6 v) 3) : Ct l D gt yX5_mostPower cX5_mostPower 4 .int 6 133 0 0 [.ref (ad 0), .int (u)] (wm ad ct σ) (tysA ct) (fun r σ2 => (if isU n u = true then optI (mpF (zt σ) n (tN u) 31) else -1) = r ∧ HR (zt σ) σ2) (fun σ2 => wm ad ct σ2) (fun _ => tysA ct) := by
  refine Ct.start RX5 (by decide) rfl (Nat.le_of_ble_eq_true rfl) rfl ?_
  intro pP eE sS mM aA bB hM cC QQ AA E Rt
  refine s_aload_n E dX5_mostPower_0 (i := 0) (j := 0) rfl rfl ?_
  refine s_iconst E dX5_mostPower_1 (v := nI 0) (by decide) ?_
  refine mp0 E dX5_mostPower_2 ?_
  refine s_ws (ws2 := wm ad ct (zt σ)) (congrArg (wm ad ct) (rfl)) ?_
  refine s_aload_n E dX5_mostPower_5 (i := 0) (j := 0) rfl rfl ?_
  refine s_iload_n E dX5_mostPower_6 (i := 1) (j := 1) rfl rfl ?_
  refine m_calli E (mz_isUser n u (hn)) K5_259 (Nat.le_of_ble_eq_true rfl) (Nat.le_of_ble_eq_true rfl) (Nat.zero_le _) (Nat.zero_le _) rfl rfl (Nat.le_of_ble_eq_true rfl) dX5_mostPower_7 (fun r7 w7 h7 => ?_)
  obtain ⟨rfl, rfl⟩ := h7
  refine s_if_ne E dX5_mostPower_10 (tgt := 15) rfl (fun c10 => ?_) (fun c10 => ?_)
  · have c10 := bI_n0 c10
    have hU := isU_t c10
    obtain ⟨j, hj, rfl⟩ := us_of c10 hn6
    refine s_aload_n E dX5_mostPower_15 (i := 0) (j := 0) rfl rfl ?_
    refine mg25 E dX5_mostPower_16 ?_
    refine s_bipush E dX5_mostPower_19 (v := nI 6) (by decide) ?_
    refine s_iload_n E dX5_mostPower_21 (i := 1) (j := 1) rfl rfl ?_
    refine s_iadd_ E dX5_mostPower_22 (v := nI (6 + j)) (nI_add _ _) ?_
    refine ml25 E (v := (zt σ) 25 (6 + j)) (6 + j) (rfl) (by omega) (rfl) dX5_mostPower_23 ?_
    refine s_istore_n E (L2 := [(2, .int ((zt σ) 25 (6 + j))), (0, .ref (ad 0)), (1, .int (nI j))]) dX5_mostPower_24 rfl (Nat.le_of_ble_eq_true rfl) rfl ?_
    refine s_bipush E dX5_mostPower_25 (v := nI 30) (by decide) ?_
    refine s_istore_n E (L2 := [(3, .int (nI 30)), (2, .int ((zt σ) 25 (6 + j))), (0, .ref (ad 0)), (1, .int (nI j))]) dX5_mostPower_27 rfl (Nat.le_of_ble_eq_true rfl) rfl ?_
    refine s_aload_n E dX5_mostPower_28 (i := 0) (j := 2) rfl rfl ?_
    refine mg25 E dX5_mostPower_29 ?_
    refine s_bipush E dX5_mostPower_32 (v := nI 6) (by decide) ?_
    refine s_iload_n E dX5_mostPower_34 (i := 1) (j := 3) rfl rfl ?_
    refine s_iadd_ E dX5_mostPower_35 (v := nI (6 + j)) (nI_add _ _) ?_
    refine s_iload_n E dX5_mostPower_36 (i := 3) (j := 0) rfl rfl ?_
    refine ms25 E (6 + j) (rfl) (by omega) dX5_mostPower_37 ?_
    have L38 : ∀ (fuel : Nat) (i : Nat) (w2 : Nat → Nat → Int32), (i ≤ 31) → (HR (st1 (zt σ) 25 (6 + j) (m1I i)) w2) → (mpF (zt σ) n j 31 = mpF (zt σ) n j i) → i < fuel → Sm pP l eE { frames := 6, cells := 0, slots := 0, locals := 133 } sS mM aA bB hM cC QQ AA D 4 0 0 (wm ad ct w2) 38 [(0, .ref (ad 0)), (1, .int (nI j)), (2, .int ((zt σ) 25 (6 + j))), (3, .int (m1I i))] [] := by
      intro fuel
      induction fuel with
      | zero =>
        intro i w2 hi hw hm hf38
        exact absurd hf38 (Nat.not_lt_zero _)
      | succ fuel ih38 =>
        intro i w2 hi hw hm hf38
        have hb := hitsT_le (st1 (zt σ) 25 (6 + j) (m1I i)) hn6
        refine s_iload_n E dX5_mostPower_38 (i := 3) (j := 3) rfl rfl ?_
        refine s_if_lt E dX5_mostPower_39 (tgt := 65) rfl (fun c39 => ?_) (fun c39 => ?_)
        · have hk0 := m1I_n (by omega) c39
          have he : mpF (zt σ) n j 31 = i := by rw [hm, hk0]; rfl
          have hv : HR (st1 (zt σ) 25 (6 + j) (m1I i)) w2 := hw
          refine s_aload_n E dX5_mostPower_65 (i := 0) (j := 0) rfl rfl ?_
          refine mg25 E dX5_mostPower_66 ?_
          refine s_bipush E dX5_mostPower_69 (v := nI 6) (by decide) ?_
          refine s_iload_n E dX5_mostPower_71 (i := 1) (j := 1) rfl rfl ?_
          refine s_iadd_ E dX5_mostPower_72 (v := nI (6 + j)) (nI_add _ _) ?_
          refine s_iload_n E dX5_mostPower_73 (i := 2) (j := 2) rfl rfl ?_
          refine ms25 E (6 + j) (rfl) (by omega) dX5_mostPower_74 ?_
          refine s_iload_n E dX5_mostPower_75 (i := 3) (j := 3) rfl rfl ?_
          refine s_if_ge E dX5_mostPower_76 (tgt := 84) rfl (fun c76 => ?_) (fun c76 => ?_)
          · have c76 := Int32.not_lt.mpr c76
            have hk2 := m1I_p c76
            refine s_iload_n E dX5_mostPower_84 (i := 3) (j := 3) rfl rfl ?_
            exact Rt (m1I i) (st1 w2 25 (6 + j) ((zt σ) 25 (6 + j))) dX5_mostPower_85 (⟨by rw [if_pos hU, tN_nI (by omega), he]; first | exact optI_m1 hk2.1 | (rw [m1I_n (by omega) (Int32.not_le.mp c76)]; rfl) | (rw [m1I_n (by omega) c76]; rfl), HR.undo (by omega) (by omega) hv⟩) rfl (Nat.le_refl _) (Nat.le_refl _) rfl E.2.2.2.2.2.1
          · have c76 := Int32.not_le.mp c76
            refine s_bipush E dX5_mostPower_79 (v := (-2)) (by decide) ?_
            refine s_goto E dX5_mostPower_81 (tgt := 85) rfl ?_
            exact Rt ((-2)) (st1 w2 25 (6 + j) ((zt σ) 25 (6 + j))) dX5_mostPower_85 (⟨by rw [if_pos hU, tN_nI (by omega), he]; first | exact optI_m1 hk2.1 | (rw [m1I_n (by omega) (Int32.not_le.mp c76)]; rfl) | (rw [m1I_n (by omega) c76]; rfl), HR.undo (by omega) (by omega) hv⟩) rfl (Nat.le_refl _) (Nat.le_refl _) rfl E.2.2.2.2.2.1
        · have hk := m1I_p c39
          refine s_aload_n E dX5_mostPower_42 (i := 0) (j := 0) rfl rfl ?_
          refine m_calli E (mz_hasHits n (by rw [hw.ce.2.2.1]; exact hn) (hn6) (by rw [hw.ce.2.1]; exact hs)) K5_405 (Nat.le_of_ble_eq_true rfl) (Nat.le_of_ble_eq_true rfl) (Nat.zero_le _) (Nat.zero_le _) rfl rfl (Nat.le_of_ble_eq_true rfl) dX5_mostPower_43 (fun r43 w43 h43 => ?_)
          obtain ⟨rfl, h43⟩ := h43
          refine s_top (v2 := bI (0 < hitsT (st1 (zt σ) 25 (6 + j) (m1I i)) n (prods (st1 (zt σ) 25 (6 + j) (m1I i)) n))) (by rw [hitsT_ce hw.ce, prods_ce hw.ce]) ?_
          refine s_if_eq E dX5_mostPower_46 (tgt := 65) rfl (fun c46 => ?_) (fun c46 => ?_)
          · have c46 := bI_0 c46
            have he : mpF (zt σ) n j 31 = i := by rw [hm]; exact mpF_e hk.1 (by omega)
            have hv := hw.tr h43
            refine s_aload_n E dX5_mostPower_65 (i := 0) (j := 0) rfl rfl ?_
            refine mg25 E dX5_mostPower_66 ?_
            refine s_bipush E dX5_mostPower_69 (v := nI 6) (by decide) ?_
            refine s_iload_n E dX5_mostPower_71 (i := 1) (j := 1) rfl rfl ?_
            refine s_iadd_ E dX5_mostPower_72 (v := nI (6 + j)) (nI_add _ _) ?_
            refine s_iload_n E dX5_mostPower_73 (i := 2) (j := 2) rfl rfl ?_
            refine ms25 E (6 + j) (rfl) (by omega) dX5_mostPower_74 ?_
            refine s_iload_n E dX5_mostPower_75 (i := 3) (j := 3) rfl rfl ?_
            refine s_if_ge E dX5_mostPower_76 (tgt := 84) rfl (fun c76 => ?_) (fun c76 => ?_)
            · have c76 := Int32.not_lt.mpr c76
              have hk2 := m1I_p c76
              refine s_iload_n E dX5_mostPower_84 (i := 3) (j := 3) rfl rfl ?_
              exact Rt (m1I i) (st1 w43 25 (6 + j) ((zt σ) 25 (6 + j))) dX5_mostPower_85 (⟨by rw [if_pos hU, tN_nI (by omega), he]; first | exact optI_m1 hk2.1 | (rw [m1I_n (by omega) (Int32.not_le.mp c76)]; rfl) | (rw [m1I_n (by omega) c76]; rfl), HR.undo (by omega) (by omega) hv⟩) rfl (Nat.le_refl _) (Nat.le_refl _) rfl E.2.2.2.2.2.1
            · have c76 := Int32.not_le.mp c76
              refine s_bipush E dX5_mostPower_79 (v := (-2)) (by decide) ?_
              refine s_goto E dX5_mostPower_81 (tgt := 85) rfl ?_
              exact Rt ((-2)) (st1 w43 25 (6 + j) ((zt σ) 25 (6 + j))) dX5_mostPower_85 (⟨by rw [if_pos hU, tN_nI (by omega), he]; first | exact optI_m1 hk2.1 | (rw [m1I_n (by omega) (Int32.not_le.mp c76)]; rfl) | (rw [m1I_n (by omega) c76]; rfl), HR.undo (by omega) (by omega) hv⟩) rfl (Nat.le_refl _) (Nat.le_refl _) rfl E.2.2.2.2.2.1
          · have c46 := bI_n0 c46
            refine s_iinc E (L2 := [(3, .int (m1I (i - 1))), (0, .ref (ad 0)), (1, .int (nI j)), (2, .int ((zt σ) 25 (6 + j)))]) dX5_mostPower_49 (k := 3) rfl (v := m1I (i - 1)) (m1I_d2 hk.1) (Nat.le_of_ble_eq_true rfl) rfl ?_
            refine s_aload_n E dX5_mostPower_52 (i := 0) (j := 1) rfl rfl ?_
            refine mg25 E dX5_mostPower_53 ?_
            refine s_bipush E dX5_mostPower_56 (v := nI 6) (by decide) ?_
            refine s_iload_n E dX5_mostPower_58 (i := 1) (j := 2) rfl rfl ?_
            refine s_iadd_ E dX5_mostPower_59 (v := nI (6 + j)) (nI_add _ _) ?_
            refine s_iload_n E dX5_mostPower_60 (i := 3) (j := 0) rfl rfl ?_
            refine ms25 E (6 + j) (rfl) (by omega) dX5_mostPower_61 ?_
            refine s_goto E dX5_mostPower_62 (tgt := 38) rfl ?_
            refine s_loc (L2 := [(0, .ref (ad 0)), (1, .int (nI j)), (2, .int ((zt σ) 25 (6 + j))), (3, .int (m1I (i - 1)))]) [1, 2, 3, 0] rfl ?_
            exact ih38 (i - 1) (st1 w43 25 (6 + j) (m1I (i - 1))) (by omega) (by have h9 := HR.put (r := 25) (u := 6 + j) (v := m1I (i - 1)) (by omega) (by omega) (hw.tr h43); rwa [st1_2] at h9) (by rw [hm]; exact mpF_s hk.1 (by omega)) (by omega)
    refine s_loc (L2 := [(0, .ref (ad 0)), (1, .int (nI j)), (2, .int ((zt σ) 25 (6 + j))), (3, .int (nI 30))]) [2, 3, 1, 0] rfl ?_
    exact L38 (_ + 1) 31 (st1 (zt σ) 25 (6 + j) (nI 30)) (Nat.le_refl _) (HR.rf _) (rfl) (Nat.lt_succ_self _)
  · have c10 := bI_0 c10
    have hU := isU_f c10
    refine s_iconst E dX5_mostPower_13 (v := (-1)) (by decide) ?_
    exact Rt ((-1)) (zt σ) dX5_mostPower_14 (⟨by rw [if_neg (by simp [hU])], HR.rf _⟩) rfl (Nat.le_refl _) (Nat.le_refl _) rfl E.2.2.2.2.2.1
end
