set_option maxRecDepth 100000
section
variable {l : Launch} {D : va_G} {gt ad : Nat → Nat} {ct : Nat → ClassId}
set_option maxHeartbeats 1000000 in
set_option maxRecDepth 100000 in
theorem mz_undo {σ : Nat → Nat → Int32} (K : Nat) (hK : σ 0 28 = nI K) (hK2 : K ≤ 20) : Ct l D gt yX5_undo cX5_undo 1 .int 1 22 0 0 [.ref (ad 0)] (wm ad ct σ) (tysA ct) (fun r σ2 => (K = 0 → r = -1 ∧ σ2 = zt σ) ∧ (K ≠ 0 → r = nI (K - 1) ∧ σ2 = backF (st1 (zt σ) 0 28 (nI (K - 1))) (K - 1))) (fun σ2 => wm ad ct σ2) (fun _ => tysA ct) := by
  refine Ct.start RX5 (by decide) rfl (Nat.le_of_ble_eq_true rfl) rfl ?_
  intro pP eE sS mM aA bB hM cC QQ AA E Rt
  refine s_aload_n E dX5_undo_0 (i := 0) (j := 0) rfl rfl ?_
  refine s_iconst E dX5_undo_1 (v := nI 0) (by decide) ?_
  refine mp0 E dX5_undo_2 ?_
  refine s_ws (ws2 := wm ad ct (zt σ)) (congrArg (wm ad ct) (rfl)) ?_
  refine s_aload_n E dX5_undo_5 (i := 0) (j := 0) rfl rfl ?_
  refine mg28 E (v := nI K) (hK) dX5_undo_6 ?_
  refine s_if_ne E dX5_undo_9 (tgt := 14) rfl (fun c9 => ?_) (fun c9 => ?_)
  · have c9 : ¬ K = 0 := fun h => c9 ((nI_eq (a := K) (b := 0) (by omega) (by omega)).mpr h)
    refine s_aload_n E dX5_undo_14 (i := 0) (j := 0) rfl rfl ?_
    refine s_dup E dX5_undo_15 rfl ?_
    refine mg28 E (v := nI K) (hK) dX5_undo_16 ?_
    refine s_iconst E dX5_undo_19 (v := nI 1) (by decide) ?_
    refine s_isub_ E dX5_undo_20 (v := nI (K - 1)) (nI_dec (by omega)) ?_
    refine mp28 E dX5_undo_21 ?_
    refine s_aload_n E dX5_undo_24 (i := 0) (j := 0) rfl rfl ?_
    refine s_aload_n E dX5_undo_25 (i := 0) (j := 0) rfl rfl ?_
    refine mg28 E (v := nI (K - 1)) (rfl) dX5_undo_26 ?_
    refine m_callv E (mz_laysBack (K - 1) (by omega)) K5_253 (Nat.le_of_ble_eq_true rfl) (Nat.le_of_ble_eq_true rfl) (Nat.zero_le _) (Nat.zero_le _) rfl rfl (Nat.le_of_ble_eq_true rfl) dX5_undo_29 (fun w29 h29 => ?_)
    subst h29
    refine s_aload_n E dX5_undo_32 (i := 0) (j := 0) rfl rfl ?_
    refine mg28 E (v := nI (K - 1)) (rfl) dX5_undo_33 ?_
    exact Rt (nI (K - 1)) (backF (st1 (zt σ) 0 28 (nI (K - 1))) (K - 1)) dX5_undo_36 (⟨fun h => absurd h c9, fun _ => ⟨rfl, rfl⟩⟩) rfl (Nat.le_refl _) (Nat.le_refl _) rfl E.2.2.2.2.2.1
  · have c9 : K = 0 := (nI_eq (a := K) (b := 0) (by omega) (by omega)).mp c9
    refine s_iconst E dX5_undo_12 (v := (-1)) (by decide) ?_
    exact Rt ((-1)) (zt σ) dX5_undo_13 (⟨fun _ => ⟨rfl, rfl⟩, fun h => absurd c9 h⟩) rfl (Nat.le_refl _) (Nat.le_refl _) rfl E.2.2.2.2.2.1
set_option maxHeartbeats 1000000 in
set_option maxRecDepth 100000 in
theorem mz_keep {σ : Nat → Nat → Int32} (n : Nat) (hn : σ 3 7 = nI n) (hn6 : n ≤ 6) : Ct l D gt yX5_keep cX5_keep 1 .int 2 42 0 0 [.ref (ad 0)] (wm ad ct σ) (tysA ct) (fun r σ2 => nI (tunedN (st1 (layF (zt σ) 20) 0 29 (nI 1)) n) = r ∧ st1 (layF (zt σ) 20) 0 29 (nI 1) = σ2) (fun σ2 => wm ad ct σ2) (fun _ => tysA ct) := by
  refine Ct.start RX5 (by decide) rfl (Nat.le_of_ble_eq_true rfl) rfl ?_
  intro pP eE sS mM aA bB hM cC QQ AA E Rt
  refine s_aload_n E dX5_keep_0 (i := 0) (j := 0) rfl rfl ?_
  refine s_iconst E dX5_keep_1 (v := nI 0) (by decide) ?_
  refine mp0 E dX5_keep_2 ?_
  refine s_ws (ws2 := wm ad ct (zt σ)) (congrArg (wm ad ct) (rfl)) ?_
  refine s_aload_n E dX5_keep_5 (i := 0) (j := 0) rfl rfl ?_
  refine s_bipush E dX5_keep_6 (v := nI 20) (by decide) ?_
  refine m_callv E (mz_lays 20 (by omega)) K5_250 (Nat.le_of_ble_eq_true rfl) (Nat.le_of_ble_eq_true rfl) (Nat.zero_le _) (Nat.zero_le _) rfl rfl (Nat.le_of_ble_eq_true rfl) dX5_keep_8 (fun w8 h8 => ?_)
  subst h8
  refine s_aload_n E dX5_keep_11 (i := 0) (j := 0) rfl rfl ?_
  refine s_iconst E dX5_keep_12 (v := nI 1) (by decide) ?_
  refine mp29 E rfl rfl dX5_keep_13 ?_
  refine s_aload_n E dX5_keep_16 (i := 0) (j := 0) rfl rfl ?_
  refine m_calli E (mz_tuned n (hn) (hn6)) K5_256 (Nat.le_of_ble_eq_true rfl) (Nat.le_of_ble_eq_true rfl) (Nat.zero_le _) (Nat.zero_le _) rfl rfl (Nat.le_of_ble_eq_true rfl) dX5_keep_17 (fun r17 w17 h17 => ?_)
  obtain ⟨rfl, rfl⟩ := h17
  exact Rt (nI (tunedN (st1 (layF (zt σ) 20) 0 29 (nI 1)) n)) (st1 (layF (zt σ) 20) 0 29 (nI 1)) dX5_keep_20 (⟨rfl, rfl⟩) rfl (Nat.le_refl _) (Nat.le_refl _) rfl E.2.2.2.2.2.1
set_option maxHeartbeats 1000000 in
set_option maxRecDepth 100000 in
theorem mz_back {σ : Nat → Nat → Int32} (n : Nat) (hn : σ 3 7 = nI n) (hn6 : n ≤ 6) : Ct l D gt yX5_back cX5_back 1 .int 2 42 0 0 [.ref (ad 0)] (wm ad ct σ) (tysA ct) (fun r σ2 => (σ 0 29 = 0 → r = -1 ∧ σ2 = zt σ) ∧ (¬ σ 0 29 = 0 → r = nI (tunedN (st1 (backF (zt σ) 20) 0 28 (nI 0)) n) ∧ σ2 = st1 (backF (zt σ) 20) 0 28 (nI 0))) (fun σ2 => wm ad ct σ2) (fun _ => tysA ct) := by
  refine Ct.start RX5 (by decide) rfl (Nat.le_of_ble_eq_true rfl) rfl ?_
  intro pP eE sS mM aA bB hM cC QQ AA E Rt
  refine s_aload_n E dX5_back_0 (i := 0) (j := 0) rfl rfl ?_
  refine s_iconst E dX5_back_1 (v := nI 0) (by decide) ?_
  refine mp0 E dX5_back_2 ?_
  refine s_ws (ws2 := wm ad ct (zt σ)) (congrArg (wm ad ct) (rfl)) ?_
  refine s_aload_n E dX5_back_5 (i := 0) (j := 0) rfl rfl ?_
  refine mg29 E (v := σ 0 29) (rfl) dX5_back_6 ?_
  refine s_if_ne E dX5_back_9 (tgt := 14) rfl (fun c9 => ?_) (fun c9 => ?_)
  · refine s_aload_n E dX5_back_14 (i := 0) (j := 0) rfl rfl ?_
    refine s_bipush E dX5_back_15 (v := nI 20) (by decide) ?_
    refine m_callv E (mz_laysBack 20 (by omega)) K5_253 (Nat.le_of_ble_eq_true rfl) (Nat.le_of_ble_eq_true rfl) (Nat.zero_le _) (Nat.zero_le _) rfl rfl (Nat.le_of_ble_eq_true rfl) dX5_back_17 (fun w17 h17 => ?_)
    subst h17
    refine s_aload_n E dX5_back_20 (i := 0) (j := 0) rfl rfl ?_
    refine s_iconst E dX5_back_21 (v := nI 0) (by decide) ?_
    refine mp28 E dX5_back_22 ?_
    refine s_aload_n E dX5_back_25 (i := 0) (j := 0) rfl rfl ?_
    refine m_calli E (mz_tuned n (hn) (hn6)) K5_256 (Nat.le_of_ble_eq_true rfl) (Nat.le_of_ble_eq_true rfl) (Nat.zero_le _) (Nat.zero_le _) rfl rfl (Nat.le_of_ble_eq_true rfl) dX5_back_26 (fun r26 w26 h26 => ?_)
    obtain ⟨rfl, rfl⟩ := h26
    exact Rt (nI (tunedN (st1 (backF (zt σ) 20) 0 28 (nI 0)) n)) (st1 (backF (zt σ) 20) 0 28 (nI 0)) dX5_back_29 (⟨fun h => absurd h c9, fun _ => ⟨rfl, rfl⟩⟩) rfl (Nat.le_refl _) (Nat.le_refl _) rfl E.2.2.2.2.2.1
  · refine s_iconst E dX5_back_12 (v := (-1)) (by decide) ?_
    exact Rt ((-1)) (zt σ) dX5_back_13 (⟨fun _ => ⟨rfl, rfl⟩, fun h => absurd c9 h⟩) rfl (Nat.le_refl _) (Nat.le_refl _) rfl E.2.2.2.2.2.1
set_option maxHeartbeats 1000000 in
set_option maxRecDepth 100000 in
theorem mz_tune {σ : Nat → Nat → Int32} (n K : Nat) (u v : Int32) (hn : σ 3 7 = nI n) (hn6 : n ≤ 6) (hK : σ 0 28 = nI K) (hK2 : K ≤ 20) : Ct l D gt yX5_tune cX5_tune 4 .int 2 43 0 0 [.ref (ad 0), .int (u), .int (v)] (wm ad ct σ) (tysA ct) (fun r σ2 => ((isU n u && (decide (v = 0) || isC σ v)) = true → r = σ 25 (tN u) ∧ σ2 = st1 (remF (zt σ) K) 25 (tN u) v) ∧ (¬ (isU n u && (decide (v = 0) || isC σ v)) = true → r = -1 ∧ σ2 = zt σ)) (fun σ2 => wm ad ct σ2) (fun _ => tysA ct) := by
  refine Ct.start RX5 (by decide) rfl (Nat.le_of_ble_eq_true rfl) rfl ?_
  intro pP eE sS mM aA bB hM cC QQ AA E Rt
  refine s_aload_n E dX5_tune_0 (i := 0) (j := 0) rfl rfl ?_
  refine s_iconst E dX5_tune_1 (v := nI 0) (by decide) ?_
  refine mp0 E dX5_tune_2 ?_
  refine s_ws (ws2 := wm ad ct (zt σ)) (congrArg (wm ad ct) (rfl)) ?_
  refine s_aload_n E dX5_tune_5 (i := 0) (j := 0) rfl rfl ?_
  refine s_iload_n E dX5_tune_6 (i := 1) (j := 1) rfl rfl ?_
  refine m_calli E (mz_isUser n u (hn)) K5_259 (Nat.le_of_ble_eq_true rfl) (Nat.le_of_ble_eq_true rfl) (Nat.zero_le _) (Nat.zero_le _) rfl rfl (Nat.le_of_ble_eq_true rfl) dX5_tune_7 (fun r7 w7 h7 => ?_)
  obtain ⟨rfl, rfl⟩ := h7
  refine s_if_eq E dX5_tune_10 (tgt := 25) rfl (fun c10 => ?_) (fun c10 => ?_)
  · have c10 := bI_0 c10
    have hU := isU_f c10
    refine s_iconst E dX5_tune_25 (v := (-1)) (by decide) ?_
    exact Rt ((-1)) (zt σ) dX5_tune_26 (⟨fun h => absurd h (by simp [bI, c10, hU]), fun _ => ⟨rfl, rfl⟩⟩) rfl (Nat.le_refl _) (Nat.le_refl _) rfl E.2.2.2.2.2.1
  · have c10 := bI_n0 c10
    obtain ⟨j, hj, rfl⟩ := us_of c10 hn6
    have hU := isU_t c10
    refine s_iload_n E dX5_tune_13 (i := 2) (j := 2) rfl rfl ?_
    refine s_if_eq E dX5_tune_14 (tgt := 27) rfl (fun c14 => ?_) (fun c14 => ?_)
    · refine s_aload_n E dX5_tune_27 (i := 0) (j := 0) rfl rfl ?_
      refine mg25 E dX5_tune_28 ?_
      refine s_iconst E dX5_tune_31 (v := nI 0) (by decide) ?_
      refine s_iload_n E dX5_tune_32 (i := 1) (j := 1) rfl rfl ?_
      refine s_iadd_ E dX5_tune_33 (v := nI j) (nI_z _) ?_
      refine ml25 E (v := σ 25 j) (j) (rfl) (by omega) (rfl) dX5_tune_34 ?_
      refine s_istore_n E (L2 := [(3, .int (σ 25 j)), (0, .ref (ad 0)), (1, .int (nI j)), (2, .int (v))]) dX5_tune_35 rfl (Nat.le_of_ble_eq_true rfl) rfl ?_
      refine s_aload_n E dX5_tune_36 (i := 0) (j := 1) rfl rfl ?_
      refine m_callv E (mz_remembers K (hK) (hK2)) K5_265 (Nat.le_of_ble_eq_true rfl) (Nat.le_of_ble_eq_true rfl) (Nat.zero_le _) (Nat.zero_le _) rfl rfl (Nat.le_of_ble_eq_true rfl) dX5_tune_37 (fun w37 h37 => ?_)
      subst h37
      refine s_aload_n E dX5_tune_40 (i := 0) (j := 1) rfl rfl ?_
      refine mg25 E dX5_tune_41 ?_
      refine s_iconst E dX5_tune_44 (v := nI 0) (by decide) ?_
      refine s_iload_n E dX5_tune_45 (i := 1) (j := 2) rfl rfl ?_
      refine s_iadd_ E dX5_tune_46 (v := nI j) (nI_z _) ?_
      refine s_iload_n E dX5_tune_47 (i := 2) (j := 3) rfl rfl ?_
      refine ms25 E (j) (rfl) (by omega) dX5_tune_48 ?_
      refine s_iload_n E dX5_tune_49 (i := 3) (j := 0) rfl rfl ?_
      exact Rt (σ 25 j) (st1 (remF (zt σ) K) 25 j v) dX5_tune_50 (⟨fun _ => by rw [tN_nI (by omega)]; exact ⟨rfl, rfl⟩, fun h => absurd (by simp [bI, c10, hU, c14]) h⟩) rfl (Nat.le_refl _) (Nat.le_refl _) rfl E.2.2.2.2.2.1
    · refine s_aload_n E dX5_tune_17 (i := 0) (j := 0) rfl rfl ?_
      refine s_iload_n E dX5_tune_18 (i := 2) (j := 2) rfl rfl ?_
      refine m_calli E (mz_isChannel v) K5_262 (Nat.le_of_ble_eq_true rfl) (Nat.le_of_ble_eq_true rfl) (Nat.zero_le _) (Nat.zero_le _) rfl rfl (Nat.le_of_ble_eq_true rfl) dX5_tune_19 (fun r19 w19 h19 => ?_)
      obtain ⟨rfl, rfl⟩ := h19
      refine s_if_ne E dX5_tune_22 (tgt := 27) rfl (fun c22 => ?_) (fun c22 => ?_)
      · have c22 := bI_n0 c22
        have hC := isC_t (s := σ) c22
        refine s_aload_n E dX5_tune_27 (i := 0) (j := 0) rfl rfl ?_
        refine mg25 E dX5_tune_28 ?_
        refine s_iconst E dX5_tune_31 (v := nI 0) (by decide) ?_
        refine s_iload_n E dX5_tune_32 (i := 1) (j := 1) rfl rfl ?_
        refine s_iadd_ E dX5_tune_33 (v := nI j) (nI_z _) ?_
        refine ml25 E (v := σ 25 j) (j) (rfl) (by omega) (rfl) dX5_tune_34 ?_
        refine s_istore_n E (L2 := [(3, .int (σ 25 j)), (0, .ref (ad 0)), (1, .int (nI j)), (2, .int (v))]) dX5_tune_35 rfl (Nat.le_of_ble_eq_true rfl) rfl ?_
        refine s_aload_n E dX5_tune_36 (i := 0) (j := 1) rfl rfl ?_
        refine m_callv E (mz_remembers K (hK) (hK2)) K5_265 (Nat.le_of_ble_eq_true rfl) (Nat.le_of_ble_eq_true rfl) (Nat.zero_le _) (Nat.zero_le _) rfl rfl (Nat.le_of_ble_eq_true rfl) dX5_tune_37 (fun w37 h37 => ?_)
        subst h37
        refine s_aload_n E dX5_tune_40 (i := 0) (j := 1) rfl rfl ?_
        refine mg25 E dX5_tune_41 ?_
        refine s_iconst E dX5_tune_44 (v := nI 0) (by decide) ?_
        refine s_iload_n E dX5_tune_45 (i := 1) (j := 2) rfl rfl ?_
        refine s_iadd_ E dX5_tune_46 (v := nI j) (nI_z _) ?_
        refine s_iload_n E dX5_tune_47 (i := 2) (j := 3) rfl rfl ?_
        refine ms25 E (j) (rfl) (by omega) dX5_tune_48 ?_
        refine s_iload_n E dX5_tune_49 (i := 3) (j := 0) rfl rfl ?_
        exact Rt (σ 25 j) (st1 (remF (zt σ) K) 25 j v) dX5_tune_50 (⟨fun _ => by rw [tN_nI (by omega)]; exact ⟨rfl, rfl⟩, fun h => absurd (by simp [bI, c10, hU, c14, c22, hC]) h⟩) rfl (Nat.le_refl _) (Nat.le_refl _) rfl E.2.2.2.2.2.1
      · have c22 := bI_0 c22
        have hC := isC_f (s := σ) c22
        refine s_iconst E dX5_tune_25 (v := (-1)) (by decide) ?_
        exact Rt ((-1)) (zt σ) dX5_tune_26 (⟨fun h => absurd h (by simp [bI, c10, hU, c14, c22, hC]), fun _ => ⟨rfl, rfl⟩⟩) rfl (Nat.le_refl _) (Nat.le_refl _) rfl E.2.2.2.2.2.1
set_option maxHeartbeats 1000000 in
set_option maxRecDepth 100000 in
theorem mz_power {σ : Nat → Nat → Int32} (n K : Nat) (u v : Int32) (hn : σ 3 7 = nI n) (hn6 : n ≤ 6) (hK : σ 0 28 = nI K) (hK2 : K ≤ 20) : Ct l D gt yX5_power cX5_power 4 .int 2 43 0 0 [.ref (ad 0), .int (u), .int (v)] (wm ad ct σ) (tysA ct) (fun r σ2 => ((isU n u && !decide (v < 0) && !decide (nI 30 < v)) = true → r = σ 25 (6 + tN u) ∧ σ2 = st1 (remF (zt σ) K) 25 (6 + tN u) v) ∧ (¬ (isU n u && !decide (v < 0) && !decide (nI 30 < v)) = true → r = -1 ∧ σ2 = zt σ)) (fun σ2 => wm ad ct σ2) (fun _ => tysA ct) := by
  refine Ct.start RX5 (by decide) rfl (Nat.le_of_ble_eq_true rfl) rfl ?_
  intro pP eE sS mM aA bB hM cC QQ AA E Rt
  refine s_aload_n E dX5_power_0 (i := 0) (j := 0) rfl rfl ?_
  refine s_iconst E dX5_power_1 (v := nI 0) (by decide) ?_
  refine mp0 E dX5_power_2 ?_
  refine s_ws (ws2 := wm ad ct (zt σ)) (congrArg (wm ad ct) (rfl)) ?_
  refine s_aload_n E dX5_power_5 (i := 0) (j := 0) rfl rfl ?_
  refine s_iload_n E dX5_power_6 (i := 1) (j := 1) rfl rfl ?_
  refine m_calli E (mz_isUser n u (hn)) K5_259 (Nat.le_of_ble_eq_true rfl) (Nat.le_of_ble_eq_true rfl) (Nat.zero_le _) (Nat.zero_le _) rfl rfl (Nat.le_of_ble_eq_true rfl) dX5_power_7 (fun r7 w7 h7 => ?_)
  obtain ⟨rfl, rfl⟩ := h7
  refine s_if_eq E dX5_power_10 (tgt := 23) rfl (fun c10 => ?_) (fun c10 => ?_)
  · have c10 := bI_0 c10
    have hU := isU_f c10
    refine s_iconst E dX5_power_23 (v := (-1)) (by decide) ?_
    exact Rt ((-1)) (zt σ) dX5_power_24 (⟨fun h => absurd h (by simp [bI, c10, hU]), fun _ => ⟨rfl, rfl⟩⟩) rfl (Nat.le_refl _) (Nat.le_refl _) rfl E.2.2.2.2.2.1
  · have c10 := bI_n0 c10
    obtain ⟨j, hj, rfl⟩ := us_of c10 hn6
    have hU := isU_t c10
    refine s_iload_n E dX5_power_13 (i := 2) (j := 2) rfl rfl ?_
    refine s_if_lt E dX5_power_14 (tgt := 23) rfl (fun c14 => ?_) (fun c14 => ?_)
    · refine s_iconst E dX5_power_23 (v := (-1)) (by decide) ?_
      exact Rt ((-1)) (zt σ) dX5_power_24 (⟨fun h => absurd h (by simp [bI, c10, hU, c14]), fun _ => ⟨rfl, rfl⟩⟩) rfl (Nat.le_refl _) (Nat.le_refl _) rfl E.2.2.2.2.2.1
    · refine s_iload_n E dX5_power_17 (i := 2) (j := 2) rfl rfl ?_
      refine s_bipush E dX5_power_18 (v := nI 30) (by decide) ?_
      refine s_icmp_le E dX5_power_20 (tgt := 25) rfl (fun c20 => ?_) (fun c20 => ?_)
      · have c20 := Int32.not_lt.mpr c20
        refine s_aload_n E dX5_power_25 (i := 0) (j := 0) rfl rfl ?_
        refine mg25 E dX5_power_26 ?_
        refine s_bipush E dX5_power_29 (v := nI 6) (by decide) ?_
        refine s_iload_n E dX5_power_31 (i := 1) (j := 1) rfl rfl ?_
        refine s_iadd_ E dX5_power_32 (v := nI (6 + j)) (nI_add _ _) ?_
        refine ml25 E (v := σ 25 (6 + j)) (6 + j) (rfl) (by omega) (rfl) dX5_power_33 ?_
        refine s_istore_n E (L2 := [(3, .int (σ 25 (6 + j))), (0, .ref (ad 0)), (1, .int (nI j)), (2, .int (v))]) dX5_power_34 rfl (Nat.le_of_ble_eq_true rfl) rfl ?_
        refine s_aload_n E dX5_power_35 (i := 0) (j := 1) rfl rfl ?_
        refine m_callv E (mz_remembers K (hK) (hK2)) K5_265 (Nat.le_of_ble_eq_true rfl) (Nat.le_of_ble_eq_true rfl) (Nat.zero_le _) (Nat.zero_le _) rfl rfl (Nat.le_of_ble_eq_true rfl) dX5_power_36 (fun w36 h36 => ?_)
        subst h36
        refine s_aload_n E dX5_power_39 (i := 0) (j := 1) rfl rfl ?_
        refine mg25 E dX5_power_40 ?_
        refine s_bipush E dX5_power_43 (v := nI 6) (by decide) ?_
        refine s_iload_n E dX5_power_45 (i := 1) (j := 2) rfl rfl ?_
        refine s_iadd_ E dX5_power_46 (v := nI (6 + j)) (nI_add _ _) ?_
        refine s_iload_n E dX5_power_47 (i := 2) (j := 3) rfl rfl ?_
        refine ms25 E (6 + j) (rfl) (by omega) dX5_power_48 ?_
        refine s_iload_n E dX5_power_49 (i := 3) (j := 0) rfl rfl ?_
        exact Rt (σ 25 (6 + j)) (st1 (remF (zt σ) K) 25 (6 + j) v) dX5_power_50 (⟨fun _ => by rw [tN_nI (by omega)]; exact ⟨rfl, rfl⟩, fun h => absurd (by simp [bI, c10, hU, c14, c20]) h⟩) rfl (Nat.le_refl _) (Nat.le_refl _) rfl E.2.2.2.2.2.1
      · have c20 := Int32.not_le.mp c20
        refine s_iconst E dX5_power_23 (v := (-1)) (by decide) ?_
        exact Rt ((-1)) (zt σ) dX5_power_24 (⟨fun h => absurd h (by simp [bI, c10, hU, c14, c20]), fun _ => ⟨rfl, rfl⟩⟩) rfl (Nat.le_refl _) (Nat.le_refl _) rfl E.2.2.2.2.2.1
set_option maxHeartbeats 1000000 in
set_option maxRecDepth 100000 in
theorem mz_slots {σ : Nat → Nat → Int32} (n K : Nat) (u v : Int32) (hn : σ 3 7 = nI n) (hn6 : n ≤ 6) (hK : σ 0 28 = nI K) (hK2 : K ≤ 20) : Ct l D gt yX5_slots cX5_slots 4 .int 2 43 0 0 [.ref (ad 0), .int (u), .int (v)] (wm ad ct σ) (tysA ct) (fun r σ2 => ((isU n u && !decide (v < nI 1) && !decide (nI 255 < v)) = true → r = σ 25 (73 + tN u) ∧ σ2 = st1 (remF (zt σ) K) 25 (73 + tN u) v) ∧ (¬ (isU n u && !decide (v < nI 1) && !decide (nI 255 < v)) = true → r = -1 ∧ σ2 = zt σ)) (fun σ2 => wm ad ct σ2) (fun _ => tysA ct) := by
  refine Ct.start RX5 (by decide) rfl (Nat.le_of_ble_eq_true rfl) rfl ?_
  intro pP eE sS mM aA bB hM cC QQ AA E Rt
  refine s_aload_n E dX5_slots_0 (i := 0) (j := 0) rfl rfl ?_
  refine s_iconst E dX5_slots_1 (v := nI 0) (by decide) ?_
  refine mp0 E dX5_slots_2 ?_
  refine s_ws (ws2 := wm ad ct (zt σ)) (congrArg (wm ad ct) (rfl)) ?_
  refine s_aload_n E dX5_slots_5 (i := 0) (j := 0) rfl rfl ?_
  refine s_iload_n E dX5_slots_6 (i := 1) (j := 1) rfl rfl ?_
  refine m_calli E (mz_isUser n u (hn)) K5_259 (Nat.le_of_ble_eq_true rfl) (Nat.le_of_ble_eq_true rfl) (Nat.zero_le _) (Nat.zero_le _) rfl rfl (Nat.le_of_ble_eq_true rfl) dX5_slots_7 (fun r7 w7 h7 => ?_)
  obtain ⟨rfl, rfl⟩ := h7
  refine s_if_eq E dX5_slots_10 (tgt := 25) rfl (fun c10 => ?_) (fun c10 => ?_)
  · have c10 := bI_0 c10
    have hU := isU_f c10
    refine s_iconst E dX5_slots_25 (v := (-1)) (by decide) ?_
    exact Rt ((-1)) (zt σ) dX5_slots_26 (⟨fun h => absurd h (by simp [bI, c10, hU]), fun _ => ⟨rfl, rfl⟩⟩) rfl (Nat.le_refl _) (Nat.le_refl _) rfl E.2.2.2.2.2.1
  · have c10 := bI_n0 c10
    obtain ⟨j, hj, rfl⟩ := us_of c10 hn6
    have hU := isU_t c10
    refine s_iload_n E dX5_slots_13 (i := 2) (j := 2) rfl rfl ?_
    refine s_iconst E dX5_slots_14 (v := nI 1) (by decide) ?_
    refine s_icmp_lt E dX5_slots_15 (tgt := 25) rfl (fun c15 => ?_) (fun c15 => ?_)
    · refine s_iconst E dX5_slots_25 (v := (-1)) (by decide) ?_
      exact Rt ((-1)) (zt σ) dX5_slots_26 (⟨fun h => absurd h (by simp [bI, c10, hU, c15]), fun _ => ⟨rfl, rfl⟩⟩) rfl (Nat.le_refl _) (Nat.le_refl _) rfl E.2.2.2.2.2.1
    · refine s_iload_n E dX5_slots_18 (i := 2) (j := 2) rfl rfl ?_
      refine s_sipush E dX5_slots_19 (v := nI 255) (by decide) ?_
      refine s_icmp_le E dX5_slots_22 (tgt := 27) rfl (fun c22 => ?_) (fun c22 => ?_)
      · have c22 := Int32.not_lt.mpr c22
        refine s_aload_n E dX5_slots_27 (i := 0) (j := 0) rfl rfl ?_
        refine mg25 E dX5_slots_28 ?_
        refine s_bipush E dX5_slots_31 (v := nI 73) (by decide) ?_
        refine s_iload_n E dX5_slots_33 (i := 1) (j := 1) rfl rfl ?_
        refine s_iadd_ E dX5_slots_34 (v := nI (73 + j)) (nI_add _ _) ?_
        refine ml25 E (v := (zt σ) 25 (73 + j)) (73 + j) (rfl) (by omega) (rfl) dX5_slots_35 ?_
        refine s_istore_n E (L2 := [(3, .int ((zt σ) 25 (73 + j))), (0, .ref (ad 0)), (1, .int (nI j)), (2, .int (v))]) dX5_slots_36 rfl (Nat.le_of_ble_eq_true rfl) rfl ?_
        refine s_aload_n E dX5_slots_37 (i := 0) (j := 1) rfl rfl ?_
        refine m_callv E (mz_remembers K (hK) (hK2)) K5_265 (Nat.le_of_ble_eq_true rfl) (Nat.le_of_ble_eq_true rfl) (Nat.zero_le _) (Nat.zero_le _) rfl rfl (Nat.le_of_ble_eq_true rfl) dX5_slots_38 (fun w38 h38 => ?_)
        subst h38
        refine s_aload_n E dX5_slots_41 (i := 0) (j := 1) rfl rfl ?_
        refine mg25 E dX5_slots_42 ?_
        refine s_bipush E dX5_slots_45 (v := nI 73) (by decide) ?_
        refine s_iload_n E dX5_slots_47 (i := 1) (j := 2) rfl rfl ?_
        refine s_iadd_ E dX5_slots_48 (v := nI (73 + j)) (nI_add _ _) ?_
        refine s_iload_n E dX5_slots_49 (i := 2) (j := 3) rfl rfl ?_
        refine ms25 E (73 + j) (rfl) (by omega) dX5_slots_50 ?_
        refine s_iload_n E dX5_slots_51 (i := 3) (j := 0) rfl rfl ?_
        exact Rt ((zt σ) 25 (73 + j)) (st1 (remF (zt σ) K) 25 (73 + j) v) dX5_slots_52 (⟨fun _ => by rw [tN_nI (by omega)]; exact ⟨rfl, rfl⟩, fun h => absurd (by simp [bI, c10, hU, c15, c22]) h⟩) rfl (Nat.le_refl _) (Nat.le_refl _) rfl E.2.2.2.2.2.1
      · have c22 := Int32.not_le.mp c22
        refine s_iconst E dX5_slots_25 (v := (-1)) (by decide) ?_
        exact Rt ((-1)) (zt σ) dX5_slots_26 (⟨fun h => absurd h (by simp [bI, c10, hU, c15, c22]), fun _ => ⟨rfl, rfl⟩⟩) rfl (Nat.le_refl _) (Nat.le_refl _) rfl E.2.2.2.2.2.1
set_option maxHeartbeats 1000000 in
set_option maxRecDepth 100000 in
theorem mz_block {σ : Nat → Nat → Int32} (B K : Nat) (v : Int32) (hB : σ 3 0 = nI B) (hB2 : B ≤ 60) (hK : σ 0 28 = nI K) (hK2 : K ≤ 20) : Ct l D gt yX5_block cX5_block 2 .int 2 43 0 0 [.ref (ad 0), .int (v)] (wm ad ct σ) (tysA ct) (fun r σ2 => (isC σ v = true → r = nI 1 - σ 25 (12 + tN v) ∧ σ2 = st1 (remF (zt σ) K) 25 (12 + tN v) (nI 1 - (remF (zt σ) K) 25 (12 + tN v))) ∧ (¬ isC σ v = true → r = -1 ∧ σ2 = zt σ)) (fun σ2 => wm ad ct σ2) (fun _ => tysA ct) := by
  refine Ct.start RX5 (by decide) rfl (Nat.le_of_ble_eq_true rfl) rfl ?_
  intro pP eE sS mM aA bB hM cC QQ AA E Rt
  refine s_aload_n E dX5_block_0 (i := 0) (j := 0) rfl rfl ?_
  refine s_iconst E dX5_block_1 (v := nI 0) (by decide) ?_
  refine mp0 E dX5_block_2 ?_
  refine s_ws (ws2 := wm ad ct (zt σ)) (congrArg (wm ad ct) (rfl)) ?_
  refine s_aload_n E dX5_block_5 (i := 0) (j := 0) rfl rfl ?_
  refine s_iload_n E dX5_block_6 (i := 1) (j := 1) rfl rfl ?_
  refine m_calli E (mz_isChannel v) K5_262 (Nat.le_of_ble_eq_true rfl) (Nat.le_of_ble_eq_true rfl) (Nat.zero_le _) (Nat.zero_le _) rfl rfl (Nat.le_of_ble_eq_true rfl) dX5_block_7 (fun r7 w7 h7 => ?_)
  obtain ⟨rfl, rfl⟩ := h7
  refine s_if_ne E dX5_block_10 (tgt := 15) rfl (fun c10 => ?_) (fun c10 => ?_)
  · have c10 := bI_n0 c10
    have hC := isC_t (s := σ) c10
    obtain ⟨j, hj1, hj, rfl⟩ := ch_of c10 hB hB2
    refine s_aload_n E dX5_block_15 (i := 0) (j := 0) rfl rfl ?_
    refine m_callv E (mz_remembers K (hK) (hK2)) K5_265 (Nat.le_of_ble_eq_true rfl) (Nat.le_of_ble_eq_true rfl) (Nat.zero_le _) (Nat.zero_le _) rfl rfl (Nat.le_of_ble_eq_true rfl) dX5_block_16 (fun w16 h16 => ?_)
    subst h16
    refine s_aload_n E dX5_block_19 (i := 0) (j := 0) rfl rfl ?_
    refine mg25 E dX5_block_20 ?_
    refine s_bipush E dX5_block_23 (v := nI 12) (by decide) ?_
    refine s_iload_n E dX5_block_25 (i := 1) (j := 1) rfl rfl ?_
    refine s_iadd_ E dX5_block_26 (v := nI (12 + j)) (nI_add _ _) ?_
    refine s_iconst E dX5_block_27 (v := nI 1) (by decide) ?_
    refine s_aload_n E dX5_block_28 (i := 0) (j := 0) rfl rfl ?_
    refine mg25 E dX5_block_29 ?_
    refine s_bipush E dX5_block_32 (v := nI 12) (by decide) ?_
    refine s_iload_n E dX5_block_34 (i := 1) (j := 1) rfl rfl ?_
    refine s_iadd_ E dX5_block_35 (v := nI (12 + j)) (nI_add _ _) ?_
    refine ml25 E (v := (remF (zt σ) K) 25 (12 + j)) (12 + j) (rfl) (by omega) (rfl) dX5_block_36 ?_
    refine s_isub E dX5_block_37 ?_
    refine ms25 E (12 + j) (rfl) (by omega) dX5_block_38 ?_
    refine s_aload_n E dX5_block_39 (i := 0) (j := 0) rfl rfl ?_
    refine mg25 E dX5_block_40 ?_
    refine s_bipush E dX5_block_43 (v := nI 12) (by decide) ?_
    refine s_iload_n E dX5_block_45 (i := 1) (j := 1) rfl rfl ?_
    refine s_iadd_ E dX5_block_46 (v := nI (12 + j)) (nI_add _ _) ?_
    refine ml25 E (v := (nI 1) - ((remF (zt σ) K) 25 (12 + j))) (12 + j) (rfl) (by omega) (st1_eq) dX5_block_47 ?_
    exact Rt ((nI 1) - ((remF (zt σ) K) 25 (12 + j))) (st1 (remF (zt σ) K) 25 (12 + j) ((nI 1) - ((remF (zt σ) K) 25 (12 + j)))) dX5_block_48 (⟨fun _ => by rw [tN_nI (by omega)]; exact ⟨by rw [rem_25]; rfl, rfl⟩, fun h => absurd hC h⟩) rfl (Nat.le_refl _) (Nat.le_refl _) rfl E.2.2.2.2.2.1
  · have c10 := bI_0 c10
    have hC := isC_f (s := σ) c10
    refine s_iconst E dX5_block_13 (v := (-1)) (by decide) ?_
    exact Rt ((-1)) (zt σ) dX5_block_14 (⟨fun h => absurd h (by simp [hC]), fun _ => ⟨rfl, rfl⟩⟩) rfl (Nat.le_refl _) (Nat.le_refl _) rfl E.2.2.2.2.2.1
set_option maxHeartbeats 1000000 in
set_option maxRecDepth 100000 in
theorem mz_blocked {σ : Nat → Nat → Int32} (B : Nat) (v : Int32) (hB : σ 3 0 = nI B) (hB2 : B ≤ 60) : Ct l D gt yX5_blocked cX5_blocked 2 .int 1 21 0 0 [.ref (ad 0), .int (v)] (wm ad ct σ) (tysA ct) (fun r σ2 => (if isC σ v = true then σ 25 (12 + tN v) else -1) = r ∧ zt σ = σ2) (fun σ2 => wm ad ct σ2) (fun _ => tysA ct) := by
  refine Ct.start RX5 (by decide) rfl (Nat.le_of_ble_eq_true rfl) rfl ?_
  intro pP eE sS mM aA bB hM cC QQ AA E Rt
  refine s_aload_n E dX5_blocked_0 (i := 0) (j := 0) rfl rfl ?_
  refine s_iconst E dX5_blocked_1 (v := nI 0) (by decide) ?_
  refine mp0 E dX5_blocked_2 ?_
  refine s_ws (ws2 := wm ad ct (zt σ)) (congrArg (wm ad ct) (rfl)) ?_
  refine s_aload_n E dX5_blocked_5 (i := 0) (j := 0) rfl rfl ?_
  refine s_iload_n E dX5_blocked_6 (i := 1) (j := 1) rfl rfl ?_
  refine m_calli E (mz_isChannel v) K5_262 (Nat.le_of_ble_eq_true rfl) (Nat.le_of_ble_eq_true rfl) (Nat.zero_le _) (Nat.zero_le _) rfl rfl (Nat.le_of_ble_eq_true rfl) dX5_blocked_7 (fun r7 w7 h7 => ?_)
  obtain ⟨rfl, rfl⟩ := h7
  refine s_if_eq E dX5_blocked_10 (tgt := 25) rfl (fun c10 => ?_) (fun c10 => ?_)
  · have c10 := bI_0 c10
    have hC := isC_f (s := σ) c10
    refine s_iconst E dX5_blocked_25 (v := (-1)) (by decide) ?_
    exact Rt ((-1)) (zt σ) dX5_blocked_26 (⟨by rw [hC]; simp, rfl⟩) rfl (Nat.le_refl _) (Nat.le_refl _) rfl E.2.2.2.2.2.1
  · have c10 := bI_n0 c10
    have hC := isC_t (s := σ) c10
    obtain ⟨j, hj1, hj, rfl⟩ := ch_of c10 hB hB2
    refine s_aload_n E dX5_blocked_13 (i := 0) (j := 0) rfl rfl ?_
    refine mg25 E dX5_blocked_14 ?_
    refine s_bipush E dX5_blocked_17 (v := nI 12) (by decide) ?_
    refine s_iload_n E dX5_blocked_19 (i := 1) (j := 1) rfl rfl ?_
    refine s_iadd_ E dX5_blocked_20 (v := nI (12 + j)) (nI_add _ _) ?_
    refine ml25 E (v := σ 25 (12 + j)) (12 + j) (rfl) (by omega) (rfl) dX5_blocked_21 ?_
    refine s_goto E dX5_blocked_22 (tgt := 26) rfl ?_
    exact Rt (σ 25 (12 + j)) (zt σ) dX5_blocked_26 (⟨by rw [hC, tN_nI (by omega)]; simp, rfl⟩) rfl (Nat.le_refl _) (Nat.le_refl _) rfl E.2.2.2.2.2.1
set_option maxHeartbeats 1000000 in
set_option maxRecDepth 100000 in
theorem mz_crowds {σ : Nat → Nat → Int32} (n : Nat) (u : Int32) (hn : σ 3 7 = nI n) (hn6 : n ≤ 6) : Ct l D gt yX5_crowds cX5_crowds 2 .int 3 65 0 0 [.ref (ad 0), .int (u)] (wm ad ct σ) (tysA ct) (fun r σ2 => (if isU n u = true then nI (setN (crowdB (zt σ) (tN u)) n) else -1) = r ∧ zt σ = σ2) (fun σ2 => wm ad ct σ2) (fun _ => tysA ct) := by
  refine Ct.start RX5 (by decide) rfl (Nat.le_of_ble_eq_true rfl) rfl ?_
  intro pP eE sS mM aA bB hM cC QQ AA E Rt
  refine s_aload_n E dX5_crowds_0 (i := 0) (j := 0) rfl rfl ?_
  refine s_iconst E dX5_crowds_1 (v := nI 0) (by decide) ?_
  refine mp0 E dX5_crowds_2 ?_
  refine s_ws (ws2 := wm ad ct (zt σ)) (congrArg (wm ad ct) (rfl)) ?_
  refine s_aload_n E dX5_crowds_5 (i := 0) (j := 0) rfl rfl ?_
  refine s_iload_n E dX5_crowds_6 (i := 1) (j := 1) rfl rfl ?_
  refine m_calli E (mz_isUser n u (hn)) K5_259 (Nat.le_of_ble_eq_true rfl) (Nat.le_of_ble_eq_true rfl) (Nat.zero_le _) (Nat.zero_le _) rfl rfl (Nat.le_of_ble_eq_true rfl) dX5_crowds_7 (fun r7 w7 h7 => ?_)
  obtain ⟨rfl, rfl⟩ := h7
  refine s_if_eq E dX5_crowds_10 (tgt := 21) rfl (fun c10 => ?_) (fun c10 => ?_)
  · have c10 := bI_0 c10
    have hU := isU_f c10
    refine s_iconst E dX5_crowds_21 (v := (-1)) (by decide) ?_
    exact Rt ((-1)) (zt σ) dX5_crowds_22 (⟨by rw [hU]; simp, rfl⟩) rfl (Nat.le_refl _) (Nat.le_refl _) rfl E.2.2.2.2.2.1
  · have c10 := bI_n0 c10
    obtain ⟨j, hj, rfl⟩ := us_of c10 hn6
    have hU := isU_t c10
    refine s_aload_n E dX5_crowds_13 (i := 0) (j := 0) rfl rfl ?_
    refine s_iload_n E dX5_crowds_14 (i := 1) (j := 1) rfl rfl ?_
    refine m_calli E (mz_crowdsOf n j (hn) (hn6) (by omega)) K5_317 (Nat.le_of_ble_eq_true rfl) (Nat.le_of_ble_eq_true rfl) (Nat.zero_le _) (Nat.zero_le _) rfl rfl (Nat.le_of_ble_eq_true rfl) dX5_crowds_15 (fun r15 w15 h15 => ?_)
    obtain ⟨rfl, rfl⟩ := h15
    refine s_goto E dX5_crowds_18 (tgt := 22) rfl ?_
    exact Rt (nI (setN (crowdB (zt σ) j) n)) (zt σ) dX5_crowds_22 (⟨by rw [hU, tN_nI (by omega)]; simp, rfl⟩) rfl (Nat.le_refl _) (Nat.le_refl _) rfl E.2.2.2.2.2.1
set_option maxHeartbeats 1000000 in
set_option maxRecDepth 100000 in
theorem mz_clean {σ : Nat → Nat → Int32} (n : Nat) (hC : CM σ n) : Ct l D gt yX5_clean cX5_clean 1 .int 5 117 0 0 [.ref (ad 0)] (wm ad ct σ) (tysA ct) (fun r σ2 => bI (cleanB (zt σ) n = true) = r ∧ HR (zt σ) σ2) (fun σ2 => wm ad ct σ2) (fun _ => tysA ct) := by
  refine Ct.start RX5 (by decide) rfl (Nat.le_of_ble_eq_true rfl) rfl ?_
  intro pP eE sS mM aA bB hM cC QQ AA E Rt
  refine s_aload_n E dX5_clean_0 (i := 0) (j := 0) rfl rfl ?_
  refine s_iconst E dX5_clean_1 (v := nI 0) (by decide) ?_
  refine mp0 E dX5_clean_2 ?_
  refine s_ws (ws2 := wm ad ct (zt σ)) (congrArg (wm ad ct) (rfl)) ?_
  refine s_aload_n E dX5_clean_5 (i := 0) (j := 0) rfl rfl ?_
  refine m_calli E (mz_isClean n (hC)) K5_332 (Nat.le_of_ble_eq_true rfl) (Nat.le_of_ble_eq_true rfl) (Nat.zero_le _) (Nat.zero_le _) rfl rfl (Nat.le_of_ble_eq_true rfl) dX5_clean_6 (fun r6 w6 h6 => ?_)
  obtain ⟨rfl, h6⟩ := h6
  refine s_if_eq E dX5_clean_9 (tgt := 16) rfl (fun c9 => ?_) (fun c9 => ?_)
  · have c9 := bI_0 c9
    refine s_iconst E dX5_clean_16 (v := nI 0) (by decide) ?_
    exact Rt (nI 0) (w6) dX5_clean_17 (⟨by simp [bI, c9], h6⟩) rfl (Nat.le_refl _) (Nat.le_refl _) rfl E.2.2.2.2.2.1
  · have c9 := bI_n0 c9
    refine s_iconst E dX5_clean_12 (v := nI 1) (by decide) ?_
    refine s_goto E dX5_clean_13 (tgt := 17) rfl ?_
    exact Rt (nI 1) (w6) dX5_clean_17 (⟨by simp [bI, c9], h6⟩) rfl (Nat.le_refl _) (Nat.le_refl _) rfl E.2.2.2.2.2.1
set_option maxHeartbeats 1000000 in
set_option maxRecDepth 100000 in
theorem mz_linked {σ : Nat → Nat → Int32} (a b : Int32) : Ct l D gt yX5_linked cX5_linked 3 .int 0 0 0 0 [.ref (ad 0), .int (a), .int (b)] (wm ad ct σ) (tysA ct) (fun r σ2 => linkedF σ a b = r ∧ zt σ = σ2) (fun σ2 => wm ad ct σ2) (fun _ => tysA ct) := by
  refine Ct.start RX5 (by decide) rfl (Nat.le_of_ble_eq_true rfl) rfl ?_
  intro pP eE sS mM aA bB hM cC QQ AA E Rt
  refine s_aload_n E dX5_linked_0 (i := 0) (j := 0) rfl rfl ?_
  refine s_iconst E dX5_linked_1 (v := nI 0) (by decide) ?_
  refine mp0 E dX5_linked_2 ?_
  refine s_ws (ws2 := wm ad ct (zt σ)) (congrArg (wm ad ct) (rfl)) ?_
  refine s_iload_n E dX5_linked_5 (i := 1) (j := 1) rfl rfl ?_
  refine s_if_lt E dX5_linked_6 (tgt := 28) rfl (fun c6 => ?_) (fun c6 => ?_)
  · refine s_iconst E dX5_linked_28 (v := (-1)) (by decide) ?_
    exact Rt ((-1)) (zt σ) dX5_linked_29 (⟨by simp [bI, linkedF, c6], rfl⟩) rfl (Nat.le_refl _) (Nat.le_refl _) rfl E.2.2.2.2.2.1
  · refine s_iload_n E dX5_linked_9 (i := 1) (j := 1) rfl rfl ?_
    refine s_iconst E dX5_linked_10 (v := nI 3) (by decide) ?_
    refine s_icmp_ge E dX5_linked_11 (tgt := 28) rfl (fun c11 => ?_) (fun c11 => ?_)
    · have c11 := Int32.not_lt.mpr c11
      refine s_iconst E dX5_linked_28 (v := (-1)) (by decide) ?_
      exact Rt ((-1)) (zt σ) dX5_linked_29 (⟨by simp [bI, linkedF, c6, c11], rfl⟩) rfl (Nat.le_refl _) (Nat.le_refl _) rfl E.2.2.2.2.2.1
    · have c11 := Int32.not_le.mp c11
      refine s_iload_n E dX5_linked_14 (i := 2) (j := 2) rfl rfl ?_
      refine s_if_lt E dX5_linked_15 (tgt := 28) rfl (fun c15 => ?_) (fun c15 => ?_)
      · refine s_iconst E dX5_linked_28 (v := (-1)) (by decide) ?_
        exact Rt ((-1)) (zt σ) dX5_linked_29 (⟨by simp [bI, linkedF, c6, c11, c15], rfl⟩) rfl (Nat.le_refl _) (Nat.le_refl _) rfl E.2.2.2.2.2.1
      · refine s_iload_n E dX5_linked_18 (i := 2) (j := 2) rfl rfl ?_
        refine s_iconst E dX5_linked_19 (v := nI 3) (by decide) ?_
        refine s_icmp_ge E dX5_linked_20 (tgt := 28) rfl (fun c20 => ?_) (fun c20 => ?_)
        · have c20 := Int32.not_lt.mpr c20
          refine s_iconst E dX5_linked_28 (v := (-1)) (by decide) ?_
          exact Rt ((-1)) (zt σ) dX5_linked_29 (⟨by simp [bI, linkedF, c6, c11, c15, c20], rfl⟩) rfl (Nat.le_refl _) (Nat.le_refl _) rfl E.2.2.2.2.2.1
        · have c20 := Int32.not_le.mp c20
          refine s_iload_n E dX5_linked_23 (i := 1) (j := 1) rfl rfl ?_
          refine s_iload_n E dX5_linked_24 (i := 2) (j := 2) rfl rfl ?_
          refine s_icmp_ne E dX5_linked_25 (tgt := 30) rfl (fun c25 => ?_) (fun c25 => ?_)
          · obtain ⟨i, hi, rfl⟩ := us_of (n := 3) ⟨c6, c11⟩ (by omega)
            obtain ⟨j, hj, rfl⟩ := us_of (n := 3) ⟨c15, c20⟩ (by omega)
            refine s_aload_n E dX5_linked_30 (i := 0) (j := 0) rfl rfl ?_
            refine mg12 E dX5_linked_31 ?_
            refine s_iconst E dX5_linked_34 (v := nI 3) (by decide) ?_
            refine s_iload_n E dX5_linked_35 (i := 1) (j := 1) rfl rfl ?_
            refine s_imul_ E dX5_linked_36 (v := nI (3 * i)) (pk_mul _ _) ?_
            refine s_iload_n E dX5_linked_37 (i := 2) (j := 2) rfl rfl ?_
            refine s_iadd_ E dX5_linked_38 (v := nI ((3 * i) + j)) (nI_add _ _) ?_
            refine ml12 E (v := σ 12 (3 * i + j)) ((3 * i) + j) (rfl) (by omega) (rfl) dX5_linked_39 ?_
            exact Rt (σ 12 (3 * i + j)) (zt σ) dX5_linked_40 (⟨by unfold linkedF; rw [tN_nI (by omega), tN_nI (by omega), if_pos (by simp [bI, c6, c11, c15, c20, c25])], rfl⟩) rfl (Nat.le_refl _) (Nat.le_refl _) rfl E.2.2.2.2.2.1
          · refine s_iconst E dX5_linked_28 (v := (-1)) (by decide) ?_
            exact Rt ((-1)) (zt σ) dX5_linked_29 (⟨by simp [bI, linkedF, c6, c11, c15, c20, c25], rfl⟩) rfl (Nat.le_refl _) (Nat.le_refl _) rfl E.2.2.2.2.2.1
set_option maxHeartbeats 1000000 in
set_option maxRecDepth 100000 in
theorem mz_namedAt {σ : Nat → Nat → Int32} (base n : Nat) (v : Int32) (hb : base + n ≤ 12) : Ct l D gt yX5_namedAt cX5_namedAt 5 .int 0 0 0 0 [.ref (ad 0), .int (nI base), .int (nI n), .int (v)] (wm ad ct σ) (tysA ct) (fun r σ2 => nameF σ base v n = r ∧ σ = σ2) (fun σ2 => wm ad ct σ2) (fun _ => tysA ct) := by
  refine Ct.start RX5 (by decide) rfl (Nat.le_of_ble_eq_true rfl) rfl ?_
  intro pP eE sS mM aA bB hM cC QQ AA E Rt
  refine s_iconst E dX5_namedAt_0 (v := nI 0) (by decide) ?_
  refine s_istore E (L2 := [(4, .int (nI 0)), (0, .ref (ad 0)), (1, .int (nI base)), (2, .int (nI n)), (3, .int (v))]) dX5_namedAt_1 (Nat.le_of_ble_eq_true rfl) rfl ?_
  have L3 : ∀ (fuel : Nat) (k : Nat), k ≤ n → nameF σ base v k = -1 → (n - k) < fuel → Sm pP l eE { frames := 0, cells := 0, slots := 0, locals := 0 } sS mM aA bB hM cC QQ AA D 5 0 0 (wm ad ct σ) 3 [(0, .ref (ad 0)), (1, .int (nI base)), (2, .int (nI n)), (3, .int (v)), (4, .int (nI k))] [] := by
    intro fuel
    induction fuel with
    | zero =>
      intro k hk hf hf3
      exact absurd hf3 (Nat.not_lt_zero _)
    | succ fuel ih3 =>
      intro k hk hf hf3
      refine s_iload E dX5_namedAt_3 (i := 4) (j := 4) rfl ?_
      refine s_iload_n E dX5_namedAt_5 (i := 2) (j := 2) rfl rfl ?_
      refine s_icmp_ge E dX5_namedAt_6 (tgt := 31) rfl (fun c6 => ?_) (fun c6 => ?_)
      · have c6 : ¬ k < n := fun h => absurd c6 (Int32.not_le.mpr ((nI_ltI (a := k) (b := n) (by omega) (by omega)).mpr h))
        refine s_iconst E dX5_namedAt_31 (v := (-1)) (by decide) ?_
        exact Rt ((-1)) (σ) dX5_namedAt_32 (⟨by rw [show n = k by omega]; exact hf, rfl⟩) rfl (Nat.le_refl _) (Nat.le_refl _) rfl E.2.2.2.2.2.1
      · have c6 : k < n := (nI_ltI (a := k) (b := n) (by omega) (by omega)).mp (Int32.not_le.mp c6)
        refine s_aload_n E dX5_namedAt_9 (i := 0) (j := 0) rfl rfl ?_
        refine mg5 E dX5_namedAt_10 ?_
        refine s_iload_n E dX5_namedAt_13 (i := 1) (j := 1) rfl rfl ?_
        refine s_iload E dX5_namedAt_14 (i := 4) (j := 4) rfl ?_
        refine s_iadd_ E dX5_namedAt_16 (v := nI (base + k)) (nI_add _ _) ?_
        refine ml5 E (v := σ 5 (base + k)) (base + k) (rfl) (by omega) (rfl) dX5_namedAt_17 ?_
        refine s_iload_n E dX5_namedAt_18 (i := 3) (j := 3) rfl rfl ?_
        refine s_icmp_ne E dX5_namedAt_19 (tgt := 25) rfl (fun c19 => ?_) (fun c19 => ?_)
        · refine s_iinc E (L2 := [(4, .int (nI (k + 1))), (0, .ref (ad 0)), (1, .int (nI base)), (2, .int (nI n)), (3, .int (v))]) dX5_namedAt_25 (k := 4) rfl (v := nI (k + 1)) (nI_inc _) (Nat.le_of_ble_eq_true rfl) rfl ?_
          refine s_goto E dX5_namedAt_28 (tgt := 3) rfl ?_
          refine s_loc (L2 := [(0, .ref (ad 0)), (1, .int (nI base)), (2, .int (nI n)), (3, .int (v)), (4, .int (nI (k + 1)))]) [1, 2, 3, 4, 0] rfl ?_
          exact ih3 (k + 1) (by omega) (nameF_next hf c19) (by omega)
        · refine s_iload E dX5_namedAt_22 (i := 4) (j := 4) rfl ?_
          exact Rt (nI k) (σ) dX5_namedAt_24 (⟨nameF_keep (by omega) hf c19 (by omega), rfl⟩) rfl (Nat.le_refl _) (Nat.le_refl _) rfl E.2.2.2.2.2.1
  refine s_loc (L2 := [(0, .ref (ad 0)), (1, .int (nI base)), (2, .int (nI n)), (3, .int (v)), (4, .int (nI 0))]) [1, 2, 3, 4, 0] rfl ?_
  exact L3 (_ + 1) 0 (Nat.zero_le _) (rfl) (Nat.lt_succ_self _)
set_option maxHeartbeats 1000000 in
set_option maxRecDepth 100000 in
theorem mz_named {σ : Nat → Nat → Int32} (n : Nat) (v : Int32) (hn : σ 3 7 = nI n) (hn6 : n ≤ 6) : Ct l D gt yX5_named cX5_named 2 .int 1 24 0 0 [.ref (ad 0), .int (v)] (wm ad ct σ) (tysA ct) (fun r σ2 => nameF (zt σ) 0 v n = r ∧ zt σ = σ2) (fun σ2 => wm ad ct σ2) (fun _ => tysA ct) := by
  refine Ct.start RX5 (by decide) rfl (Nat.le_of_ble_eq_true rfl) rfl ?_
  intro pP eE sS mM aA bB hM cC QQ AA E Rt
  refine s_aload_n E dX5_named_0 (i := 0) (j := 0) rfl rfl ?_
  refine s_iconst E dX5_named_1 (v := nI 0) (by decide) ?_
  refine mp0 E dX5_named_2 ?_
  refine s_ws (ws2 := wm ad ct (zt σ)) (congrArg (wm ad ct) (rfl)) ?_
  refine s_aload_n E dX5_named_5 (i := 0) (j := 0) rfl rfl ?_
  refine s_iconst E dX5_named_6 (v := nI 0) (by decide) ?_
  refine s_aload_n E dX5_named_7 (i := 0) (j := 0) rfl rfl ?_
  refine m_calli E (mz_users n (hn)) K5_232 (Nat.le_of_ble_eq_true rfl) (Nat.le_of_ble_eq_true rfl) (Nat.zero_le _) (Nat.zero_le _) rfl rfl (Nat.le_of_ble_eq_true rfl) dX5_named_8 (fun r8 w8 h8 => ?_)
  obtain ⟨rfl, rfl⟩ := h8
  refine s_iload_n E dX5_named_11 (i := 1) (j := 1) rfl rfl ?_
  refine m_calli E (mz_namedAt 0 n v (by omega)) K5_185 (Nat.le_of_ble_eq_true rfl) (Nat.le_of_ble_eq_true rfl) (Nat.zero_le _) (Nat.zero_le _) rfl rfl (Nat.le_of_ble_eq_true rfl) dX5_named_12 (fun r12 w12 h12 => ?_)
  obtain ⟨rfl, rfl⟩ := h12
  exact Rt (nameF (zt σ) 0 v n) (zt σ) dX5_named_15 (⟨rfl, rfl⟩) rfl (Nat.le_refl _) (Nat.le_refl _) rfl E.2.2.2.2.2.1
set_option maxHeartbeats 1000000 in
set_option maxRecDepth 100000 in
theorem mz_blockedMany {σ : Nat → Nat → Int32} (B : Nat) (hB : σ 3 0 = nI B) (hB2 : B ≤ 60) : Ct l D gt yX5_blockedMany cX5_blockedMany 3 .int 0 0 0 0 [.ref (ad 0)] (wm ad ct σ) (tysA ct) (fun r σ2 => blockF σ B = r ∧ σ = σ2) (fun σ2 => wm ad ct σ2) (fun _ => tysA ct) := by
  refine Ct.start RX5 (by decide) rfl (Nat.le_of_ble_eq_true rfl) rfl ?_
  intro pP eE sS mM aA bB hM cC QQ AA E Rt
  refine s_iconst E dX5_blockedMany_0 (v := nI 0) (by decide) ?_
  refine s_istore_n E (L2 := [(1, .int (nI 0)), (0, .ref (ad 0))]) dX5_blockedMany_1 rfl (Nat.le_of_ble_eq_true rfl) rfl ?_
  refine s_iconst E dX5_blockedMany_2 (v := nI 1) (by decide) ?_
  refine s_istore_n E (L2 := [(2, .int (nI 1)), (1, .int (nI 0)), (0, .ref (ad 0))]) dX5_blockedMany_3 rfl (Nat.le_of_ble_eq_true rfl) rfl ?_
  have L4 : ∀ (fuel : Nat) (i : Nat), i ≤ B → (B - i) < fuel → Sm pP l eE { frames := 0, cells := 0, slots := 0, locals := 0 } sS mM aA bB hM cC QQ AA D 3 0 0 (wm ad ct σ) 4 [(0, .ref (ad 0)), (1, .int (blockF σ i)), (2, .int (nI (i + 1)))] [] := by
    intro fuel
    induction fuel with
    | zero =>
      intro i hi hf4
      exact absurd hf4 (Nat.not_lt_zero _)
    | succ fuel ih4 =>
      intro i hi hf4
      refine s_iload_n E dX5_blockedMany_4 (i := 2) (j := 2) rfl rfl ?_
      refine s_aload_n E dX5_blockedMany_5 (i := 0) (j := 0) rfl rfl ?_
      refine mg3 E dX5_blockedMany_6 ?_
      refine s_iconst E dX5_blockedMany_9 (v := nI 0) (by decide) ?_
      refine ml3 E (v := nI B) (0) (rfl) (by omega) (hB) dX5_blockedMany_10 ?_
      refine s_icmp_gt E dX5_blockedMany_11 (tgt := 32) rfl (fun c11 => ?_) (fun c11 => ?_)
      · have c11 : B < i + 1 := (nI_ltI (a := B) (b := i + 1) (by omega) (by omega)).mp c11
        refine s_iload_n E dX5_blockedMany_32 (i := 1) (j := 1) rfl rfl ?_
        exact Rt (blockF σ i) (σ) dX5_blockedMany_33 (⟨by rw [show B = i by omega], rfl⟩) rfl (Nat.le_refl _) (Nat.le_refl _) rfl E.2.2.2.2.2.1
      · have c11 : ¬ B < i + 1 := fun h => c11 ((nI_ltI (a := B) (b := i + 1) (by omega) (by omega)).mpr h)
        refine s_iload_n E dX5_blockedMany_14 (i := 1) (j := 1) rfl rfl ?_
        refine s_aload_n E dX5_blockedMany_15 (i := 0) (j := 0) rfl rfl ?_
        refine mg25 E dX5_blockedMany_16 ?_
        refine s_bipush E dX5_blockedMany_19 (v := nI 12) (by decide) ?_
        refine s_iload_n E dX5_blockedMany_21 (i := 2) (j := 2) rfl rfl ?_
        refine s_iadd_ E dX5_blockedMany_22 (v := nI (12 + (i + 1))) (nI_add _ _) ?_
        refine ml25 E (v := σ 25 (12 + (i + 1))) (12 + (i + 1)) (rfl) (by omega) (rfl) dX5_blockedMany_23 ?_
        refine s_iadd_ E dX5_blockedMany_24 (v := blockF σ (i + 1)) (rfl) ?_
        refine s_istore_n E (L2 := [(1, .int (blockF σ (i + 1))), (0, .ref (ad 0)), (2, .int (nI (i + 1)))]) dX5_blockedMany_25 rfl (Nat.le_of_ble_eq_true rfl) rfl ?_
        refine s_iinc E (L2 := [(2, .int (nI (i + 1 + 1))), (1, .int (blockF σ (i + 1))), (0, .ref (ad 0))]) dX5_blockedMany_26 (k := 2) rfl (v := nI (i + 1 + 1)) (nI_inc _) (Nat.le_of_ble_eq_true rfl) rfl ?_
        refine s_goto E dX5_blockedMany_29 (tgt := 4) rfl ?_
        refine s_loc (L2 := [(0, .ref (ad 0)), (1, .int (blockF σ (i + 1))), (2, .int (nI (i + 1 + 1)))]) [2, 1, 0] rfl ?_
        exact ih4 (i + 1) (by omega) (by omega)
  refine s_loc (L2 := [(0, .ref (ad 0)), (1, .int (nI 0)), (2, .int (nI 1))]) [2, 1, 0] rfl ?_
  exact L4 (_ + 1) 0 (Nat.zero_le _) (Nat.lt_succ_self _)
set_option maxHeartbeats 1000000 in
set_option maxRecDepth 100000 in
theorem mz_count {σ : Nat → Nat → Int32} (n B K : Nat) (v : Int32) (hn : σ 3 7 = nI n) (hn6 : n ≤ 6) (hB : σ 3 0 = nI B) (hB2 : B ≤ 60) (hK : σ 0 28 = nI K) : Ct l D gt yX5_count cX5_count 2 .int 2 42 0 0 [.ref (ad 0), .int (v)] (wm ad ct σ) (tysA ct) (fun r σ2 => countF (zt σ) n B K v = r ∧ zt σ = σ2) (fun σ2 => wm ad ct σ2) (fun _ => tysA ct) := by
  refine Ct.start RX5 (by decide) rfl (Nat.le_of_ble_eq_true rfl) rfl ?_
  intro pP eE sS mM aA bB hM cC QQ AA E Rt
  refine s_aload_n E dX5_count_0 (i := 0) (j := 0) rfl rfl ?_
  refine s_iconst E dX5_count_1 (v := nI 0) (by decide) ?_
  refine mp0 E dX5_count_2 ?_
  refine s_ws (ws2 := wm ad ct (zt σ)) (congrArg (wm ad ct) (rfl)) ?_
  refine s_iload_n E dX5_count_5 (i := 1) (j := 1) rfl rfl ?_
  rcases sw_c (v) 9 (by decide) with ⟨j6, k6, rfl⟩ | c6
  · obtain rfl | rfl | rfl | rfl | rfl | rfl | rfl | rfl | rfl : j6 = 0 ∨ j6 = 1 ∨ j6 = 2 ∨ j6 = 3 ∨ j6 = 4 ∨ j6 = 5 ∨ j6 = 6 ∨ j6 = 7 ∨ j6 = 8 := by omega
    · refine s_tableIn E dX5_count_6 (off := 50) (tgt := 56) (by decide) (by decide) rfl rfl ?_
      refine s_aload_n E dX5_count_56 (i := 0) (j := 0) rfl rfl ?_
      refine m_calli E (mz_users n (hn)) K5_232 (Nat.le_of_ble_eq_true rfl) (Nat.le_of_ble_eq_true rfl) (Nat.zero_le _) (Nat.zero_le _) rfl rfl (Nat.le_of_ble_eq_true rfl) dX5_count_57 (fun r57 w57 h57 => ?_)
      obtain ⟨rfl, rfl⟩ := h57
      exact Rt (nI n) (zt σ) dX5_count_60 (⟨rfl, rfl⟩) rfl (Nat.le_refl _) (Nat.le_refl _) rfl E.2.2.2.2.2.1
    · refine s_tableIn E dX5_count_6 (off := 55) (tgt := 61) (by decide) (by decide) rfl rfl ?_
      refine s_aload_n E dX5_count_61 (i := 0) (j := 0) rfl rfl ?_
      refine mg3 E dX5_count_62 ?_
      refine s_iconst E dX5_count_65 (v := nI 0) (by decide) ?_
      refine ml3 E (v := (zt σ) 3 0) (0) (rfl) (by omega) (rfl) dX5_count_66 ?_
      exact Rt ((zt σ) 3 0) (zt σ) dX5_count_67 (⟨rfl, rfl⟩) rfl (Nat.le_refl _) (Nat.le_refl _) rfl E.2.2.2.2.2.1
    · refine s_tableIn E dX5_count_6 (off := 62) (tgt := 68) (by decide) (by decide) rfl rfl ?_
      refine s_aload_n E dX5_count_68 (i := 0) (j := 0) rfl rfl ?_
      refine mg3 E dX5_count_69 ?_
      refine s_iconst E dX5_count_72 (v := nI 1) (by decide) ?_
      refine ml3 E (v := (zt σ) 3 1) (1) (rfl) (by omega) (rfl) dX5_count_73 ?_
      exact Rt ((zt σ) 3 1) (zt σ) dX5_count_74 (⟨rfl, rfl⟩) rfl (Nat.le_refl _) (Nat.le_refl _) rfl E.2.2.2.2.2.1
    · refine s_tableIn E dX5_count_6 (off := 69) (tgt := 75) (by decide) (by decide) rfl rfl ?_
      refine s_aload_n E dX5_count_75 (i := 0) (j := 0) rfl rfl ?_
      refine mg3 E dX5_count_76 ?_
      refine s_iconst E dX5_count_79 (v := nI 2) (by decide) ?_
      refine ml3 E (v := (zt σ) 3 2) (2) (rfl) (by omega) (rfl) dX5_count_80 ?_
      exact Rt ((zt σ) 3 2) (zt σ) dX5_count_81 (⟨rfl, rfl⟩) rfl (Nat.le_refl _) (Nat.le_refl _) rfl E.2.2.2.2.2.1
    · refine s_tableIn E dX5_count_6 (off := 76) (tgt := 82) (by decide) (by decide) rfl rfl ?_
      refine s_aload_n E dX5_count_82 (i := 0) (j := 0) rfl rfl ?_
      refine mg3 E dX5_count_83 ?_
      refine s_iconst E dX5_count_86 (v := nI 3) (by decide) ?_
      refine ml3 E (v := (zt σ) 3 3) (3) (rfl) (by omega) (rfl) dX5_count_87 ?_
      exact Rt ((zt σ) 3 3) (zt σ) dX5_count_88 (⟨rfl, rfl⟩) rfl (Nat.le_refl _) (Nat.le_refl _) rfl E.2.2.2.2.2.1
    · refine s_tableIn E dX5_count_6 (off := 83) (tgt := 89) (by decide) (by decide) rfl rfl ?_
      refine s_aload_n E dX5_count_89 (i := 0) (j := 0) rfl rfl ?_
      refine m_calli E (mz_blockedMany B (hB) (hB2)) K5_416 (Nat.le_of_ble_eq_true rfl) (Nat.le_of_ble_eq_true rfl) (Nat.zero_le _) (Nat.zero_le _) rfl rfl (Nat.le_of_ble_eq_true rfl) dX5_count_90 (fun r90 w90 h90 => ?_)
      obtain ⟨rfl, rfl⟩ := h90
      exact Rt (blockF (zt σ) B) (zt σ) dX5_count_93 (⟨rfl, rfl⟩) rfl (Nat.le_refl _) (Nat.le_refl _) rfl E.2.2.2.2.2.1
    · refine s_tableIn E dX5_count_6 (off := 88) (tgt := 94) (by decide) (by decide) rfl rfl ?_
      refine s_aload_n E dX5_count_94 (i := 0) (j := 0) rfl rfl ?_
      refine m_calli E (mz_tuned n (hn) (hn6)) K5_256 (Nat.le_of_ble_eq_true rfl) (Nat.le_of_ble_eq_true rfl) (Nat.zero_le _) (Nat.zero_le _) rfl rfl (Nat.le_of_ble_eq_true rfl) dX5_count_95 (fun r95 w95 h95 => ?_)
      obtain ⟨rfl, rfl⟩ := h95
      exact Rt (nI (tunedN (zt σ) n)) (zt σ) dX5_count_98 (⟨rfl, rfl⟩) rfl (Nat.le_refl _) (Nat.le_refl _) rfl E.2.2.2.2.2.1
    · refine s_tableIn E dX5_count_6 (off := 93) (tgt := 99) (by decide) (by decide) rfl rfl ?_
      refine s_aload_n E dX5_count_99 (i := 0) (j := 0) rfl rfl ?_
      refine mg28 E (v := nI K) (hK) dX5_count_100 ?_
      exact Rt (nI K) (zt σ) dX5_count_103 (⟨rfl, rfl⟩) rfl (Nat.le_refl _) (Nat.le_refl _) rfl E.2.2.2.2.2.1
    · refine s_tableIn E dX5_count_6 (off := 98) (tgt := 104) (by decide) (by decide) rfl rfl ?_
      refine s_aload_n E dX5_count_104 (i := 0) (j := 0) rfl rfl ?_
      refine mg2 E (v := (zt σ) 0 2) (rfl) dX5_count_105 ?_
      exact Rt ((zt σ) 0 2) (zt σ) dX5_count_108 (⟨rfl, rfl⟩) rfl (Nat.le_refl _) (Nat.le_refl _) rfl E.2.2.2.2.2.1
  · refine s_tableOut E dX5_count_6 c6 (tgt := 109) rfl ?_
    refine s_iconst E dX5_count_109 (v := (-1)) (by decide) ?_
    exact Rt ((-1)) (zt σ) dX5_count_110 (⟨by rw [countF, swt_out c6]; rfl, rfl⟩) rfl (Nat.le_refl _) (Nat.le_refl _) rfl E.2.2.2.2.2.1
set_option maxHeartbeats 1000000 in
set_option maxRecDepth 100000 in
theorem mz_fault {σ : Nat → Nat → Int32} (v : Int32) : Ct l D gt yX5_fault cX5_fault 2 .int 0 0 0 0 [.ref (ad 0), .int (v)] (wm ad ct σ) (tysA ct) (fun r σ2 => (if v = 0 then σ 0 23 else if v = nI 1 then σ 0 24 else -1) = r ∧ zt σ = σ2) (fun σ2 => wm ad ct σ2) (fun _ => tysA ct) := by
  refine Ct.start RX5 (by decide) rfl (Nat.le_of_ble_eq_true rfl) rfl ?_
  intro pP eE sS mM aA bB hM cC QQ AA E Rt
  refine s_aload_n E dX5_fault_0 (i := 0) (j := 0) rfl rfl ?_
  refine s_iconst E dX5_fault_1 (v := nI 0) (by decide) ?_
  refine mp0 E dX5_fault_2 ?_
  refine s_ws (ws2 := wm ad ct (zt σ)) (congrArg (wm ad ct) (rfl)) ?_
  refine s_iload_n E dX5_fault_5 (i := 1) (j := 1) rfl rfl ?_
  refine s_if_ne E dX5_fault_6 (tgt := 16) rfl (fun c6 => ?_) (fun c6 => ?_)
  · refine s_iload_n E dX5_fault_16 (i := 1) (j := 1) rfl rfl ?_
    refine s_iconst E dX5_fault_17 (v := nI 1) (by decide) ?_
    refine s_icmp_ne E dX5_fault_18 (tgt := 28) rfl (fun c18 => ?_) (fun c18 => ?_)
    · refine s_iconst E dX5_fault_28 (v := (-1)) (by decide) ?_
      exact Rt ((-1)) (zt σ) dX5_fault_29 (⟨by simp [bI, show ¬ nI 1 = 0 by decide, c6, c18], rfl⟩) rfl (Nat.le_refl _) (Nat.le_refl _) rfl E.2.2.2.2.2.1
    · refine s_aload_n E dX5_fault_21 (i := 0) (j := 0) rfl rfl ?_
      refine mg24 E (v := σ 0 24) (rfl) dX5_fault_22 ?_
      refine s_goto E dX5_fault_25 (tgt := 29) rfl ?_
      exact Rt (σ 0 24) (zt σ) dX5_fault_29 (⟨by simp [bI, show ¬ nI 1 = 0 by decide, c6, c18], rfl⟩) rfl (Nat.le_refl _) (Nat.le_refl _) rfl E.2.2.2.2.2.1
  · refine s_aload_n E dX5_fault_9 (i := 0) (j := 0) rfl rfl ?_
    refine mg23 E (v := σ 0 23) (rfl) dX5_fault_10 ?_
    refine s_goto E dX5_fault_13 (tgt := 29) rfl ?_
    exact Rt (σ 0 23) (zt σ) dX5_fault_29 (⟨by simp [bI, show ¬ nI 1 = 0 by decide, c6], rfl⟩) rfl (Nat.le_refl _) (Nat.le_refl _) rfl E.2.2.2.2.2.1
set_option maxHeartbeats 1000000 in
set_option maxRecDepth 100000 in
theorem mz_worst {σ : Nat → Nat → Int32} (n : Nat) (hn : σ 3 7 = nI n) (hn6 : n ≤ 6) (hs : ∀ v, v < n → In (σ 6 v) 3) : Ct l D gt yX5_worst cX5_worst 1 .int 6 138 0 0 [.ref (ad 0)] (wm ad ct σ) (tysA ct) (fun r σ2 => bestW (madeN (zt σ) n (prods (zt σ) n)) n = r ∧ HR (zt σ) σ2) (fun σ2 => wm ad ct σ2) (fun _ => tysA ct) := by
  refine Ct.start RX5 (by decide) rfl (Nat.le_of_ble_eq_true rfl) rfl ?_
  intro pP eE sS mM aA bB hM cC QQ AA E Rt
  refine s_aload_n E dX5_worst_0 (i := 0) (j := 0) rfl rfl ?_
  refine s_iconst E dX5_worst_1 (v := nI 0) (by decide) ?_
  refine mp0 E dX5_worst_2 ?_
  refine s_ws (ws2 := wm ad ct (zt σ)) (congrArg (wm ad ct) (rfl)) ?_
  refine s_aload_n E dX5_worst_5 (i := 0) (j := 0) rfl rfl ?_
  refine m_calli E (mz_worstNow n (hn) (hn6) (hs)) K5_396 (Nat.le_of_ble_eq_true rfl) (Nat.le_of_ble_eq_true rfl) (Nat.zero_le _) (Nat.zero_le _) rfl rfl (Nat.le_of_ble_eq_true rfl) dX5_worst_6 (fun r6 w6 h6 => ?_)
  obtain ⟨h6a, h6⟩ := h6
  exact Rt (r6) (w6) dX5_worst_9 (⟨h6a, h6.1.1⟩) rfl (Nat.le_refl _) (Nat.le_refl _) rfl E.2.2.2.2.2.1
set_option maxHeartbeats 1000000 in
set_option maxRecDepth 100000 in
theorem mz_user {σ : Nat → Nat → Int32} (n : Nat) (u v : Int32) (hC : CM σ n) : Ct l D gt yX5_user cX5_user 3 .int 2 43 0 0 [.ref (ad 0), .int (u), .int (v)] (wm ad ct σ) (tysA ct) (fun r σ2 => (userF (zt σ) n u v).2 = r ∧ st1 (zt σ) 0 0 (userF (zt σ) n u v).1 = σ2) (fun σ2 => wm ad ct σ2) (fun _ => tysA ct) := by
  refine Ct.start RX5 (by decide) rfl (Nat.le_of_ble_eq_true rfl) rfl ?_
  intro pP eE sS mM aA bB hM cC QQ AA E Rt
  have hn := hC.1
  have hn6 := hC.2.1
  refine s_aload_n E dX5_user_0 (i := 0) (j := 0) rfl rfl ?_
  refine s_iconst E dX5_user_1 (v := nI 0) (by decide) ?_
  refine mp0 E dX5_user_2 ?_
  refine s_ws (ws2 := wm ad ct (zt σ)) (congrArg (wm ad ct) (rfl)) ?_
  refine s_aload_n E dX5_user_5 (i := 0) (j := 0) rfl rfl ?_
  refine s_iload_n E dX5_user_6 (i := 1) (j := 1) rfl rfl ?_
  refine m_calli E (mz_isUser n u (hn)) K5_259 (Nat.le_of_ble_eq_true rfl) (Nat.le_of_ble_eq_true rfl) (Nat.zero_le _) (Nat.zero_le _) rfl rfl (Nat.le_of_ble_eq_true rfl) dX5_user_7 (fun r7 w7 h7 => ?_)
  obtain ⟨rfl, rfl⟩ := h7
  refine s_if_ne E dX5_user_10 (tgt := 20) rfl (fun c10 => ?_) (fun c10 => ?_)
  · have c10 := bI_n0 c10
    have hU := isU_t c10
    obtain ⟨j, hj, rfl⟩ := us_of c10 hn6
    refine s_iload_n E dX5_user_20 (i := 2) (j := 2) rfl rfl ?_
    rcases sw_c (v) 7 (by decide) with ⟨j21, k21, rfl⟩ | c21
    · obtain rfl | rfl | rfl | rfl | rfl | rfl | rfl : j21 = 0 ∨ j21 = 1 ∨ j21 = 2 ∨ j21 = 3 ∨ j21 = 4 ∨ j21 = 5 ∨ j21 = 6 := by omega
      · refine s_tableIn E dX5_user_21 (off := 43) (tgt := 64) (by decide) (by decide) rfl rfl ?_
        refine s_aload_n E dX5_user_64 (i := 0) (j := 0) rfl rfl ?_
        refine mg6 E dX5_user_65 ?_
        refine s_iload_n E dX5_user_68 (i := 1) (j := 1) rfl rfl ?_
        refine ml6 E (v := (zt σ) 6 j) (j) (rfl) (by omega) (rfl) dX5_user_69 ?_
        exact Rt ((zt σ) 6 j) (zt σ) dX5_user_70 (⟨by rw [userF, if_neg (by simp [hU]), tN_nI (by omega)]; rfl, by rw [userF, if_neg (by simp [hU])]; exact zt_zt⟩) rfl (Nat.le_refl _) (Nat.le_refl _) rfl E.2.2.2.2.2.1
      · refine s_tableIn E dX5_user_21 (off := 50) (tgt := 71) (by decide) (by decide) rfl rfl ?_
        refine s_aload_n E dX5_user_71 (i := 0) (j := 0) rfl rfl ?_
        refine mg25 E dX5_user_72 ?_
        refine s_bipush E dX5_user_75 (v := nI 6) (by decide) ?_
        refine s_iload_n E dX5_user_77 (i := 1) (j := 1) rfl rfl ?_
        refine s_iadd_ E dX5_user_78 (v := nI (6 + j)) (nI_add _ _) ?_
        refine ml25 E (v := (zt σ) 25 (6 + j)) (6 + j) (rfl) (by omega) (rfl) dX5_user_79 ?_
        exact Rt ((zt σ) 25 (6 + j)) (zt σ) dX5_user_80 (⟨by rw [userF, if_neg (by simp [hU]), tN_nI (by omega)]; rfl, by rw [userF, if_neg (by simp [hU])]; exact zt_zt⟩) rfl (Nat.le_refl _) (Nat.le_refl _) rfl E.2.2.2.2.2.1
      · refine s_tableIn E dX5_user_21 (off := 60) (tgt := 81) (by decide) (by decide) rfl rfl ?_
        refine s_aload_n E dX5_user_81 (i := 0) (j := 0) rfl rfl ?_
        refine mg8 E dX5_user_82 ?_
        refine s_iload_n E dX5_user_85 (i := 1) (j := 1) rfl rfl ?_
        refine ml8 E (v := (zt σ) 8 j) (j) (rfl) (by omega) (rfl) dX5_user_86 ?_
        exact Rt ((zt σ) 8 j) (zt σ) dX5_user_87 (⟨by rw [userF, if_neg (by simp [hU]), tN_nI (by omega)]; rfl, by rw [userF, if_neg (by simp [hU])]; exact zt_zt⟩) rfl (Nat.le_refl _) (Nat.le_refl _) rfl E.2.2.2.2.2.1
      · refine s_tableIn E dX5_user_21 (off := 67) (tgt := 88) (by decide) (by decide) rfl rfl ?_
        refine s_aload_n E dX5_user_88 (i := 0) (j := 0) rfl rfl ?_
        refine mg9 E dX5_user_89 ?_
        refine s_iload_n E dX5_user_92 (i := 1) (j := 1) rfl rfl ?_
        refine ml9 E (v := (zt σ) 9 j) (j) (rfl) (by omega) (rfl) dX5_user_93 ?_
        exact Rt ((zt σ) 9 j) (zt σ) dX5_user_94 (⟨by rw [userF, if_neg (by simp [hU]), tN_nI (by omega)]; rfl, by rw [userF, if_neg (by simp [hU])]; exact zt_zt⟩) rfl (Nat.le_refl _) (Nat.le_refl _) rfl E.2.2.2.2.2.1
      · refine s_tableIn E dX5_user_21 (off := 74) (tgt := 95) (by decide) (by decide) rfl rfl ?_
        refine s_aload_n E dX5_user_95 (i := 0) (j := 0) rfl rfl ?_
        refine mg25 E dX5_user_96 ?_
        refine s_iconst E dX5_user_99 (v := nI 0) (by decide) ?_
        refine s_iload_n E dX5_user_100 (i := 1) (j := 1) rfl rfl ?_
        refine s_iadd_ E dX5_user_101 (v := nI j) (nI_z _) ?_
        refine ml25 E (v := (zt σ) 25 j) (j) (rfl) (by omega) (rfl) dX5_user_102 ?_
        exact Rt ((zt σ) 25 j) (zt σ) dX5_user_103 (⟨by rw [userF, if_neg (by simp [hU]), tN_nI (by omega)]; rfl, by rw [userF, if_neg (by simp [hU])]; exact zt_zt⟩) rfl (Nat.le_refl _) (Nat.le_refl _) rfl E.2.2.2.2.2.1
      · refine s_tableIn E dX5_user_21 (off := 83) (tgt := 104) (by decide) (by decide) rfl rfl ?_
        refine s_aload_n E dX5_user_104 (i := 0) (j := 0) rfl rfl ?_
        refine mg25 E dX5_user_105 ?_
        refine s_iconst E dX5_user_108 (v := nI 0) (by decide) ?_
        refine s_iload_n E dX5_user_109 (i := 1) (j := 1) rfl rfl ?_
        refine s_iadd_ E dX5_user_110 (v := nI j) (nI_z _) ?_
        refine ml25 E (v := (zt σ) 25 j) (j) (rfl) (by omega) (rfl) dX5_user_111 ?_
        refine s_if_le E dX5_user_112 (tgt := 127) rfl (fun c112 => ?_) (fun c112 => ?_)
        · have c112 := Int32.not_lt.mpr c112
          refine s_iconst E dX5_user_127 (v := nI 0) (by decide) ?_
          exact Rt (nI 0) (zt σ) dX5_user_128 (⟨by rw [userF, if_neg (by simp [hU]), tN_nI (by omega)]; show bI _ = _; simp [bI, c10, hU, c112], by rw [userF, if_neg (by simp [hU])]; exact zt_zt⟩) rfl (Nat.le_refl _) (Nat.le_refl _) rfl E.2.2.2.2.2.1
        · have c112 := Int32.not_le.mp c112
          refine s_aload_n E dX5_user_115 (i := 0) (j := 0) rfl rfl ?_
          refine s_iload_n E dX5_user_116 (i := 1) (j := 1) rfl rfl ?_
          refine m_calli E (mz_isRight j (by omega) (hC.2.2.2 j hj)) K5_323 (Nat.le_of_ble_eq_true rfl) (Nat.le_of_ble_eq_true rfl) (Nat.zero_le _) (Nat.zero_le _) rfl rfl (Nat.le_of_ble_eq_true rfl) dX5_user_117 (fun r117 w117 h117 => ?_)
          obtain ⟨rfl, rfl⟩ := h117
          refine s_if_eq E dX5_user_120 (tgt := 127) rfl (fun c120 => ?_) (fun c120 => ?_)
          · have c120 := bI_0 c120
            refine s_iconst E dX5_user_127 (v := nI 0) (by decide) ?_
            exact Rt (nI 0) (zt σ) dX5_user_128 (⟨by rw [userF, if_neg (by simp [hU]), tN_nI (by omega)]; show bI _ = _; simp [bI, c10, hU, c112, c120], by rw [userF, if_neg (by simp [hU])]; exact zt_zt⟩) rfl (Nat.le_refl _) (Nat.le_refl _) rfl E.2.2.2.2.2.1
          · have c120 := bI_n0 c120
            refine s_iconst E dX5_user_123 (v := nI 1) (by decide) ?_
            refine s_goto E dX5_user_124 (tgt := 128) rfl ?_
            exact Rt (nI 1) (zt σ) dX5_user_128 (⟨by rw [userF, if_neg (by simp [hU]), tN_nI (by omega)]; show bI _ = _; simp [bI, c10, hU, c112, c120], by rw [userF, if_neg (by simp [hU])]; exact zt_zt⟩) rfl (Nat.le_refl _) (Nat.le_refl _) rfl E.2.2.2.2.2.1
      · refine s_tableIn E dX5_user_21 (off := 108) (tgt := 129) (by decide) (by decide) rfl rfl ?_
        refine s_aload_n E dX5_user_129 (i := 0) (j := 0) rfl rfl ?_
        refine mg25 E dX5_user_130 ?_
        refine s_bipush E dX5_user_133 (v := nI 73) (by decide) ?_
        refine s_iload_n E dX5_user_135 (i := 1) (j := 1) rfl rfl ?_
        refine s_iadd_ E dX5_user_136 (v := nI (73 + j)) (nI_add _ _) ?_
        refine ml25 E (v := (zt σ) 25 (73 + j)) (73 + j) (rfl) (by omega) (rfl) dX5_user_137 ?_
        exact Rt ((zt σ) 25 (73 + j)) (zt σ) dX5_user_138 (⟨by rw [userF, if_neg (by simp [hU]), tN_nI (by omega)]; rfl, by rw [userF, if_neg (by simp [hU])]; exact zt_zt⟩) rfl (Nat.le_refl _) (Nat.le_refl _) rfl E.2.2.2.2.2.1
    · refine s_tableOut E dX5_user_21 c21 (tgt := 139) rfl ?_
      refine s_aload_n E dX5_user_139 (i := 0) (j := 0) rfl rfl ?_
      refine s_iconst E dX5_user_140 (v := nI 2) (by decide) ?_
      refine mp0 E dX5_user_141 ?_
      refine s_iconst E dX5_user_144 (v := nI 0) (by decide) ?_
      exact Rt (nI 0) (st1 (zt σ) 0 0 (nI 2)) dX5_user_145 (⟨by rw [userF, if_neg (by simp [hU]), swt_out c21]; rfl, by rw [userF, if_neg (by simp [hU]), swt_out c21]; rfl⟩) rfl (Nat.le_refl _) (Nat.le_refl _) rfl E.2.2.2.2.2.1
  · have c10 := bI_0 c10
    have hU := isU_f c10
    refine s_aload_n E dX5_user_13 (i := 0) (j := 0) rfl rfl ?_
    refine s_iconst E dX5_user_14 (v := nI 1) (by decide) ?_
    refine mp0 E dX5_user_15 ?_
    refine s_iconst E dX5_user_18 (v := nI 0) (by decide) ?_
    exact Rt (nI 0) (st1 (zt σ) 0 0 (nI 1)) dX5_user_19 (⟨by rw [userF, if_pos hU], by rw [userF, if_pos hU]⟩) rfl (Nat.le_refl _) (Nat.le_refl _) rfl E.2.2.2.2.2.1
end
