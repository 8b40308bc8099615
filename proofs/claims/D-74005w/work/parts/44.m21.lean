set_option maxRecDepth 100000
section
variable {l : Launch} {D : va_G} {gt ad : Nat → Nat} {ct : Nat → ClassId}
set_option maxHeartbeats 1000000 in
set_option maxRecDepth 100000 in
theorem mz_userOnce10 {σ : Nat → Nat → Int32} (n : Nat) (hn : σ 3 17 = nI n) (hn6 : n ≤ 6) (hR : RI σ) : Ct l D gt yX5_userOnce cX5_userOnce 3 .int 7 149 0 0 [.ref (ad 0), .ref (ad 10)] (wm ad ct σ) (tysA ct) (fun r σ2 => nI (uoN n σ) = r ∧ uoS 10 n σ = σ2) (fun σ2 => wm ad ct σ2) (fun _ => tysA ct) := by
  refine Ct.start RX5 (by decide) rfl (Nat.le_of_ble_eq_true rfl) rfl ?_
  intro pP eE sS mM aA bB hM cC QQ AA E Rt
  refine s_aload_n E dX5_userOnce_0 (i := 0) (j := 0) rfl rfl ?_
  refine m_callv E (mz_goOn (hR)) K5_159 (Nat.le_of_ble_eq_true rfl) (Nat.le_of_ble_eq_true rfl) (Nat.zero_le _) (Nat.zero_le _) rfl rfl (Nat.le_of_ble_eq_true rfl) dX5_userOnce_1 (fun w1 h1 => ?_)
  subst h1
  refine s_aload_n E dX5_userOnce_4 (i := 0) (j := 0) rfl rfl ?_
  refine mg21 E (v := (goOnS σ) 0 21) (rfl) dX5_userOnce_5 ?_
  refine s_if_eq E dX5_userOnce_8 (tgt := 13) rfl (fun c8 => ?_) (fun c8 => ?_)
  · refine s_aload_n E dX5_userOnce_13 (i := 0) (j := 0) rfl rfl ?_
    refine mg19 E (v := (goOnS σ) 0 19) (rfl) dX5_userOnce_14 ?_
    refine s_iconst E dX5_userOnce_17 (v := nI 1) (by decide) ?_
    refine s_icmp_eq E dX5_userOnce_18 (tgt := 26) rfl (fun c18 => ?_) (fun c18 => ?_)
    · refine s_aload_n E dX5_userOnce_26 (i := 0) (j := 0) rfl rfl ?_
      refine mg21 E (v := (goOnS σ) 0 21) (rfl) dX5_userOnce_27 ?_
      refine s_if_ne E dX5_userOnce_30 (tgt := 52) rfl (fun c30 => absurd c8 c30) (fun c30 => ?_)
      refine s_aload_n E dX5_userOnce_33 (i := 0) (j := 0) rfl rfl ?_
      refine s_bipush E dX5_userOnce_34 (v := nI 6) (by decide) ?_
      refine s_aload_n E dX5_userOnce_36 (i := 0) (j := 0) rfl rfl ?_
      refine s_bipush E dX5_userOnce_37 (v := nI 7) (by decide) ?_
      refine m_calli E (mz_reading 7 (by decide)) K5_181 (Nat.le_of_ble_eq_true rfl) (Nat.le_of_ble_eq_true rfl) (Nat.zero_le _) (Nat.zero_le _) rfl rfl (Nat.le_of_ble_eq_true rfl) dX5_userOnce_39 (fun r39 w39 h39 => ?_)
      obtain ⟨rfl, rfl⟩ := h39
      refine s_top (v2 := nI n) (by rw [goOnS_r (by decide)]; exact hn) ?_
      refine s_aload_n E dX5_userOnce_42 (i := 0) (j := 0) rfl rfl ?_
      refine mg20 E (v := (goOnS σ) 0 20) (rfl) dX5_userOnce_43 ?_
      refine m_calli E (mz_namedAt 6 n (goOnS σ 0 20) (by omega)) K5_185 (Nat.le_of_ble_eq_true rfl) (Nat.le_of_ble_eq_true rfl) (Nat.zero_le _) (Nat.zero_le _) rfl rfl (Nat.le_of_ble_eq_true rfl) dX5_userOnce_46 (fun r46 w46 h46 => ?_)
      obtain ⟨rfl, rfl⟩ := h46
      refine s_top (v2 := nameF (goOnS σ) 6 (goOnS σ 0 20) n) (rfl) ?_
      refine s_goto E dX5_userOnce_49 (tgt := 53) rfl ?_
      refine s_istore_n E (L2 := [(2, .int (nameF (goOnS σ) 6 (goOnS σ 0 20) n)), (0, .ref (ad 0)), (1, .ref (ad 10))]) dX5_userOnce_53 rfl (Nat.le_of_ble_eq_true rfl) rfl ?_
      refine s_iload_n E dX5_userOnce_54 (i := 2) (j := 0) rfl rfl ?_
      refine s_iconst E dX5_userOnce_55 (v := (-1)) (by decide) ?_
      refine s_icmp_ne E dX5_userOnce_56 (tgt := 67) rfl (fun c56 => ?_) (fun c56 => ?_)
      · obtain ⟨j, hj, hv⟩ := (nameF_of (s := goOnS σ) (b := 6) (x := goOnS σ 0 20) n).resolve_left c56
        have tj := hv
        have tnn := c56
        rw [hv]
        refine s_aload_n E dX5_userOnce_67 (i := 0) (j := 1) rfl rfl ?_
        refine mg21 E (v := (goOnS σ) 0 21) (rfl) dX5_userOnce_68 ?_
        refine s_if_ne E dX5_userOnce_71 (tgt := 88) rfl (fun c71 => absurd c8 c71) (fun c71 => ?_)
        refine s_aload_n E dX5_userOnce_74 (i := 1) (j := 2) rfl rfl ?_
        refine s_bipush E dX5_userOnce_75 (v := nI 6) (by decide) ?_
        refine s_iload_n E dX5_userOnce_77 (i := 2) (j := 0) rfl rfl ?_
        refine s_iadd_ E dX5_userOnce_78 (v := nI (6 + j)) (nI_add _ _) ?_
        refine ml10 E (v := (goOnS σ) 10 (6 + j)) (6 + j) (rfl) (by omega) (rfl) dX5_userOnce_79 ?_
        refine s_if_le E dX5_userOnce_80 (tgt := 88) rfl (fun c80 => ?_) (fun c80 => ?_)
        · have c80 := Int32.not_lt.mpr c80
          refine s_aload_n E dX5_userOnce_88 (i := 0) (j := 1) rfl rfl ?_
          refine m_callv E (mz_goOn (by first | exact hR.goOn | exact hR.goOn.wrong _)) K5_159 (Nat.le_of_ble_eq_true rfl) (Nat.le_of_ble_eq_true rfl) (Nat.zero_le _) (Nat.zero_le _) rfl rfl (Nat.le_of_ble_eq_true rfl) dX5_userOnce_89 (fun w89 h89 => ?_)
          subst h89
          refine s_iload_n E dX5_userOnce_92 (i := 2) (j := 0) rfl rfl ?_
          refine s_iconst E dX5_userOnce_93 (v := (-1)) (by decide) ?_
          refine s_icmp_ne E dX5_userOnce_94 (tgt := 101) rfl (fun c94 => ?_) (fun c94 => absurd c94 ((In.of (n := j) (k := 6) (by omega) (by decide)).m1 (by decide)))
          refine s_iload_n E dX5_userOnce_101 (i := 2) (j := 0) rfl rfl ?_
          exact Rt (nI j) (goOnS (goOnS σ)) dX5_userOnce_102 (⟨by unfold uoN; rw [if_pos ⟨c8, c18, tnn⟩, tj, tN_nI (by omega)], by unfold uoS; rw [if_pos c8, if_pos c18, if_neg tnn, tj, tN_nI (by omega), if_neg c80, goOnS_0 c8]⟩) rfl (Nat.le_refl _) (Nat.le_refl _) rfl E.2.2.2.2.2.1
        · have c80 := Int32.not_le.mp c80
          refine s_aload_n E dX5_userOnce_83 (i := 0) (j := 1) rfl rfl ?_
          refine s_iconst E dX5_userOnce_84 (v := nI 3) (by decide) ?_
          refine m_callv E (mz_wrong (nI 3)) K5_155 (Nat.le_of_ble_eq_true rfl) (Nat.le_of_ble_eq_true rfl) (Nat.zero_le _) (Nat.zero_le _) rfl rfl (Nat.le_of_ble_eq_true rfl) dX5_userOnce_85 (fun w85 h85 => ?_)
          subst h85
          refine s_aload_n E dX5_userOnce_88 (i := 0) (j := 1) rfl rfl ?_
          refine m_callv E (mz_goOn (by first | exact hR.goOn | exact hR.goOn.wrong _)) K5_159 (Nat.le_of_ble_eq_true rfl) (Nat.le_of_ble_eq_true rfl) (Nat.zero_le _) (Nat.zero_le _) rfl rfl (Nat.le_of_ble_eq_true rfl) dX5_userOnce_89 (fun w89 h89 => ?_)
          subst h89
          refine s_iload_n E dX5_userOnce_92 (i := 2) (j := 0) rfl rfl ?_
          refine s_iconst E dX5_userOnce_93 (v := (-1)) (by decide) ?_
          refine s_icmp_ne E dX5_userOnce_94 (tgt := 101) rfl (fun c94 => ?_) (fun c94 => absurd c94 ((In.of (n := j) (k := 6) (by omega) (by decide)).m1 (by decide)))
          refine s_iload_n E dX5_userOnce_101 (i := 2) (j := 0) rfl rfl ?_
          exact Rt (nI j) (goOnS (wrongS (nI 3) (goOnS σ))) dX5_userOnce_102 (⟨by unfold uoN; rw [if_pos ⟨c8, c18, tnn⟩, tj, tN_nI (by omega)], by unfold uoS; rw [if_pos c8, if_pos c18, if_neg tnn, tj, tN_nI (by omega), if_pos c80, wrongS_go (by decide)]⟩) rfl (Nat.le_refl _) (Nat.le_refl _) rfl E.2.2.2.2.2.1
      · have tn := c56
        refine s_aload_n E dX5_userOnce_59 (i := 0) (j := 1) rfl rfl ?_
        refine s_iconst E dX5_userOnce_60 (v := nI 4) (by decide) ?_
        refine m_callv E (mz_wrong (nI 4)) K5_155 (Nat.le_of_ble_eq_true rfl) (Nat.le_of_ble_eq_true rfl) (Nat.zero_le _) (Nat.zero_le _) rfl rfl (Nat.le_of_ble_eq_true rfl) dX5_userOnce_61 (fun w61 h61 => ?_)
        subst h61
        refine s_goto E dX5_userOnce_64 (tgt := 88) rfl ?_
        refine s_aload_n E dX5_userOnce_88 (i := 0) (j := 1) rfl rfl ?_
        refine m_callv E (mz_goOn (by first | exact hR.goOn | exact hR.goOn.wrong _)) K5_159 (Nat.le_of_ble_eq_true rfl) (Nat.le_of_ble_eq_true rfl) (Nat.zero_le _) (Nat.zero_le _) rfl rfl (Nat.le_of_ble_eq_true rfl) dX5_userOnce_89 (fun w89 h89 => ?_)
        subst h89
        refine s_iload_n E dX5_userOnce_92 (i := 2) (j := 0) rfl rfl ?_
        refine s_iconst E dX5_userOnce_93 (v := (-1)) (by decide) ?_
        refine s_icmp_ne E dX5_userOnce_94 (tgt := 101) rfl (fun c94 => absurd tn c94) (fun c94 => ?_)
        refine s_iconst E dX5_userOnce_97 (v := nI 0) (by decide) ?_
        refine s_goto E dX5_userOnce_98 (tgt := 102) rfl ?_
        exact Rt (nI 0) (goOnS (wrongS (nI 4) (goOnS σ))) dX5_userOnce_102 (⟨by unfold uoN; rw [if_neg (fun h => h.2.2 tn)], by unfold uoS; rw [if_pos c8, if_pos c18, if_pos tn, wrongS_go (by decide)]⟩) rfl (Nat.le_refl _) (Nat.le_refl _) rfl E.2.2.2.2.2.1
    · refine s_aload_n E dX5_userOnce_21 (i := 0) (j := 0) rfl rfl ?_
      refine s_iconst E dX5_userOnce_22 (v := nI 1) (by decide) ?_
      refine m_callv E (mz_wrong (nI 1)) K5_155 (Nat.le_of_ble_eq_true rfl) (Nat.le_of_ble_eq_true rfl) (Nat.zero_le _) (Nat.zero_le _) rfl rfl (Nat.le_of_ble_eq_true rfl) dX5_userOnce_23 (fun w23 h23 => ?_)
      subst h23
      have hw := wrongS_f (s := goOnS σ) (v := nI 1) (by decide)
      refine s_aload_n E dX5_userOnce_26 (i := 0) (j := 0) rfl rfl ?_
      refine mg21 E (v := (wrongS (nI 1) (goOnS σ)) 0 21) (rfl) dX5_userOnce_27 ?_
      refine s_if_ne E dX5_userOnce_30 (tgt := 52) rfl (fun c30 => ?_) (fun c30 => absurd c30 hw)
      refine s_iconst E dX5_userOnce_52 (v := nI 0) (by decide) ?_
      refine s_istore_n E (L2 := [(2, .int (nI 0)), (0, .ref (ad 0)), (1, .ref (ad 10))]) dX5_userOnce_53 rfl (Nat.le_of_ble_eq_true rfl) rfl ?_
      refine s_iload_n E dX5_userOnce_54 (i := 2) (j := 0) rfl rfl ?_
      refine s_iconst E dX5_userOnce_55 (v := (-1)) (by decide) ?_
      refine s_icmp_ne E dX5_userOnce_56 (tgt := 67) rfl (fun c56 => ?_) (fun c56 => absurd c56 (by decide))
      refine s_aload_n E dX5_userOnce_67 (i := 0) (j := 1) rfl rfl ?_
      refine mg21 E (v := (wrongS (nI 1) (goOnS σ)) 0 21) (rfl) dX5_userOnce_68 ?_
      refine s_if_ne E dX5_userOnce_71 (tgt := 88) rfl (fun c71 => ?_) (fun c71 => absurd c71 hw)
      refine s_aload_n E dX5_userOnce_88 (i := 0) (j := 1) rfl rfl ?_
      refine m_callv E (mz_goOn (by first | exact hR.goOn | exact hR.goOn.wrong _)) K5_159 (Nat.le_of_ble_eq_true rfl) (Nat.le_of_ble_eq_true rfl) (Nat.zero_le _) (Nat.zero_le _) rfl rfl (Nat.le_of_ble_eq_true rfl) dX5_userOnce_89 (fun w89 h89 => ?_)
      subst h89
      refine s_iload_n E dX5_userOnce_92 (i := 2) (j := 0) rfl rfl ?_
      refine s_iconst E dX5_userOnce_93 (v := (-1)) (by decide) ?_
      refine s_icmp_ne E dX5_userOnce_94 (tgt := 101) rfl (fun c94 => ?_) (fun c94 => absurd c94 (by decide))
      refine s_iload_n E dX5_userOnce_101 (i := 2) (j := 0) rfl rfl ?_
      exact Rt (nI 0) (goOnS (wrongS (nI 1) (goOnS σ))) dX5_userOnce_102 (⟨by unfold uoN; rw [if_neg (fun h => c18 h.2.1)], by unfold uoS; rw [if_pos c8, if_neg c18, wrongS_go (by decide)]⟩) rfl (Nat.le_refl _) (Nat.le_refl _) rfl E.2.2.2.2.2.1
  · refine s_iconst E dX5_userOnce_11 (v := nI 0) (by decide) ?_
    exact Rt (nI 0) (goOnS σ) dX5_userOnce_12 (⟨by unfold uoN; rw [if_neg (fun h => c8 h.1)], by unfold uoS; rw [if_neg c8]⟩) rfl (Nat.le_refl _) (Nat.le_refl _) rfl E.2.2.2.2.2.1
set_option maxHeartbeats 1000000 in
set_option maxRecDepth 100000 in
theorem mz_userOnce11 {σ : Nat → Nat → Int32} (n : Nat) (hn : σ 3 17 = nI n) (hn6 : n ≤ 6) (hR : RI σ) : Ct l D gt yX5_userOnce cX5_userOnce 3 .int 7 149 0 0 [.ref (ad 0), .ref (ad 11)] (wm ad ct σ) (tysA ct) (fun r σ2 => nI (uoN n σ) = r ∧ uoS 11 n σ = σ2) (fun σ2 => wm ad ct σ2) (fun _ => tysA ct) := by
  refine Ct.start RX5 (by decide) rfl (Nat.le_of_ble_eq_true rfl) rfl ?_
  intro pP eE sS mM aA bB hM cC QQ AA E Rt
  refine s_aload_n E dX5_userOnce_0 (i := 0) (j := 0) rfl rfl ?_
  refine m_callv E (mz_goOn (hR)) K5_159 (Nat.le_of_ble_eq_true rfl) (Nat.le_of_ble_eq_true rfl) (Nat.zero_le _) (Nat.zero_le _) rfl rfl (Nat.le_of_ble_eq_true rfl) dX5_userOnce_1 (fun w1 h1 => ?_)
  subst h1
  refine s_aload_n E dX5_userOnce_4 (i := 0) (j := 0) rfl rfl ?_
  refine mg21 E (v := (goOnS σ) 0 21) (rfl) dX5_userOnce_5 ?_
  refine s_if_eq E dX5_userOnce_8 (tgt := 13) rfl (fun c8 => ?_) (fun c8 => ?_)
  · refine s_aload_n E dX5_userOnce_13 (i := 0) (j := 0) rfl rfl ?_
    refine mg19 E (v := (goOnS σ) 0 19) (rfl) dX5_userOnce_14 ?_
    refine s_iconst E dX5_userOnce_17 (v := nI 1) (by decide) ?_
    refine s_icmp_eq E dX5_userOnce_18 (tgt := 26) rfl (fun c18 => ?_) (fun c18 => ?_)
    · refine s_aload_n E dX5_userOnce_26 (i := 0) (j := 0) rfl rfl ?_
      refine mg21 E (v := (goOnS σ) 0 21) (rfl) dX5_userOnce_27 ?_
      refine s_if_ne E dX5_userOnce_30 (tgt := 52) rfl (fun c30 => absurd c8 c30) (fun c30 => ?_)
      refine s_aload_n E dX5_userOnce_33 (i := 0) (j := 0) rfl rfl ?_
      refine s_bipush E dX5_userOnce_34 (v := nI 6) (by decide) ?_
      refine s_aload_n E dX5_userOnce_36 (i := 0) (j := 0) rfl rfl ?_
      refine s_bipush E dX5_userOnce_37 (v := nI 7) (by decide) ?_
      refine m_calli E (mz_reading 7 (by decide)) K5_181 (Nat.le_of_ble_eq_true rfl) (Nat.le_of_ble_eq_true rfl) (Nat.zero_le _) (Nat.zero_le _) rfl rfl (Nat.le_of_ble_eq_true rfl) dX5_userOnce_39 (fun r39 w39 h39 => ?_)
      obtain ⟨rfl, rfl⟩ := h39
      refine s_top (v2 := nI n) (by rw [goOnS_r (by decide)]; exact hn) ?_
      refine s_aload_n E dX5_userOnce_42 (i := 0) (j := 0) rfl rfl ?_
      refine mg20 E (v := (goOnS σ) 0 20) (rfl) dX5_userOnce_43 ?_
      refine m_calli E (mz_namedAt 6 n (goOnS σ 0 20) (by omega)) K5_185 (Nat.le_of_ble_eq_true rfl) (Nat.le_of_ble_eq_true rfl) (Nat.zero_le _) (Nat.zero_le _) rfl rfl (Nat.le_of_ble_eq_true rfl) dX5_userOnce_46 (fun r46 w46 h46 => ?_)
      obtain ⟨rfl, rfl⟩ := h46
      refine s_top (v2 := nameF (goOnS σ) 6 (goOnS σ 0 20) n) (rfl) ?_
      refine s_goto E dX5_userOnce_49 (tgt := 53) rfl ?_
      refine s_istore_n E (L2 := [(2, .int (nameF (goOnS σ) 6 (goOnS σ 0 20) n)), (0, .ref (ad 0)), (1, .ref (ad 11))]) dX5_userOnce_53 rfl (Nat.le_of_ble_eq_true rfl) rfl ?_
      refine s_iload_n E dX5_userOnce_54 (i := 2) (j := 0) rfl rfl ?_
      refine s_iconst E dX5_userOnce_55 (v := (-1)) (by decide) ?_
      refine s_icmp_ne E dX5_userOnce_56 (tgt := 67) rfl (fun c56 => ?_) (fun c56 => ?_)
      · obtain ⟨j, hj, hv⟩ := (nameF_of (s := goOnS σ) (b := 6) (x := goOnS σ 0 20) n).resolve_left c56
        have tj := hv
        have tnn := c56
        rw [hv]
        refine s_aload_n E dX5_userOnce_67 (i := 0) (j := 1) rfl rfl ?_
        refine mg21 E (v := (goOnS σ) 0 21) (rfl) dX5_userOnce_68 ?_
        refine s_if_ne E dX5_userOnce_71 (tgt := 88) rfl (fun c71 => absurd c8 c71) (fun c71 => ?_)
        refine s_aload_n E dX5_userOnce_74 (i := 1) (j := 2) rfl rfl ?_
        refine s_bipush E dX5_userOnce_75 (v := nI 6) (by decide) ?_
        refine s_iload_n E dX5_userOnce_77 (i := 2) (j := 0) rfl rfl ?_
        refine s_iadd_ E dX5_userOnce_78 (v := nI (6 + j)) (nI_add _ _) ?_
        refine ml11 E (v := (goOnS σ) 11 (6 + j)) (6 + j) (rfl) (by omega) (rfl) dX5_userOnce_79 ?_
        refine s_if_le E dX5_userOnce_80 (tgt := 88) rfl (fun c80 => ?_) (fun c80 => ?_)
        · have c80 := Int32.not_lt.mpr c80
          refine s_aload_n E dX5_userOnce_88 (i := 0) (j := 1) rfl rfl ?_
          refine m_callv E (mz_goOn (by first | exact hR.goOn | exact hR.goOn.wrong _)) K5_159 (Nat.le_of_ble_eq_true rfl) (Nat.le_of_ble_eq_true rfl) (Nat.zero_le _) (Nat.zero_le _) rfl rfl (Nat.le_of_ble_eq_true rfl) dX5_userOnce_89 (fun w89 h89 => ?_)
          subst h89
          refine s_iload_n E dX5_userOnce_92 (i := 2) (j := 0) rfl rfl ?_
          refine s_iconst E dX5_userOnce_93 (v := (-1)) (by decide) ?_
          refine s_icmp_ne E dX5_userOnce_94 (tgt := 101) rfl (fun c94 => ?_) (fun c94 => absurd c94 ((In.of (n := j) (k := 6) (by omega) (by decide)).m1 (by decide)))
          refine s_iload_n E dX5_userOnce_101 (i := 2) (j := 0) rfl rfl ?_
          exact Rt (nI j) (goOnS (goOnS σ)) dX5_userOnce_102 (⟨by unfold uoN; rw [if_pos ⟨c8, c18, tnn⟩, tj, tN_nI (by omega)], by unfold uoS; rw [if_pos c8, if_pos c18, if_neg tnn, tj, tN_nI (by omega), if_neg c80, goOnS_0 c8]⟩) rfl (Nat.le_refl _) (Nat.le_refl _) rfl E.2.2.2.2.2.1
        · have c80 := Int32.not_le.mp c80
          refine s_aload_n E dX5_userOnce_83 (i := 0) (j := 1) rfl rfl ?_
          refine s_iconst E dX5_userOnce_84 (v := nI 3) (by decide) ?_
          refine m_callv E (mz_wrong (nI 3)) K5_155 (Nat.le_of_ble_eq_true rfl) (Nat.le_of_ble_eq_true rfl) (Nat.zero_le _) (Nat.zero_le _) rfl rfl (Nat.le_of_ble_eq_true rfl) dX5_userOnce_85 (fun w85 h85 => ?_)
          subst h85
          refine s_aload_n E dX5_userOnce_88 (i := 0) (j := 1) rfl rfl ?_
          refine m_callv E (mz_goOn (by first | exact hR.goOn | exact hR.goOn.wrong _)) K5_159 (Nat.le_of_ble_eq_true rfl) (Nat.le_of_ble_eq_true rfl) (Nat.zero_le _) (Nat.zero_le _) rfl rfl (Nat.le_of_ble_eq_true rfl) dX5_userOnce_89 (fun w89 h89 => ?_)
          subst h89
          refine s_iload_n E dX5_userOnce_92 (i := 2) (j := 0) rfl rfl ?_
          refine s_iconst E dX5_userOnce_93 (v := (-1)) (by decide) ?_
          refine s_icmp_ne E dX5_userOnce_94 (tgt := 101) rfl (fun c94 => ?_) (fun c94 => absurd c94 ((In.of (n := j) (k := 6) (by omega) (by decide)).m1 (by decide)))
          refine s_iload_n E dX5_userOnce_101 (i := 2) (j := 0) rfl rfl ?_
          exact Rt (nI j) (goOnS (wrongS (nI 3) (goOnS σ))) dX5_userOnce_102 (⟨by unfold uoN; rw [if_pos ⟨c8, c18, tnn⟩, tj, tN_nI (by omega)], by unfold uoS; rw [if_pos c8, if_pos c18, if_neg tnn, tj, tN_nI (by omega), if_pos c80, wrongS_go (by decide)]⟩) rfl (Nat.le_refl _) (Nat.le_refl _) rfl E.2.2.2.2.2.1
      · have tn := c56
        refine s_aload_n E dX5_userOnce_59 (i := 0) (j := 1) rfl rfl ?_
        refine s_iconst E dX5_userOnce_60 (v := nI 4) (by decide) ?_
        refine m_callv E (mz_wrong (nI 4)) K5_155 (Nat.le_of_ble_eq_true rfl) (Nat.le_of_ble_eq_true rfl) (Nat.zero_le _) (Nat.zero_le _) rfl rfl (Nat.le_of_ble_eq_true rfl) dX5_userOnce_61 (fun w61 h61 => ?_)
        subst h61
        refine s_goto E dX5_userOnce_64 (tgt := 88) rfl ?_
        refine s_aload_n E dX5_userOnce_88 (i := 0) (j := 1) rfl rfl ?_
        refine m_callv E (mz_goOn (by first | exact hR.goOn | exact hR.goOn.wrong _)) K5_159 (Nat.le_of_ble_eq_true rfl) (Nat.le_of_ble_eq_true rfl) (Nat.zero_le _) (Nat.zero_le _) rfl rfl (Nat.le_of_ble_eq_true rfl) dX5_userOnce_89 (fun w89 h89 => ?_)
        subst h89
        refine s_iload_n E dX5_userOnce_92 (i := 2) (j := 0) rfl rfl ?_
        refine s_iconst E dX5_userOnce_93 (v := (-1)) (by decide) ?_
        refine s_icmp_ne E dX5_userOnce_94 (tgt := 101) rfl (fun c94 => absurd tn c94) (fun c94 => ?_)
        refine s_iconst E dX5_userOnce_97 (v := nI 0) (by decide) ?_
        refine s_goto E dX5_userOnce_98 (tgt := 102) rfl ?_
        exact Rt (nI 0) (goOnS (wrongS (nI 4) (goOnS σ))) dX5_userOnce_102 (⟨by unfold uoN; rw [if_neg (fun h => h.2.2 tn)], by unfold uoS; rw [if_pos c8, if_pos c18, if_pos tn, wrongS_go (by decide)]⟩) rfl (Nat.le_refl _) (Nat.le_refl _) rfl E.2.2.2.2.2.1
    · refine s_aload_n E dX5_userOnce_21 (i := 0) (j := 0) rfl rfl ?_
      refine s_iconst E dX5_userOnce_22 (v := nI 1) (by decide) ?_
      refine m_callv E (mz_wrong (nI 1)) K5_155 (Nat.le_of_ble_eq_true rfl) (Nat.le_of_ble_eq_true rfl) (Nat.zero_le _) (Nat.zero_le _) rfl rfl (Nat.le_of_ble_eq_true rfl) dX5_userOnce_23 (fun w23 h23 => ?_)
      subst h23
      have hw := wrongS_f (s := goOnS σ) (v := nI 1) (by decide)
      refine s_aload_n E dX5_userOnce_26 (i := 0) (j := 0) rfl rfl ?_
      refine mg21 E (v := (wrongS (nI 1) (goOnS σ)) 0 21) (rfl) dX5_userOnce_27 ?_
      refine s_if_ne E dX5_userOnce_30 (tgt := 52) rfl (fun c30 => ?_) (fun c30 => absurd c30 hw)
      refine s_iconst E dX5_userOnce_52 (v := nI 0) (by decide) ?_
      refine s_istore_n E (L2 := [(2, .int (nI 0)), (0, .ref (ad 0)), (1, .ref (ad 11))]) dX5_userOnce_53 rfl (Nat.le_of_ble_eq_true rfl) rfl ?_
      refine s_iload_n E dX5_userOnce_54 (i := 2) (j := 0) rfl rfl ?_
      refine s_iconst E dX5_userOnce_55 (v := (-1)) (by decide) ?_
      refine s_icmp_ne E dX5_userOnce_56 (tgt := 67) rfl (fun c56 => ?_) (fun c56 => absurd c56 (by decide))
      refine s_aload_n E dX5_userOnce_67 (i := 0) (j := 1) rfl rfl ?_
      refine mg21 E (v := (wrongS (nI 1) (goOnS σ)) 0 21) (rfl) dX5_userOnce_68 ?_
      refine s_if_ne E dX5_userOnce_71 (tgt := 88) rfl (fun c71 => ?_) (fun c71 => absurd c71 hw)
      refine s_aload_n E dX5_userOnce_88 (i := 0) (j := 1) rfl rfl ?_
      refine m_callv E (mz_goOn (by first | exact hR.goOn | exact hR.goOn.wrong _)) K5_159 (Nat.le_of_ble_eq_true rfl) (Nat.le_of_ble_eq_true rfl) (Nat.zero_le _) (Nat.zero_le _) rfl rfl (Nat.le_of_ble_eq_true rfl) dX5_userOnce_89 (fun w89 h89 => ?_)
      subst h89
      refine s_iload_n E dX5_userOnce_92 (i := 2) (j := 0) rfl rfl ?_
      refine s_iconst E dX5_userOnce_93 (v := (-1)) (by decide) ?_
      refine s_icmp_ne E dX5_userOnce_94 (tgt := 101) rfl (fun c94 => ?_) (fun c94 => absurd c94 (by decide))
      refine s_iload_n E dX5_userOnce_101 (i := 2) (j := 0) rfl rfl ?_
      exact Rt (nI 0) (goOnS (wrongS (nI 1) (goOnS σ))) dX5_userOnce_102 (⟨by unfold uoN; rw [if_neg (fun h => c18 h.2.1)], by unfold uoS; rw [if_pos c8, if_neg c18, wrongS_go (by decide)]⟩) rfl (Nat.le_refl _) (Nat.le_refl _) rfl E.2.2.2.2.2.1
  · refine s_iconst E dX5_userOnce_11 (v := nI 0) (by decide) ?_
    exact Rt (nI 0) (goOnS σ) dX5_userOnce_12 (⟨by unfold uoN; rw [if_neg (fun h => c8 h.1)], by unfold uoS; rw [if_neg c8]⟩) rfl (Nat.le_refl _) (Nat.le_refl _) rfl E.2.2.2.2.2.1
set_option maxHeartbeats 1000000 in
set_option maxRecDepth 100000 in
theorem mz_readFixed {σ : Nat → Nat → Int32} (n : Nat) (hn : σ 3 17 = nI n) (hn6 : n ≤ 6) (hR : RI σ) : Cv l D gt yX5_readFixed cX5_readFixed 3 8 172 0 0 [.ref (ad 0)] (wm ad ct σ) (tysA ct) (fun σ2 => readFixedS n σ = σ2) (fun σ2 => wm ad ct σ2) (fun _ => tysA ct) := by
  refine Cv.start RX5 (by decide) rfl (Nat.le_of_ble_eq_true rfl) rfl ?_
  intro pP eE sS mM aA bB hM cC QQ AA E Rt
  refine s_aload_n E dX5_readFixed_0 (i := 0) (j := 0) rfl rfl ?_
  refine s_iconst E dX5_readFixed_1 (v := nI 1) (by decide) ?_
  refine mp14 E rfl rfl dX5_readFixed_2 ?_
  refine s_aload_n E dX5_readFixed_5 (i := 0) (j := 0) rfl rfl ?_
  refine s_aload_n E dX5_readFixed_6 (i := 0) (j := 0) rfl rfl ?_
  refine mg10 E dX5_readFixed_7 ?_
  refine m_calli E (mz_userOnce10 n (hn) (hn6) (hR.st (by decide) (by decide))) K5_189 (Nat.le_of_ble_eq_true rfl) (Nat.le_of_ble_eq_true rfl) (Nat.zero_le _) (Nat.zero_le _) rfl rfl (Nat.le_of_ble_eq_true rfl) dX5_readFixed_10 (fun r10 w10 h10 => ?_)
  obtain ⟨rfl, rfl⟩ := h10
  have hu := uoN_lt (s := st1 σ 0 14 (nI 1)) hn6
  refine s_ws (ws2 := wm ad ct (fx1 n σ)) (rfl) ?_
  refine s_istore_n E (L2 := [(1, .int (nI (uoN n (st1 σ 0 14 (nI 1))))), (0, .ref (ad 0))]) dX5_readFixed_13 rfl (Nat.le_of_ble_eq_true rfl) rfl ?_
  refine s_aload_n E dX5_readFixed_14 (i := 0) (j := 1) rfl rfl ?_
  refine s_iconst E dX5_readFixed_15 (v := nI 1) (by decide) ?_
  refine s_aload_n E dX5_readFixed_16 (i := 0) (j := 1) rfl rfl ?_
  refine s_iconst E dX5_readFixed_17 (v := nI 0) (by decide) ?_
  refine m_calli E (mz_reading 0 (by decide)) K5_181 (Nat.le_of_ble_eq_true rfl) (Nat.le_of_ble_eq_true rfl) (Nat.zero_le _) (Nat.zero_le _) rfl rfl (Nat.le_of_ble_eq_true rfl) dX5_readFixed_18 (fun r18 w18 h18 => ?_)
  obtain ⟨rfl, rfl⟩ := h18
  refine s_top (v2 := fx1 n σ 3 10) (rfl) ?_
  refine m_calli E (mz_numeral (nI 1) (fx1 n σ 3 10) (hR.rfx1)) K5_165 (Nat.le_of_ble_eq_true rfl) (Nat.le_of_ble_eq_true rfl) (Nat.zero_le _) (Nat.zero_le _) rfl rfl (Nat.le_of_ble_eq_true rfl) dX5_readFixed_21 (fun r21 w21 h21 => ?_)
  obtain ⟨rfl, rfl⟩ := h21
  refine s_ws (ws2 := wm ad ct (fx2 n σ)) (rfl) ?_
  refine s_istore_n E (L2 := [(2, .int (numV (nI 1) (fx1 n σ 3 10) (fx1 n σ))), (1, .int (nI (uoN n (st1 σ 0 14 (nI 1))))), (0, .ref (ad 0))]) dX5_readFixed_24 rfl (Nat.le_of_ble_eq_true rfl) rfl ?_
  refine s_aload_n E dX5_readFixed_25 (i := 0) (j := 2) rfl rfl ?_
  refine mg21 E (v := (fx2 n σ) 0 21) (rfl) dX5_readFixed_26 ?_
  refine s_if_ne E dX5_readFixed_29 (tgt := 42) rfl (fun c29 => ?_) (fun c29 => ?_)
  · exact Rt (fx2 n σ) dX5_readFixed_42 (by unfold readFixedS; rw [if_neg c29]) rfl (Nat.le_refl _) (Nat.le_refl _) E.2.2.2.2.2.1
  · refine s_aload_n E dX5_readFixed_32 (i := 0) (j := 2) rfl rfl ?_
    refine mg10 E dX5_readFixed_33 ?_
    refine s_bipush E dX5_readFixed_36 (v := nI 6) (by decide) ?_
    refine s_iload_n E dX5_readFixed_38 (i := 1) (j := 1) rfl rfl ?_
    refine s_iadd_ E dX5_readFixed_39 (v := nI (6 + (uoN n (st1 σ 0 14 (nI 1))))) (nI_add _ _) ?_
    refine s_iload_n E dX5_readFixed_40 (i := 2) (j := 0) rfl rfl ?_
    refine ms10 E (6 + (uoN n (st1 σ 0 14 (nI 1)))) (rfl) (by omega) dX5_readFixed_41 ?_
    exact Rt (st1 (fx2 n σ) 10 (6 + (uoN n (st1 σ 0 14 (nI 1)))) (numV (nI 1) (fx1 n σ 3 10) (fx1 n σ))) dX5_readFixed_42 (by unfold readFixedS; rw [if_pos c29]) rfl (Nat.le_refl _) (Nat.le_refl _) E.2.2.2.2.2.1
set_option maxHeartbeats 1000000 in
set_option maxRecDepth 100000 in
theorem mz_readSlots {σ : Nat → Nat → Int32} (n : Nat) (hn : σ 3 17 = nI n) (hn6 : n ≤ 6) (hR : RI σ) : Cv l D gt yX5_readSlots cX5_readSlots 3 8 172 0 0 [.ref (ad 0)] (wm ad ct σ) (tysA ct) (fun σ2 => readSlotsS n σ = σ2) (fun σ2 => wm ad ct σ2) (fun _ => tysA ct) := by
  refine Cv.start RX5 (by decide) rfl (Nat.le_of_ble_eq_true rfl) rfl ?_
  intro pP eE sS mM aA bB hM cC QQ AA E Rt
  refine s_aload_n E dX5_readSlots_0 (i := 0) (j := 0) rfl rfl ?_
  refine s_aload_n E dX5_readSlots_1 (i := 0) (j := 0) rfl rfl ?_
  refine mg11 E dX5_readSlots_2 ?_
  refine m_calli E (mz_userOnce11 n (hn) (hn6) (hR)) K5_189 (Nat.le_of_ble_eq_true rfl) (Nat.le_of_ble_eq_true rfl) (Nat.zero_le _) (Nat.zero_le _) rfl rfl (Nat.le_of_ble_eq_true rfl) dX5_readSlots_5 (fun r5 w5 h5 => ?_)
  obtain ⟨rfl, rfl⟩ := h5
  have hu := uoN_lt (s := σ) hn6
  refine s_istore_n E (L2 := [(1, .int (nI (uoN n σ))), (0, .ref (ad 0))]) dX5_readSlots_8 rfl (Nat.le_of_ble_eq_true rfl) rfl ?_
  refine s_aload_n E dX5_readSlots_9 (i := 0) (j := 1) rfl rfl ?_
  refine s_iconst E dX5_readSlots_10 (v := nI 1) (by decide) ?_
  refine s_sipush E dX5_readSlots_11 (v := nI 255) (by decide) ?_
  refine m_calli E (mz_numeral (nI 1) (nI 255) (hR.uo)) K5_165 (Nat.le_of_ble_eq_true rfl) (Nat.le_of_ble_eq_true rfl) (Nat.zero_le _) (Nat.zero_le _) rfl rfl (Nat.le_of_ble_eq_true rfl) dX5_readSlots_14 (fun r14 w14 h14 => ?_)
  obtain ⟨rfl, rfl⟩ := h14
  refine s_ws (ws2 := wm ad ct (sl2 n σ)) (rfl) ?_
  refine s_istore_n E (L2 := [(2, .int (numV (nI 1) (nI 255) (uoS 11 n σ))), (1, .int (nI (uoN n σ))), (0, .ref (ad 0))]) dX5_readSlots_17 rfl (Nat.le_of_ble_eq_true rfl) rfl ?_
  refine s_aload_n E dX5_readSlots_18 (i := 0) (j := 2) rfl rfl ?_
  refine mg21 E (v := (sl2 n σ) 0 21) (rfl) dX5_readSlots_19 ?_
  refine s_if_ne E dX5_readSlots_22 (tgt := 35) rfl (fun c22 => ?_) (fun c22 => ?_)
  · exact Rt (sl2 n σ) dX5_readSlots_35 (by unfold readSlotsS; rw [if_neg c22]) rfl (Nat.le_refl _) (Nat.le_refl _) E.2.2.2.2.2.1
  · refine s_aload_n E dX5_readSlots_25 (i := 0) (j := 2) rfl rfl ?_
    refine mg11 E dX5_readSlots_26 ?_
    refine s_bipush E dX5_readSlots_29 (v := nI 6) (by decide) ?_
    refine s_iload_n E dX5_readSlots_31 (i := 1) (j := 1) rfl rfl ?_
    refine s_iadd_ E dX5_readSlots_32 (v := nI (6 + (uoN n σ))) (nI_add _ _) ?_
    refine s_iload_n E dX5_readSlots_33 (i := 2) (j := 0) rfl rfl ?_
    refine ms11 E (6 + (uoN n σ)) (rfl) (by omega) dX5_readSlots_34 ?_
    exact Rt (st1 (sl2 n σ) 11 (6 + (uoN n σ)) (numV (nI 1) (nI 255) (uoS 11 n σ))) dX5_readSlots_35 (by unfold readSlotsS; rw [if_pos c22]) rfl (Nat.le_refl _) (Nat.le_refl _) E.2.2.2.2.2.1
set_option maxHeartbeats 1000000 in
set_option maxRecDepth 100000 in
theorem mz_readLink {σ : Nat → Nat → Int32}  (hR : RI σ) : Cv l D gt yX5_readLink cX5_readLink 4 8 172 0 0 [.ref (ad 0)] (wm ad ct σ) (tysA ct) (fun σ2 => readLinkS σ = σ2) (fun σ2 => wm ad ct σ2) (fun _ => tysA ct) := by
  refine Cv.start RX5 (by decide) rfl (Nat.le_of_ble_eq_true rfl) rfl ?_
  intro pP eE sS mM aA bB hM cC QQ AA E Rt
  refine s_aload_n E dX5_readLink_0 (i := 0) (j := 0) rfl rfl ?_
  refine m_callv E (mz_goOn (hR)) K5_159 (Nat.le_of_ble_eq_true rfl) (Nat.le_of_ble_eq_true rfl) (Nat.zero_le _) (Nat.zero_le _) rfl rfl (Nat.le_of_ble_eq_true rfl) dX5_readLink_1 (fun w1 h1 => ?_)
  subst h1
  refine s_aload_n E dX5_readLink_4 (i := 0) (j := 0) rfl rfl ?_
  refine s_iconst E dX5_readLink_5 (v := nI 0) (by decide) ?_
  refine s_iconst E dX5_readLink_6 (v := nI 2) (by decide) ?_
  refine m_calli E (mz_numeral (nI 0) (nI 2) (hR.goOn)) K5_165 (Nat.le_of_ble_eq_true rfl) (Nat.le_of_ble_eq_true rfl) (Nat.zero_le _) (Nat.zero_le _) rfl rfl (Nat.le_of_ble_eq_true rfl) dX5_readLink_7 (fun r7 w7 h7 => ?_)
  obtain ⟨rfl, rfl⟩ := h7
  refine s_top (v2 := nI (lkA σ)) ((lkA_3 σ).1) ?_
  have hA := (lkA_3 σ).2
  have hB := lkB_3 hR
  refine s_ws (ws2 := wm ad ct (lk2 σ)) (rfl) ?_
  refine s_istore_n E (L2 := [(1, .int (nI (lkA σ))), (0, .ref (ad 0))]) dX5_readLink_10 rfl (Nat.le_of_ble_eq_true rfl) rfl ?_
  refine s_aload_n E dX5_readLink_11 (i := 0) (j := 1) rfl rfl ?_
  refine mg21 E (v := (lk2 σ) 0 21) (rfl) dX5_readLink_12 ?_
  have J31 : Sm pP l eE { frames := 8, cells := 0, slots := 0, locals := 172 } sS mM aA bB hM cC QQ AA D 4 0 0 (wm ad ct (lk3 σ)) 31 [(1, .int (nI (lkA σ))), (0, .ref (ad 0))] [] := by
    refine s_aload_n E dX5_readLink_31 (i := 0) (j := 1) rfl rfl ?_
    refine mg21 E (v := (lk3 σ) 0 21) (rfl) dX5_readLink_32 ?_
    have J59 : Sm pP l eE { frames := 8, cells := 0, slots := 0, locals := 172 } sS mM aA bB hM cC QQ AA D 4 0 0 (wm ad ct (lk4 σ)) 59 [(1, .int (nI (lkA σ))), (0, .ref (ad 0))] [] := by
      refine s_aload_n E dX5_readLink_59 (i := 0) (j := 1) rfl rfl ?_
      refine mg21 E (v := (lk4 σ) 0 21) (rfl) dX5_readLink_60 ?_
      have J74 : Sm pP l eE { frames := 8, cells := 0, slots := 0, locals := 172 } sS mM aA bB hM cC QQ AA D 4 0 0 (wm ad ct (lk4 σ)) 74 [(1, .int (nI (lkA σ))), (0, .ref (ad 0))] [.int (nI (lkB σ))] := by
        refine s_istore_n E (L2 := [(2, .int (nI (lkB σ))), (1, .int (nI (lkA σ))), (0, .ref (ad 0))]) dX5_readLink_74 rfl (Nat.le_of_ble_eq_true rfl) rfl ?_
        refine s_aload_n E dX5_readLink_75 (i := 0) (j := 2) rfl rfl ?_
        refine mg21 E (v := (lk4 σ) 0 21) (rfl) dX5_readLink_76 ?_
        have J105 : Sm pP l eE { frames := 8, cells := 0, slots := 0, locals := 172 } sS mM aA bB hM cC QQ AA D 4 0 0 (wm ad ct (lk5 σ)) 105 [(2, .int (nI (lkB σ))), (1, .int (nI (lkA σ))), (0, .ref (ad 0))] [] := by
          refine s_aload_n E dX5_readLink_105 (i := 0) (j := 2) rfl rfl ?_
          refine m_callv E (mz_goOn (hR.rlk5)) K5_159 (Nat.le_of_ble_eq_true rfl) (Nat.le_of_ble_eq_true rfl) (Nat.zero_le _) (Nat.zero_le _) rfl rfl (Nat.le_of_ble_eq_true rfl) dX5_readLink_106 (fun w106 h106 => ?_)
          subst h106
          refine s_aload_n E dX5_readLink_109 (i := 0) (j := 2) rfl rfl ?_
          refine s_iconst E dX5_readLink_110 (v := nI 0) (by decide) ?_
          refine s_bipush E dX5_readLink_111 (v := nI 99) (by decide) ?_
          refine m_calli E (mz_numeral (nI 0) (nI 99) (hR.rlk5.goOn)) K5_165 (Nat.le_of_ble_eq_true rfl) (Nat.le_of_ble_eq_true rfl) (Nat.zero_le _) (Nat.zero_le _) rfl rfl (Nat.le_of_ble_eq_true rfl) dX5_readLink_113 (fun r113 w113 h113 => ?_)
          obtain ⟨rfl, rfl⟩ := h113
          refine s_ws (ws2 := wm ad ct (lk7 σ)) (rfl) ?_
          refine s_istore_n E (L2 := [(3, .int (numV (nI 0) (nI 99) (goOnS (lk5 σ)))), (2, .int (nI (lkB σ))), (1, .int (nI (lkA σ))), (0, .ref (ad 0))]) dX5_readLink_116 rfl (Nat.le_of_ble_eq_true rfl) rfl ?_
          refine s_aload_n E dX5_readLink_117 (i := 0) (j := 3) rfl rfl ?_
          refine mg21 E (v := (lk7 σ) 0 21) (rfl) dX5_readLink_118 ?_
          refine s_if_eq E dX5_readLink_121 (tgt := 125) rfl (fun c121 => ?_) (fun c121 => ?_)
          · refine s_aload_n E dX5_readLink_125 (i := 0) (j := 3) rfl rfl ?_
            refine mg12 E dX5_readLink_126 ?_
            refine s_bipush E dX5_readLink_129 (v := nI 9) (by decide) ?_
            refine s_iconst E dX5_readLink_131 (v := nI 3) (by decide) ?_
            refine s_iload_n E dX5_readLink_132 (i := 1) (j := 2) rfl rfl ?_
            refine s_imul_ E dX5_readLink_133 (v := nI (3 * (lkA σ))) (pk_mul _ _) ?_
            refine s_iadd_ E dX5_readLink_134 (v := nI (9 + (3 * (lkA σ)))) (nI_add _ _) ?_
            refine s_iload_n E dX5_readLink_135 (i := 2) (j := 1) rfl rfl ?_
            refine s_iadd_ E dX5_readLink_136 (v := nI ((9 + (3 * (lkA σ))) + (lkB σ))) (nI_add _ _) ?_
            refine s_iload_n E dX5_readLink_137 (i := 3) (j := 0) rfl rfl ?_
            refine ms12 E ((9 + (3 * (lkA σ))) + (lkB σ)) (rfl) (by omega) dX5_readLink_138 ?_
            refine s_aload_n E dX5_readLink_139 (i := 0) (j := 3) rfl rfl ?_
            refine mg12 E dX5_readLink_140 ?_
            refine s_bipush E dX5_readLink_143 (v := nI 9) (by decide) ?_
            refine s_iconst E dX5_readLink_145 (v := nI 3) (by decide) ?_
            refine s_iload_n E dX5_readLink_146 (i := 2) (j := 1) rfl rfl ?_
            refine s_imul_ E dX5_readLink_147 (v := nI (3 * (lkB σ))) (pk_mul _ _) ?_
            refine s_iadd_ E dX5_readLink_148 (v := nI (9 + (3 * (lkB σ)))) (nI_add _ _) ?_
            refine s_iload_n E dX5_readLink_149 (i := 1) (j := 2) rfl rfl ?_
            refine s_iadd_ E dX5_readLink_150 (v := nI ((9 + (3 * (lkB σ))) + (lkA σ))) (nI_add _ _) ?_
            refine s_iload_n E dX5_readLink_151 (i := 3) (j := 0) rfl rfl ?_
            refine ms12 E ((9 + (3 * (lkB σ))) + (lkA σ)) (rfl) (by omega) dX5_readLink_152 ?_
            exact Rt (st1 (st1 (lk7 σ) 12 ((9 + (3 * (lkA σ))) + (lkB σ)) (numV (nI 0) (nI 99) (goOnS (lk5 σ)))) 12 ((9 + (3 * (lkB σ))) + (lkA σ)) (numV (nI 0) (nI 99) (goOnS (lk5 σ)))) dX5_readLink_153 (by unfold readLinkS; rw [if_pos c121]; rfl) rfl (Nat.le_refl _) (Nat.le_refl _) E.2.2.2.2.2.1
          · exact Rt (lk7 σ) dX5_readLink_124 (by unfold readLinkS; rw [if_neg c121]) rfl (Nat.le_refl _) (Nat.le_refl _) E.2.2.2.2.2.1
        refine s_if_ne E dX5_readLink_79 (tgt := 105) rfl (fun c79 => ?_) (fun c79 => ?_)
        · refine s_ws (ws2 := wm ad ct (lk5 σ)) (by simp [bI, lk5, c79]) ?_
          exact J105
        · refine s_aload_n E dX5_readLink_82 (i := 0) (j := 2) rfl rfl ?_
          refine mg12 E dX5_readLink_83 ?_
          refine s_bipush E dX5_readLink_86 (v := nI 9) (by decide) ?_
          refine s_iconst E dX5_readLink_88 (v := nI 3) (by decide) ?_
          refine s_iload_n E dX5_readLink_89 (i := 1) (j := 1) rfl rfl ?_
          refine s_imul_ E dX5_readLink_90 (v := nI (3 * (lkA σ))) (pk_mul _ _) ?_
          refine s_iadd_ E dX5_readLink_91 (v := nI (9 + (3 * (lkA σ)))) (nI_add _ _) ?_
          refine s_iload_n E dX5_readLink_92 (i := 2) (j := 0) rfl rfl ?_
          refine s_iadd_ E dX5_readLink_93 (v := nI ((9 + (3 * (lkA σ))) + (lkB σ))) (nI_add _ _) ?_
          refine ml12 E (v := (lk4 σ) 12 ((9 + (3 * (lkA σ))) + (lkB σ))) ((9 + (3 * (lkA σ))) + (lkB σ)) (rfl) (by omega) (rfl) dX5_readLink_94 ?_
          refine s_bipush E dX5_readLink_95 (v := (-2)) (by decide) ?_
          refine s_icmp_eq E dX5_readLink_97 (tgt := 105) rfl (fun c97 => ?_) (fun c97 => ?_)
          · refine s_ws (ws2 := wm ad ct (lk5 σ)) (by simp [bI, lk5, c79, c97]) ?_
            exact J105
          · refine s_aload_n E dX5_readLink_100 (i := 0) (j := 2) rfl rfl ?_
            refine s_iconst E dX5_readLink_101 (v := nI 3) (by decide) ?_
            refine m_callv E (mz_wrong (nI 3)) K5_155 (Nat.le_of_ble_eq_true rfl) (Nat.le_of_ble_eq_true rfl) (Nat.zero_le _) (Nat.zero_le _) rfl rfl (Nat.le_of_ble_eq_true rfl) dX5_readLink_102 (fun w102 h102 => ?_)
            subst h102
            refine s_ws (ws2 := wm ad ct (lk5 σ)) (by simp [bI, lk5, c79, c97]) ?_
            exact J105
      refine s_if_ne E dX5_readLink_63 (tgt := 73) rfl (fun c63 => ?_) (fun c63 => ?_)
      · refine s_iconst E dX5_readLink_73 (v := nI 0) (by decide) ?_
        refine s_top (v2 := nI (lkB σ)) (by unfold lkB; rw [if_neg c63]) ?_
        exact J74
      · have t63 := c63
        refine s_aload_n E dX5_readLink_66 (i := 0) (j := 1) rfl rfl ?_
        refine mg20 E (v := (lk4 σ) 0 20) (rfl) dX5_readLink_67 ?_
        refine s_goto E dX5_readLink_70 (tgt := 74) rfl ?_
        refine s_top (v2 := nI (lkB σ)) ((lk4_s hR c63).2.2.2.2.1) ?_
        exact J74
    refine s_if_ne E dX5_readLink_35 (tgt := 59) rfl (fun c35 => ?_) (fun c35 => ?_)
    · refine s_ws (ws2 := wm ad ct (lk4 σ)) (by simp [bI, lk4, c35]) ?_
      exact J59
    · have kk3 := lk3_s c35
      refine s_aload_n E dX5_readLink_38 (i := 0) (j := 1) rfl rfl ?_
      refine mg20 E (v := (lk3 σ) 0 20) (rfl) dX5_readLink_39 ?_
      refine s_iconst E dX5_readLink_42 (v := nI 2) (by decide) ?_
      refine s_icmp_gt E dX5_readLink_43 (tgt := 54) rfl (fun c43 => ?_) (fun c43 => ?_)
      · refine s_aload_n E dX5_readLink_54 (i := 0) (j := 1) rfl rfl ?_
        refine s_iconst E dX5_readLink_55 (v := nI 2) (by decide) ?_
        refine m_callv E (mz_wrong (nI 2)) K5_155 (Nat.le_of_ble_eq_true rfl) (Nat.le_of_ble_eq_true rfl) (Nat.zero_le _) (Nat.zero_le _) rfl rfl (Nat.le_of_ble_eq_true rfl) dX5_readLink_56 (fun w56 h56 => ?_)
        subst h56
        refine s_ws (ws2 := wm ad ct (lk4 σ)) (by simp [bI, lk4, c35, c43]) ?_
        exact J59
      · refine s_aload_n E dX5_readLink_46 (i := 0) (j := 1) rfl rfl ?_
        refine mg20 E (v := (lk3 σ) 0 20) (rfl) dX5_readLink_47 ?_
        refine s_iload_n E dX5_readLink_50 (i := 1) (j := 0) rfl rfl ?_
        refine s_icmp_ne E dX5_readLink_51 (tgt := 59) rfl (fun c51 => ?_) (fun c51 => ?_)
        · refine s_ws (ws2 := wm ad ct (lk4 σ)) (by simp [bI, lk4, c35, c43, c51]) ?_
          exact J59
        · refine s_aload_n E dX5_readLink_54 (i := 0) (j := 1) rfl rfl ?_
          refine s_iconst E dX5_readLink_55 (v := nI 2) (by decide) ?_
          refine m_callv E (mz_wrong (nI 2)) K5_155 (Nat.le_of_ble_eq_true rfl) (Nat.le_of_ble_eq_true rfl) (Nat.zero_le _) (Nat.zero_le _) rfl rfl (Nat.le_of_ble_eq_true rfl) dX5_readLink_56 (fun w56 h56 => ?_)
          subst h56
          refine s_ws (ws2 := wm ad ct (lk4 σ)) (by simp [bI, lk4, c35, c43, c51]) ?_
          exact J59
  refine s_if_ne E dX5_readLink_15 (tgt := 31) rfl (fun c15 => ?_) (fun c15 => ?_)
  · refine s_ws (ws2 := wm ad ct (lk3 σ)) (by simp [bI, lk3, c15]) ?_
    exact J31
  · refine s_aload_n E dX5_readLink_18 (i := 0) (j := 1) rfl rfl ?_
    refine mg19 E (v := (lk2 σ) 0 19) (rfl) dX5_readLink_19 ?_
    refine s_iconst E dX5_readLink_22 (v := nI 2) (by decide) ?_
    refine s_icmp_eq E dX5_readLink_23 (tgt := 31) rfl (fun c23 => ?_) (fun c23 => ?_)
    · refine s_ws (ws2 := wm ad ct (lk3 σ)) (by simp [bI, lk3, c15, c23]) ?_
      exact J31
    · refine s_aload_n E dX5_readLink_26 (i := 0) (j := 1) rfl rfl ?_
      refine s_iconst E dX5_readLink_27 (v := nI 1) (by decide) ?_
      refine m_callv E (mz_wrong (nI 1)) K5_155 (Nat.le_of_ble_eq_true rfl) (Nat.le_of_ble_eq_true rfl) (Nat.zero_le _) (Nat.zero_le _) rfl rfl (Nat.le_of_ble_eq_true rfl) dX5_readLink_28 (fun w28 h28 => ?_)
      subst h28
      refine s_ws (ws2 := wm ad ct (lk3 σ)) (by simp [bI, lk3, c15, c23]) ?_
      exact J31
end
