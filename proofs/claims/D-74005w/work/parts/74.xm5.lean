set_option maxRecDepth 100000
set_option maxHeartbeats 2000000 in
set_option maxRecDepth 100000 in
theorem x1z_bestSwap {l : Launch} {D : va_G} {gt : Nat → Nat} {ad : Nat → Nat} {ct : Nat → ClassId} {n : Nat} {τ σ : Nat → Nat → Int32} {T : va_W}  (hX : XT τ n) (hT : UT ad n τ T) (hP : PC (σ 1) n) (hbb : BB (σ 1)) : Ct l D gt yX1_bestSwap cX1_bestSwap 6 .int 7 170 0 0 [.ref (ad 0)] (iw ad ct n τ σ T) (tysA ct) (fun r σ2 => optI (bsO (vw τ (σ 1)) n n).1 = r ∧ XS σ σ2) (fun σ2 : Nat → Nat → Int32 => iw ad ct n τ σ2 T) (fun _ => tysA ct) := by
  refine Ct.start RX1 (by decide) rfl (Nat.le_of_ble_eq_true rfl) rfl ?_
  intro pP eE sS mM aA bB hM cC QQ AA E Rt
  have hn6 := hX.2.1
  have hB1 := hX.2.2.2.2.1
  have hB60 : tN (τ 3 0) ≤ 60 := by have := hB1.2; omega
  refine s_bipush E dX1_bestSwap_0 (v := (-2)) (by decide) ?_
  refine s_istore_n E (L2 := [(1, .int ((-2))), (0, .ref (ad 0))]) dX1_bestSwap_2 rfl (Nat.le_of_ble_eq_true rfl) rfl ?_
  refine s_aload_n E dX1_bestSwap_3 (i := 0) (j := 1) rfl rfl ?_
  refine c_gor0 E (rV E (cutS _ _) (x1z_nowAir (hX) (hT) (hP)) K_X1_218 (Nat.le_of_ble_eq_true rfl) (Nat.le_of_ble_eq_true rfl) (Nat.zero_le _) (Nat.zero_le _) 0 rfl rfl rfl rfl (Nat.le_of_ble_eq_true rfl) dX1_bestSwap_4) (fun w4 h4 => ?_)
  refine ia0_goi E (x4z_trouble ) K_X1_177 (Nat.le_of_ble_eq_true rfl) (Nat.le_of_ble_eq_true rfl) (Nat.zero_le _) (Nat.zero_le _) rfl rfl (Nat.le_of_ble_eq_true rfl) dX1_bestSwap_7 (fun r7 w7 h7 => ?_)
  obtain ⟨rfl, rfl⟩ := h7
  refine s_ws (ws2 := iw ad ct n τ w4 T) (congrArg (fun z => iw ad ct n τ z T) airU_S0) ?_
  refine s_top (v2 := nI (noiseN (vw τ (σ 1)) n)) (by show w4 10 16 + w4 10 17 = _; rw [show w4 10 16 = _ from h4.2.1.1.2.2.2.2.1, h4.2.2, nI_add]; rfl) ?_
  refine s_istore_n E (L2 := [(2, .int (nI (noiseN (vw τ (σ 1)) n))), (1, .int ((-2))), (0, .ref (ad 0))]) dX1_bestSwap_10 rfl (Nat.le_of_ble_eq_true rfl) rfl ?_
  refine s_iconst E dX1_bestSwap_11 (v := nI 0) (by decide) ?_
  refine s_istore_n E (L2 := [(3, .int (nI 0)), (2, .int (nI (noiseN (vw τ (σ 1)) n))), (1, .int ((-2))), (0, .ref (ad 0))]) dX1_bestSwap_12 rfl (Nat.le_of_ble_eq_true rfl) rfl ?_
  have L13 : ∀ (fuel : Nat) (a : Nat) (w13 : Nat → Nat → Int32), (a ≤ n) → (XS σ w13) → (n - a) < fuel → Sm pP l eE { frames := 7, cells := 0, slots := 0, locals := 170 } sS mM aA bB hM cC QQ AA D 6 0 0 (iw ad ct n τ w13 T) 13 [(0, .ref (ad 0)), (1, .int (optI (bsO (vw τ (σ 1)) n a).1)), (2, .int (nI ((bsO (vw τ (σ 1)) n a).2))), (3, .int (nI a))] [] := by
    intro fuel
    induction fuel with
    | zero =>
      intro a w13 ha hwa hf13
      exact absurd hf13 (Nat.not_lt_zero _)
    | succ fuel ih13 =>
      intro a w13 ha hwa hf13
      refine s_iload_n E dX1_bestSwap_13 (i := 3) (j := 3) rfl rfl ?_
      refine s_aload_n E dX1_bestSwap_14 (i := 0) (j := 0) rfl rfl ?_
      refine iwX1_g0_4 E dX1_bestSwap_15 ?_
      refine iwX1_g2_4 E (v := nI n) (hX.1) dX1_bestSwap_18 ?_
      refine s_icmp_ge E dX1_bestSwap_21 (tgt := 165) rfl (fun c21 => ?_) (fun c21 => ?_)
      · have c21 : ¬ a < n := fun h => absurd c21 (Int32.not_le.mpr ((nI_ltI (a := a) (b := n) (by omega) (by omega)).mpr h))
        refine s_iload_n E dX1_bestSwap_165 (i := 1) (j := 1) rfl rfl ?_
        exact Rt (optI (bsO (vw τ (σ 1)) n a).1) (w13) dX1_bestSwap_166 (⟨by rw [show n = a by omega], hwa⟩) rfl (Nat.le_refl _) (Nat.le_refl _) rfl E.2.2.2.2.2.1
      · have c21 : a < n := (nI_ltI (a := a) (b := n) (by omega) (by omega)).mp (Int32.not_le.mp c21)
        refine s_iload_n E dX1_bestSwap_24 (i := 3) (j := 3) rfl rfl ?_
        refine s_iconst E dX1_bestSwap_25 (v := nI 1) (by decide) ?_
        refine s_iadd_ E dX1_bestSwap_26 (v := nI (a + 1)) (nI_add _ _) ?_
        refine s_istore E (L2 := [(4, .int (nI (a + 1))), (0, .ref (ad 0)), (1, .int (optI (bsO (vw τ (σ 1)) n a).1)), (2, .int (nI ((bsO (vw τ (σ 1)) n a).2))), (3, .int (nI a))]) dX1_bestSwap_27 (Nat.le_of_ble_eq_true rfl) rfl ?_
        have L29 : ∀ (fuel : Nat) (i : Nat) (w29 : Nat → Nat → Int32), (a + 1 + i ≤ n) → (XS σ w29) → (n - i) < fuel → Sm pP l eE { frames := 7, cells := 0, slots := 0, locals := 170 } sS mM aA bB hM cC QQ AA D 6 0 0 (iw ad ct n τ w29 T) 29 [(0, .ref (ad 0)), (1, .int (optI (bsI (vw τ (σ 1)) n a (bsO (vw τ (σ 1)) n a) i).1)), (2, .int (nI ((bsI (vw τ (σ 1)) n a (bsO (vw τ (σ 1)) n a) i).2))), (3, .int (nI a)), (4, .int (nI (a + 1 + i)))] [] := by
          intro fuel
          induction fuel with
          | zero =>
            intro i w29 hi hw hf29
            exact absurd hf29 (Nat.not_lt_zero _)
          | succ fuel ih29 =>
            intro i w29 hi hw hf29
            have hw1 : w29 1 = σ 1 := hw 1 (by decide) (by decide) (by decide)
            have hb2 := bsI_le (vw τ (σ 1)) a (bsO (vw τ (σ 1)) n a) i hn6 (bsO_le (vw τ (σ 1)) a hn6)
            refine s_iload E dX1_bestSwap_29 (i := 4) (j := 4) rfl ?_
            refine s_aload_n E dX1_bestSwap_31 (i := 0) (j := 0) rfl rfl ?_
            refine iwX1_g0_4 E dX1_bestSwap_32 ?_
            refine iwX1_g2_4 E (v := nI n) (hX.1) dX1_bestSwap_35 ?_
            refine s_icmp_ge E dX1_bestSwap_38 (tgt := 159) rfl (fun c38 => ?_) (fun c38 => ?_)
            · have c38 : ¬ a + 1 + i < n := fun h => absurd c38 (Int32.not_le.mpr ((nI_ltI (a := a + 1 + i) (b := n) (by omega) (by omega)).mpr h))
              have hin : a + 1 + i = n := by omega
              refine s_iinc E (L2 := [(3, .int (nI (a + 1))), (0, .ref (ad 0)), (1, .int (optI (bsI (vw τ (σ 1)) n a (bsO (vw τ (σ 1)) n a) i).1)), (2, .int (nI ((bsI (vw τ (σ 1)) n a (bsO (vw τ (σ 1)) n a) i).2))), (4, .int (nI (a + 1 + i)))]) dX1_bestSwap_159 (k := 3) rfl (v := nI (a + 1)) (nI_inc _) (Nat.le_of_ble_eq_true rfl) rfl ?_
              refine s_goto E dX1_bestSwap_162 (tgt := 13) rfl ?_
              refine s_loc (L2 := [(0, .ref (ad 0)), (1, .int (optI (bsI (vw τ (σ 1)) n a (bsO (vw τ (σ 1)) n a) i).1)), (2, .int (nI ((bsI (vw τ (σ 1)) n a (bsO (vw τ (σ 1)) n a) i).2))), (3, .int (nI (a + 1)))]) [1, 2, 3, 0] rfl ?_
              refine s_L (L2 := [(0, .ref (ad 0)), (1, .int (optI (bsO (vw τ (σ 1)) n (a + 1)).1)), (2, .int (nI ((bsO (vw τ (σ 1)) n (a + 1)).2))), (3, .int (nI (a + 1)))]) (by rw [bsO, show n - (a + 1) = i by omega]) ?_
              exact ih13 (a + 1) w29 (by omega) (hw) (by omega)
            · have c38 : a + 1 + i < n := (nI_ltI (a := a + 1 + i) (b := n) (by omega) (by omega)).mp (Int32.not_le.mp c38)
              refine s_aload_n E dX1_bestSwap_41 (i := 0) (j := 0) rfl rfl ?_
              refine iwX1_g0_5 E dX1_bestSwap_42 ?_
              refine iwX1_g7_0 E dX1_bestSwap_45 ?_
              refine s_iload_n E dX1_bestSwap_48 (i := 3) (j := 3) rfl rfl ?_
              refine iw_l8 E (v := σ 1 a) (a) (rfl) (by omega) hn6 (by rw [hw1]) dX1_bestSwap_49 ?_
              refine s_if_eq E dX1_bestSwap_50 (tgt := 153) rfl (fun c50 => ?_) (fun c50 => ?_)
              · refine s_iinc E (L2 := [(4, .int (nI (a + 1 + i + 1))), (0, .ref (ad 0)), (1, .int (optI (bsI (vw τ (σ 1)) n a (bsO (vw τ (σ 1)) n a) i).1)), (2, .int (nI ((bsI (vw τ (σ 1)) n a (bsO (vw τ (σ 1)) n a) i).2))), (3, .int (nI a))]) dX1_bestSwap_153 (k := 4) rfl (v := nI (a + 1 + i + 1)) (nI_inc _) (Nat.le_of_ble_eq_true rfl) rfl ?_
                refine s_goto E dX1_bestSwap_156 (tgt := 29) rfl ?_
                refine s_loc (L2 := [(0, .ref (ad 0)), (1, .int (optI (bsI (vw τ (σ 1)) n a (bsO (vw τ (σ 1)) n a) i).1)), (2, .int (nI ((bsI (vw τ (σ 1)) n a (bsO (vw τ (σ 1)) n a) i).2))), (3, .int (nI a)), (4, .int (nI (a + 1 + i + 1)))]) [1, 2, 3, 4, 0] rfl ?_
                refine s_L (L2 := [(0, .ref (ad 0)), (1, .int (optI (bsI (vw τ (σ 1)) n a (bsO (vw τ (σ 1)) n a) (i + 1)).1)), (2, .int (nI ((bsI (vw τ (σ 1)) n a (bsO (vw τ (σ 1)) n a) (i + 1)).2))), (3, .int (nI a)), (4, .int (nI (a + 1 + (i + 1))))]) (by rw [bsI, bsS, if_pos (show (vw τ (σ 1)) 25 a = 0 ∨ (vw τ (σ 1)) 25 (a + 1 + i) = 0 from Or.inl c50)]; first | rfl | (congr 1; omega)) ?_
                exact ih29 (i + 1) w29 (by omega) (hw) (by omega)
              · refine s_aload_n E dX1_bestSwap_53 (i := 0) (j := 0) rfl rfl ?_
                refine iwX1_g0_5 E dX1_bestSwap_54 ?_
                refine iwX1_g7_0 E dX1_bestSwap_57 ?_
                refine s_iload E dX1_bestSwap_60 (i := 4) (j := 4) rfl ?_
                refine iw_l8 E (v := σ 1 (a + 1 + i)) (a + 1 + i) (rfl) (by omega) hn6 (by rw [hw1]) dX1_bestSwap_62 ?_
                refine s_if_ne E dX1_bestSwap_63 (tgt := 69) rfl (fun c63 => ?_) (fun c63 => ?_)
                · refine s_aload_n E dX1_bestSwap_69 (i := 0) (j := 0) rfl rfl ?_
                  refine iwX1_g0_7 E dX1_bestSwap_70 ?_
                  refine s_aload_n E dX1_bestSwap_73 (i := 0) (j := 0) rfl rfl ?_
                  refine iwX1_g0_5 E dX1_bestSwap_74 ?_
                  refine c_gor0 E (rV E (cutS _ _) (x3z_like20 (hn6) (by rw [hw1]; exact hbb)) K_X1_115 (Nat.le_of_ble_eq_true rfl) (Nat.le_of_ble_eq_true rfl) (Nat.zero_le _) (Nat.zero_le _) 17 rfl rfl rfl rfl (Nat.le_of_ble_eq_true rfl) dX1_bestSwap_77) (fun w77 h77 => ?_)
                  subst h77
                  refine iwX1_g17_0 E dX1_bestSwap_80 ?_
                  refine s_iload_n E dX1_bestSwap_83 (i := 3) (j := 3) rfl rfl ?_
                  refine s_aload_n E dX1_bestSwap_84 (i := 0) (j := 0) rfl rfl ?_
                  refine iwX1_g0_5 E dX1_bestSwap_85 ?_
                  refine iwX1_g7_0 E dX1_bestSwap_88 ?_
                  refine s_iload E dX1_bestSwap_91 (i := 4) (j := 4) rfl ?_
                  refine iw_l8 E (v := σ 1 (a + 1 + i)) (a + 1 + i) (rfl) (by omega) hn6 (by rw [show likS 2 0 w29 1 = w29 1 from rfl, hw1]) dX1_bestSwap_93 ?_
                  refine iw_s18 E (a) (rfl) (by omega) hn6 dX1_bestSwap_94 ?_
                  refine s_aload_n E dX1_bestSwap_95 (i := 0) (j := 0) rfl rfl ?_
                  refine iwX1_g0_7 E dX1_bestSwap_96 ?_
                  refine iwX1_g17_0 E dX1_bestSwap_99 ?_
                  refine s_iload E dX1_bestSwap_102 (i := 4) (j := 4) rfl ?_
                  refine s_aload_n E dX1_bestSwap_104 (i := 0) (j := 0) rfl rfl ?_
                  refine iwX1_g0_5 E dX1_bestSwap_105 ?_
                  refine iwX1_g7_0 E dX1_bestSwap_108 ?_
                  refine s_iload_n E dX1_bestSwap_111 (i := 3) (j := 3) rfl rfl ?_
                  refine iw_l8 E (v := σ 1 a) (a) (rfl) (by omega) hn6 (by rw [st1_ne (by decide), show likS 2 0 w29 1 = w29 1 from rfl, hw1]) dX1_bestSwap_112 ?_
                  refine iw_s18 E (a + 1 + i) (rfl) (by omega) hn6 dX1_bestSwap_113 ?_
                  refine s_aload_n E dX1_bestSwap_114 (i := 0) (j := 0) rfl rfl ?_
                  refine iwX1_g0_11 E dX1_bestSwap_115 ?_
                  refine s_aload_n E dX1_bestSwap_118 (i := 0) (j := 0) rfl rfl ?_
                  refine iwX1_g0_7 E dX1_bestSwap_119 ?_
                  refine c_gor0 E (rV E (cutS _ _) (x4z_of2 (hX) (hT)) K_X1_152 (Nat.le_of_ble_eq_true rfl) (Nat.le_of_ble_eq_true rfl) (Nat.zero_le _) (Nat.zero_le _) 27 rfl rfl rfl rfl (Nat.le_of_ble_eq_true rfl) dX1_bestSwap_122) (fun w122 h122 => ?_)
                  rw [st3, st3, lik_3, hw1, vw_swap] at h122
                  refine ia0_gor E (x4z_counted (swapF (vw τ (σ 1)) a (a + 1 + i)) n (h122.2) (hn6) (by decide) (by rw [← vw_swap]; exact hX.tv) (by rw [← vw_swap]; exact hX.nv (hP.swap (by omega) (by omega))) (by rw [← vw_swap]; exact hX.ov)) K_X1_156 (Nat.le_of_ble_eq_true rfl) (Nat.le_of_ble_eq_true rfl) (Nat.zero_le _) (Nat.zero_le _) rfl rfl (Nat.le_of_ble_eq_true rfl) dX1_bestSwap_125 (fun w125 h125 => ?_)
                  show Sm pP l eE { frames := 7, cells := 0, slots := 0, locals := 170 } sS mM aA bB hM cC QQ AA D 6 0 0 (iw ad ct n τ (airU0 w122 w125) T) 128 [(0, .ref (ad 0)), (1, .int (optI (bsI (vw τ (σ 1)) n a (bsO (vw τ (σ 1)) n a) i).1)), (2, .int (nI ((bsI (vw τ (σ 1)) n a (bsO (vw τ (σ 1)) n a) i).2))), (3, .int (nI a)), (4, .int (nI (a + 1 + i)))] [.ref (ad 27)]
                  refine ia0_goi E (x4z_trouble ) K_X1_177 (Nat.le_of_ble_eq_true rfl) (Nat.le_of_ble_eq_true rfl) (Nat.zero_le _) (Nat.zero_le _) rfl rfl (Nat.le_of_ble_eq_true rfl) dX1_bestSwap_128 (fun r128 w128 h128 => ?_)
                  obtain ⟨rfl, rfl⟩ := h128
                  refine s_ws (ws2 := iw ad ct n τ (airU0 w122 w125) T) (congrArg (fun z => iw ad ct n τ z T) airU_S0) ?_
                  refine s_top (v2 := nI (noiseN (swapF (vw τ (σ 1)) a (a + 1 + i)) n)) (by show w125 0 16 + w125 0 17 = _; rw [h125.1.1.2.2.2.2.1, h125.2, nI_add]; rfl) ?_
                  refine s_istore E (L2 := [(5, .int (nI (noiseN (swapF (vw τ (σ 1)) a (a + 1 + i)) n))), (0, .ref (ad 0)), (1, .int (optI (bsI (vw τ (σ 1)) n a (bsO (vw τ (σ 1)) n a) i).1)), (2, .int (nI ((bsI (vw τ (σ 1)) n a (bsO (vw τ (σ 1)) n a) i).2))), (3, .int (nI a)), (4, .int (nI (a + 1 + i)))]) dX1_bestSwap_131 (Nat.le_of_ble_eq_true rfl) rfl ?_
                  refine s_iload E dX1_bestSwap_133 (i := 5) (j := 0) rfl ?_
                  refine s_iload_n E dX1_bestSwap_135 (i := 2) (j := 3) rfl rfl ?_
                  refine s_icmp_lt E dX1_bestSwap_136 (tgt := 142) rfl (fun c136 => ?_) (fun c136 => ?_)
                  · have hb9 := noise_le (s := (swapF (vw τ (σ 1)) a (a + 1 + i))) (n := n) hn6
                    have c136 : noiseN (swapF (vw τ (σ 1)) a (a + 1 + i)) n < (bsI (vw τ (σ 1)) n a (bsO (vw τ (σ 1)) n a) i).2 := (nI_ltI (a := noiseN (swapF (vw τ (σ 1)) a (a + 1 + i)) n) (b := (bsI (vw τ (σ 1)) n a (bsO (vw τ (σ 1)) n a) i).2) (by omega) (by omega)).mp c136
                    refine s_bipush E dX1_bestSwap_142 (v := nI 6) (by decide) ?_
                    refine s_iload_n E dX1_bestSwap_144 (i := 3) (j := 4) rfl rfl ?_
                    refine s_imul_ E dX1_bestSwap_145 (v := nI (6 * a)) (pk_mul _ _) ?_
                    refine s_iload E dX1_bestSwap_146 (i := 4) (j := 5) rfl ?_
                    refine s_iadd_ E dX1_bestSwap_148 (v := nI ((6 * a) + (a + 1 + i))) (nI_add _ _) ?_
                    refine s_istore_n E (L2 := [(1, .int (nI ((6 * a) + (a + 1 + i)))), (5, .int (nI (noiseN (swapF (vw τ (σ 1)) a (a + 1 + i)) n))), (0, .ref (ad 0)), (2, .int (nI ((bsI (vw τ (σ 1)) n a (bsO (vw τ (σ 1)) n a) i).2))), (3, .int (nI a)), (4, .int (nI (a + 1 + i)))]) dX1_bestSwap_149 rfl (Nat.le_of_ble_eq_true rfl) rfl ?_
                    refine s_iload E dX1_bestSwap_150 (i := 5) (j := 1) rfl ?_
                    refine s_istore_n E (L2 := [(2, .int (nI (noiseN (swapF (vw τ (σ 1)) a (a + 1 + i)) n))), (1, .int (nI ((6 * a) + (a + 1 + i)))), (5, .int (nI (noiseN (swapF (vw τ (σ 1)) a (a + 1 + i)) n))), (0, .ref (ad 0)), (3, .int (nI a)), (4, .int (nI (a + 1 + i)))]) dX1_bestSwap_152 rfl (Nat.le_of_ble_eq_true rfl) rfl ?_
                    refine s_iinc E (L2 := [(4, .int (nI (a + 1 + i + 1))), (2, .int (nI (noiseN (swapF (vw τ (σ 1)) a (a + 1 + i)) n))), (1, .int (nI ((6 * a) + (a + 1 + i)))), (5, .int (nI (noiseN (swapF (vw τ (σ 1)) a (a + 1 + i)) n))), (0, .ref (ad 0)), (3, .int (nI a))]) dX1_bestSwap_153 (k := 5) rfl (v := nI (a + 1 + i + 1)) (nI_inc _) (Nat.le_of_ble_eq_true rfl) rfl ?_
                    refine s_goto E dX1_bestSwap_156 (tgt := 29) rfl ?_
                    refine s_loc (L2 := [(0, .ref (ad 0)), (1, .int (nI ((6 * a) + (a + 1 + i)))), (2, .int (nI (noiseN (swapF (vw τ (σ 1)) a (a + 1 + i)) n))), (3, .int (nI a)), (4, .int (nI (a + 1 + i + 1)))]) [4, 2, 1, 5, 0] rfl ?_
                    refine s_L (L2 := [(0, .ref (ad 0)), (1, .int (optI (bsI (vw τ (σ 1)) n a (bsO (vw τ (σ 1)) n a) (i + 1)).1)), (2, .int (nI ((bsI (vw τ (σ 1)) n a (bsO (vw τ (σ 1)) n a) (i + 1)).2))), (3, .int (nI a)), (4, .int (nI (a + 1 + (i + 1))))]) (by rw [bsI, bsS, if_neg (show ¬ ((vw τ (σ 1)) 25 a = 0 ∨ (vw τ (σ 1)) 25 (a + 1 + i) = 0) from by rintro (h1 | h1); exact c50 h1; exact c63 h1), if_pos c136]; first | rfl | (congr 1; omega)) ?_
                    exact ih29 (i + 1) (airU0 w122 w125) (by omega) ((((hw.tr XS.lik).tr (XS.st.tr XS.st)).tr h122.1.xs).tr XA.up.xs) (by omega)
                  · have hb9 := noise_le (s := (swapF (vw τ (σ 1)) a (a + 1 + i))) (n := n) hn6
                    have c136 : ¬ noiseN (swapF (vw τ (σ 1)) a (a + 1 + i)) n < (bsI (vw τ (σ 1)) n a (bsO (vw τ (σ 1)) n a) i).2 := fun h => c136 ((nI_ltI (a := noiseN (swapF (vw τ (σ 1)) a (a + 1 + i)) n) (b := (bsI (vw τ (σ 1)) n a (bsO (vw τ (σ 1)) n a) i).2) (by omega) (by omega)).mpr h)
                    refine s_goto E dX1_bestSwap_139 (tgt := 153) rfl ?_
                    refine s_iinc E (L2 := [(4, .int (nI (a + 1 + i + 1))), (5, .int (nI (noiseN (swapF (vw τ (σ 1)) a (a + 1 + i)) n))), (0, .ref (ad 0)), (1, .int (optI (bsI (vw τ (σ 1)) n a (bsO (vw τ (σ 1)) n a) i).1)), (2, .int (nI ((bsI (vw τ (σ 1)) n a (bsO (vw τ (σ 1)) n a) i).2))), (3, .int (nI a))]) dX1_bestSwap_153 (k := 5) rfl (v := nI (a + 1 + i + 1)) (nI_inc _) (Nat.le_of_ble_eq_true rfl) rfl ?_
                    refine s_goto E dX1_bestSwap_156 (tgt := 29) rfl ?_
                    refine s_loc (L2 := [(0, .ref (ad 0)), (1, .int (optI (bsI (vw τ (σ 1)) n a (bsO (vw τ (σ 1)) n a) i).1)), (2, .int (nI ((bsI (vw τ (σ 1)) n a (bsO (vw τ (σ 1)) n a) i).2))), (3, .int (nI a)), (4, .int (nI (a + 1 + i + 1)))]) [2, 3, 4, 5, 0] rfl ?_
                    refine s_L (L2 := [(0, .ref (ad 0)), (1, .int (optI (bsI (vw τ (σ 1)) n a (bsO (vw τ (σ 1)) n a) (i + 1)).1)), (2, .int (nI ((bsI (vw τ (σ 1)) n a (bsO (vw τ (σ 1)) n a) (i + 1)).2))), (3, .int (nI a)), (4, .int (nI (a + 1 + (i + 1))))]) (by rw [bsI, bsS, if_neg (show ¬ ((vw τ (σ 1)) 25 a = 0 ∨ (vw τ (σ 1)) 25 (a + 1 + i) = 0) from by rintro (h1 | h1); exact c50 h1; exact c63 h1), if_neg c136]; first | rfl | (congr 1; omega)) ?_
                    exact ih29 (i + 1) (airU0 w122 w125) (by omega) ((((hw.tr XS.lik).tr (XS.st.tr XS.st)).tr h122.1.xs).tr XA.up.xs) (by omega)
                · refine s_goto E dX1_bestSwap_66 (tgt := 153) rfl ?_
                  refine s_iinc E (L2 := [(4, .int (nI (a + 1 + i + 1))), (0, .ref (ad 0)), (1, .int (optI (bsI (vw τ (σ 1)) n a (bsO (vw τ (σ 1)) n a) i).1)), (2, .int (nI ((bsI (vw τ (σ 1)) n a (bsO (vw τ (σ 1)) n a) i).2))), (3, .int (nI a))]) dX1_bestSwap_153 (k := 4) rfl (v := nI (a + 1 + i + 1)) (nI_inc _) (Nat.le_of_ble_eq_true rfl) rfl ?_
                  refine s_goto E dX1_bestSwap_156 (tgt := 29) rfl ?_
                  refine s_loc (L2 := [(0, .ref (ad 0)), (1, .int (optI (bsI (vw τ (σ 1)) n a (bsO (vw τ (σ 1)) n a) i).1)), (2, .int (nI ((bsI (vw τ (σ 1)) n a (bsO (vw τ (σ 1)) n a) i).2))), (3, .int (nI a)), (4, .int (nI (a + 1 + i + 1)))]) [1, 2, 3, 4, 0] rfl ?_
                  refine s_L (L2 := [(0, .ref (ad 0)), (1, .int (optI (bsI (vw τ (σ 1)) n a (bsO (vw τ (σ 1)) n a) (i + 1)).1)), (2, .int (nI ((bsI (vw τ (σ 1)) n a (bsO (vw τ (σ 1)) n a) (i + 1)).2))), (3, .int (nI a)), (4, .int (nI (a + 1 + (i + 1))))]) (by rw [bsI, bsS, if_pos (show (vw τ (σ 1)) 25 a = 0 ∨ (vw τ (σ 1)) 25 (a + 1 + i) = 0 from Or.inr c63)]; first | rfl | (congr 1; omega)) ?_
                  exact ih29 (i + 1) w29 (by omega) (hw) (by omega)
        refine s_loc (L2 := [(0, .ref (ad 0)), (1, .int (optI (bsO (vw τ (σ 1)) n a).1)), (2, .int (nI ((bsO (vw τ (σ 1)) n a).2))), (3, .int (nI a)), (4, .int (nI (a + 1)))]) [1, 2, 3, 4, 0] rfl ?_
        exact L29 (_ + 1) 0 w13 (by omega) (hwa) (Nat.lt_succ_self _)
  refine s_loc (L2 := [(0, .ref (ad 0)), (1, .int ((-2))), (2, .int (nI (noiseN (vw τ (σ 1)) n))), (3, .int (nI 0))]) [3, 2, 1, 0] rfl ?_
  exact L13 (_ + 1) 0 w4 (Nat.zero_le _) (h4.1.xs) (Nat.lt_succ_self _)
theorem iwX1_g17_1 {p : Program} {l : Launch} {e : Env} {R : Room} {s : State} {m : MethodId} {args : Array Value} {below : List Frame} {meth : Method} {c : Code} {Q : State → Prop} {A : Nat → Prop} {D : va_G} {nL cells slots : Nat} {pc : Nat} {L : List (Nat × Value)} {S : List Value} {cc : ByteArray} {ret : Option FieldType} {gt : Nat → Nat} {ad : Nat → Nat} {ct : Nat → ClassId} {n : Nat} {τ σ : Nat → Nat → Int32} {T : va_W} (E : En p s m args meth c A cc nL RX1 ret D (tysA ct) gt) (d : decode cc pc = .ok (.getfield 146, 3)) (K : Sm p l e R s m args below meth c Q A D nL cells slots (iw ad ct n τ σ T) (pc + 3) L (.ref (ad 19) :: S)) : Sm p l e R s m args below meth c Q A D nL cells slots (iw ad ct n τ σ T) pc L (.ref (ad 17) :: S) := s_getN E in_X3 17 rfl rfl 1 (Nat.le_of_ble_eq_true rfl) q238 rfl rfl d K
theorem iw_s19 {p : Program} {l : Launch} {e : Env} {R : Room} {s : State} {m : MethodId} {args : Array Value} {below : List Frame} {meth : Method} {c : Code} {Q : State → Prop} {A : Nat → Prop} {D : va_G} {nL cells slots : Nat} {pc : Nat} {L : List (Nat × Value)} {S : List Value} {cc : ByteArray} {ret : Option FieldType} {gt : Nat → Nat} {ad : Nat → Nat} {ct : Nat → ClassId} {n : Nat} {τ σ : Nat → Nat → Int32} {T : va_W} {own : String} (E : En p s m args meth c A cc nL own ret D (tysA ct) gt) {i v : Int32} (N : Nat) (hi : i = nI N) (hN : N < n) (h6 : n ≤ 6) (d : decode cc pc = .ok (.iastore, 1)) (K : Sm p l e R s m args below meth c Q A D nL cells slots (iw ad ct n τ (st1 σ 3 (6 + N) v) T) (pc + 1) L S) : Sm p l e R s m args below meth c Q A D nL cells slots (iw ad ct n τ σ T) pc L (.int v :: .int i :: .ref (ad 19) :: S) := s_iast E 19 0 rfl rfl N hi (by omega) (Nat.le_of_ble_eq_true rfl) (by unfold iw fw; rw [show pch n 0 ((st1 σ 3 (6 + N) v) 3) ((st1 σ 3 (6 + N) v) 7) = pch n 0 (σ 3) (σ 7) from by unfold st1; rw [upR_eq, upR_ne (by decide)]; exact pch_off (by omega), show pch n 6 ((st1 σ 3 (6 + N) v) 3) ((st1 σ 3 (6 + N) v) 7) = upd (pch n 6 (σ 3) (σ 7)) N v from by unfold st1; rw [upR_eq, upR_ne (by decide)]; exact pch_up hN, show pch n 73 ((st1 σ 3 (6 + N) v) 3) ((st1 σ 3 (6 + N) v) 7) = pch n 73 (σ 3) (σ 7) from by unfold st1; rw [upR_eq, upR_ne (by decide)]; exact pch_off (by omega), show pbl ((st1 σ 3 (6 + N) v) 3) = pbl (σ 3) from by unfold st1; rw [upR_eq]; exact pbl_off (by omega)]; rfl) d K
set_option maxHeartbeats 2000000 in
set_option maxRecDepth 100000 in
theorem x1z_turnsDown {l : Launch} {D : va_G} {gt : Nat → Nat} {ad : Nat → Nat} {ct : Nat → ClassId} {n : Nat} {τ σ : Nat → Nat → Int32} {T : va_W}  (hX : XT τ n) (hT : UT ad n τ T) (hP : PC (σ 1) n) (hbb : BB (σ 1)) (hp : ∀ v, v < n → In (σ 1 (6 + v)) 31) : Ct l D gt yX1_turnsDown cX1_turnsDown 3 .int 6 150 0 0 [.ref (ad 0)] (iw ad ct n τ σ T) (tysA ct) (fun r σ2 => nI (tdF n 200 (vw τ (σ 1))).1 = r ∧ XS σ σ2 ∧ vw τ (σ2 3) = (tdF n 200 (vw τ (σ 1))).2 ∧ PC (σ2 3) n) (fun σ2 : Nat → Nat → Int32 => iw ad ct n τ σ2 T) (fun _ => tysA ct) := by
  refine Ct.start RX1 (by decide) rfl (Nat.le_of_ble_eq_true rfl) rfl ?_
  intro pP eE sS mM aA bB hM cC QQ AA E Rt
  have hn6 := hX.2.1
  refine s_aload_n E dX1_turnsDown_0 (i := 0) (j := 0) rfl rfl ?_
  refine iwX1_g0_7 E dX1_turnsDown_1 ?_
  refine s_aload_n E dX1_turnsDown_4 (i := 0) (j := 0) rfl rfl ?_
  refine iwX1_g0_5 E dX1_turnsDown_5 ?_
  refine c_gor0 E (rV E (cutS _ _) (x3z_like20 (hn6) (hbb)) K_X1_115 (Nat.le_of_ble_eq_true rfl) (Nat.le_of_ble_eq_true rfl) (Nat.zero_le _) (Nat.zero_le _) 17 rfl rfl rfl rfl (Nat.le_of_ble_eq_true rfl) dX1_turnsDown_8) (fun w8 h8 => ?_)
  subst h8
  refine s_pop E dX1_turnsDown_11 rfl ?_
  refine s_iconst E dX1_turnsDown_12 (v := nI 0) (by decide) ?_
  refine s_istore_n E (L2 := [(1, .int (nI 0)), (0, .ref (ad 0))]) dX1_turnsDown_13 rfl (Nat.le_of_ble_eq_true rfl) rfl ?_
  refine s_aload_n E dX1_turnsDown_14 (i := 0) (j := 1) rfl rfl ?_
  refine s_aload_n E dX1_turnsDown_15 (i := 0) (j := 1) rfl rfl ?_
  refine iwX1_g0_11 E dX1_turnsDown_16 ?_
  refine s_aload_n E dX1_turnsDown_19 (i := 0) (j := 1) rfl rfl ?_
  refine iwX1_g0_7 E dX1_turnsDown_20 ?_
  refine c_gor0 E (rV E (cutS _ _) (x4z_of2 (hX) (hT)) K_X1_152 (Nat.le_of_ble_eq_true rfl) (Nat.le_of_ble_eq_true rfl) (Nat.zero_le _) (Nat.zero_le _) 27 rfl rfl rfl rfl (Nat.le_of_ble_eq_true rfl) dX1_turnsDown_23) (fun w23 h23 => ?_)
  rw [lik_3] at h23
  refine ia0_gor E (x4z_counted (vw τ (σ 1)) n (h23.2) (hn6) (by decide) (by exact hX.tv) (by exact hX.nv (hP)) (by exact hX.ov)) K_X1_156 (Nat.le_of_ble_eq_true rfl) (Nat.le_of_ble_eq_true rfl) (Nat.zero_le _) (Nat.zero_le _) rfl rfl (Nat.le_of_ble_eq_true rfl) dX1_turnsDown_26 (fun w26 h26 => ?_)
  show Sm pP l eE { frames := 6, cells := 0, slots := 0, locals := 150 } sS mM aA bB hM cC QQ AA D 3 0 0 (iw ad ct n τ (airU0 w23 w26) T) 29 [(1, .int (nI 0)), (0, .ref (ad 0))] [.ref (ad 27), .ref (ad 0)]
  refine c_goi0 E (rV E (cutS _ _) (x1z_loudOne (vw τ (σ 1)) (hX) (h26.1)) K_X1_272 (Nat.le_of_ble_eq_true rfl) (Nat.le_of_ble_eq_true rfl) (Nat.zero_le _) (Nat.zero_le _) 0 rfl rfl rfl rfl (Nat.le_of_ble_eq_true rfl) dX1_turnsDown_29) (fun r29 w29 h29 => ?_)
  obtain ⟨rfl, rfl⟩ := h29
  refine s_istore_n E (L2 := [(2, .int (worstF (vw τ (σ 1)) n)), (1, .int (nI 0)), (0, .ref (ad 0))]) dX1_turnsDown_32 rfl (Nat.le_of_ble_eq_true rfl) rfl ?_
  have L33 : ∀ (fuel : Nat) (i : Nat) (f : Nat) (w33 : Nat → Nat → Int32), (XS σ w33) → (i + (tdF n (f + 1) (vw τ (w33 3))).1 = (tdF n 200 (vw τ (σ 1))).1) → ((tdF n (f + 1) (vw τ (w33 3))).2 = (tdF n 200 (vw τ (σ 1))).2) → (PC (w33 3) n) → (∀ v, v < n → In ((vw τ (w33 3)) 25 (6 + v)) 31) → (powT (vw τ (w33 3)) n < f + 1) → (f + 1) < fuel → Sm pP l eE { frames := 6, cells := 0, slots := 0, locals := 150 } sS mM aA bB hM cC QQ AA D 3 0 0 (iw ad ct n τ w33 T) 33 [(0, .ref (ad 0)), (1, .int (nI i)), (2, .int (worstF (vw τ (w33 3)) n))] [] := by
    intro fuel
    induction fuel with
    | zero =>
      intro i f w33 hw h1 h2 hpc hqp hpf hf33
      exact absurd hf33 (Nat.not_lt_zero _)
    | succ fuel ih33 =>
      intro i f w33 hw h1 h2 hpc hqp hpf hf33
      refine s_iload_n E dX1_turnsDown_33 (i := 2) (j := 2) rfl rfl ?_
      refine s_if_lt E dX1_turnsDown_34 (tgt := 87) rfl (fun c34 => ?_) (fun c34 => ?_)
      · refine s_iload_n E dX1_turnsDown_87 (i := 1) (j := 1) rfl rfl ?_
        exact Rt (nI i) (w33) dX1_turnsDown_88 ((fun (hz : worstF (vw τ (w33 3)) n = -2 ∨ ¬ 0 < (vw τ (w33 3)) 25 (6 + tN (worstF (vw τ (w33 3)) n))) => by rw [tdF, if_pos hz] at h1 h2; exact ⟨by rw [← h1]; rfl, hw, h2, hpc⟩) (Or.inl ((bestW_c (madeN (vw τ (w33 3)) n (prods (vw τ (w33 3)) n)) n).resolve_right (by rintro ⟨u, hu, h9⟩; rw [show worstF (vw τ (w33 3)) n = nI u from h9] at c34; exact nI_pos (by omega) c34)))) rfl (Nat.le_refl _) (Nat.le_refl _) rfl E.2.2.2.2.2.1
      · obtain ⟨u, hu, hu2⟩ : ∃ u, u < n ∧ worstF (vw τ (w33 3)) n = nI u := by rcases bestW_c (madeN (vw τ (w33 3)) n (prods (vw τ (w33 3)) n)) n with h9 | h9; (exfalso; apply c34; show worstF (vw τ (w33 3)) n < 0; rw [show worstF (vw τ (w33 3)) n = -2 from h9]; decide); exact h9
        refine s_aload_n E dX1_turnsDown_37 (i := 0) (j := 0) rfl rfl ?_
        refine iwX1_g0_7 E dX1_turnsDown_38 ?_
        refine iwX1_g17_1 E dX1_turnsDown_41 ?_
        refine s_iload_n E dX1_turnsDown_44 (i := 2) (j := 2) rfl rfl ?_
        refine iw_l19 E (v := w33 3 (6 + u)) (u) (hu2) (by omega) hn6 (rfl) dX1_turnsDown_45 ?_
        refine s_if_le E dX1_turnsDown_46 (tgt := 87) rfl (fun c46 => ?_) (fun c46 => ?_)
        · have c46 := Int32.not_lt.mpr c46
          refine s_iload_n E dX1_turnsDown_87 (i := 1) (j := 1) rfl rfl ?_
          exact Rt (nI i) (w33) dX1_turnsDown_88 ((fun (hz : worstF (vw τ (w33 3)) n = -2 ∨ ¬ 0 < (vw τ (w33 3)) 25 (6 + tN (worstF (vw τ (w33 3)) n))) => by rw [tdF, if_pos hz] at h1 h2; exact ⟨by rw [← h1]; rfl, hw, h2, hpc⟩) (Or.inr (by rw [hu2, tN_nI (by omega)]; exact c46))) rfl (Nat.le_refl _) (Nat.le_refl _) rfl E.2.2.2.2.2.1
        · have c46 := Int32.not_le.mp c46
          have hpd := powT_down (s := (vw τ (w33 3))) hu hqp c46
          have hgo : ¬ (worstF (vw τ (w33 3)) n = -2 ∨ ¬ 0 < (vw τ (w33 3)) 25 (6 + tN (worstF (vw τ (w33 3)) n))) := by rw [hu2, tN_nI (by omega)]; rintro (h9 | h9); exact nI_m2 (by omega) h9; exact h9 c46
          refine s_aload_n E dX1_turnsDown_49 (i := 0) (j := 0) rfl rfl ?_
          refine iwX1_g0_7 E dX1_turnsDown_50 ?_
          refine iwX1_g17_1 E dX1_turnsDown_53 ?_
          refine s_iload_n E dX1_turnsDown_56 (i := 2) (j := 2) rfl rfl ?_
          refine s_dup2 E dX1_turnsDown_57 rfl rfl ?_
          refine iw_l19 E (v := w33 3 (6 + u)) (u) (hu2) (by omega) hn6 (rfl) dX1_turnsDown_58 ?_
          refine s_iconst E dX1_turnsDown_59 (v := nI 1) (by decide) ?_
          refine s_isub E dX1_turnsDown_60 ?_
          refine iw_s19 E (u) (hu2) (by omega) hn6 dX1_turnsDown_61 ?_
          refine s_iinc E (L2 := [(1, .int (nI (i + 1))), (0, .ref (ad 0)), (2, .int (worstF (vw τ (w33 3)) n))]) dX1_turnsDown_62 (k := 1) rfl (v := nI (i + 1)) (nI_inc _) (Nat.le_of_ble_eq_true rfl) rfl ?_
          refine s_aload_n E dX1_turnsDown_65 (i := 0) (j := 1) rfl rfl ?_
          refine s_aload_n E dX1_turnsDown_66 (i := 0) (j := 1) rfl rfl ?_
          refine iwX1_g0_11 E dX1_turnsDown_67 ?_
          refine s_aload_n E dX1_turnsDown_70 (i := 0) (j := 1) rfl rfl ?_
          refine iwX1_g0_7 E dX1_turnsDown_71 ?_
          refine c_gor0 E (rV E (cutS _ _) (x4z_of2 (hX) (hT)) K_X1_152 (Nat.le_of_ble_eq_true rfl) (Nat.le_of_ble_eq_true rfl) (Nat.zero_le _) (Nat.zero_le _) 27 rfl rfl rfl rfl (Nat.le_of_ble_eq_true rfl) dX1_turnsDown_74) (fun w74 h74 => ?_)
          rw [st3, vw_down] at h74
          refine ia0_gor E (x4z_counted (downF (vw τ (w33 3)) u) n (h74.2) (hn6) (by decide) (by rw [← vw_down]; exact hX.tv) (by rw [← vw_down]; exact hX.nv (PC.off hpc (by omega))) (by rw [← vw_down]; exact hX.ov)) K_X1_156 (Nat.le_of_ble_eq_true rfl) (Nat.le_of_ble_eq_true rfl) (Nat.zero_le _) (Nat.zero_le _) rfl rfl (Nat.le_of_ble_eq_true rfl) dX1_turnsDown_77 (fun w77 h77 => ?_)
          show Sm pP l eE { frames := 6, cells := 0, slots := 0, locals := 150 } sS mM aA bB hM cC QQ AA D 3 0 0 (iw ad ct n τ (airU0 w74 w77) T) 80 [(1, .int (nI (i + 1))), (0, .ref (ad 0)), (2, .int (worstF (vw τ (w33 3)) n))] [.ref (ad 27), .ref (ad 0)]
          refine c_goi0 E (rV E (cutS _ _) (x1z_loudOne (downF (vw τ (w33 3)) u) (hX) (h77.1)) K_X1_272 (Nat.le_of_ble_eq_true rfl) (Nat.le_of_ble_eq_true rfl) (Nat.zero_le _) (Nat.zero_le _) 0 rfl rfl rfl rfl (Nat.le_of_ble_eq_true rfl) dX1_turnsDown_80) (fun r80 w80 h80 => ?_)
          obtain ⟨rfl, rfl⟩ := h80
          refine s_istore_n E (L2 := [(2, .int (worstF (downF (vw τ (w33 3)) u) n)), (1, .int (nI (i + 1))), (0, .ref (ad 0))]) dX1_turnsDown_83 rfl (Nat.le_of_ble_eq_true rfl) rfl ?_
          refine s_goto E dX1_turnsDown_84 (tgt := 33) rfl ?_
          obtain ⟨f, rfl⟩ : ∃ g, f = g + 1 := ⟨f - 1, by have := hpd.1; omega⟩
          have h1b := h1
          have h2b := h2
          rw [tdF, if_neg hgo, hu2] at h1b h2b
          rw [tN_nI (by omega)] at h1b h2b
          have hs1 : i + 1 + (tdF n (f + 1) (downF (vw τ (w33 3)) u)).1 = (tdF n 200 (vw τ (σ 1))).1 := by rw [← h1b]; dsimp only; omega
          have hs2 : (tdF n (f + 1) (downF (vw τ (w33 3)) u)).2 = (tdF n 200 (vw τ (σ 1))).2 := h2b
          have e0 : airU0 w74 w77 3 = (upd (w33 3) (6 + u) (w33 3 (6 + u) - nI 1)) := by rw [XA.up (σ := w74) (Y := w77) 3 (by decide), h74.1 3 (by decide), st3]
          have e1 : vw τ (airU0 w74 w77 3) = downF (vw τ (w33 3)) u := by rw [e0, vw_down]
          refine s_loc (L2 := [(0, .ref (ad 0)), (1, .int (nI (i + 1))), (2, .int (worstF (downF (vw τ (w33 3)) u) n))]) [2, 1, 0] rfl ?_
          refine s_L (L2 := [(0, .ref (ad 0)), (1, .int (nI (i + 1))), (2, .int (worstF (vw τ ((airU0 w74 w77) 3)) n))]) (by rw [e1]) ?_
          exact ih33 (i + 1) f (airU0 w74 w77) (((hw.tr XS.st).tr h74.1.xs).tr XA.up.xs) (by rw [e1]; exact hs1) (by rw [e1]; exact hs2) (by rw [e0]; exact PC.off hpc (by omega)) (by rw [e1]; exact hpd.2) (by rw [e1]; omega) (by omega)
  have e0 : airU0 w23 w26 3 = σ 1 := by rw [XA.up (σ := w23) (Y := w26) 3 (by decide), h23.1 3 (by decide), lik_3]
  refine s_loc (L2 := [(0, .ref (ad 0)), (1, .int (nI 0)), (2, .int (worstF (vw τ (σ 1)) n))]) [2, 1, 0] rfl ?_
  refine s_L (L2 := [(0, .ref (ad 0)), (1, .int (nI 0)), (2, .int (worstF (vw τ ((airU0 w23 w26) 3)) n))]) (by rw [e0]) ?_
  exact L33 (_ + 1) 0 199 (airU0 w23 w26) ((XS.lik.tr h23.1.xs).tr XA.up.xs) (by rw [e0, Nat.zero_add]) (by rw [e0]) (by rw [e0]; exact hP) (by rw [e0]; exact hp) (by rw [e0]; have := sumN_le (f := fun u => tN (σ 1 (6 + u))) (i := n) (k := 30) (fun u hu => by have := (hp u hu).2; omega); unfold powT; show sumN (fun u => tN (σ 1 (6 + u))) n < _; omega) (Nat.lt_succ_self _)
theorem K_X1_305 : KV RX1 305 RX1 yX1_turnsDown cX1_turnsDown 3 (some .int) 0 := ⟨q1088, q1090, qs38, q113, q1091, by decide +kernel⟩
set_option maxHeartbeats 1000000 in
set_option maxRecDepth 100000 in
theorem x1z_turned {l : Launch} {D : va_G} {gt : Nat → Nat} {ad : Nat → Nat} {ct : Nat → ClassId} {n : Nat} {τ σ : Nat → Nat → Int32} {T : va_W} (v : Int32) (hX : XT τ n) (hT : UT ad n τ T) (hP : PC (σ 1) n) (hbb : BB (σ 1)) (hp : ∀ v, v < n → In (σ 1 (6 + v)) 31) : Ct l D gt yX1_turned cX1_turned 3 .int 7 172 0 0 [.ref (ad 0), .int (v)] (iw ad ct n τ σ T) (tysA ct) (fun r σ2 => (if v = -1 then nI (tdF n 200 (vw τ (σ 1))).1 else if isU n v = true then (tdF n 200 (vw τ (σ 1))).2 25 (6 + tN v) else -2) = r ∧ XS σ σ2) (fun σ2 : Nat → Nat → Int32 => iw ad ct n τ σ2 T) (fun _ => tysA ct) := by
  refine Ct.start RX1 (by decide) rfl (Nat.le_of_ble_eq_true rfl) rfl ?_
  intro pP eE sS mM aA bB hM cC QQ AA E Rt
  have hn6 := hX.2.1
  refine s_iload_n E dX1_turned_0 (i := 1) (j := 1) rfl rfl ?_
  refine s_iconst E dX1_turned_1 (v := (-1)) (by decide) ?_
  refine s_icmp_eq E dX1_turned_2 (tgt := 16) rfl (fun c2 => ?_) (fun c2 => ?_)
  · refine s_aload_n E dX1_turned_16 (i := 0) (j := 0) rfl rfl ?_
    refine c_goi0 E (rV E (cutS _ _) (x1z_turnsDown (hX) (hT) (hP) (hbb) (hp)) K_X1_305 (Nat.le_of_ble_eq_true rfl) (Nat.le_of_ble_eq_true rfl) (Nat.zero_le _) (Nat.zero_le _) 0 rfl rfl rfl rfl (Nat.le_of_ble_eq_true rfl) dX1_turned_17) (fun r17 w17 h17 => ?_)
    obtain ⟨e17, x17, t17, -⟩ := h17
    subst e17
    refine s_istore_n E (L2 := [(2, .int (nI ((tdF n 200 (vw τ (σ 1))).1))), (0, .ref (ad 0)), (1, .int (v))]) dX1_turned_20 rfl (Nat.le_of_ble_eq_true rfl) rfl ?_
    refine s_iload_n E dX1_turned_21 (i := 1) (j := 2) rfl rfl ?_
    refine s_iconst E dX1_turned_22 (v := (-1)) (by decide) ?_
    refine s_icmp_ne E dX1_turned_23 (tgt := 30) rfl (fun c23 => absurd c2 c23) (fun c23 => ?_)
    refine s_iload_n E dX1_turned_26 (i := 2) (j := 0) rfl rfl ?_
    refine s_goto E dX1_turned_27 (tgt := 39) rfl ?_
    exact Rt (nI ((tdF n 200 (vw τ (σ 1))).1)) (w17) dX1_turned_39 (⟨by rw [if_pos c23], x17⟩) rfl (Nat.le_refl _) (Nat.le_refl _) rfl E.2.2.2.2.2.1
  · refine s_aload_n E dX1_turned_5 (i := 0) (j := 0) rfl rfl ?_
    refine s_iload_n E dX1_turned_6 (i := 1) (j := 1) rfl rfl ?_
    refine c_goi0 E (rV E (cutS _ _) (x1z_isUser v (hX)) K_X1_132 (Nat.le_of_ble_eq_true rfl) (Nat.le_of_ble_eq_true rfl) (Nat.zero_le _) (Nat.zero_le _) 0 rfl rfl rfl rfl (Nat.le_of_ble_eq_true rfl) dX1_turned_7) (fun r7 w7 h7 => ?_)
    obtain ⟨rfl, rfl⟩ := h7
    refine s_if_ne E dX1_turned_10 (tgt := 16) rfl (fun c10 => ?_) (fun c10 => ?_)
    · have c10 := bI_n0 c10
      obtain ⟨j, hj, hjv⟩ := us_isU c10 hn6
      refine s_aload_n E dX1_turned_16 (i := 0) (j := 0) rfl rfl ?_
      refine c_goi0 E (rV E (cutS _ _) (x1z_turnsDown (hX) (hT) (hP) (hbb) (hp)) K_X1_305 (Nat.le_of_ble_eq_true rfl) (Nat.le_of_ble_eq_true rfl) (Nat.zero_le _) (Nat.zero_le _) 0 rfl rfl rfl rfl (Nat.le_of_ble_eq_true rfl) dX1_turned_17) (fun r17 w17 h17 => ?_)
      obtain ⟨e17, x17, t17, -⟩ := h17
      subst e17
      refine s_istore_n E (L2 := [(2, .int (nI ((tdF n 200 (vw τ (σ 1))).1))), (0, .ref (ad 0)), (1, .int (v))]) dX1_turned_20 rfl (Nat.le_of_ble_eq_true rfl) rfl ?_
      refine s_iload_n E dX1_turned_21 (i := 1) (j := 2) rfl rfl ?_
      refine s_iconst E dX1_turned_22 (v := (-1)) (by decide) ?_
      refine s_icmp_ne E dX1_turned_23 (tgt := 30) rfl (fun c23 => ?_) (fun c23 => ?_)
      · refine s_aload_n E dX1_turned_30 (i := 0) (j := 1) rfl rfl ?_
        refine iwX1_g0_7 E dX1_turned_31 ?_
        refine iwX1_g17_1 E dX1_turned_34 ?_
        refine s_iload_n E dX1_turned_37 (i := 1) (j := 2) rfl rfl ?_
        refine iw_l19 E (v := (tdF n 200 (vw τ (σ 1))).2 25 (6 + j)) (j) (hjv) (hj) hn6 (by rw [← t17]; rfl) dX1_turned_38 ?_
        exact Rt ((tdF n 200 (vw τ (σ 1))).2 25 (6 + j)) (w17) dX1_turned_39 (⟨by rw [if_neg c23, if_pos c10, hjv, tN_nI (by omega)], x17⟩) rfl (Nat.le_refl _) (Nat.le_refl _) rfl E.2.2.2.2.2.1
      · refine s_iload_n E dX1_turned_26 (i := 2) (j := 0) rfl rfl ?_
        refine s_goto E dX1_turned_27 (tgt := 39) rfl ?_
        exact Rt (nI ((tdF n 200 (vw τ (σ 1))).1)) (w17) dX1_turned_39 (⟨by rw [if_pos c23], x17⟩) rfl (Nat.le_refl _) (Nat.le_refl _) rfl E.2.2.2.2.2.1
    · have c10 := bI_0 c10
      refine s_bipush E dX1_turned_13 (v := (-2)) (by decide) ?_
      exact Rt ((-2)) (σ) dX1_turned_15 (⟨by rw [if_neg c2, if_neg c10], XS.rf _⟩) rfl (Nat.le_refl _) (Nat.le_refl _) rfl E.2.2.2.2.2.1
set_option maxHeartbeats 1000000 in
set_option maxRecDepth 100000 in
theorem x1z_left {l : Launch} {D : va_G} {gt : Nat → Nat} {ad : Nat → Nat} {ct : Nat → ClassId} {n : Nat} {τ σ : Nat → Nat → Int32} {T : va_W}  (hX : XT τ n) (hT : UT ad n τ T) (hP : PC (σ 1) n) (hbb : BB (σ 1)) (hp : ∀ v, v < n → In (σ 1 (6 + v)) 31) : Ct l D gt yX1_left cX1_left 1 .int 7 172 0 0 [.ref (ad 0)] (iw ad ct n τ σ T) (tysA ct) (fun r σ2 => nI (hitsT (tdF n 200 (vw τ (σ 1))).2 n (prods (tdF n 200 (vw τ (σ 1))).2 n)) = r ∧ XS σ σ2) (fun σ2 : Nat → Nat → Int32 => iw ad ct n τ σ2 T) (fun _ => tysA ct) := by
  refine Ct.start RX1 (by decide) rfl (Nat.le_of_ble_eq_true rfl) rfl ?_
  intro pP eE sS mM aA bB hM cC QQ AA E Rt
  have hn6 := hX.2.1
  refine s_aload_n E dX1_left_0 (i := 0) (j := 0) rfl rfl ?_
  refine c_goi0 E (rV E (cutS _ _) (x1z_turnsDown (hX) (hT) (hP) (hbb) (hp)) K_X1_305 (Nat.le_of_ble_eq_true rfl) (Nat.le_of_ble_eq_true rfl) (Nat.zero_le _) (Nat.zero_le _) 0 rfl rfl rfl rfl (Nat.le_of_ble_eq_true rfl) dX1_left_1) (fun r1 w1 h1 => ?_)
  obtain ⟨e1, x1, t1, p1⟩ := h1
  subst e1
  refine s_pop E dX1_left_4 rfl ?_
  refine s_aload_n E dX1_left_5 (i := 0) (j := 0) rfl rfl ?_
  refine iwX1_g0_11 E dX1_left_6 ?_
  refine s_aload_n E dX1_left_9 (i := 0) (j := 0) rfl rfl ?_
  refine iwX1_g0_7 E dX1_left_10 ?_
  refine c_gor0 E (rV E (cutS _ _) (x4z_of2 (hX) (hT)) K_X1_152 (Nat.le_of_ble_eq_true rfl) (Nat.le_of_ble_eq_true rfl) (Nat.zero_le _) (Nat.zero_le _) 27 rfl rfl rfl rfl (Nat.le_of_ble_eq_true rfl) dX1_left_13) (fun w13 h13 => ?_)
  rw [t1] at h13
  refine ia0_gor E (x4z_counted ((tdF n 200 (vw τ (σ 1))).2) n (h13.2) (hn6) (by decide) (by rw [← t1]; exact hX.tv) (by rw [← t1]; exact hX.nv p1) (by rw [← t1]; exact hX.ov)) K_X1_156 (Nat.le_of_ble_eq_true rfl) (Nat.le_of_ble_eq_true rfl) (Nat.zero_le _) (Nat.zero_le _) rfl rfl (Nat.le_of_ble_eq_true rfl) dX1_left_16 (fun w16 h16 => ?_)
  show Sm pP l eE { frames := 7, cells := 0, slots := 0, locals := 172 } sS mM aA bB hM cC QQ AA D 1 0 0 (iw ad ct n τ (airU0 w13 w16) T) 19 [(0, .ref (ad 0))] [.ref (ad 27)]
  refine iwX1_g27_16 E (v := nI (hitsT (tdF n 200 (vw τ (σ 1))).2 n (prods (tdF n 200 (vw τ (σ 1))).2 n))) (h16.1.1.2.2.2.2.1) dX1_left_19 ?_
  exact Rt (nI (hitsT (tdF n 200 (vw τ (σ 1))).2 n (prods (tdF n 200 (vw τ (σ 1))).2 n))) (airU0 w13 w16) dX1_left_22 (⟨rfl, (x1.tr h13.1.xs).tr XA.up.xs⟩) rfl (Nat.le_refl _) (Nat.le_refl _) rfl E.2.2.2.2.2.1
set_option maxHeartbeats 1000000 in
set_option maxRecDepth 100000 in
theorem x1z_mostPower {l : Launch} {D : va_G} {gt : Nat → Nat} {ad : Nat → Nat} {ct : Nat → ClassId} {n : Nat} {τ σ : Nat → Nat → Int32} {T : va_W} (u : Int32) (hX : XT τ n) (hT : UT ad n τ T) (hP : PC (σ 1) n) (hbb : BB (σ 1)) : Ct l D gt yX1_mostPower cX1_mostPower 3 .int 6 150 0 0 [.ref (ad 0), .int (u)] (iw ad ct n τ σ T) (tysA ct) (fun r σ2 => (if isU n u = true then optI (mpF (vw τ (σ 1)) n (tN u) 31) else -1) = r ∧ XS σ σ2) (fun σ2 : Nat → Nat → Int32 => iw ad ct n τ σ2 T) (fun _ => tysA ct) := by
  refine Ct.start RX1 (by decide) rfl (Nat.le_of_ble_eq_true rfl) rfl ?_
  intro pP eE sS mM aA bB hM cC QQ AA E Rt
  have hn6 := hX.2.1
  refine s_aload_n E dX1_mostPower_0 (i := 0) (j := 0) rfl rfl ?_
  refine s_iload_n E dX1_mostPower_1 (i := 1) (j := 1) rfl rfl ?_
  refine c_goi0 E (rV E (cutS _ _) (x1z_isUser u (hX)) K_X1_132 (Nat.le_of_ble_eq_true rfl) (Nat.le_of_ble_eq_true rfl) (Nat.zero_le _) (Nat.zero_le _) 0 rfl rfl rfl rfl (Nat.le_of_ble_eq_true rfl) dX1_mostPower_2) (fun r2 w2 h2 => ?_)
  obtain ⟨rfl, rfl⟩ := h2
  refine s_if_ne E dX1_mostPower_5 (tgt := 10) rfl (fun c5 => ?_) (fun c5 => ?_)
  · have c5 := bI_n0 c5
    obtain ⟨j, hj, rfl⟩ := us_isU c5 hn6
    refine s_aload_n E dX1_mostPower_10 (i := 0) (j := 0) rfl rfl ?_
    refine iwX1_g0_7 E dX1_mostPower_11 ?_
    refine s_aload_n E dX1_mostPower_14 (i := 0) (j := 0) rfl rfl ?_
    refine iwX1_g0_5 E dX1_mostPower_15 ?_
    refine c_gor0 E (rV E (cutS _ _) (x3z_like20 (hn6) (hbb)) K_X1_115 (Nat.le_of_ble_eq_true rfl) (Nat.le_of_ble_eq_true rfl) (Nat.zero_le _) (Nat.zero_le _) 17 rfl rfl rfl rfl (Nat.le_of_ble_eq_true rfl) dX1_mostPower_18) (fun w18 h18 => ?_)
    subst h18
    refine s_pop E dX1_mostPower_21 rfl ?_
    refine s_bipush E dX1_mostPower_22 (v := nI 30) (by decide) ?_
    refine s_istore_n E (L2 := [(2, .int (nI 30)), (0, .ref (ad 0)), (1, .int (nI j))]) dX1_mostPower_24 rfl (Nat.le_of_ble_eq_true rfl) rfl ?_
    have L25 : ∀ (fuel : Nat) (i : Nat) (x : Int32) (w25 : Nat → Nat → Int32), (i ≤ 31) → (XS σ w25) → (w25 3 = upd (σ 1) (6 + j) x) → (mpF (vw τ (σ 1)) n j 31 = mpF (vw τ (σ 1)) n j i) → i < fuel → Sm pP l eE { frames := 6, cells := 0, slots := 0, locals := 150 } sS mM aA bB hM cC QQ AA D 3 0 0 (iw ad ct n τ w25 T) 25 [(0, .ref (ad 0)), (1, .int (nI j)), (2, .int (m1I i))] [] := by
      intro fuel
      induction fuel with
      | zero =>
        intro i x w25 hi hw h3 hm hf25
        exact absurd hf25 (Nat.not_lt_zero _)
      | succ fuel ih25 =>
        intro i x w25 hi hw h3 hm hf25
        have hb := hitsT_le (st1 (vw τ (σ 1)) 25 (6 + j) (m1I i)) hn6
        refine s_iload_n E dX1_mostPower_25 (i := 2) (j := 2) rfl rfl ?_
        refine s_if_lt E dX1_mostPower_26 (tgt := 67) rfl (fun c26 => ?_) (fun c26 => ?_)
        · have hk0 := m1I_n (by omega) c26
          refine s_bipush E dX1_mostPower_67 (v := (-2)) (by decide) ?_
          exact Rt ((-2)) (w25) dX1_mostPower_69 (⟨by rw [if_pos c5, tN_nI (by omega), hm, hk0]; rfl, hw⟩) rfl (Nat.le_refl _) (Nat.le_refl _) rfl E.2.2.2.2.2.1
        · have hk := m1I_p c26
          refine s_aload_n E dX1_mostPower_29 (i := 0) (j := 0) rfl rfl ?_
          refine iwX1_g0_7 E dX1_mostPower_30 ?_
          refine iwX1_g17_1 E dX1_mostPower_33 ?_
          refine s_iload_n E dX1_mostPower_36 (i := 1) (j := 1) rfl rfl ?_
          refine s_iload_n E dX1_mostPower_37 (i := 2) (j := 2) rfl rfl ?_
          refine iw_s19 E (j) (rfl) (by omega) hn6 dX1_mostPower_38 ?_
          refine s_aload_n E dX1_mostPower_39 (i := 0) (j := 0) rfl rfl ?_
          refine iwX1_g0_11 E dX1_mostPower_40 ?_
          refine s_aload_n E dX1_mostPower_43 (i := 0) (j := 0) rfl rfl ?_
          refine iwX1_g0_7 E dX1_mostPower_44 ?_
          refine c_gor0 E (rV E (cutS _ _) (x4z_of2 (hX) (hT)) K_X1_152 (Nat.le_of_ble_eq_true rfl) (Nat.le_of_ble_eq_true rfl) (Nat.zero_le _) (Nat.zero_le _) 27 rfl rfl rfl rfl (Nat.le_of_ble_eq_true rfl) dX1_mostPower_47) (fun w47 h47 => ?_)
          rw [st3, h3, upd_2, vw_upd] at h47
          refine ia0_gor E (x4z_counted (st1 (vw τ (σ 1)) 25 (6 + j) (m1I i)) n (h47.2) (hn6) (by decide) (by rw [← vw_upd]; exact hX.tv) (by rw [← vw_upd]; exact hX.nv (PC.off hP (by omega))) (by rw [← vw_upd]; exact hX.ov)) K_X1_156 (Nat.le_of_ble_eq_true rfl) (Nat.le_of_ble_eq_true rfl) (Nat.zero_le _) (Nat.zero_le _) rfl rfl (Nat.le_of_ble_eq_true rfl) dX1_mostPower_50 (fun w50 h50 => ?_)
          show Sm pP l eE { frames := 6, cells := 0, slots := 0, locals := 150 } sS mM aA bB hM cC QQ AA D 3 0 0 (iw ad ct n τ (airU0 w47 w50) T) 53 [(0, .ref (ad 0)), (1, .int (nI j)), (2, .int (m1I i))] [.ref (ad 27)]
          refine iwX1_g27_16 E (v := nI (hitsT (st1 (vw τ (σ 1)) 25 (6 + j) (m1I i)) n (prods (st1 (vw τ (σ 1)) 25 (6 + j) (m1I i)) n))) (h50.1.1.2.2.2.2.1) dX1_mostPower_53 ?_
          refine s_if_ne E dX1_mostPower_56 (tgt := 61) rfl (fun c56 => ?_) (fun c56 => ?_)
          · have c56 : ¬ hitsT (st1 (vw τ (σ 1)) 25 (6 + j) (m1I i)) n (prods (st1 (vw τ (σ 1)) 25 (6 + j) (m1I i)) n) = 0 := fun h => c56 ((nI_eq (a := hitsT (st1 (vw τ (σ 1)) 25 (6 + j) (m1I i)) n (prods (st1 (vw τ (σ 1)) 25 (6 + j) (m1I i)) n)) (b := 0) (by omega) (by omega)).mpr h)
            refine s_iinc E (L2 := [(2, .int (m1I (i - 1))), (0, .ref (ad 0)), (1, .int (nI j))]) dX1_mostPower_61 (k := 2) rfl (v := m1I (i - 1)) (m1I_d2 hk.1) (Nat.le_of_ble_eq_true rfl) rfl ?_
            refine s_goto E dX1_mostPower_64 (tgt := 25) rfl ?_
            refine s_loc (L2 := [(0, .ref (ad 0)), (1, .int (nI j)), (2, .int (m1I (i - 1)))]) [1, 2, 0] rfl ?_
            exact ih25 (i - 1) (m1I i) (airU0 w47 w50) (by omega) (((hw.tr XS.st).tr h47.1.xs).tr XA.up.xs) (by rw [XA.up (σ := w47) (Y := w50) 3 (by decide), h47.1 3 (by decide), st3, h3, upd_2]) (by rw [hm]; exact mpF_s hk.1 c56) (by omega)
          · have c56 : hitsT (st1 (vw τ (σ 1)) 25 (6 + j) (m1I i)) n (prods (st1 (vw τ (σ 1)) 25 (6 + j) (m1I i)) n) = 0 := (nI_eq (a := hitsT (st1 (vw τ (σ 1)) 25 (6 + j) (m1I i)) n (prods (st1 (vw τ (σ 1)) 25 (6 + j) (m1I i)) n)) (b := 0) (by omega) (by omega)).mp c56
            refine s_iload_n E dX1_mostPower_59 (i := 2) (j := 2) rfl rfl ?_
            exact Rt (m1I i) (airU0 w47 w50) dX1_mostPower_60 (⟨by rw [if_pos c5, tN_nI (by omega), hm, mpF_e hk.1 c56]; exact optI_m1 hk.1, ((hw.tr XS.st).tr h47.1.xs).tr XA.up.xs⟩) rfl (Nat.le_refl _) (Nat.le_refl _) rfl E.2.2.2.2.2.1
    refine s_loc (L2 := [(0, .ref (ad 0)), (1, .int (nI j)), (2, .int (nI 30))]) [1, 2, 0] rfl ?_
    exact L25 (_ + 1) 31 (σ 1 (6 + j)) (likS 2 0 σ) (Nat.le_refl _) (XS.lik) (by rw [lik_3, upd_id]) (rfl) (Nat.lt_succ_self _)
  · have c5 := bI_0 c5
    refine s_iconst E dX1_mostPower_8 (v := (-1)) (by decide) ?_
    exact Rt ((-1)) (σ) dX1_mostPower_9 (⟨by rw [if_neg c5], XS.rf _⟩) rfl (Nat.le_refl _) (Nat.le_refl _) rfl E.2.2.2.2.2.1
theorem iwX1_p27_11 {p : Program} {l : Launch} {e : Env} {R : Room} {s : State} {m : MethodId} {args : Array Value} {below : List Frame} {meth : Method} {c : Code} {Q : State → Prop} {A : Nat → Prop} {D : va_G} {nL cells slots : Nat} {pc : Nat} {L : List (Nat × Value)} {S : List Value} {cc : ByteArray} {ret : Option FieldType} {gt : Nat → Nat} {ad : Nat → Nat} {ct : Nat → ClassId} {n : Nat} {τ σ : Nat → Nat → Int32} {T : va_W} (E : En p s m args meth c A cc nL RX1 ret D (tysA ct) gt) {v : Int32} (d : decode cc pc = .ok (.putfield 308, 3)) (K : Sm p l e R s m args below meth c Q A D nL cells slots (iw ad ct n τ (st1 σ 10 11 v) T) (pc + 3) L S) : Sm p l e R s m args below meth c Q A D nL cells slots (iw ad ct n τ σ T) pc L (.int v :: .ref (ad 27) :: S) := s_putN E in_X4 tyX4 tyX4_ok nmX4 27 rfl rfl 11 (Nat.le_of_ble_eq_true rfl) q289 rfl rfl rfl rfl (Nat.le_of_ble_eq_true rfl) rfl d K
set_option maxHeartbeats 1000000 in
set_option maxRecDepth 100000 in
theorem x1z_mostGuard {l : Launch} {D : va_G} {gt : Nat → Nat} {ad : Nat → Nat} {ct : Nat → ClassId} {n : Nat} {τ σ : Nat → Nat → Int32} {T : va_W}  (hX : XT τ n) (hT : UT ad n τ T) (hP : PC (σ 1) n) (hbb : BB (σ 1)) : Ct l D gt yX1_mostGuard cX1_mostGuard 2 .int 6 150 0 0 [.ref (ad 0)] (iw ad ct n τ σ T) (tysA ct) (fun r σ2 => optI (mgF (vw τ (σ 1)) n 6) = r ∧ XS σ σ2) (fun σ2 : Nat → Nat → Int32 => iw ad ct n τ σ2 T) (fun _ => tysA ct) := by
  refine Ct.start RX1 (by decide) rfl (Nat.le_of_ble_eq_true rfl) rfl ?_
  intro pP eE sS mM aA bB hM cC QQ AA E Rt
  have hn6 := hX.2.1
  refine s_aload_n E dX1_mostGuard_0 (i := 0) (j := 0) rfl rfl ?_
  refine iwX1_g0_11 E dX1_mostGuard_1 ?_
  refine s_aload_n E dX1_mostGuard_4 (i := 0) (j := 0) rfl rfl ?_
  refine iwX1_g0_5 E dX1_mostGuard_5 ?_
  refine c_gor0 E (rV E (cutS _ _) (x4z_of0 (hX) (hT)) K_X1_152 (Nat.le_of_ble_eq_true rfl) (Nat.le_of_ble_eq_true rfl) (Nat.zero_le _) (Nat.zero_le _) 27 rfl rfl rfl rfl (Nat.le_of_ble_eq_true rfl) dX1_mostGuard_8) (fun w8 h8 => ?_)
  refine s_pop E dX1_mostGuard_11 rfl ?_
  refine s_iconst E dX1_mostGuard_12 (v := nI 5) (by decide) ?_
  refine s_istore_n E (L2 := [(1, .int (nI 5)), (0, .ref (ad 0))]) dX1_mostGuard_13 rfl (Nat.le_of_ble_eq_true rfl) rfl ?_
  have L14 : ∀ (fuel : Nat) (i : Nat) (x : Int32) (w14 : Nat → Nat → Int32), (i ≤ 6) → (XS σ w14) → (AI (st1 (vw τ (σ 1)) 0 31 x) (airS0 w14) n) → (mgF (vw τ (σ 1)) n 6 = mgF (vw τ (σ 1)) n i) → i < fuel → Sm pP l eE { frames := 6, cells := 0, slots := 0, locals := 150 } sS mM aA bB hM cC QQ AA D 2 0 0 (iw ad ct n τ w14 T) 14 [(0, .ref (ad 0)), (1, .int (m1I i))] [] := by
    intro fuel
    induction fuel with
    | zero =>
      intro i x w14 hi hw hA hm hf14
      exact absurd hf14 (Nat.not_lt_zero _)
    | succ fuel ih14 =>
      intro i x w14 hi hw hA hm hf14
      have hb := hitsT_le (st1 (vw τ (σ 1)) 0 31 (m1I i)) hn6
      refine s_iload_n E dX1_mostGuard_14 (i := 1) (j := 1) rfl rfl ?_
      refine s_if_lt E dX1_mostGuard_15 (tgt := 47) rfl (fun c15 => ?_) (fun c15 => ?_)
      · have hk0 := m1I_n (by omega) c15
        refine s_bipush E dX1_mostGuard_47 (v := (-2)) (by decide) ?_
        exact Rt ((-2)) (w14) dX1_mostGuard_49 (⟨by rw [hm, hk0]; rfl, hw⟩) rfl (Nat.le_refl _) (Nat.le_refl _) rfl E.2.2.2.2.2.1
      · have hk := m1I_p c15
        refine s_aload_n E dX1_mostGuard_18 (i := 0) (j := 0) rfl rfl ?_
        refine iwX1_g0_11 E dX1_mostGuard_19 ?_
        refine s_iload_n E dX1_mostGuard_22 (i := 1) (j := 1) rfl rfl ?_
        refine iwX1_p27_11 E dX1_mostGuard_23 ?_
        refine s_aload_n E dX1_mostGuard_26 (i := 0) (j := 0) rfl rfl ?_
        refine iwX1_g0_11 E dX1_mostGuard_27 ?_
        refine ia0_gor E (x4z_counted (st1 (vw τ (σ 1)) 0 31 (m1I i)) n (by rw [airS_st]; exact hA.gu) (hn6) (by decide) (hX.tv.cg (st1_ne (by decide)) (st1_ne (by decide)) (st1_ne (by decide))) ((hX.nv hP).cg (st1_ne (by decide)) (st1_nj (by decide))) (by rw [st1_nj (by decide)]; exact hX.ov)) K_X1_156 (Nat.le_of_ble_eq_true rfl) (Nat.le_of_ble_eq_true rfl) (Nat.zero_le _) (Nat.zero_le _) rfl rfl (Nat.le_of_ble_eq_true rfl) dX1_mostGuard_30 (fun w30 h30 => ?_)
        show Sm pP l eE { frames := 6, cells := 0, slots := 0, locals := 150 } sS mM aA bB hM cC QQ AA D 2 0 0 (iw ad ct n τ (airU0 (st1 w14 10 11 (m1I i)) w30) T) 33 [(0, .ref (ad 0)), (1, .int (m1I i))] [.ref (ad 27)]
        refine iwX1_g27_16 E (v := nI (hitsT (st1 (vw τ (σ 1)) 0 31 (m1I i)) n (prods (st1 (vw τ (σ 1)) 0 31 (m1I i)) n))) (h30.1.1.2.2.2.2.1) dX1_mostGuard_33 ?_
        refine s_if_ne E dX1_mostGuard_36 (tgt := 41) rfl (fun c36 => ?_) (fun c36 => ?_)
        · have c36 : ¬ hitsT (st1 (vw τ (σ 1)) 0 31 (m1I i)) n (prods (st1 (vw τ (σ 1)) 0 31 (m1I i)) n) = 0 := fun h => c36 ((nI_eq (a := hitsT (st1 (vw τ (σ 1)) 0 31 (m1I i)) n (prods (st1 (vw τ (σ 1)) 0 31 (m1I i)) n)) (b := 0) (by omega) (by omega)).mpr h)
          refine s_iinc E (L2 := [(1, .int (m1I (i - 1))), (0, .ref (ad 0))]) dX1_mostGuard_41 (k := 1) rfl (v := m1I (i - 1)) (m1I_d2 hk.1) (Nat.le_of_ble_eq_true rfl) rfl ?_
          refine s_goto E dX1_mostGuard_44 (tgt := 14) rfl ?_
          refine s_loc (L2 := [(0, .ref (ad 0)), (1, .int (m1I (i - 1)))]) [1, 0] rfl ?_
          exact ih14 (i - 1) (m1I i) (airU0 (st1 w14 10 11 (m1I i)) w30) (by omega) ((hw.tr (XA.st (by decide)).xs).tr XA.up.xs) (h30.1.1.1.us) (by rw [hm]; exact mgF_s hk.1 c36) (by omega)
        · have c36 : hitsT (st1 (vw τ (σ 1)) 0 31 (m1I i)) n (prods (st1 (vw τ (σ 1)) 0 31 (m1I i)) n) = 0 := (nI_eq (a := hitsT (st1 (vw τ (σ 1)) 0 31 (m1I i)) n (prods (st1 (vw τ (σ 1)) 0 31 (m1I i)) n)) (b := 0) (by omega) (by omega)).mp c36
          refine s_iload_n E dX1_mostGuard_39 (i := 1) (j := 1) rfl rfl ?_
          exact Rt (m1I i) (airU0 (st1 w14 10 11 (m1I i)) w30) dX1_mostGuard_40 (⟨by rw [hm, mgF_e hk.1 c36]; exact optI_m1 hk.1, (hw.tr (XA.st (by decide)).xs).tr XA.up.xs⟩) rfl (Nat.le_refl _) (Nat.le_refl _) rfl E.2.2.2.2.2.1
  refine s_loc (L2 := [(0, .ref (ad 0)), (1, .int (nI 5))]) [1, 0] rfl ?_
  exact L14 (_ + 1) 6 ((vw τ (σ 1)) 0 31) w8 (Nat.le_refl _) (h8.1.xs) (by rw [st1_id]; exact h8.2) (rfl) (Nat.lt_succ_self _)
theorem iwX1_p27_12 {p : Program} {l : Launch} {e : Env} {R : Room} {s : State} {m : MethodId} {args : Array Value} {below : List Frame} {meth : Method} {c : Code} {Q : State → Prop} {A : Nat → Prop} {D : va_G} {nL cells slots : Nat} {pc : Nat} {L : List (Nat × Value)} {S : List Value} {cc : ByteArray} {ret : Option FieldType} {gt : Nat → Nat} {ad : Nat → Nat} {ct : Nat → ClassId} {n : Nat} {τ σ : Nat → Nat → Int32} {T : va_W} (E : En p s m args meth c A cc nL RX1 ret D (tysA ct) gt) {v : Int32} (d : decode cc pc = .ok (.putfield 296, 3)) (K : Sm p l e R s m args below meth c Q A D nL cells slots (iw ad ct n τ (st1 σ 10 12 v) T) (pc + 3) L S) : Sm p l e R s m args below meth c Q A D nL cells slots (iw ad ct n τ σ T) pc L (.int v :: .ref (ad 27) :: S) := s_putN E in_X4 tyX4 tyX4_ok nmX4 27 rfl rfl 12 (Nat.le_of_ble_eq_true rfl) q291 rfl rfl rfl rfl (Nat.le_of_ble_eq_true rfl) rfl d K
set_option maxHeartbeats 1000000 in
set_option maxRecDepth 100000 in
theorem x1z_mostSpace {l : Launch} {D : va_G} {gt : Nat → Nat} {ad : Nat → Nat} {ct : Nat → ClassId} {n : Nat} {τ σ : Nat → Nat → Int32} {T : va_W}  (hX : XT τ n) (hT : UT ad n τ T) (hP : PC (σ 1) n) (hbb : BB (σ 1)) : Ct l D gt yX1_mostSpace cX1_mostSpace 2 .int 6 150 0 0 [.ref (ad 0)] (iw ad ct n τ σ T) (tysA ct) (fun r σ2 => (if msF (vw τ (σ 1)) n 20 = 0 then -2 else nI (msF (vw τ (σ 1)) n 20)) = r ∧ XS σ σ2) (fun σ2 : Nat → Nat → Int32 => iw ad ct n τ σ2 T) (fun _ => tysA ct) := by
  refine Ct.start RX1 (by decide) rfl (Nat.le_of_ble_eq_true rfl) rfl ?_
  intro pP eE sS mM aA bB hM cC QQ AA E Rt
  have hn6 := hX.2.1
  refine s_aload_n E dX1_mostSpace_0 (i := 0) (j := 0) rfl rfl ?_
  refine iwX1_g0_11 E dX1_mostSpace_1 ?_
  refine s_aload_n E dX1_mostSpace_4 (i := 0) (j := 0) rfl rfl ?_
  refine iwX1_g0_5 E dX1_mostSpace_5 ?_
  refine c_gor0 E (rV E (cutS _ _) (x4z_of0 (hX) (hT)) K_X1_152 (Nat.le_of_ble_eq_true rfl) (Nat.le_of_ble_eq_true rfl) (Nat.zero_le _) (Nat.zero_le _) 27 rfl rfl rfl rfl (Nat.le_of_ble_eq_true rfl) dX1_mostSpace_8) (fun w8 h8 => ?_)
  refine s_pop E dX1_mostSpace_11 rfl ?_
  refine s_bipush E dX1_mostSpace_12 (v := nI 20) (by decide) ?_
  refine s_istore_n E (L2 := [(1, .int (nI 20)), (0, .ref (ad 0))]) dX1_mostSpace_14 rfl (Nat.le_of_ble_eq_true rfl) rfl ?_
  have L15 : ∀ (fuel : Nat) (i : Nat) (x : Int32) (w15 : Nat → Nat → Int32), (i ≤ 20) → (XS σ w15) → (AI (st1 (vw τ (σ 1)) 0 32 x) (airS0 w15) n) → (msF (vw τ (σ 1)) n 20 = msF (vw τ (σ 1)) n i) → i < fuel → Sm pP l eE { frames := 6, cells := 0, slots := 0, locals := 150 } sS mM aA bB hM cC QQ AA D 2 0 0 (iw ad ct n τ w15 T) 15 [(0, .ref (ad 0)), (1, .int (nI i))] [] := by
    intro fuel
    induction fuel with
    | zero =>
      intro i x w15 hi hw hA hm hf15
      exact absurd hf15 (Nat.not_lt_zero _)
    | succ fuel ih15 =>
      intro i x w15 hi hw hA hm hf15
      have hb := crowdsT_le (st1 (vw τ (σ 1)) 0 32 (nI i)) hn6
      refine s_iload_n E dX1_mostSpace_15 (i := 1) (j := 1) rfl rfl ?_
      refine s_if_le E dX1_mostSpace_16 (tgt := 48) rfl (fun c16 => ?_) (fun c16 => ?_)
      · have c16 : ¬ 0 < i := fun h => absurd c16 (Int32.not_le.mpr ((nI_ltI (a := 0) (b := i) (by omega) (by omega)).mpr h))
        refine s_bipush E dX1_mostSpace_48 (v := (-2)) (by decide) ?_
        exact Rt ((-2)) (w15) dX1_mostSpace_50 (⟨by rw [hm, show i = 0 by omega]; rfl, hw⟩) rfl (Nat.le_refl _) (Nat.le_refl _) rfl E.2.2.2.2.2.1
      · have c16 : 0 < i := (nI_ltI (a := 0) (b := i) (by omega) (by omega)).mp (Int32.not_le.mp c16)
        refine s_aload_n E dX1_mostSpace_19 (i := 0) (j := 0) rfl rfl ?_
        refine iwX1_g0_11 E dX1_mostSpace_20 ?_
        refine s_iload_n E dX1_mostSpace_23 (i := 1) (j := 1) rfl rfl ?_
        refine iwX1_p27_12 E dX1_mostSpace_24 ?_
        refine s_aload_n E dX1_mostSpace_27 (i := 0) (j := 0) rfl rfl ?_
        refine iwX1_g0_11 E dX1_mostSpace_28 ?_
        refine ia0_gor E (x4z_counted (st1 (vw τ (σ 1)) 0 32 (nI i)) n (by rw [airS_st]; exact hA.sp) (hn6) (by decide) (hX.tv.cg (st1_ne (by decide)) (st1_ne (by decide)) (st1_ne (by decide))) ((hX.nv hP).cg (st1_ne (by decide)) (st1_nj (by decide))) (by rw [st1_nj (by decide)]; exact hX.ov)) K_X1_156 (Nat.le_of_ble_eq_true rfl) (Nat.le_of_ble_eq_true rfl) (Nat.zero_le _) (Nat.zero_le _) rfl rfl (Nat.le_of_ble_eq_true rfl) dX1_mostSpace_31 (fun w31 h31 => ?_)
        show Sm pP l eE { frames := 6, cells := 0, slots := 0, locals := 150 } sS mM aA bB hM cC QQ AA D 2 0 0 (iw ad ct n τ (airU0 (st1 w15 10 12 (nI i)) w31) T) 34 [(0, .ref (ad 0)), (1, .int (nI i))] [.ref (ad 27)]
        refine iwX1_g27_17 E (v := nI (crowdsT (st1 (vw τ (σ 1)) 0 32 (nI i)) n)) (h31.2) dX1_mostSpace_34 ?_
        refine s_if_ne E dX1_mostSpace_37 (tgt := 42) rfl (fun c37 => ?_) (fun c37 => ?_)
        · have c37 : ¬ crowdsT (st1 (vw τ (σ 1)) 0 32 (nI i)) n = 0 := fun h => c37 ((nI_eq (a := crowdsT (st1 (vw τ (σ 1)) 0 32 (nI i)) n) (b := 0) (by omega) (by omega)).mpr h)
          refine s_iinc E (L2 := [(1, .int (nI (i - 1))), (0, .ref (ad 0))]) dX1_mostSpace_42 (k := 1) rfl (v := nI (i - 1)) (by have := nI_dec2 (i := i) (b := 0) c16; simpa using this) (Nat.le_of_ble_eq_true rfl) rfl ?_
          refine s_goto E dX1_mostSpace_45 (tgt := 15) rfl ?_
          refine s_loc (L2 := [(0, .ref (ad 0)), (1, .int (nI (i - 1)))]) [1, 0] rfl ?_
          exact ih15 (i - 1) (nI i) (airU0 (st1 w15 10 12 (nI i)) w31) (by omega) ((hw.tr (XA.st (by decide)).xs).tr XA.up.xs) (h31.1.1.1.us) (by rw [hm]; exact msF_s c16 c37) (by omega)
        · have c37 : crowdsT (st1 (vw τ (σ 1)) 0 32 (nI i)) n = 0 := (nI_eq (a := crowdsT (st1 (vw τ (σ 1)) 0 32 (nI i)) n) (b := 0) (by omega) (by omega)).mp c37
          refine s_iload_n E dX1_mostSpace_40 (i := 1) (j := 1) rfl rfl ?_
          exact Rt (nI i) (airU0 (st1 w15 10 12 (nI i)) w31) dX1_mostSpace_41 (⟨by rw [hm, msF_e c16 c37, if_neg (by omega)], (hw.tr (XA.st (by decide)).xs).tr XA.up.xs⟩) rfl (Nat.le_refl _) (Nat.le_refl _) rfl E.2.2.2.2.2.1
  refine s_loc (L2 := [(0, .ref (ad 0)), (1, .int (nI 20))]) [1, 0] rfl ?_
  exact L15 (_ + 1) 20 ((vw τ (σ 1)) 0 32) w8 (Nat.le_refl _) (h8.1.xs) (by rw [st1_id]; exact h8.2) (rfl) (Nat.lt_succ_self _)
