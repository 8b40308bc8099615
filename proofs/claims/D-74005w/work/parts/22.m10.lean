set_option maxRecDepth 100000
section
variable {l : Launch} {D : va_G} {gt ad : Nat → Nat} {ct : Nat → ClassId}
set_option maxHeartbeats 1000000 in
set_option maxRecDepth 100000 in
theorem mz_hasHits {σ : Nat → Nat → Int32} (n : Nat) (hn : σ 3 7 = nI n) (hn6 : n ≤ 6) (hs : ∀ v, v < n → In (σ 6 v) 3) : Ct l D gt yX5_hasHits cX5_hasHits 1 .boolean 5 113 0 0 [.ref (ad 0)] (wm ad ct σ) (tysA ct) (fun r σ2 => bI (0 < hitsT σ n (prods σ n)) = r ∧ HR σ σ2) (fun σ2 => wm ad ct σ2) (fun _ => tysA ct) := by
  refine Ct.start RX5 (by decide) rfl (Nat.le_of_ble_eq_true rfl) rfl ?_
  intro pP eE sS mM aA bB hM cC QQ AA E Rt
  refine s_aload_n E dX5_hasHits_0 (i := 0) (j := 0) rfl rfl ?_
  refine m_callv E (mz_laysProducts n (hn) (hn6)) K5_326 (Nat.le_of_ble_eq_true rfl) (Nat.le_of_ble_eq_true rfl) (Nat.zero_le _) (Nat.zero_le _) rfl rfl (Nat.le_of_ble_eq_true rfl) dX5_hasHits_1 (fun w1 h1 => ?_)
  have h := HW.of h1 hn hn6 hs
  have hl := h.2.2.1
  refine s_aload_n E dX5_hasHits_4 (i := 0) (j := 0) rfl rfl ?_
  refine m_calli E (mz_allHits σ (prods σ n) n (h)) K5_381 (Nat.le_of_ble_eq_true rfl) (Nat.le_of_ble_eq_true rfl) (Nat.zero_le _) (Nat.zero_le _) rfl rfl (Nat.le_of_ble_eq_true rfl) dX5_hasHits_5 (fun r5 w5 h5 => ?_)
  obtain ⟨rfl, rfl⟩ := h5
  have hb5 : hitsT σ n (prods σ n) ≤ 2400 := sumN_300 (Nat.le_refl _) hl (fun u => pop_le _)
  refine s_if_le E dX5_hasHits_8 (tgt := 15) rfl (fun c8 => ?_) (fun c8 => ?_)
  · have c8 : ¬ 0 < hitsT σ n (prods σ n) := fun h => absurd c8 (Int32.not_le.mpr ((nI_ltI (a := 0) (b := hitsT σ n (prods σ n)) (by omega) (by omega)).mpr h))
    refine s_iconst E dX5_hasHits_15 (v := nI 0) (by decide) ?_
    exact Rt (nI 0) (w1) dX5_hasHits_16 (⟨by simp [bI, c8], h.1.1⟩) rfl (Nat.le_refl _) (Nat.le_refl _) rfl E.2.2.2.2.2.1
  · have c8 : 0 < hitsT σ n (prods σ n) := (nI_ltI (a := 0) (b := hitsT σ n (prods σ n)) (by omega) (by omega)).mp (Int32.not_le.mp c8)
    refine s_iconst E dX5_hasHits_11 (v := nI 1) (by decide) ?_
    refine s_goto E dX5_hasHits_12 (tgt := 16) rfl ?_
    exact Rt (nI 1) (w1) dX5_hasHits_16 (⟨by simp [bI, c8], h.1.1⟩) rfl (Nat.le_refl _) (Nat.le_refl _) rfl E.2.2.2.2.2.1
set_option maxHeartbeats 1000000 in
set_option maxRecDepth 100000 in
theorem mz_bestSwap {σ : Nat → Nat → Int32} (n : Nat) (hn : σ 3 7 = nI n) (hn6 : n ≤ 6) (hs : ∀ v, v < n → In (σ 6 v) 3) : Ct l D gt yX5_bestSwap cX5_bestSwap 6 .int 5 113 0 0 [.ref (ad 0)] (wm ad ct σ) (tysA ct) (fun r σ2 => optI (bsO (zt σ) n n).1 = r ∧ HR (zt σ) σ2) (fun σ2 => wm ad ct σ2) (fun _ => tysA ct) := by
  refine Ct.start RX5 (by decide) rfl (Nat.le_of_ble_eq_true rfl) rfl ?_
  intro pP eE sS mM aA bB hM cC QQ AA E Rt
  refine s_aload_n E dX5_bestSwap_0 (i := 0) (j := 0) rfl rfl ?_
  refine s_iconst E dX5_bestSwap_1 (v := nI 0) (by decide) ?_
  refine mp0 E dX5_bestSwap_2 ?_
  refine s_ws (ws2 := wm ad ct (zt σ)) (congrArg (wm ad ct) (rfl)) ?_
  refine s_aload_n E dX5_bestSwap_5 (i := 0) (j := 0) rfl rfl ?_
  refine m_callv E (mz_laysProducts n (hn) (hn6)) K5_326 (Nat.le_of_ble_eq_true rfl) (Nat.le_of_ble_eq_true rfl) (Nat.zero_le _) (Nat.zero_le _) rfl rfl (Nat.le_of_ble_eq_true rfl) dX5_bestSwap_6 (fun w6 h6 => ?_)
  have h := HW.of (s0 := zt σ) h6 hn hn6 hs
  have hl := h.2.2.1
  refine s_aload_n E dX5_bestSwap_9 (i := 0) (j := 0) rfl rfl ?_
  refine m_calli E (mz_allHits (zt σ) (prods (zt σ) n) n (h)) K5_381 (Nat.le_of_ble_eq_true rfl) (Nat.le_of_ble_eq_true rfl) (Nat.zero_le _) (Nat.zero_le _) rfl rfl (Nat.le_of_ble_eq_true rfl) dX5_bestSwap_10 (fun r10 w10 h10 => ?_)
  obtain ⟨rfl, rfl⟩ := h10
  refine s_aload_n E dX5_bestSwap_13 (i := 0) (j := 0) rfl rfl ?_
  refine m_calli E (mz_allCrowds n (h.users) (hn6)) K5_384 (Nat.le_of_ble_eq_true rfl) (Nat.le_of_ble_eq_true rfl) (Nat.zero_le _) (Nat.zero_le _) rfl rfl (Nat.le_of_ble_eq_true rfl) dX5_bestSwap_14 (fun r14 w14 h14 => ?_)
  obtain ⟨rfl, rfl⟩ := h14
  refine s_iadd_ E dX5_bestSwap_17 (v := nI (noiseN (zt σ) n)) (by rw [crowdsT_ce h.1.1.ce]; exact nI_add _ _) ?_
  refine s_istore_n E (L2 := [(1, .int (nI (noiseN (zt σ) n))), (0, .ref (ad 0))]) dX5_bestSwap_18 rfl (Nat.le_of_ble_eq_true rfl) rfl ?_
  refine s_bipush E dX5_bestSwap_19 (v := (-2)) (by decide) ?_
  refine s_istore_n E (L2 := [(2, .int ((-2))), (1, .int (nI (noiseN (zt σ) n))), (0, .ref (ad 0))]) dX5_bestSwap_21 rfl (Nat.le_of_ble_eq_true rfl) rfl ?_
  refine s_iconst E dX5_bestSwap_22 (v := nI 0) (by decide) ?_
  refine s_istore_n E (L2 := [(3, .int (nI 0)), (2, .int ((-2))), (1, .int (nI (noiseN (zt σ) n))), (0, .ref (ad 0))]) dX5_bestSwap_23 rfl (Nat.le_of_ble_eq_true rfl) rfl ?_
  have L24 : ∀ (fuel : Nat) (a : Nat) (w1 : Nat → Nat → Int32), (a ≤ n) → (HR (zt σ) w1) → (n - a) < fuel → Sm pP l eE { frames := 5, cells := 0, slots := 0, locals := 113 } sS mM aA bB hM cC QQ AA D 6 0 0 (wm ad ct w1) 24 [(0, .ref (ad 0)), (1, .int (nI ((bsO (zt σ) n a).2))), (2, .int (optI (bsO (zt σ) n a).1)), (3, .int (nI a))] [] := by
    intro fuel
    induction fuel with
    | zero =>
      intro a w1 ha hw1 hf24
      exact absurd hf24 (Nat.not_lt_zero _)
    | succ fuel ih24 =>
      intro a w1 ha hw1 hf24
      refine s_iload_n E dX5_bestSwap_24 (i := 3) (j := 3) rfl rfl ?_
      refine s_aload_n E dX5_bestSwap_25 (i := 0) (j := 0) rfl rfl ?_
      refine m_calli E (mz_users n (by rw [hw1.ce.2.2.1]; exact hn)) K5_232 (Nat.le_of_ble_eq_true rfl) (Nat.le_of_ble_eq_true rfl) (Nat.zero_le _) (Nat.zero_le _) rfl rfl (Nat.le_of_ble_eq_true rfl) dX5_bestSwap_26 (fun r26 w26 h26 => ?_)
      obtain ⟨rfl, rfl⟩ := h26
      refine s_icmp_ge E dX5_bestSwap_29 (tgt := 133) rfl (fun c29 => ?_) (fun c29 => ?_)
      · have c29 : ¬ a < n := fun h => absurd c29 (Int32.not_le.mpr ((nI_ltI (a := a) (b := n) (by omega) (by omega)).mpr h))
        refine s_iload_n E dX5_bestSwap_133 (i := 2) (j := 2) rfl rfl ?_
        exact Rt (optI (bsO (zt σ) n a).1) (w1) dX5_bestSwap_134 (⟨by rw [show n = a by omega], hw1⟩) rfl (Nat.le_refl _) (Nat.le_refl _) rfl E.2.2.2.2.2.1
      · have c29 : a < n := (nI_ltI (a := a) (b := n) (by omega) (by omega)).mp (Int32.not_le.mp c29)
        refine s_iload_n E dX5_bestSwap_32 (i := 3) (j := 3) rfl rfl ?_
        refine s_iconst E dX5_bestSwap_33 (v := nI 1) (by decide) ?_
        refine s_iadd_ E dX5_bestSwap_34 (v := nI (a + 1)) (nI_add _ _) ?_
        refine s_istore E (L2 := [(4, .int (nI (a + 1))), (0, .ref (ad 0)), (1, .int (nI ((bsO (zt σ) n a).2))), (2, .int (optI (bsO (zt σ) n a).1)), (3, .int (nI a))]) dX5_bestSwap_35 (Nat.le_of_ble_eq_true rfl) rfl ?_
        have L37 : ∀ (fuel : Nat) (i : Nat) (w2 : Nat → Nat → Int32), (a + 1 + i ≤ n) → (HR (zt σ) w2) → (n - i) < fuel → Sm pP l eE { frames := 5, cells := 0, slots := 0, locals := 113 } sS mM aA bB hM cC QQ AA D 6 0 0 (wm ad ct w2) 37 [(0, .ref (ad 0)), (1, .int (nI ((bsI (zt σ) n a (bsO (zt σ) n a) i).2))), (2, .int (optI (bsI (zt σ) n a (bsO (zt σ) n a) i).1)), (3, .int (nI a)), (4, .int (nI (a + 1 + i)))] [] := by
          intro fuel
          induction fuel with
          | zero =>
            intro i w2 hi hw hf37
            exact absurd hf37 (Nat.not_lt_zero _)
          | succ fuel ih37 =>
            intro i w2 hi hw hf37
            have hb2 := bsI_le (zt σ) a (bsO (zt σ) n a) i hn6 (bsO_le (zt σ) a hn6)
            refine s_iload E dX5_bestSwap_37 (i := 4) (j := 4) rfl ?_
            refine s_aload_n E dX5_bestSwap_39 (i := 0) (j := 0) rfl rfl ?_
            refine m_calli E (mz_users n (by rw [hw.ce.2.2.1]; exact hn)) K5_232 (Nat.le_of_ble_eq_true rfl) (Nat.le_of_ble_eq_true rfl) (Nat.zero_le _) (Nat.zero_le _) rfl rfl (Nat.le_of_ble_eq_true rfl) dX5_bestSwap_40 (fun r40 w40 h40 => ?_)
            obtain ⟨rfl, rfl⟩ := h40
            refine s_icmp_ge E dX5_bestSwap_43 (tgt := 127) rfl (fun c43 => ?_) (fun c43 => ?_)
            · have c43 : ¬ a + 1 + i < n := fun h => absurd c43 (Int32.not_le.mpr ((nI_ltI (a := a + 1 + i) (b := n) (by omega) (by omega)).mpr h))
              have hin : a + 1 + i = n := by omega
              refine s_iinc E (L2 := [(3, .int (nI (a + 1))), (0, .ref (ad 0)), (1, .int (nI ((bsI (zt σ) n a (bsO (zt σ) n a) i).2))), (2, .int (optI (bsI (zt σ) n a (bsO (zt σ) n a) i).1)), (4, .int (nI (a + 1 + i)))]) dX5_bestSwap_127 (k := 3) rfl (v := nI (a + 1)) (nI_inc _) (Nat.le_of_ble_eq_true rfl) rfl ?_
              refine s_goto E dX5_bestSwap_130 (tgt := 24) rfl ?_
              refine s_loc (L2 := [(0, .ref (ad 0)), (1, .int (nI ((bsI (zt σ) n a (bsO (zt σ) n a) i).2))), (2, .int (optI (bsI (zt σ) n a (bsO (zt σ) n a) i).1)), (3, .int (nI (a + 1)))]) [1, 2, 3, 0] rfl ?_
              refine s_L (L2 := [(0, .ref (ad 0)), (1, .int (nI ((bsO (zt σ) n (a + 1)).2))), (2, .int (optI (bsO (zt σ) n (a + 1)).1)), (3, .int (nI (a + 1)))]) (by rw [bsO, show n - (a + 1) = i by omega]) ?_
              exact ih24 (a + 1) w2 (by omega) (hw) (by omega)
            · have c43 : a + 1 + i < n := (nI_ltI (a := a + 1 + i) (b := n) (by omega) (by omega)).mp (Int32.not_le.mp c43)
              refine s_aload_n E dX5_bestSwap_46 (i := 0) (j := 0) rfl rfl ?_
              refine mg25 E dX5_bestSwap_47 ?_
              refine s_iconst E dX5_bestSwap_50 (v := nI 0) (by decide) ?_
              refine s_iload_n E dX5_bestSwap_51 (i := 3) (j := 3) rfl rfl ?_
              refine s_iadd_ E dX5_bestSwap_52 (v := nI a) (nI_z _) ?_
              refine ml25 E (v := w2 25 a) (a) (rfl) (by omega) (rfl) dX5_bestSwap_53 ?_
              refine s_if_eq E dX5_bestSwap_54 (tgt := 121) rfl (fun c54 => ?_) (fun c54 => ?_)
              · refine s_iinc E (L2 := [(4, .int (nI (a + 1 + i + 1))), (0, .ref (ad 0)), (1, .int (nI ((bsI (zt σ) n a (bsO (zt σ) n a) i).2))), (2, .int (optI (bsI (zt σ) n a (bsO (zt σ) n a) i).1)), (3, .int (nI a))]) dX5_bestSwap_121 (k := 4) rfl (v := nI (a + 1 + i + 1)) (nI_inc _) (Nat.le_of_ble_eq_true rfl) rfl ?_
                refine s_goto E dX5_bestSwap_124 (tgt := 37) rfl ?_
                refine s_loc (L2 := [(0, .ref (ad 0)), (1, .int (nI ((bsI (zt σ) n a (bsO (zt σ) n a) i).2))), (2, .int (optI (bsI (zt σ) n a (bsO (zt σ) n a) i).1)), (3, .int (nI a)), (4, .int (nI (a + 1 + i + 1)))]) [1, 2, 3, 4, 0] rfl ?_
                refine s_L (L2 := [(0, .ref (ad 0)), (1, .int (nI ((bsI (zt σ) n a (bsO (zt σ) n a) (i + 1)).2))), (2, .int (optI (bsI (zt σ) n a (bsO (zt σ) n a) (i + 1)).1)), (3, .int (nI a)), (4, .int (nI (a + 1 + (i + 1))))]) (by rw [bsI, bsS, if_pos (Or.inl (by rw [← hw.ce.1]; exact c54))]; first | rfl | (congr 1; omega)) ?_
                exact ih37 (i + 1) w2 (by omega) (hw) (by omega)
              · refine s_aload_n E dX5_bestSwap_57 (i := 0) (j := 0) rfl rfl ?_
                refine mg25 E dX5_bestSwap_58 ?_
                refine s_iconst E dX5_bestSwap_61 (v := nI 0) (by decide) ?_
                refine s_iload E dX5_bestSwap_62 (i := 4) (j := 4) rfl ?_
                refine s_iadd_ E dX5_bestSwap_64 (v := nI (a + 1 + i)) (nI_z _) ?_
                refine ml25 E (v := w2 25 (a + 1 + i)) (a + 1 + i) (rfl) (by omega) (rfl) dX5_bestSwap_65 ?_
                refine s_if_ne E dX5_bestSwap_66 (tgt := 72) rfl (fun c66 => ?_) (fun c66 => ?_)
                · have hno : ¬ ((zt σ) 25 a = 0 ∨ (zt σ) 25 (a + 1 + i) = 0) := by rw [← hw.ce.1]; rintro (h1 | h1); exact c54 h1; exact c66 h1
                  refine s_aload_n E dX5_bestSwap_72 (i := 0) (j := 0) rfl rfl ?_
                  refine s_iload_n E dX5_bestSwap_73 (i := 3) (j := 3) rfl rfl ?_
                  refine s_iload E dX5_bestSwap_74 (i := 4) (j := 4) rfl ?_
                  refine m_callv E (mz_exchanges a (a + 1 + i) (by omega) (by omega)) K5_402 (Nat.le_of_ble_eq_true rfl) (Nat.le_of_ble_eq_true rfl) (Nat.zero_le _) (Nat.zero_le _) rfl rfl (Nat.le_of_ble_eq_true rfl) dX5_bestSwap_76 (fun w76 h76 => ?_)
                  have hsw := swapF_hr (a := a) (b := a + 1 + i) hw
                  subst h76
                  refine s_aload_n E dX5_bestSwap_79 (i := 0) (j := 0) rfl rfl ?_
                  refine m_callv E (mz_laysProducts n (by rw [hsw.ce.2.2.1]; exact hn) (hn6)) K5_326 (Nat.le_of_ble_eq_true rfl) (Nat.le_of_ble_eq_true rfl) (Nat.zero_le _) (Nat.zero_le _) rfl rfl (Nat.le_of_ble_eq_true rfl) dX5_bestSwap_80 (fun w80 h80 => ?_)
                  have h8 := HW.of (s0 := swapF w2 a (a + 1 + i)) h80 (by rw [hsw.ce.2.2.1]; exact hn) hn6 (by rw [hsw.ce.2.1]; exact hs)
                  refine s_aload_n E dX5_bestSwap_83 (i := 0) (j := 0) rfl rfl ?_
                  refine m_calli E (mz_allHits (swapF w2 a (a + 1 + i)) (prods (swapF w2 a (a + 1 + i)) n) n (h8)) K5_381 (Nat.le_of_ble_eq_true rfl) (Nat.le_of_ble_eq_true rfl) (Nat.zero_le _) (Nat.zero_le _) rfl rfl (Nat.le_of_ble_eq_true rfl) dX5_bestSwap_84 (fun r84 w84 h84 => ?_)
                  obtain ⟨rfl, rfl⟩ := h84
                  refine s_aload_n E dX5_bestSwap_87 (i := 0) (j := 0) rfl rfl ?_
                  refine m_calli E (mz_allCrowds n (h8.users) (hn6)) K5_384 (Nat.le_of_ble_eq_true rfl) (Nat.le_of_ble_eq_true rfl) (Nat.zero_le _) (Nat.zero_le _) rfl rfl (Nat.le_of_ble_eq_true rfl) dX5_bestSwap_88 (fun r88 w88 h88 => ?_)
                  obtain ⟨rfl, rfl⟩ := h88
                  refine s_iadd_ E dX5_bestSwap_91 (v := nI (noiseN (swapF (zt σ) a (a + 1 + i)) n)) (by rw [crowdsT_ce h8.1.1.ce, ← noiseN_ce hsw.ce]; exact nI_add _ _) ?_
                  refine s_istore E (L2 := [(5, .int (nI (noiseN (swapF (zt σ) a (a + 1 + i)) n))), (0, .ref (ad 0)), (1, .int (nI ((bsI (zt σ) n a (bsO (zt σ) n a) i).2))), (2, .int (optI (bsI (zt σ) n a (bsO (zt σ) n a) i).1)), (3, .int (nI a)), (4, .int (nI (a + 1 + i)))]) dX5_bestSwap_92 (Nat.le_of_ble_eq_true rfl) rfl ?_
                  refine s_aload_n E dX5_bestSwap_94 (i := 0) (j := 1) rfl rfl ?_
                  refine s_iload_n E dX5_bestSwap_95 (i := 3) (j := 4) rfl rfl ?_
                  refine s_iload E dX5_bestSwap_96 (i := 4) (j := 5) rfl ?_
                  refine m_callv E (mz_exchanges a (a + 1 + i) (by omega) (by omega)) K5_402 (Nat.le_of_ble_eq_true rfl) (Nat.le_of_ble_eq_true rfl) (Nat.zero_le _) (Nat.zero_le _) rfl rfl (Nat.le_of_ble_eq_true rfl) dX5_bestSwap_98 (fun w98 h98 => ?_)
                  have h9 := HR.swap (a := a) (b := a + 1 + i) (by omega) (hsw.tr h8.1.1)
                  have hb9 := noiseN_le (swapF (zt σ) a (a + 1 + i)) hn6
                  subst h98
                  refine s_iload E dX5_bestSwap_101 (i := 5) (j := 0) rfl ?_
                  refine s_iload_n E dX5_bestSwap_103 (i := 1) (j := 2) rfl rfl ?_
                  refine s_icmp_lt E dX5_bestSwap_104 (tgt := 110) rfl (fun c104 => ?_) (fun c104 => ?_)
                  · have c104 : noiseN (swapF (zt σ) a (a + 1 + i)) n < (bsI (zt σ) n a (bsO (zt σ) n a) i).2 := (nI_ltI (a := noiseN (swapF (zt σ) a (a + 1 + i)) n) (b := (bsI (zt σ) n a (bsO (zt σ) n a) i).2) (by omega) (by omega)).mp c104
                    refine s_bipush E dX5_bestSwap_110 (v := nI 6) (by decide) ?_
                    refine s_iload_n E dX5_bestSwap_112 (i := 3) (j := 4) rfl rfl ?_
                    refine s_imul_ E dX5_bestSwap_113 (v := nI (6 * a)) (pk_mul _ _) ?_
                    refine s_iload E dX5_bestSwap_114 (i := 4) (j := 5) rfl ?_
                    refine s_iadd_ E dX5_bestSwap_116 (v := nI ((6 * a) + (a + 1 + i))) (nI_add _ _) ?_
                    refine s_istore_n E (L2 := [(2, .int (nI ((6 * a) + (a + 1 + i)))), (5, .int (nI (noiseN (swapF (zt σ) a (a + 1 + i)) n))), (0, .ref (ad 0)), (1, .int (nI ((bsI (zt σ) n a (bsO (zt σ) n a) i).2))), (3, .int (nI a)), (4, .int (nI (a + 1 + i)))]) dX5_bestSwap_117 rfl (Nat.le_of_ble_eq_true rfl) rfl ?_
                    refine s_iload E dX5_bestSwap_118 (i := 5) (j := 1) rfl ?_
                    refine s_istore_n E (L2 := [(1, .int (nI (noiseN (swapF (zt σ) a (a + 1 + i)) n))), (2, .int (nI ((6 * a) + (a + 1 + i)))), (5, .int (nI (noiseN (swapF (zt σ) a (a + 1 + i)) n))), (0, .ref (ad 0)), (3, .int (nI a)), (4, .int (nI (a + 1 + i)))]) dX5_bestSwap_120 rfl (Nat.le_of_ble_eq_true rfl) rfl ?_
                    refine s_iinc E (L2 := [(4, .int (nI (a + 1 + i + 1))), (1, .int (nI (noiseN (swapF (zt σ) a (a + 1 + i)) n))), (2, .int (nI ((6 * a) + (a + 1 + i)))), (5, .int (nI (noiseN (swapF (zt σ) a (a + 1 + i)) n))), (0, .ref (ad 0)), (3, .int (nI a))]) dX5_bestSwap_121 (k := 5) rfl (v := nI (a + 1 + i + 1)) (nI_inc _) (Nat.le_of_ble_eq_true rfl) rfl ?_
                    refine s_goto E dX5_bestSwap_124 (tgt := 37) rfl ?_
                    refine s_loc (L2 := [(0, .ref (ad 0)), (1, .int (nI (noiseN (swapF (zt σ) a (a + 1 + i)) n))), (2, .int (nI ((6 * a) + (a + 1 + i)))), (3, .int (nI a)), (4, .int (nI (a + 1 + i + 1)))]) [4, 1, 2, 5, 0] rfl ?_
                    refine s_L (L2 := [(0, .ref (ad 0)), (1, .int (nI ((bsI (zt σ) n a (bsO (zt σ) n a) (i + 1)).2))), (2, .int (optI (bsI (zt σ) n a (bsO (zt σ) n a) (i + 1)).1)), (3, .int (nI a)), (4, .int (nI (a + 1 + (i + 1))))]) (by rw [bsI, bsS, if_neg hno, if_pos c104]; first | rfl | (congr 1; omega)) ?_
                    exact ih37 (i + 1) (swapF w80 a (a + 1 + i)) (by omega) (h9) (by omega)
                  · have c104 : ¬ noiseN (swapF (zt σ) a (a + 1 + i)) n < (bsI (zt σ) n a (bsO (zt σ) n a) i).2 := fun h => c104 ((nI_ltI (a := noiseN (swapF (zt σ) a (a + 1 + i)) n) (b := (bsI (zt σ) n a (bsO (zt σ) n a) i).2) (by omega) (by omega)).mpr h)
                    refine s_goto E dX5_bestSwap_107 (tgt := 121) rfl ?_
                    refine s_iinc E (L2 := [(4, .int (nI (a + 1 + i + 1))), (5, .int (nI (noiseN (swapF (zt σ) a (a + 1 + i)) n))), (0, .ref (ad 0)), (1, .int (nI ((bsI (zt σ) n a (bsO (zt σ) n a) i).2))), (2, .int (optI (bsI (zt σ) n a (bsO (zt σ) n a) i).1)), (3, .int (nI a))]) dX5_bestSwap_121 (k := 5) rfl (v := nI (a + 1 + i + 1)) (nI_inc _) (Nat.le_of_ble_eq_true rfl) rfl ?_
                    refine s_goto E dX5_bestSwap_124 (tgt := 37) rfl ?_
                    refine s_loc (L2 := [(0, .ref (ad 0)), (1, .int (nI ((bsI (zt σ) n a (bsO (zt σ) n a) i).2))), (2, .int (optI (bsI (zt σ) n a (bsO (zt σ) n a) i).1)), (3, .int (nI a)), (4, .int (nI (a + 1 + i + 1)))]) [2, 3, 4, 5, 0] rfl ?_
                    refine s_L (L2 := [(0, .ref (ad 0)), (1, .int (nI ((bsI (zt σ) n a (bsO (zt σ) n a) (i + 1)).2))), (2, .int (optI (bsI (zt σ) n a (bsO (zt σ) n a) (i + 1)).1)), (3, .int (nI a)), (4, .int (nI (a + 1 + (i + 1))))]) (by rw [bsI, bsS, if_neg hno, if_neg c104]; first | rfl | (congr 1; omega)) ?_
                    exact ih37 (i + 1) (swapF w80 a (a + 1 + i)) (by omega) (h9) (by omega)
                · refine s_goto E dX5_bestSwap_69 (tgt := 121) rfl ?_
                  refine s_iinc E (L2 := [(4, .int (nI (a + 1 + i + 1))), (0, .ref (ad 0)), (1, .int (nI ((bsI (zt σ) n a (bsO (zt σ) n a) i).2))), (2, .int (optI (bsI (zt σ) n a (bsO (zt σ) n a) i).1)), (3, .int (nI a))]) dX5_bestSwap_121 (k := 4) rfl (v := nI (a + 1 + i + 1)) (nI_inc _) (Nat.le_of_ble_eq_true rfl) rfl ?_
                  refine s_goto E dX5_bestSwap_124 (tgt := 37) rfl ?_
                  refine s_loc (L2 := [(0, .ref (ad 0)), (1, .int (nI ((bsI (zt σ) n a (bsO (zt σ) n a) i).2))), (2, .int (optI (bsI (zt σ) n a (bsO (zt σ) n a) i).1)), (3, .int (nI a)), (4, .int (nI (a + 1 + i + 1)))]) [1, 2, 3, 4, 0] rfl ?_
                  refine s_L (L2 := [(0, .ref (ad 0)), (1, .int (nI ((bsI (zt σ) n a (bsO (zt σ) n a) (i + 1)).2))), (2, .int (optI (bsI (zt σ) n a (bsO (zt σ) n a) (i + 1)).1)), (3, .int (nI a)), (4, .int (nI (a + 1 + (i + 1))))]) (by rw [bsI, bsS, if_pos (Or.inr (by rw [← hw.ce.1]; exact c66))]; first | rfl | (congr 1; omega)) ?_
                  exact ih37 (i + 1) w2 (by omega) (hw) (by omega)
        refine s_loc (L2 := [(0, .ref (ad 0)), (1, .int (nI ((bsO (zt σ) n a).2))), (2, .int (optI (bsO (zt σ) n a).1)), (3, .int (nI a)), (4, .int (nI (a + 1)))]) [1, 2, 3, 4, 0] rfl ?_
        exact L37 (_ + 1) 0 w1 (by omega) (hw1) (Nat.lt_succ_self _)
  refine s_loc (L2 := [(0, .ref (ad 0)), (1, .int (nI (noiseN (zt σ) n))), (2, .int ((-2))), (3, .int (nI 0))]) [3, 2, 1, 0] rfl ?_
  exact L24 (_ + 1) 0 w6 (Nat.zero_le _) (h.1.1) (Nat.lt_succ_self _)
set_option maxHeartbeats 1000000 in
set_option maxRecDepth 100000 in
theorem mz_turnsDown {σ : Nat → Nat → Int32} (n : Nat) (hn : σ 3 7 = nI n) (hn6 : n ≤ 6) (hs : ∀ v, v < n → In (σ 6 v) 3) (hp : ∀ v, v < n → In (σ 25 (6 + v)) 31) : Ct l D gt yX5_turnsDown cX5_turnsDown 3 .int 6 138 0 0 [.ref (ad 0)] (wm ad ct σ) (tysA ct) (fun r σ2 => nI (tdF n 200 (asideF σ)).1 = r ∧ HR (tdF n 200 (asideF σ)).2 σ2) (fun σ2 => wm ad ct σ2) (fun _ => tysA ct) := by
  refine Ct.start RX5 (by decide) rfl (Nat.le_of_ble_eq_true rfl) rfl ?_
  intro pP eE sS mM aA bB hM cC QQ AA E Rt
  refine s_aload_n E dX5_turnsDown_0 (i := 0) (j := 0) rfl rfl ?_
  refine m_callv E (mz_goesAside ) K5_348 (Nat.le_of_ble_eq_true rfl) (Nat.le_of_ble_eq_true rfl) (Nat.zero_le _) (Nat.zero_le _) rfl rfl (Nat.le_of_ble_eq_true rfl) dX5_turnsDown_1 (fun w1 h1 => ?_)
  subst h1
  refine s_iconst E dX5_turnsDown_4 (v := nI 0) (by decide) ?_
  refine s_istore_n E (L2 := [(1, .int (nI 0)), (0, .ref (ad 0))]) dX5_turnsDown_5 rfl (Nat.le_of_ble_eq_true rfl) rfl ?_
  refine s_aload_n E dX5_turnsDown_6 (i := 0) (j := 1) rfl rfl ?_
  refine m_calli E (mz_worstNow n (hn) (hn6) (hs)) K5_396 (Nat.le_of_ble_eq_true rfl) (Nat.le_of_ble_eq_true rfl) (Nat.zero_le _) (Nat.zero_le _) rfl rfl (Nat.le_of_ble_eq_true rfl) dX5_turnsDown_7 (fun r7 w7 h7 => ?_)
  obtain ⟨h7a, h7b⟩ := h7
  have h7 : HR (asideF σ) w7 := h7b.1.1
  replace h7a : worstF (asideF σ) n = r7 := h7a
  subst h7a
  refine s_istore_n E (L2 := [(2, .int (worstF (asideF σ) n)), (1, .int (nI 0)), (0, .ref (ad 0))]) dX5_turnsDown_10 rfl (Nat.le_of_ble_eq_true rfl) rfl ?_
  have L11 : ∀ (fuel : Nat) (i : Nat) (f : Nat) (t : Nat → Nat → Int32) (w2 : Nat → Nat → Int32), (HR t w2) → (i + (tdF n (f + 1) t).1 = (tdF n 200 (asideF σ)).1) → ((tdF n (f + 1) t).2 = (tdF n 200 (asideF σ)).2) → (t 3 7 = nI n) → (∀ v, v < n → In (t 6 v) 3) → (∀ v, v < n → In (t 25 (6 + v)) 31) → (powT t n < f + 1) → (f + 1) < fuel → Sm pP l eE { frames := 6, cells := 0, slots := 0, locals := 138 } sS mM aA bB hM cC QQ AA D 3 0 0 (wm ad ct w2) 11 [(0, .ref (ad 0)), (1, .int (nI i)), (2, .int (worstF t n))] [] := by
    intro fuel
    induction fuel with
    | zero =>
      intro i f t w2 hw h1 h2 hq3 hq6 hqp hpf hf11
      exact absurd hf11 (Nat.not_lt_zero _)
    | succ fuel ih11 =>
      intro i f t w2 hw h1 h2 hq3 hq6 hqp hpf hf11
      refine s_iload_n E dX5_turnsDown_11 (i := 2) (j := 2) rfl rfl ?_
      refine s_bipush E dX5_turnsDown_12 (v := (-2)) (by decide) ?_
      refine s_icmp_eq E dX5_turnsDown_14 (tgt := 53) rfl (fun c14 => ?_) (fun c14 => ?_)
      · refine s_iload_n E dX5_turnsDown_53 (i := 1) (j := 1) rfl rfl ?_
        exact Rt (nI i) (w2) dX5_turnsDown_54 ((fun (hz : worstF t n = -2 ∨ ¬ 0 < t 25 (6 + tN (worstF t n))) => by rw [tdF, if_pos hz] at h1 h2; exact ⟨by rw [← h1]; rfl, by rw [← h2]; exact hw⟩) (Or.inl c14)) rfl (Nat.le_refl _) (Nat.le_refl _) rfl E.2.2.2.2.2.1
      · obtain ⟨u, hu, hu2⟩ : ∃ u, u < n ∧ worstF t n = nI u := by rcases bestW_c (madeN t n (prods t n)) n with h9 | h9; exact absurd h9 c14; exact h9
        refine s_aload_n E dX5_turnsDown_17 (i := 0) (j := 0) rfl rfl ?_
        refine mg25 E dX5_turnsDown_18 ?_
        refine s_bipush E dX5_turnsDown_21 (v := nI 6) (by decide) ?_
        refine s_iload_n E dX5_turnsDown_23 (i := 2) (j := 2) rfl rfl ?_
        refine s_iadd_ E dX5_turnsDown_24 (v := nI (6 + u)) (by rw [hu2]; exact nI_add _ _) ?_
        refine ml25 E (v := t 25 (6 + u)) (6 + u) (rfl) (by omega) (by rw [hw.ce.1]) dX5_turnsDown_25 ?_
        refine s_if_le E dX5_turnsDown_26 (tgt := 53) rfl (fun c26 => ?_) (fun c26 => ?_)
        · have c26 := Int32.not_lt.mpr c26
          refine s_iload_n E dX5_turnsDown_53 (i := 1) (j := 1) rfl rfl ?_
          exact Rt (nI i) (w2) dX5_turnsDown_54 ((fun (hz : worstF t n = -2 ∨ ¬ 0 < t 25 (6 + tN (worstF t n))) => by rw [tdF, if_pos hz] at h1 h2; exact ⟨by rw [← h1]; rfl, by rw [← h2]; exact hw⟩) (Or.inr (by rw [hu2, tN_nI (by omega)]; exact c26))) rfl (Nat.le_refl _) (Nat.le_refl _) rfl E.2.2.2.2.2.1
        · have c26 := Int32.not_le.mp c26
          have hpd := powT_down hu hqp c26
          have hgo : ¬ (worstF t n = -2 ∨ ¬ 0 < t 25 (6 + tN (worstF t n))) := by rw [hu2, tN_nI (by omega)]; rintro (h9 | h9); exact nI_m2 (by omega) h9; exact h9 c26
          refine s_aload_n E dX5_turnsDown_29 (i := 0) (j := 0) rfl rfl ?_
          refine mg25 E dX5_turnsDown_30 ?_
          refine s_bipush E dX5_turnsDown_33 (v := nI 6) (by decide) ?_
          refine s_iload_n E dX5_turnsDown_35 (i := 2) (j := 2) rfl rfl ?_
          refine s_iadd_ E dX5_turnsDown_36 (v := nI (6 + u)) (by rw [hu2]; exact nI_add _ _) ?_
          refine s_dup2 E dX5_turnsDown_37 rfl rfl ?_
          refine ml25 E (v := t 25 (6 + u)) (6 + u) (rfl) (by omega) (by rw [hw.ce.1]) dX5_turnsDown_38 ?_
          refine s_iconst E dX5_turnsDown_39 (v := nI 1) (by decide) ?_
          refine s_isub E dX5_turnsDown_40 ?_
          refine ms25 E (6 + u) (rfl) (by omega) dX5_turnsDown_41 ?_
          refine s_iinc E (L2 := [(1, .int (nI (i + 1))), (0, .ref (ad 0)), (2, .int (worstF t n))]) dX5_turnsDown_42 (k := 1) rfl (v := nI (i + 1)) (nI_inc _) (Nat.le_of_ble_eq_true rfl) rfl ?_
          have hd : HR (downF t u) (st1 w2 25 (6 + u) (t 25 (6 + u) - nI 1)) := HR.put (by omega) (by omega) hw
          have hd3 : downF t u 3 7 = nI n := by unfold downF; rw [st1_ne (by decide)]; exact hq3
          have hd6 : ∀ v, v < n → In (downF t u 6 v) 3 := by unfold downF; rw [st1_ne (by decide)]; exact hq6
          refine s_aload_n E dX5_turnsDown_45 (i := 0) (j := 1) rfl rfl ?_
          refine m_calli E (mz_worstNow n (by rw [hd.ce.2.2.1]; exact hd3) (hn6) (by rw [hd.ce.2.1]; exact hd6)) K5_396 (Nat.le_of_ble_eq_true rfl) (Nat.le_of_ble_eq_true rfl) (Nat.zero_le _) (Nat.zero_le _) rfl rfl (Nat.le_of_ble_eq_true rfl) dX5_turnsDown_46 (fun r46 w46 h46 => ?_)
          obtain ⟨h46a, h46b⟩ := h46
          have h46 : HR (downF t u) w46 := hd.tr h46b.1.1
          replace h46a : worstF (downF t u) n = r46 := by rw [← h46a]; exact (worstF_ce hd.ce n).symm
          subst h46a
          refine s_istore_n E (L2 := [(2, .int (worstF (downF t u) n)), (1, .int (nI (i + 1))), (0, .ref (ad 0))]) dX5_turnsDown_49 rfl (Nat.le_of_ble_eq_true rfl) rfl ?_
          refine s_goto E dX5_turnsDown_50 (tgt := 11) rfl ?_
          obtain ⟨f, rfl⟩ : ∃ g, f = g + 1 := ⟨f - 1, by have := hpd.1; omega⟩
          have h1b := h1
          have h2b := h2
          rw [tdF, if_neg hgo, hu2] at h1b h2b
          rw [tN_nI (by omega)] at h1b h2b
          have hs1 : i + 1 + (tdF n (f + 1) (downF t u)).1 = (tdF n 200 (asideF σ)).1 := by rw [← h1b]; dsimp only; omega
          have hs2 : (tdF n (f + 1) (downF t u)).2 = (tdF n 200 (asideF σ)).2 := h2b
          refine s_loc (L2 := [(0, .ref (ad 0)), (1, .int (nI (i + 1))), (2, .int (worstF (downF t u) n))]) [2, 1, 0] rfl ?_
          exact ih11 (i + 1) f (downF t u) w46 (h46) (hs1) (hs2) (hd3) (hd6) (hpd.2) (by omega) (by omega)
  refine s_loc (L2 := [(0, .ref (ad 0)), (1, .int (nI 0)), (2, .int (worstF (asideF σ) n))]) [2, 1, 0] rfl ?_
  exact L11 (_ + 1) 0 199 (asideF σ) w7 (h7) (Nat.zero_add _) (rfl) (hn) (hs) (hp) (by have := sumN_le (f := fun u => tN (σ 25 (6 + u))) (i := n) (k := 30) (fun u hu => by have := (hp u hu).2; omega); unfold powT; show sumN (fun u => tN (σ 25 (6 + u))) n < _; omega) (Nat.lt_succ_self _)
end
