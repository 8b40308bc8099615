set_option maxRecDepth 100000
section
variable {l : Launch} {D : va_G} {gt ad : Nat → Nat} {ct : Nat → ClassId}
set_option maxHeartbeats 1000000 in
set_option maxRecDepth 100000 in
theorem mz_leastBand {σ : Nat → Nat → Int32} (n : Nat) (hC : CM σ n) (hl : LH σ n) (ht : TO σ) : Ct l D gt yX5_leastBand cX5_leastBand 3 .int 7 163 0 0 [.ref (ad 0)] (wm ad ct σ) (tysA ct) (fun r σ2 => optB (firstN (bandB (zt σ) n) 57) = r ∧ HQ (zt σ) σ2) (fun σ2 => wm ad ct σ2) (fun _ => tysA ct) := by
  refine Ct.start RX5 (by decide) rfl (Nat.le_of_ble_eq_true rfl) rfl ?_
  intro pP eE sS mM aA bB hM cC QQ AA E Rt
  have hn := hC.1
  have hn6 := hC.2.1
  have h2p := Nat.two_pow_pos n
  have h2n : 2 ^ n ≤ 64 := Nat.pow_le_pow_right (n := 2) (by decide) (show n ≤ 6 from hn6)
  refine s_aload_n E dX5_leastBand_0 (i := 0) (j := 0) rfl rfl ?_
  refine s_iconst E dX5_leastBand_1 (v := nI 0) (by decide) ?_
  refine mp0 E dX5_leastBand_2 ?_
  refine s_ws (ws2 := wm ad ct (zt σ)) (congrArg (wm ad ct) (rfl)) ?_
  refine s_aload_n E dX5_leastBand_5 (i := 0) (j := 0) rfl rfl ?_
  refine m_callv E (mz_goesAside ) K5_348 (Nat.le_of_ble_eq_true rfl) (Nat.le_of_ble_eq_true rfl) (Nat.zero_le _) (Nat.zero_le _) rfl rfl (Nat.le_of_ble_eq_true rfl) dX5_leastBand_6 (fun w6 h6 => ?_)
  subst h6
  refine s_bipush E dX5_leastBand_9 (v := (-2)) (by decide) ?_
  refine s_istore_n E (L2 := [(1, .int ((-2))), (0, .ref (ad 0))]) dX5_leastBand_11 rfl (Nat.le_of_ble_eq_true rfl) rfl ?_
  refine s_iconst E dX5_leastBand_12 (v := nI 4) (by decide) ?_
  refine s_istore_n E (L2 := [(2, .int (nI 4)), (1, .int ((-2))), (0, .ref (ad 0))]) dX5_leastBand_13 rfl (Nat.le_of_ble_eq_true rfl) rfl ?_
  have L14 : ∀ (fuel : Nat) (i : Nat) (w2 : Nat → Nat → Int32), (i ≤ 57) → (LB (zt σ) w2 n) → (57 - i) < fuel → Sm pP l eE { frames := 7, cells := 0, slots := 0, locals := 163 } sS mM aA bB hM cC QQ AA D 3 0 0 (wm ad ct w2) 14 [(0, .ref (ad 0)), (1, .int (optB (firstN (bandB (zt σ) n) i))), (2, .int (nI (i + 4)))] [] := by
    intro fuel
    induction fuel with
    | zero =>
      intro i w2 hi hL hf14
      exact absurd hf14 (Nat.not_lt_zero _)
    | succ fuel ih14 =>
      intro i w2 hi hL hf14
      have hfle := firstN_le (bandB (zt σ) n) i
      refine s_iload_n E dX5_leastBand_14 (i := 2) (j := 2) rfl rfl ?_
      refine s_bipush E dX5_leastBand_15 (v := nI 60) (by decide) ?_
      refine s_icmp_gt E dX5_leastBand_17 (tgt := 54) rfl (fun c17 => ?_) (fun c17 => ?_)
      · have c17 : 60 < i + 4 := (nI_ltI (a := 60) (b := i + 4) (by omega) (by omega)).mp c17
        refine s_aload_n E dX5_leastBand_54 (i := 0) (j := 0) rfl rfl ?_
        refine m_callv E (mz_comesBack ) K5_357 (Nat.le_of_ble_eq_true rfl) (Nat.le_of_ble_eq_true rfl) (Nat.zero_le _) (Nat.zero_le _) rfl rfl (Nat.le_of_ble_eq_true rfl) dX5_leastBand_55 (fun w55 h55 => ?_)
        have hq := hL.1.back ht
        subst h55
        refine s_iload_n E dX5_leastBand_58 (i := 1) (j := 1) rfl rfl ?_
        exact Rt (optB (firstN (bandB (zt σ) n) i)) (comeF w2) dX5_leastBand_59 (⟨by rw [show 57 = i by omega], hq⟩) rfl (Nat.le_refl _) (Nat.le_refl _) rfl E.2.2.2.2.2.1
      · have c17 : ¬ 60 < i + 4 := fun h => c17 ((nI_ltI (a := 60) (b := i + 4) (by omega) (by omega)).mpr h)
        refine s_iload_n E dX5_leastBand_20 (i := 1) (j := 1) rfl rfl ?_
        refine s_bipush E dX5_leastBand_21 (v := (-2)) (by decide) ?_
        refine s_icmp_ne E dX5_leastBand_23 (tgt := 54) rfl (fun c23 => ?_) (fun c23 => ?_)
        · have hz := optB_n c23
          refine s_aload_n E dX5_leastBand_54 (i := 0) (j := 0) rfl rfl ?_
          refine m_callv E (mz_comesBack ) K5_357 (Nat.le_of_ble_eq_true rfl) (Nat.le_of_ble_eq_true rfl) (Nat.zero_le _) (Nat.zero_le _) rfl rfl (Nat.le_of_ble_eq_true rfl) dX5_leastBand_55 (fun w55 h55 => ?_)
          have hq := hL.1.back ht
          subst h55
          refine s_iload_n E dX5_leastBand_58 (i := 1) (j := 1) rfl rfl ?_
          exact Rt (optB (firstN (bandB (zt σ) n) i)) (comeF w2) dX5_leastBand_59 (⟨by rw [firstN_stay hz hi], hq⟩) rfl (Nat.le_refl _) (Nat.le_refl _) rfl E.2.2.2.2.2.1
        · have hz := optB_0 c23 (by omega)
          refine s_aload_n E dX5_leastBand_26 (i := 0) (j := 0) rfl rfl ?_
          refine s_iload_n E dX5_leastBand_27 (i := 2) (j := 2) rfl rfl ?_
          refine mp30 E dX5_leastBand_28 ?_
          refine s_aload_n E dX5_leastBand_31 (i := 0) (j := 0) rfl rfl ?_
          refine s_iconst E dX5_leastBand_32 (v := nI 1) (by decide) ?_
          refine s_aload_n E dX5_leastBand_33 (i := 0) (j := 0) rfl rfl ?_
          refine m_calli E (mz_users n (by show w2 3 7 = nI n; rw [hL.1.2.2.1 3 (by decide) (by decide) (by decide) (by decide)]; exact hn)) K5_232 (Nat.le_of_ble_eq_true rfl) (Nat.le_of_ble_eq_true rfl) (Nat.zero_le _) (Nat.zero_le _) rfl rfl (Nat.le_of_ble_eq_true rfl) dX5_leastBand_34 (fun r34 w34 h34 => ?_)
          obtain ⟨rfl, rfl⟩ := h34
          refine s_ishl_ E dX5_leastBand_37 (v := (nI 1) <<< (nI n &&& 31)) (rfl) ?_
          refine s_iconst E dX5_leastBand_38 (v := nI 1) (by decide) ?_
          refine s_isub_ E dX5_leastBand_39 (v := nI (2 ^ n - 1)) (full_int n (by omega)) ?_
          refine m_calli E (mz_searchesL (st1 w2 0 30 (nI (i + 4))) n (2 ^ n - 1) (CE.rf _) (hL.cm hC) (hL.lh hl (In.of (by omega) (by decide))) (⟨by omega, hn6⟩)) K5_354 (Nat.le_of_ble_eq_true rfl) (Nat.le_of_ble_eq_true rfl) (Nat.zero_le _) (Nat.zero_le _) rfl rfl (Nat.le_of_ble_eq_true rfl) dX5_leastBand_40 (fun r40 w40 h40 => ?_)
          obtain ⟨hr, h1, h2, h3⟩ := h40
          rw [(hL.cf).v hn6] at hr
          have h40L := hL.next hn6 h1 h2
          subst hr
          refine s_if_lt E dX5_leastBand_43 (tgt := 48) rfl (fun c43 => ?_) (fun c43 => ?_)
          · refine s_iinc E (L2 := [(2, .int (nI (i + 4 + 1))), (0, .ref (ad 0)), (1, .int (optB (firstN (bandB (zt σ) n) i)))]) dX5_leastBand_48 (k := 2) rfl (v := nI (i + 4 + 1)) (nI_inc _) (Nat.le_of_ble_eq_true rfl) rfl ?_
            refine s_goto E dX5_leastBand_51 (tgt := 14) rfl ?_
            refine s_loc (L2 := [(0, .ref (ad 0)), (1, .int (optB (firstN (bandB (zt σ) n) i))), (2, .int (nI (i + 4 + 1)))]) [1, 2, 0] rfl ?_
            refine s_L (L2 := [(0, .ref (ad 0)), (1, .int (optB (firstN (bandB (zt σ) n) (i + 1)))), (2, .int (nI ((i + 1) + 4)))]) (by rw [firstN_next hz (by simp [bI, bandB, c17, c23, hz, c43]), hz]) ?_
            exact ih14 (i + 1) w40 (by omega) (h40L) (by omega)
          · refine s_iload_n E dX5_leastBand_46 (i := 2) (j := 2) rfl rfl ?_
            refine s_istore_n E (L2 := [(1, .int (nI (i + 4))), (0, .ref (ad 0)), (2, .int (nI (i + 4)))]) dX5_leastBand_47 rfl (Nat.le_of_ble_eq_true rfl) rfl ?_
            refine s_iinc E (L2 := [(2, .int (nI (i + 4 + 1))), (1, .int (nI (i + 4))), (0, .ref (ad 0))]) dX5_leastBand_48 (k := 2) rfl (v := nI (i + 4 + 1)) (nI_inc _) (Nat.le_of_ble_eq_true rfl) rfl ?_
            refine s_goto E dX5_leastBand_51 (tgt := 14) rfl ?_
            refine s_loc (L2 := [(0, .ref (ad 0)), (1, .int (nI (i + 4))), (2, .int (nI (i + 4 + 1)))]) [2, 1, 0] rfl ?_
            refine s_L (L2 := [(0, .ref (ad 0)), (1, .int (optB (firstN (bandB (zt σ) n) (i + 1)))), (2, .int (nI ((i + 1) + 4)))]) (by rw [firstN_keep (p := i) (n := i + 1) (by omega) hz (by simp [bI, bandB, c17, c23, hz, c43])]; rfl) ?_
            exact ih14 (i + 1) w40 (by omega) (h40L) (by omega)
  refine s_loc (L2 := [(0, .ref (ad 0)), (1, .int ((-2))), (2, .int (nI 4))]) [2, 1, 0] rfl ?_
  exact L14 (_ + 1) 0 (asideF (zt σ)) (Nat.zero_le _) (LB.of hC.2.2.2) (Nat.lt_succ_self _)
set_option maxHeartbeats 1000000 in
set_option maxRecDepth 100000 in
theorem mz_spare {σ : Nat → Nat → Int32} (n B : Nat) (u : Int32) (hC : CM σ n) (hl : LH σ n) (ht : TO σ) (hb : σ 0 30 = nI B) (hB2 : B ≤ 60) : Ct l D gt yX5_spare cX5_spare 4 .int 7 163 0 0 [.ref (ad 0), .int (u)] (wm ad ct σ) (tysA ct) (fun r σ2 => (if isU n u = true then nI (cntN (spareB (zt σ) n (tN u)) B) else -1) = r ∧ HQ (zt σ) σ2) (fun σ2 => wm ad ct σ2) (fun _ => tysA ct) := by
  refine Ct.start RX5 (by decide) rfl (Nat.le_of_ble_eq_true rfl) rfl ?_
  intro pP eE sS mM aA bB hM cC QQ AA E Rt
  have hn := hC.1
  have hn6 := hC.2.1
  refine s_aload_n E dX5_spare_0 (i := 0) (j := 0) rfl rfl ?_
  refine s_iconst E dX5_spare_1 (v := nI 0) (by decide) ?_
  refine mp0 E dX5_spare_2 ?_
  refine s_ws (ws2 := wm ad ct (zt σ)) (congrArg (wm ad ct) (rfl)) ?_
  refine s_aload_n E dX5_spare_5 (i := 0) (j := 0) rfl rfl ?_
  refine s_iload_n E dX5_spare_6 (i := 1) (j := 1) rfl rfl ?_
  refine m_calli E (mz_isUser n u (hn)) K5_259 (Nat.le_of_ble_eq_true rfl) (Nat.le_of_ble_eq_true rfl) (Nat.zero_le _) (Nat.zero_le _) rfl rfl (Nat.le_of_ble_eq_true rfl) dX5_spare_7 (fun r7 w7 h7 => ?_)
  obtain ⟨rfl, rfl⟩ := h7
  refine s_if_ne E dX5_spare_10 (tgt := 15) rfl (fun c10 => ?_) (fun c10 => ?_)
  · have c10 := bI_n0 c10
    have hU := isU_t c10
    obtain ⟨j, hj, rfl⟩ := us_of c10 hn6
    refine s_aload_n E dX5_spare_15 (i := 0) (j := 0) rfl rfl ?_
    refine m_callv E (mz_goesAside ) K5_348 (Nat.le_of_ble_eq_true rfl) (Nat.le_of_ble_eq_true rfl) (Nat.zero_le _) (Nat.zero_le _) rfl rfl (Nat.le_of_ble_eq_true rfl) dX5_spare_16 (fun w16 h16 => ?_)
    subst h16
    refine s_iconst E dX5_spare_19 (v := nI 0) (by decide) ?_
    refine s_istore_n E (L2 := [(2, .int (nI 0)), (0, .ref (ad 0)), (1, .int (nI j))]) dX5_spare_20 rfl (Nat.le_of_ble_eq_true rfl) rfl ?_
    refine s_iconst E dX5_spare_21 (v := nI 1) (by decide) ?_
    refine s_istore_n E (L2 := [(3, .int (nI 1)), (2, .int (nI 0)), (0, .ref (ad 0)), (1, .int (nI j))]) dX5_spare_22 rfl (Nat.le_of_ble_eq_true rfl) rfl ?_
    have L23 : ∀ (fuel : Nat) (i : Nat) (w2 : Nat → Nat → Int32), (i ≤ B) → (AW (zt σ) w2) → (CE (zt σ) w2) → (HQ (zt σ) w2) → (B - i) < fuel → Sm pP l eE { frames := 7, cells := 0, slots := 0, locals := 163 } sS mM aA bB hM cC QQ AA D 4 0 0 (wm ad ct w2) 23 [(0, .ref (ad 0)), (1, .int (nI j)), (2, .int (nI (cntN (spareB (zt σ) n j) i))), (3, .int (nI (i + 1)))] [] := by
      intro fuel
      induction fuel with
      | zero =>
        intro i w2 hi ha hce hq hf23
        exact absurd hf23 (Nat.not_lt_zero _)
      | succ fuel ih23 =>
        intro i w2 hi ha hce hq hf23
        refine s_iload_n E dX5_spare_23 (i := 3) (j := 3) rfl rfl ?_
        refine s_aload_n E dX5_spare_24 (i := 0) (j := 0) rfl rfl ?_
        refine mg30 E (v := nI B) (by rw [hce.f 30 (by decide)]; exact hb) dX5_spare_25 ?_
        refine s_icmp_gt E dX5_spare_28 (tgt := 71) rfl (fun c28 => ?_) (fun c28 => ?_)
        · have c28 : B < i + 1 := (nI_ltI (a := B) (b := i + 1) (by omega) (by omega)).mp c28
          refine s_iload_n E dX5_spare_71 (i := 2) (j := 2) rfl rfl ?_
          exact Rt (nI (cntN (spareB (zt σ) n j) i)) (w2) dX5_spare_72 (⟨by rw [if_pos hU, tN_nI (by omega), show B = i by omega], hq⟩) rfl (Nat.le_refl _) (Nat.le_refl _) rfl E.2.2.2.2.2.1
        · have c28 : ¬ B < i + 1 := fun h => c28 ((nI_ltI (a := B) (b := i + 1) (by omega) (by omega)).mpr h)
          refine s_aload_n E dX5_spare_31 (i := 0) (j := 0) rfl rfl ?_
          refine mg25 E dX5_spare_32 ?_
          refine s_iconst E dX5_spare_35 (v := nI 0) (by decide) ?_
          refine s_iload_n E dX5_spare_36 (i := 1) (j := 1) rfl rfl ?_
          refine s_iadd_ E dX5_spare_37 (v := nI j) (nI_z _) ?_
          refine s_iload_n E dX5_spare_38 (i := 3) (j := 3) rfl rfl ?_
          refine ms25 E (j) (rfl) (by omega) dX5_spare_39 ?_
          have hce2 : CE (st1 (zt σ) 25 j (nI (i + 1))) (st1 w2 25 j (nI (i + 1))) := hce.put
          have ha2 : AW (zt σ) (st1 w2 25 j (nI (i + 1))) := ha.put (by omega)
          have hC2 : CM (st1 (zt σ) 25 j (nI (i + 1))) n := CM.put hC (In.of (by omega) (by decide))
          refine s_aload_n E dX5_spare_40 (i := 0) (j := 0) rfl rfl ?_
          refine m_calli E (mz_isClean n (hC2.ce hce2)) K5_332 (Nat.le_of_ble_eq_true rfl) (Nat.le_of_ble_eq_true rfl) (Nat.zero_le _) (Nat.zero_le _) rfl rfl (Nat.le_of_ble_eq_true rfl) dX5_spare_41 (fun r41 w41 h41 => ?_)
          obtain ⟨rfl, h41⟩ := h41
          have hce3 := hce2.tr h41.ce
          have ha3 := ha2.hr h41
          refine s_top (v2 := bI (cleanB (st1 (zt σ) 25 j (nI (i + 1))) n = true)) (by rw [cleanB_ce hce2]) ?_
          refine s_if_eq E dX5_spare_44 (tgt := 61) rfl (fun c44 => ?_) (fun c44 => ?_)
          · have c44 := bI_0 c44
            refine s_aload_n E dX5_spare_61 (i := 0) (j := 0) rfl rfl ?_
            refine m_callv E (mz_comesBack ) K5_357 (Nat.le_of_ble_eq_true rfl) (Nat.le_of_ble_eq_true rfl) (Nat.zero_le _) (Nat.zero_le _) rfl rfl (Nat.le_of_ble_eq_true rfl) dX5_spare_62 (fun w62 h62 => ?_)
            have hcm := ha3.come ht
            have hq := ha3.back ht
            subst h62
            refine s_iinc E (L2 := [(3, .int (nI (i + 1 + 1))), (0, .ref (ad 0)), (1, .int (nI j)), (2, .int (nI (cntN (spareB (zt σ) n j) i)))]) dX5_spare_65 (k := 3) rfl (v := nI (i + 1 + 1)) (nI_inc _) (Nat.le_of_ble_eq_true rfl) rfl ?_
            refine s_goto E dX5_spare_68 (tgt := 23) rfl ?_
            refine s_loc (L2 := [(0, .ref (ad 0)), (1, .int (nI j)), (2, .int (nI (cntN (spareB (zt σ) n j) i))), (3, .int (nI (i + 1 + 1)))]) [1, 2, 3, 0] rfl ?_
            refine s_L (L2 := [(0, .ref (ad 0)), (1, .int (nI j)), (2, .int (nI (cntN (spareB (zt σ) n j) (i + 1)))), (3, .int (nI ((i + 1) + 1)))]) (by rw [cntN_f (by simp [bI, spareB, c10, hU, c28, c44])]) ?_
            exact ih23 (i + 1) (comeF w41) (by omega) (hcm.1) (hcm.2.2) (hq) (by omega)
          · have c44 := bI_n0 c44
            refine s_aload_n E dX5_spare_47 (i := 0) (j := 0) rfl rfl ?_
            refine s_aload_n E dX5_spare_48 (i := 0) (j := 0) rfl rfl ?_
            refine m_calli E (mz_withoutChannels n (by rw [hce3.2.2.1]; exact hn) (hn6)) K5_351 (Nat.le_of_ble_eq_true rfl) (Nat.le_of_ble_eq_true rfl) (Nat.zero_le _) (Nat.zero_le _) rfl rfl (Nat.le_of_ble_eq_true rfl) dX5_spare_49 (fun r49 w49 h49 => ?_)
            obtain ⟨rfl, rfl⟩ := h49
            refine s_top (v2 := nI (FS (st1 (zt σ) 25 j (nI (i + 1))) n)) (by rw [← FS_ce hce3]; rfl) ?_
            refine m_calli E (mz_searchesL (st1 (zt σ) 25 j (nI (i + 1))) n (FS (st1 (zt σ) 25 j (nI (i + 1))) n) (hce3) (hC2) (LH.put hl) (FS_sub _ hn6)) K5_354 (Nat.le_of_ble_eq_true rfl) (Nat.le_of_ble_eq_true rfl) (Nat.zero_le _) (Nat.zero_le _) rfl rfl (Nat.le_of_ble_eq_true rfl) dX5_spare_52 (fun r52 w52 h52 => ?_)
            obtain ⟨hr, h1, h2, h3⟩ := h52
            replace ha3 := ha3.hs hn6 h1
            subst hr
            refine s_if_lt E dX5_spare_55 (tgt := 61) rfl (fun c55 => ?_) (fun c55 => ?_)
            · refine s_aload_n E dX5_spare_61 (i := 0) (j := 0) rfl rfl ?_
              refine m_callv E (mz_comesBack ) K5_357 (Nat.le_of_ble_eq_true rfl) (Nat.le_of_ble_eq_true rfl) (Nat.zero_le _) (Nat.zero_le _) rfl rfl (Nat.le_of_ble_eq_true rfl) dX5_spare_62 (fun w62 h62 => ?_)
              have hcm := ha3.come ht
              have hq := ha3.back ht
              subst h62
              refine s_iinc E (L2 := [(3, .int (nI (i + 1 + 1))), (0, .ref (ad 0)), (1, .int (nI j)), (2, .int (nI (cntN (spareB (zt σ) n j) i)))]) dX5_spare_65 (k := 3) rfl (v := nI (i + 1 + 1)) (nI_inc _) (Nat.le_of_ble_eq_true rfl) rfl ?_
              refine s_goto E dX5_spare_68 (tgt := 23) rfl ?_
              refine s_loc (L2 := [(0, .ref (ad 0)), (1, .int (nI j)), (2, .int (nI (cntN (spareB (zt σ) n j) i))), (3, .int (nI (i + 1 + 1)))]) [1, 2, 3, 0] rfl ?_
              refine s_L (L2 := [(0, .ref (ad 0)), (1, .int (nI j)), (2, .int (nI (cntN (spareB (zt σ) n j) (i + 1)))), (3, .int (nI ((i + 1) + 1)))]) (by rw [cntN_f (by simp [bI, spareB, c10, hU, c28, c44, c55])]) ?_
              exact ih23 (i + 1) (comeF w52) (by omega) (hcm.1) (hcm.2.2) (hq) (by omega)
            · refine s_iinc E (L2 := [(2, .int (nI (cntN (spareB (zt σ) n j) (i + 1)))), (0, .ref (ad 0)), (1, .int (nI j)), (3, .int (nI (i + 1)))]) dX5_spare_58 (k := 2) rfl (v := nI (cntN (spareB (zt σ) n j) (i + 1))) (by rw [cntN_t (by simp [bI, spareB, c10, hU, c28, c44, c55])]; exact nI_inc _) (Nat.le_of_ble_eq_true rfl) rfl ?_
              refine s_aload_n E dX5_spare_61 (i := 0) (j := 1) rfl rfl ?_
              refine m_callv E (mz_comesBack ) K5_357 (Nat.le_of_ble_eq_true rfl) (Nat.le_of_ble_eq_true rfl) (Nat.zero_le _) (Nat.zero_le _) rfl rfl (Nat.le_of_ble_eq_true rfl) dX5_spare_62 (fun w62 h62 => ?_)
              have hcm := ha3.come ht
              have hq := ha3.back ht
              subst h62
              refine s_iinc E (L2 := [(3, .int (nI (i + 1 + 1))), (2, .int (nI (cntN (spareB (zt σ) n j) (i + 1)))), (0, .ref (ad 0)), (1, .int (nI j))]) dX5_spare_65 (k := 3) rfl (v := nI (i + 1 + 1)) (nI_inc _) (Nat.le_of_ble_eq_true rfl) rfl ?_
              refine s_goto E dX5_spare_68 (tgt := 23) rfl ?_
              refine s_loc (L2 := [(0, .ref (ad 0)), (1, .int (nI j)), (2, .int (nI (cntN (spareB (zt σ) n j) (i + 1)))), (3, .int (nI (i + 1 + 1)))]) [2, 3, 1, 0] rfl ?_
              exact ih23 (i + 1) (comeF w52) (by omega) (hcm.1) (hcm.2.2) (hq) (by omega)
    refine s_loc (L2 := [(0, .ref (ad 0)), (1, .int (nI j)), (2, .int (nI 0)), (3, .int (nI 1))]) [2, 3, 1, 0] rfl ?_
    exact L23 (_ + 1) 0 (asideF (zt σ)) (Nat.zero_le _) (AW.of _) (CE.as) (⟨fun r _ h _ _ _ => by unfold asideF; rw [upR_ne h], fun j _ _ _ _ => rfl⟩) (Nat.lt_succ_self _)
  · have c10 := bI_0 c10
    have hU := isU_f c10
    refine s_iconst E dX5_spare_13 (v := (-1)) (by decide) ?_
    exact Rt ((-1)) (zt σ) dX5_spare_14 (⟨by rw [if_neg (by simp [hU])], HQ.rf _⟩) rfl (Nat.le_refl _) (Nat.le_refl _) rfl E.2.2.2.2.2.1
set_option maxHeartbeats 1000000 in
set_option maxRecDepth 100000 in
theorem mz_draw {σ : Nat → Nat → Int32} (d B : Nat) (hd : σ 0 44 = nI d) (hd2 : d < 2147483648) (hB : 0 < B) (hB2 : B ≤ 60) : Ct l D gt yX5_draw cX5_draw 2 .int 0 0 0 0 [.ref (ad 0), .int (nI B)] (wm ad ct σ) (tysA ct) (fun r σ2 => nI (drawN B d) = r ∧ st1 σ 0 44 (nI (dwN d)) = σ2) (fun σ2 => wm ad ct σ2) (fun _ => tysA ct) := by
  refine Ct.start RX5 (by decide) rfl (Nat.le_of_ble_eq_true rfl) rfl ?_
  intro pP eE sS mM aA bB hM cC QQ AA E Rt
  refine s_aload_n E dX5_draw_0 (i := 0) (j := 0) rfl rfl ?_
  refine s_aload_n E dX5_draw_1 (i := 0) (j := 0) rfl rfl ?_
  refine mg44 E (v := nI d) (hd) dX5_draw_2 ?_
  refine s_ldcw E (v := nI 1103515245) dX5_draw_5 q1851 ?_
  refine s_imul_ E dX5_draw_8 (v := (nI d) * (nI 1103515245)) (rfl) ?_
  refine s_sipush E dX5_draw_9 (v := nI 12345) (by decide) ?_
  refine s_iadd_ E dX5_draw_12 (v := (nI d) * (nI 1103515245) + nI 12345) (rfl) ?_
  refine s_ldcw E (v := nI 2147483647) dX5_draw_13 q1852 ?_
  refine s_iand_ E dX5_draw_16 (v := nI (dwN d)) (dw_int d) ?_
  refine mp44 E dX5_draw_17 ?_
  refine s_aload_n E dX5_draw_20 (i := 0) (j := 0) rfl rfl ?_
  refine mg44 E (v := nI (dwN d)) (rfl) dX5_draw_21 ?_
  refine s_bipush E dX5_draw_24 (v := nI 16) (by decide) ?_
  refine s_ishr_ E dX5_draw_26 (v := nI (dwN d / 65536)) (pk_shrN (dwN_lt d) _ 16 (by decide)) ?_
  refine s_iload_n E dX5_draw_27 (i := 1) (j := 1) rfl rfl ?_
  refine s_irem_ E dX5_draw_28 (nI_ne0 hB (by omega)) (v := nI (drawN B d)) (pk_rem (by have := dwN_lt d; omega) hB (by omega)) ?_
  exact Rt (nI (drawN B d)) (st1 σ 0 44 (nI (dwN d))) dX5_draw_29 (⟨rfl, rfl⟩) rfl (Nat.le_refl _) (Nat.le_refl _) rfl E.2.2.2.2.2.1
end
