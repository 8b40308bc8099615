set_option maxRecDepth 100000
section
variable {l : Launch} {D : va_G} {gt ad : Nat → Nat} {ct : Nat → ClassId}
set_option maxHeartbeats 1000000 in
set_option maxRecDepth 100000 in
theorem mz_hits_2 {σ : Nat → Nat → Int32} (n : Nat) (u : Int32) (hn : σ 3 7 = nI n) (hn6 : n ≤ 6) (hs : ∀ v, v < n → In (σ 6 v) 3) : Ct l D gt yX5_hits_2 cX5_hits_2 4 .int 4 96 0 0 [.ref (ad 0), .int (u)] (wm ad ct σ) (tysA ct) (fun r σ2 => hits2F (zt σ) n u = r ∧ HR (zt σ) σ2) (fun σ2 => wm ad ct σ2) (fun _ => tysA ct) := by
  refine Ct.start RX5 (by decide) rfl (Nat.le_of_ble_eq_true rfl) rfl ?_
  intro pP eE sS mM aA bB hM cC QQ AA E Rt
  refine s_aload_n E dX5_hits_2_0 (i := 0) (j := 0) rfl rfl ?_
  refine s_iconst E dX5_hits_2_1 (v := nI 0) (by decide) ?_
  refine mp0 E dX5_hits_2_2 ?_
  refine s_ws (ws2 := wm ad ct (zt σ)) (congrArg (wm ad ct) (rfl)) ?_
  refine s_aload_n E dX5_hits_2_5 (i := 0) (j := 0) rfl rfl ?_
  refine s_iload_n E dX5_hits_2_6 (i := 1) (j := 1) rfl rfl ?_
  refine m_calli E (mz_isUser n u (hn)) K5_259 (Nat.le_of_ble_eq_true rfl) (Nat.le_of_ble_eq_true rfl) (Nat.zero_le _) (Nat.zero_le _) rfl rfl (Nat.le_of_ble_eq_true rfl) dX5_hits_2_7 (fun r7 w7 h7 => ?_)
  obtain ⟨rfl, rfl⟩ := h7
  refine s_if_ne E dX5_hits_2_10 (tgt := 15) rfl (fun c10 => ?_) (fun c10 => ?_)
  · have c10 := bI_n0 c10
    have hU := isU_t c10
    obtain ⟨j, hj, rfl⟩ := us_of c10 hn6
    refine s_aload_n E dX5_hits_2_15 (i := 0) (j := 0) rfl rfl ?_
    refine mg25 E dX5_hits_2_16 ?_
    refine s_iconst E dX5_hits_2_19 (v := nI 0) (by decide) ?_
    refine s_iload_n E dX5_hits_2_20 (i := 1) (j := 1) rfl rfl ?_
    refine s_iadd_ E dX5_hits_2_21 (v := nI j) (nI_z _) ?_
    refine ml25 E (v := (zt σ) 25 j) (j) (rfl) (by omega) (rfl) dX5_hits_2_22 ?_
    refine s_if_ne E dX5_hits_2_23 (tgt := 29) rfl (fun c23 => ?_) (fun c23 => ?_)
    · refine s_aload_n E dX5_hits_2_29 (i := 0) (j := 0) rfl rfl ?_
      refine m_callv E (mz_laysProducts n (hn) (hn6)) K5_326 (Nat.le_of_ble_eq_true rfl) (Nat.le_of_ble_eq_true rfl) (Nat.zero_le _) (Nat.zero_le _) rfl rfl (Nat.le_of_ble_eq_true rfl) dX5_hits_2_30 (fun w30 h30 => ?_)
      have h := HW.of (s0 := zt σ) h30 hn hn6 hs
      have hl := h.2.2.1
      refine s_iconst E dX5_hits_2_33 (v := nI 0) (by decide) ?_
      refine s_istore_n E (L2 := [(2, .int (nI 0)), (0, .ref (ad 0)), (1, .int (nI j))]) dX5_hits_2_34 rfl (Nat.le_of_ble_eq_true rfl) rfl ?_
      refine s_iconst E dX5_hits_2_35 (v := nI 0) (by decide) ?_
      refine s_istore_n E (L2 := [(3, .int (nI 0)), (2, .int (nI 0)), (0, .ref (ad 0)), (1, .int (nI j))]) dX5_hits_2_36 rfl (Nat.le_of_ble_eq_true rfl) rfl ?_
      have L37 : ∀ (fuel : Nat) (p : Nat), p ≤ (prods (zt σ) n).length → ((prods (zt σ) n).length - p) < fuel → Sm pP l eE { frames := 4, cells := 0, slots := 0, locals := 96 } sS mM aA bB hM cC QQ AA D 4 0 0 (wm ad ct w30) 37 [(0, .ref (ad 0)), (1, .int (nI j)), (2, .int (nI (cntN (hitL (zt σ) (prods (zt σ) n) j) p))), (3, .int (nI p))] [] := by
        intro fuel
        induction fuel with
        | zero =>
          intro p hp hf37
          exact absurd hf37 (Nat.not_lt_zero _)
        | succ fuel ih37 =>
          intro p hp hf37
          refine s_iload_n E dX5_hits_2_37 (i := 3) (j := 3) rfl rfl ?_
          refine s_aload_n E dX5_hits_2_38 (i := 0) (j := 0) rfl rfl ?_
          refine mg41 E (v := nI ((prods (zt σ) n).length)) (h.1.2.1) dX5_hits_2_39 ?_
          refine s_icmp_ge E dX5_hits_2_42 (tgt := 68) rfl (fun c42 => ?_) (fun c42 => ?_)
          · have c42 : ¬ p < (prods (zt σ) n).length := fun h => absurd c42 (Int32.not_le.mpr ((nI_ltI (a := p) (b := (prods (zt σ) n).length) (by omega) (by omega)).mpr h))
            refine s_iload_n E dX5_hits_2_68 (i := 2) (j := 2) rfl rfl ?_
            exact Rt (nI (cntN (hitL (zt σ) (prods (zt σ) n) j) p)) (w30) dX5_hits_2_69 (⟨by rw [hits2F, if_neg (by simp [hU]), tN_nI (by omega), if_neg c23, show (prods (zt σ) n).length = p by omega], h.1.1⟩) rfl (Nat.le_refl _) (Nat.le_refl _) rfl E.2.2.2.2.2.1
          · have c42 : p < (prods (zt σ) n).length := (nI_ltI (a := p) (b := (prods (zt σ) n).length) (by omega) (by omega)).mp (Int32.not_le.mp c42)
            refine s_iload_n E dX5_hits_2_45 (i := 2) (j := 2) rfl rfl ?_
            refine s_aload_n E dX5_hits_2_46 (i := 0) (j := 0) rfl rfl ?_
            refine s_iload_n E dX5_hits_2_47 (i := 3) (j := 3) rfl rfl ?_
            refine s_iload_n E dX5_hits_2_48 (i := 1) (j := 1) rfl rfl ?_
            refine m_calli E (mz_hitsL (zt σ) (prods (zt σ) n) n p j (h) (by omega) (by omega)) K5_305 (Nat.le_of_ble_eq_true rfl) (Nat.le_of_ble_eq_true rfl) (Nat.zero_le _) (Nat.zero_le _) rfl rfl (Nat.le_of_ble_eq_true rfl) dX5_hits_2_49 (fun r49 w49 h49 => ?_)
            obtain ⟨rfl, rfl⟩ := h49
            have J60 : Sm pP l eE { frames := 4, cells := 0, slots := 0, locals := 96 } sS mM aA bB hM cC QQ AA D 4 0 0 (wm ad ct w30) 60 [(0, .ref (ad 0)), (1, .int (nI j)), (2, .int (nI (cntN (hitL (zt σ) (prods (zt σ) n) j) p))), (3, .int (nI p))] [.int (nI (cntF (hitL (zt σ) (prods (zt σ) n) j) p)), .int (nI (cntN (hitL (zt σ) (prods (zt σ) n) j) p))] := by
              refine s_iadd_ E dX5_hits_2_60 (v := nI (cntN (hitL (zt σ) (prods (zt σ) n) j) (p + 1))) (nI_add _ _) ?_
              refine s_istore_n E (L2 := [(2, .int (nI (cntN (hitL (zt σ) (prods (zt σ) n) j) (p + 1)))), (0, .ref (ad 0)), (1, .int (nI j)), (3, .int (nI p))]) dX5_hits_2_61 rfl (Nat.le_of_ble_eq_true rfl) rfl ?_
              refine s_iinc E (L2 := [(3, .int (nI (p + 1))), (2, .int (nI (cntN (hitL (zt σ) (prods (zt σ) n) j) (p + 1)))), (0, .ref (ad 0)), (1, .int (nI j))]) dX5_hits_2_62 (k := 3) rfl (v := nI (p + 1)) (nI_inc _) (Nat.le_of_ble_eq_true rfl) rfl ?_
              refine s_goto E dX5_hits_2_65 (tgt := 37) rfl ?_
              refine s_loc (L2 := [(0, .ref (ad 0)), (1, .int (nI j)), (2, .int (nI (cntN (hitL (zt σ) (prods (zt σ) n) j) (p + 1)))), (3, .int (nI (p + 1)))]) [2, 3, 1, 0] rfl ?_
              exact ih37 (p + 1) (by omega) (by omega)
            refine s_if_eq E dX5_hits_2_52 (tgt := 59) rfl (fun c52 => ?_) (fun c52 => ?_)
            · have c52 := bI_0 c52
              refine s_iconst E dX5_hits_2_59 (v := nI 0) (by decide) ?_
              refine s_top (v2 := nI (cntF (hitL (zt σ) (prods (zt σ) n) j) p)) (by simp [bI, cntF, hitL, c10, hU, c23, c42, c52]) ?_
              exact J60
            · have c52 := bI_n0 c52
              refine s_iconst E dX5_hits_2_55 (v := nI 1) (by decide) ?_
              refine s_goto E dX5_hits_2_56 (tgt := 60) rfl ?_
              refine s_top (v2 := nI (cntF (hitL (zt σ) (prods (zt σ) n) j) p)) (by simp [bI, cntF, hitL, c10, hU, c23, c42, c52]) ?_
              exact J60
      refine s_loc (L2 := [(0, .ref (ad 0)), (1, .int (nI j)), (2, .int (nI 0)), (3, .int (nI 0))]) [2, 3, 1, 0] rfl ?_
      exact L37 (_ + 1) 0 (Nat.zero_le _) (Nat.lt_succ_self _)
    · refine s_bipush E dX5_hits_2_26 (v := (-2)) (by decide) ?_
      exact Rt ((-2)) (zt σ) dX5_hits_2_28 (⟨by rw [hits2F, if_neg (by simp [hU]), tN_nI (by omega), if_pos c23], HR.rf _⟩) rfl (Nat.le_refl _) (Nat.le_refl _) rfl E.2.2.2.2.2.1
  · have c10 := bI_0 c10
    have hU := isU_f c10
    refine s_iconst E dX5_hits_2_13 (v := (-1)) (by decide) ?_
    exact Rt ((-1)) (zt σ) dX5_hits_2_14 (⟨by rw [hits2F, if_pos hU], HR.rf _⟩) rfl (Nat.le_refl _) (Nat.le_refl _) rfl E.2.2.2.2.2.1
set_option maxHeartbeats 1000000 in
set_option maxRecDepth 100000 in
theorem mz_hitBy {σ : Nat → Nat → Int32} (n : Nat) (u k : Int32) (hn : σ 3 7 = nI n) (hn6 : n ≤ 6) (hs : ∀ v, v < n → In (σ 6 v) 3) : Ct l D gt yX5_hitBy cX5_hitBy 5 .int 4 96 0 0 [.ref (ad 0), .int (u), .int (k)] (wm ad ct σ) (tysA ct) (fun r σ2 => hitByF (zt σ) n u k = r ∧ HR (zt σ) σ2) (fun σ2 => wm ad ct σ2) (fun _ => tysA ct) := by
  refine Ct.start RX5 (by decide) rfl (Nat.le_of_ble_eq_true rfl) rfl ?_
  intro pP eE sS mM aA bB hM cC QQ AA E Rt
  refine s_aload_n E dX5_hitBy_0 (i := 0) (j := 0) rfl rfl ?_
  refine s_iconst E dX5_hitBy_1 (v := nI 0) (by decide) ?_
  refine mp0 E dX5_hitBy_2 ?_
  refine s_ws (ws2 := wm ad ct (zt σ)) (congrArg (wm ad ct) (rfl)) ?_
  refine s_aload_n E dX5_hitBy_5 (i := 0) (j := 0) rfl rfl ?_
  refine s_iload_n E dX5_hitBy_6 (i := 1) (j := 1) rfl rfl ?_
  refine m_calli E (mz_isUser n u (hn)) K5_259 (Nat.le_of_ble_eq_true rfl) (Nat.le_of_ble_eq_true rfl) (Nat.zero_le _) (Nat.zero_le _) rfl rfl (Nat.le_of_ble_eq_true rfl) dX5_hitBy_7 (fun r7 w7 h7 => ?_)
  obtain ⟨rfl, rfl⟩ := h7
  refine s_if_eq E dX5_hitBy_10 (tgt := 17) rfl (fun c10 => ?_) (fun c10 => ?_)
  · have c10 := bI_0 c10
    have hU := isU_f c10
    refine s_iconst E dX5_hitBy_17 (v := (-1)) (by decide) ?_
    exact Rt ((-1)) (zt σ) dX5_hitBy_18 (⟨by rw [hitByF, if_neg (by simp [bI, c10, hU])], HR.rf _⟩) rfl (Nat.le_refl _) (Nat.le_refl _) rfl E.2.2.2.2.2.1
  · have c10 := bI_n0 c10
    have hU := isU_t c10
    obtain ⟨j, hj, rfl⟩ := us_of c10 hn6
    refine s_iload_n E dX5_hitBy_13 (i := 2) (j := 2) rfl rfl ?_
    refine s_if_ge E dX5_hitBy_14 (tgt := 19) rfl (fun c14 => ?_) (fun c14 => ?_)
    · have c14 := Int32.not_lt.mpr c14
      have hk := Int32.not_lt.mpr (Int32.not_lt.mp c14)
      obtain ⟨i, hi, rfl⟩ := nI_of c14
      refine s_aload_n E dX5_hitBy_19 (i := 0) (j := 0) rfl rfl ?_
      refine m_callv E (mz_laysProducts n (hn) (hn6)) K5_326 (Nat.le_of_ble_eq_true rfl) (Nat.le_of_ble_eq_true rfl) (Nat.zero_le _) (Nat.zero_le _) rfl rfl (Nat.le_of_ble_eq_true rfl) dX5_hitBy_20 (fun w20 h20 => ?_)
      have h := HW.of (s0 := zt σ) h20 hn hn6 hs
      have hl := h.2.2.1
      refine s_iload_n E dX5_hitBy_23 (i := 2) (j := 2) rfl rfl ?_
      refine s_istore_n E (L2 := [(3, .int (nI i)), (0, .ref (ad 0)), (1, .int (nI j)), (2, .int (nI i))]) dX5_hitBy_24 rfl (Nat.le_of_ble_eq_true rfl) rfl ?_
      refine s_iconst E dX5_hitBy_25 (v := nI 0) (by decide) ?_
      refine s_istore E (L2 := [(4, .int (nI 0)), (3, .int (nI i)), (0, .ref (ad 0)), (1, .int (nI j)), (2, .int (nI i))]) dX5_hitBy_26 (Nat.le_of_ble_eq_true rfl) rfl ?_
      have L28 : ∀ (fuel : Nat) (p : Nat), p ≤ (prods (zt σ) n).length → kthN (hitL (zt σ) (prods (zt σ) n) j) i p = 0 → cntN (hitL (zt σ) (prods (zt σ) n) j) p ≤ i → ((prods (zt σ) n).length - p) < fuel → Sm pP l eE { frames := 4, cells := 0, slots := 0, locals := 96 } sS mM aA bB hM cC QQ AA D 5 0 0 (wm ad ct w20) 28 [(0, .ref (ad 0)), (1, .int (nI j)), (2, .int (nI i)), (3, .int (nI (i - cntN (hitL (zt σ) (prods (zt σ) n) j) p))), (4, .int (nI p))] [] := by
        intro fuel
        induction fuel with
        | zero =>
          intro p hp hk0 hkc hf28
          exact absurd hf28 (Nat.not_lt_zero _)
        | succ fuel ih28 =>
          intro p hp hk0 hkc hf28
          refine s_iload E dX5_hitBy_28 (i := 4) (j := 4) rfl ?_
          refine s_aload_n E dX5_hitBy_30 (i := 0) (j := 0) rfl rfl ?_
          refine mg41 E (v := nI ((prods (zt σ) n).length)) (h.1.2.1) dX5_hitBy_31 ?_
          refine s_icmp_ge E dX5_hitBy_34 (tgt := 66) rfl (fun c34 => ?_) (fun c34 => ?_)
          · have c34 : ¬ p < (prods (zt σ) n).length := fun h => absurd c34 (Int32.not_le.mpr ((nI_ltI (a := p) (b := (prods (zt σ) n).length) (by omega) (by omega)).mpr h))
            refine s_bipush E dX5_hitBy_66 (v := (-2)) (by decide) ?_
            exact Rt ((-2)) (w20) dX5_hitBy_68 (⟨by rw [hitByF, if_pos (by simp [bI, c10, hU, c14, hk, c34]), tN_nI (by omega), tN_nI (by omega), show (prods (zt σ) n).length = p by omega, hk0]; rfl, h.1.1⟩) rfl (Nat.le_refl _) (Nat.le_refl _) rfl E.2.2.2.2.2.1
          · have c34 : p < (prods (zt σ) n).length := (nI_ltI (a := p) (b := (prods (zt σ) n).length) (by omega) (by omega)).mp (Int32.not_le.mp c34)
            refine s_aload_n E dX5_hitBy_37 (i := 0) (j := 0) rfl rfl ?_
            refine s_iload E dX5_hitBy_38 (i := 4) (j := 4) rfl ?_
            refine s_iload_n E dX5_hitBy_40 (i := 1) (j := 1) rfl rfl ?_
            refine m_calli E (mz_hitsL (zt σ) (prods (zt σ) n) n p j (h) (by omega) (by omega)) K5_305 (Nat.le_of_ble_eq_true rfl) (Nat.le_of_ble_eq_true rfl) (Nat.zero_le _) (Nat.zero_le _) rfl rfl (Nat.le_of_ble_eq_true rfl) dX5_hitBy_41 (fun r41 w41 h41 => ?_)
            obtain ⟨rfl, rfl⟩ := h41
            refine s_if_ne E dX5_hitBy_44 (tgt := 50) rfl (fun c44 => ?_) (fun c44 => ?_)
            · have c44 := bI_n0 c44
              refine s_iload_n E dX5_hitBy_50 (i := 3) (j := 3) rfl rfl ?_
              refine s_if_ne E dX5_hitBy_51 (tgt := 57) rfl (fun c51 => ?_) (fun c51 => ?_)
              · have c51 : ¬ i - cntN (hitL (zt σ) (prods (zt σ) n) j) p = 0 := fun h => c51 ((nI_eq (a := i - cntN (hitL (zt σ) (prods (zt σ) n) j) p) (b := 0) (by omega) (by omega)).mpr h)
                refine s_iinc E (L2 := [(3, .int (nI (i - cntN (hitL (zt σ) (prods (zt σ) n) j) (p + 1)))), (0, .ref (ad 0)), (1, .int (nI j)), (2, .int (nI i)), (4, .int (nI p))]) dX5_hitBy_57 (k := 3) rfl (v := nI (i - cntN (hitL (zt σ) (prods (zt σ) n) j) (p + 1))) (by rw [cntN_t (by simp [bI, hitL, c10, hU, c14, hk, c34, c44, c51])]; exact nI_dec2 (by omega)) (Nat.le_of_ble_eq_true rfl) rfl ?_
                refine s_iinc E (L2 := [(4, .int (nI (p + 1))), (3, .int (nI (i - cntN (hitL (zt σ) (prods (zt σ) n) j) (p + 1)))), (0, .ref (ad 0)), (1, .int (nI j)), (2, .int (nI i))]) dX5_hitBy_60 (k := 4) rfl (v := nI (p + 1)) (nI_inc _) (Nat.le_of_ble_eq_true rfl) rfl ?_
                refine s_goto E dX5_hitBy_63 (tgt := 28) rfl ?_
                refine s_loc (L2 := [(0, .ref (ad 0)), (1, .int (nI j)), (2, .int (nI i)), (3, .int (nI (i - cntN (hitL (zt σ) (prods (zt σ) n) j) (p + 1)))), (4, .int (nI (p + 1)))]) [2, 3, 4, 1, 0] rfl ?_
                exact ih28 (p + 1) (by omega) (kthN_next hk0 (fun h9 => c51 (by omega))) (by rw [cntN_t (by simp [bI, hitL, c10, hU, c14, hk, c34, c44, c51])]; omega) (by omega)
              · have c51 : i - cntN (hitL (zt σ) (prods (zt σ) n) j) p = 0 := (nI_eq (a := i - cntN (hitL (zt σ) (prods (zt σ) n) j) p) (b := 0) (by omega) (by omega)).mp c51
                refine s_iload E dX5_hitBy_54 (i := 4) (j := 4) rfl ?_
                exact Rt (nI p) (w20) dX5_hitBy_56 (⟨by rw [hitByF, if_pos (by simp [bI, c10, hU, c14, hk, c34, c44, c51]), tN_nI (by omega), tN_nI (by omega), kthN_keep (p := p) (by omega) hk0 (by simp [bI, hitL, c10, hU, c14, hk, c34, c44, c51]) (by omega)]; rfl, h.1.1⟩) rfl (Nat.le_refl _) (Nat.le_refl _) rfl E.2.2.2.2.2.1
            · have c44 := bI_0 c44
              refine s_goto E dX5_hitBy_47 (tgt := 60) rfl ?_
              refine s_iinc E (L2 := [(4, .int (nI (p + 1))), (0, .ref (ad 0)), (1, .int (nI j)), (2, .int (nI i)), (3, .int (nI (i - cntN (hitL (zt σ) (prods (zt σ) n) j) p)))]) dX5_hitBy_60 (k := 4) rfl (v := nI (p + 1)) (nI_inc _) (Nat.le_of_ble_eq_true rfl) rfl ?_
              refine s_goto E dX5_hitBy_63 (tgt := 28) rfl ?_
              refine s_loc (L2 := [(0, .ref (ad 0)), (1, .int (nI j)), (2, .int (nI i)), (3, .int (nI (i - cntN (hitL (zt σ) (prods (zt σ) n) j) p))), (4, .int (nI (p + 1)))]) [1, 2, 3, 4, 0] rfl ?_
              refine s_L (L2 := [(0, .ref (ad 0)), (1, .int (nI j)), (2, .int (nI i)), (3, .int (nI (i - cntN (hitL (zt σ) (prods (zt σ) n) j) (p + 1)))), (4, .int (nI (p + 1)))]) (by rw [cntN_f (by simp [bI, hitL, c10, hU, c14, hk, c34, c44])]) ?_
              exact ih28 (p + 1) (by omega) (kthN_next hk0 (by simp [bI, hitL, c10, hU, c14, hk, c34, c44])) (by rw [cntN_f (by simp [bI, hitL, c10, hU, c14, hk, c34, c44])]; exact hkc) (by omega)
      refine s_loc (L2 := [(0, .ref (ad 0)), (1, .int (nI j)), (2, .int (nI i)), (3, .int (nI i)), (4, .int (nI 0))]) [2, 3, 4, 1, 0] rfl ?_
      exact L28 (_ + 1) 0 (Nat.zero_le _) (rfl) (Nat.zero_le _) (Nat.lt_succ_self _)
    · have c14 := Int32.not_le.mp c14
      refine s_iconst E dX5_hitBy_17 (v := (-1)) (by decide) ?_
      exact Rt ((-1)) (zt σ) dX5_hitBy_18 (⟨by rw [hitByF, if_neg (by simp [bI, c10, hU, c14])], HR.rf _⟩) rfl (Nat.le_refl _) (Nat.le_refl _) rfl E.2.2.2.2.2.1
set_option maxHeartbeats 1000000 in
set_option maxRecDepth 100000 in
theorem mz_rank {σ : Nat → Nat → Int32} (n : Nat) (v : Int32) (hn : σ 3 7 = nI n) (hn6 : n ≤ 6) (hs : ∀ v, v < n → In (σ 6 v) 3) : Ct l D gt yX5_rank cX5_rank 5 .int 5 114 0 0 [.ref (ad 0), .int (v)] (wm ad ct σ) (tysA ct) (fun r σ2 => rankF (zt σ) n v = r ∧ HR (zt σ) σ2) (fun σ2 => wm ad ct σ2) (fun _ => tysA ct) := by
  refine Ct.start RX5 (by decide) rfl (Nat.le_of_ble_eq_true rfl) rfl ?_
  intro pP eE sS mM aA bB hM cC QQ AA E Rt
  refine s_aload_n E dX5_rank_0 (i := 0) (j := 0) rfl rfl ?_
  refine s_iconst E dX5_rank_1 (v := nI 0) (by decide) ?_
  refine mp0 E dX5_rank_2 ?_
  refine s_ws (ws2 := wm ad ct (zt σ)) (congrArg (wm ad ct) (rfl)) ?_
  refine s_iload_n E dX5_rank_5 (i := 1) (j := 1) rfl rfl ?_
  refine s_if_lt E dX5_rank_6 (tgt := 17) rfl (fun c6 => ?_) (fun c6 => ?_)
  · refine s_iconst E dX5_rank_17 (v := (-1)) (by decide) ?_
    exact Rt ((-1)) (zt σ) dX5_rank_18 (⟨by unfold rankF; rw [if_neg (by simp [bI, isU, c6])], HR.rf _⟩) rfl (Nat.le_refl _) (Nat.le_refl _) rfl E.2.2.2.2.2.1
  · refine s_iload_n E dX5_rank_9 (i := 1) (j := 1) rfl rfl ?_
    refine s_aload_n E dX5_rank_10 (i := 0) (j := 0) rfl rfl ?_
    refine m_calli E (mz_users n (hn)) K5_232 (Nat.le_of_ble_eq_true rfl) (Nat.le_of_ble_eq_true rfl) (Nat.zero_le _) (Nat.zero_le _) rfl rfl (Nat.le_of_ble_eq_true rfl) dX5_rank_11 (fun r11 w11 h11 => ?_)
    obtain ⟨rfl, rfl⟩ := h11
    refine s_icmp_lt E dX5_rank_14 (tgt := 19) rfl (fun c14 => ?_) (fun c14 => ?_)
    · have hU : isU n v = true := isU_t ⟨c6, c14⟩
      obtain ⟨k, hk, rfl⟩ := us_of ⟨c6, c14⟩ hn6
      refine s_aload_n E dX5_rank_19 (i := 0) (j := 0) rfl rfl ?_
      refine m_callv E (mz_laysProducts n (hn) (hn6)) K5_326 (Nat.le_of_ble_eq_true rfl) (Nat.le_of_ble_eq_true rfl) (Nat.zero_le _) (Nat.zero_le _) rfl rfl (Nat.le_of_ble_eq_true rfl) dX5_rank_20 (fun w20 h20 => ?_)
      have h := HW.of (s0 := zt σ) h20 hn hn6 hs
      have hl := h.2.2.1
      refine s_iconst E dX5_rank_23 (v := nI 0) (by decide) ?_
      refine s_istore_n E (L2 := [(2, .int (nI 0)), (0, .ref (ad 0)), (1, .int (nI k))]) dX5_rank_24 rfl (Nat.le_of_ble_eq_true rfl) rfl ?_
      have L25 : ∀ (fuel : Nat) (u : Nat), u ≤ n → firstN (fun u => decide (nI (cntN (aheadB (madeN (zt σ) n (prods (zt σ) n)) u) n) = nI k)) u = 0 → (n - u) < fuel → Sm pP l eE { frames := 5, cells := 0, slots := 0, locals := 114 } sS mM aA bB hM cC QQ AA D 5 0 0 (wm ad ct w20) 25 [(0, .ref (ad 0)), (1, .int (nI k)), (2, .int (nI u))] [] := by
        intro fuel
        induction fuel with
        | zero =>
          intro u hu hf hf25
          exact absurd hf25 (Nat.not_lt_zero _)
        | succ fuel ih25 =>
          intro u hu hf hf25
          have hb1 := madeN_le (zt σ) n hl u
          refine s_iload_n E dX5_rank_25 (i := 2) (j := 2) rfl rfl ?_
          refine s_aload_n E dX5_rank_26 (i := 0) (j := 0) rfl rfl ?_
          refine m_calli E (mz_users n (h.users)) K5_232 (Nat.le_of_ble_eq_true rfl) (Nat.le_of_ble_eq_true rfl) (Nat.zero_le _) (Nat.zero_le _) rfl rfl (Nat.le_of_ble_eq_true rfl) dX5_rank_27 (fun r27 w27 h27 => ?_)
          obtain ⟨rfl, rfl⟩ := h27
          refine s_icmp_ge E dX5_rank_30 (tgt := 108) rfl (fun c30 => ?_) (fun c30 => ?_)
          · have c30 : ¬ u < n := fun h => absurd c30 (Int32.not_le.mpr ((nI_ltI (a := u) (b := n) (by omega) (by omega)).mpr h))
            refine s_iconst E dX5_rank_108 (v := (-1)) (by decide) ?_
            exact Rt ((-1)) (w20) dX5_rank_109 (⟨by unfold rankF; rw [if_pos hU, show n = u by omega]; rw [show n = u by omega] at hf; rw [if_pos hf], h.1.1⟩) rfl (Nat.le_refl _) (Nat.le_refl _) rfl E.2.2.2.2.2.1
          · have c30 : u < n := (nI_ltI (a := u) (b := n) (by omega) (by omega)).mp (Int32.not_le.mp c30)
            refine s_iconst E dX5_rank_33 (v := nI 0) (by decide) ?_
            refine s_istore_n E (L2 := [(3, .int (nI 0)), (0, .ref (ad 0)), (1, .int (nI k)), (2, .int (nI u))]) dX5_rank_34 rfl (Nat.le_of_ble_eq_true rfl) rfl ?_
            refine s_iconst E dX5_rank_35 (v := nI 0) (by decide) ?_
            refine s_istore E (L2 := [(4, .int (nI 0)), (3, .int (nI 0)), (0, .ref (ad 0)), (1, .int (nI k)), (2, .int (nI u))]) dX5_rank_36 (Nat.le_of_ble_eq_true rfl) rfl ?_
            have L38 : ∀ (fuel : Nat) (o : Nat), o ≤ n → (n - o) < fuel → Sm pP l eE { frames := 5, cells := 0, slots := 0, locals := 114 } sS mM aA bB hM cC QQ AA D 5 0 0 (wm ad ct w20) 38 [(0, .ref (ad 0)), (1, .int (nI k)), (2, .int (nI u)), (3, .int (nI (cntN (aheadB (madeN (zt σ) n (prods (zt σ) n)) u) o))), (4, .int (nI o))] [] := by
              intro fuel
              induction fuel with
              | zero =>
                intro o ho hf38
                exact absurd hf38 (Nat.not_lt_zero _)
              | succ fuel ih38 =>
                intro o ho hf38
                have hb2 := madeN_le (zt σ) n hl o
                refine s_iload E dX5_rank_38 (i := 4) (j := 4) rfl ?_
                refine s_aload_n E dX5_rank_40 (i := 0) (j := 0) rfl rfl ?_
                refine m_calli E (mz_users n (h.users)) K5_232 (Nat.le_of_ble_eq_true rfl) (Nat.le_of_ble_eq_true rfl) (Nat.zero_le _) (Nat.zero_le _) rfl rfl (Nat.le_of_ble_eq_true rfl) dX5_rank_41 (fun r41 w41 h41 => ?_)
                obtain ⟨rfl, rfl⟩ := h41
                refine s_icmp_ge E dX5_rank_44 (tgt := 95) rfl (fun c44 => ?_) (fun c44 => ?_)
                · have c44 : ¬ o < n := fun h => absurd c44 (Int32.not_le.mpr ((nI_ltI (a := o) (b := n) (by omega) (by omega)).mpr h))
                  refine s_iload_n E dX5_rank_95 (i := 3) (j := 3) rfl rfl ?_
                  refine s_iload_n E dX5_rank_96 (i := 1) (j := 1) rfl rfl ?_
                  refine s_icmp_ne E dX5_rank_97 (tgt := 102) rfl (fun c97 => ?_) (fun c97 => ?_)
                  · rw [show o = n by omega] at c97
                    refine s_iinc E (L2 := [(2, .int (nI (u + 1))), (0, .ref (ad 0)), (1, .int (nI k)), (3, .int (nI (cntN (aheadB (madeN (zt σ) n (prods (zt σ) n)) u) o))), (4, .int (nI o))]) dX5_rank_102 (k := 2) rfl (v := nI (u + 1)) (nI_inc _) (Nat.le_of_ble_eq_true rfl) rfl ?_
                    refine s_goto E dX5_rank_105 (tgt := 25) rfl ?_
                    refine s_loc (L2 := [(0, .ref (ad 0)), (1, .int (nI k)), (2, .int (nI (u + 1)))]) [1, 2, 0] rfl ?_
                    exact ih25 (u + 1) (by omega) (firstN_next hf (by simp [c97])) (by omega)
                  · rw [show o = n by omega] at c97
                    refine s_iload_n E dX5_rank_100 (i := 2) (j := 2) rfl rfl ?_
                    exact Rt (nI u) (w20) dX5_rank_101 (⟨by have e := firstN_keep (f := (fun u => decide (nI (cntN (aheadB (madeN (zt σ) n (prods (zt σ) n)) u) n) = nI k))) (p := u) (n := n) (by omega) hf (by simp [c97]); unfold rankF; rw [if_pos hU, e]; rfl, h.1.1⟩) rfl (Nat.le_refl _) (Nat.le_refl _) rfl E.2.2.2.2.2.1
                · have c44 : o < n := (nI_ltI (a := o) (b := n) (by omega) (by omega)).mp (Int32.not_le.mp c44)
                  refine s_iload_n E dX5_rank_47 (i := 3) (j := 3) rfl rfl ?_
                  have J87 : Sm pP l eE { frames := 5, cells := 0, slots := 0, locals := 114 } sS mM aA bB hM cC QQ AA D 5 0 0 (wm ad ct w20) 87 [(0, .ref (ad 0)), (1, .int (nI k)), (2, .int (nI u)), (3, .int (nI (cntN (aheadB (madeN (zt σ) n (prods (zt σ) n)) u) o))), (4, .int (nI o))] [.int (nI (cntF (aheadB (madeN (zt σ) n (prods (zt σ) n)) u) o)), .int (nI (cntN (aheadB (madeN (zt σ) n (prods (zt σ) n)) u) o))] := by
                    refine s_iadd_ E dX5_rank_87 (v := nI (cntN (aheadB (madeN (zt σ) n (prods (zt σ) n)) u) (o + 1))) (nI_add _ _) ?_
                    refine s_istore_n E (L2 := [(3, .int (nI (cntN (aheadB (madeN (zt σ) n (prods (zt σ) n)) u) (o + 1)))), (0, .ref (ad 0)), (1, .int (nI k)), (2, .int (nI u)), (4, .int (nI o))]) dX5_rank_88 rfl (Nat.le_of_ble_eq_true rfl) rfl ?_
                    refine s_iinc E (L2 := [(4, .int (nI (o + 1))), (3, .int (nI (cntN (aheadB (madeN (zt σ) n (prods (zt σ) n)) u) (o + 1)))), (0, .ref (ad 0)), (1, .int (nI k)), (2, .int (nI u))]) dX5_rank_89 (k := 4) rfl (v := nI (o + 1)) (nI_inc _) (Nat.le_of_ble_eq_true rfl) rfl ?_
                    refine s_goto E dX5_rank_92 (tgt := 38) rfl ?_
                    refine s_loc (L2 := [(0, .ref (ad 0)), (1, .int (nI k)), (2, .int (nI u)), (3, .int (nI (cntN (aheadB (madeN (zt σ) n (prods (zt σ) n)) u) (o + 1)))), (4, .int (nI (o + 1)))]) [2, 3, 4, 1, 0] rfl ?_
                    exact ih38 (o + 1) (by omega) (by omega)
                  refine s_aload_n E dX5_rank_48 (i := 0) (j := 0) rfl rfl ?_
                  refine s_iload E dX5_rank_49 (i := 4) (j := 4) rfl ?_
                  refine m_calli E (mz_madeBy (zt σ) (prods (zt σ) n) n o (h) (by omega)) K5_393 (Nat.le_of_ble_eq_true rfl) (Nat.le_of_ble_eq_true rfl) (Nat.zero_le _) (Nat.zero_le _) rfl rfl (Nat.le_of_ble_eq_true rfl) dX5_rank_51 (fun r51 w51 h51 => ?_)
                  obtain ⟨rfl, rfl⟩ := h51
                  refine s_aload_n E dX5_rank_54 (i := 0) (j := 0) rfl rfl ?_
                  refine s_iload_n E dX5_rank_55 (i := 2) (j := 2) rfl rfl ?_
                  refine m_calli E (mz_madeBy (zt σ) (prods (zt σ) n) n u (h) (by omega)) K5_393 (Nat.le_of_ble_eq_true rfl) (Nat.le_of_ble_eq_true rfl) (Nat.zero_le _) (Nat.zero_le _) rfl rfl (Nat.le_of_ble_eq_true rfl) dX5_rank_56 (fun r56 w56 h56 => ?_)
                  obtain ⟨rfl, rfl⟩ := h56
                  refine s_icmp_gt E dX5_rank_59 (tgt := 82) rfl (fun c59 => ?_) (fun c59 => ?_)
                  · have c59 : madeN (zt σ) n (prods (zt σ) n) u < madeN (zt σ) n (prods (zt σ) n) o := (nI_ltI (a := madeN (zt σ) n (prods (zt σ) n) u) (b := madeN (zt σ) n (prods (zt σ) n) o) (by omega) (by omega)).mp c59
                    refine s_iconst E dX5_rank_82 (v := nI 1) (by decide) ?_
                    refine s_goto E dX5_rank_83 (tgt := 87) rfl ?_
                    refine s_top (v2 := nI (cntF (aheadB (madeN (zt σ) n (prods (zt σ) n)) u) o)) (by simp [bI, cntF, aheadB, c6, c14, hU, c30, c44, c59]) ?_
                    exact J87
                  · have c59 : ¬ madeN (zt σ) n (prods (zt σ) n) u < madeN (zt σ) n (prods (zt σ) n) o := fun h => c59 ((nI_ltI (a := madeN (zt σ) n (prods (zt σ) n) u) (b := madeN (zt σ) n (prods (zt σ) n) o) (by omega) (by omega)).mpr h)
                    refine s_aload_n E dX5_rank_62 (i := 0) (j := 0) rfl rfl ?_
                    refine s_iload E dX5_rank_63 (i := 4) (j := 4) rfl ?_
                    refine m_calli E (mz_madeBy (zt σ) (prods (zt σ) n) n o (h) (by omega)) K5_393 (Nat.le_of_ble_eq_true rfl) (Nat.le_of_ble_eq_true rfl) (Nat.zero_le _) (Nat.zero_le _) rfl rfl (Nat.le_of_ble_eq_true rfl) dX5_rank_65 (fun r65 w65 h65 => ?_)
                    obtain ⟨rfl, rfl⟩ := h65
                    refine s_aload_n E dX5_rank_68 (i := 0) (j := 0) rfl rfl ?_
                    refine s_iload_n E dX5_rank_69 (i := 2) (j := 2) rfl rfl ?_
                    refine m_calli E (mz_madeBy (zt σ) (prods (zt σ) n) n u (h) (by omega)) K5_393 (Nat.le_of_ble_eq_true rfl) (Nat.le_of_ble_eq_true rfl) (Nat.zero_le _) (Nat.zero_le _) rfl rfl (Nat.le_of_ble_eq_true rfl) dX5_rank_70 (fun r70 w70 h70 => ?_)
                    obtain ⟨rfl, rfl⟩ := h70
                    refine s_icmp_ne E dX5_rank_73 (tgt := 86) rfl (fun c73 => ?_) (fun c73 => ?_)
                    · have c73 : ¬ madeN (zt σ) n (prods (zt σ) n) o = madeN (zt σ) n (prods (zt σ) n) u := fun h => c73 ((nI_eq (a := madeN (zt σ) n (prods (zt σ) n) o) (b := madeN (zt σ) n (prods (zt σ) n) u) (by omega) (by omega)).mpr h)
                      refine s_iconst E dX5_rank_86 (v := nI 0) (by decide) ?_
                      refine s_top (v2 := nI (cntF (aheadB (madeN (zt σ) n (prods (zt σ) n)) u) o)) (by simp [bI, cntF, aheadB, c6, c14, hU, c30, c44, c59, c73]) ?_
                      exact J87
                    · have c73 : madeN (zt σ) n (prods (zt σ) n) o = madeN (zt σ) n (prods (zt σ) n) u := (nI_eq (a := madeN (zt σ) n (prods (zt σ) n) o) (b := madeN (zt σ) n (prods (zt σ) n) u) (by omega) (by omega)).mp c73
                      refine s_iload E dX5_rank_76 (i := 4) (j := 4) rfl ?_
                      refine s_iload_n E dX5_rank_78 (i := 2) (j := 2) rfl rfl ?_
                      refine s_icmp_ge E dX5_rank_79 (tgt := 86) rfl (fun c79 => ?_) (fun c79 => ?_)
                      · have c79 : ¬ o < u := fun h => absurd c79 (Int32.not_le.mpr ((nI_ltI (a := o) (b := u) (by omega) (by omega)).mpr h))
                        refine s_iconst E dX5_rank_86 (v := nI 0) (by decide) ?_
                        refine s_top (v2 := nI (cntF (aheadB (madeN (zt σ) n (prods (zt σ) n)) u) o)) (by simp [bI, cntF, aheadB, c6, c14, hU, c30, c44, c59, c73, c79]) ?_
                        exact J87
                      · have c79 : o < u := (nI_ltI (a := o) (b := u) (by omega) (by omega)).mp (Int32.not_le.mp c79)
                        refine s_iconst E dX5_rank_82 (v := nI 1) (by decide) ?_
                        refine s_goto E dX5_rank_83 (tgt := 87) rfl ?_
                        refine s_top (v2 := nI (cntF (aheadB (madeN (zt σ) n (prods (zt σ) n)) u) o)) (by simp [bI, cntF, aheadB, c6, c14, hU, c30, c44, c59, c73, c79]) ?_
                        exact J87
            refine s_loc (L2 := [(0, .ref (ad 0)), (1, .int (nI k)), (2, .int (nI u)), (3, .int (nI 0)), (4, .int (nI 0))]) [2, 3, 4, 1, 0] rfl ?_
            exact L38 (_ + 1) 0 (Nat.zero_le _) (Nat.lt_succ_self _)
      refine s_loc (L2 := [(0, .ref (ad 0)), (1, .int (nI k)), (2, .int (nI 0))]) [1, 2, 0] rfl ?_
      exact L25 (_ + 1) 0 (Nat.zero_le _) (rfl) (Nat.lt_succ_self _)
    · refine s_iconst E dX5_rank_17 (v := (-1)) (by decide) ?_
      exact Rt ((-1)) (zt σ) dX5_rank_18 (⟨by unfold rankF; rw [if_neg (by simp [bI, isU, c6, c14])], HR.rf _⟩) rfl (Nat.le_refl _) (Nat.le_refl _) rfl E.2.2.2.2.2.1
end
