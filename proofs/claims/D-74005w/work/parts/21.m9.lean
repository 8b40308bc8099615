set_option maxRecDepth 100000
section
variable {l : Launch} {D : va_G} {gt ad : Nat → Nat} {ct : Nat → ClassId}
set_option maxHeartbeats 1000000 in
set_option maxRecDepth 100000 in
theorem mz_exchanges {σ : Nat → Nat → Int32} (a b : Nat) (ha : a < 6) (hb : b < 6) : Cv l D gt yX5_exchanges cX5_exchanges 4 0 0 0 0 [.ref (ad 0), .int (nI a), .int (nI b)] (wm ad ct σ) (tysA ct) (fun σ2 => swapF σ a b = σ2) (fun σ2 => wm ad ct σ2) (fun _ => tysA ct) := by
  refine Cv.start RX5 (by decide) rfl (Nat.le_of_ble_eq_true rfl) rfl ?_
  intro pP eE sS mM aA bB hM cC QQ AA E Rt
  refine s_aload_n E dX5_exchanges_0 (i := 0) (j := 0) rfl rfl ?_
  refine mg25 E dX5_exchanges_1 ?_
  refine s_iconst E dX5_exchanges_4 (v := nI 0) (by decide) ?_
  refine s_iload_n E dX5_exchanges_5 (i := 1) (j := 1) rfl rfl ?_
  refine s_iadd_ E dX5_exchanges_6 (v := nI a) (nI_z _) ?_
  refine ml25 E (v := σ 25 a) (a) (rfl) (by omega) (rfl) dX5_exchanges_7 ?_
  refine s_istore_n E (L2 := [(3, .int (σ 25 a)), (0, .ref (ad 0)), (1, .int (nI a)), (2, .int (nI b))]) dX5_exchanges_8 rfl (Nat.le_of_ble_eq_true rfl) rfl ?_
  refine s_aload_n E dX5_exchanges_9 (i := 0) (j := 1) rfl rfl ?_
  refine mg25 E dX5_exchanges_10 ?_
  refine s_iconst E dX5_exchanges_13 (v := nI 0) (by decide) ?_
  refine s_iload_n E dX5_exchanges_14 (i := 1) (j := 2) rfl rfl ?_
  refine s_iadd_ E dX5_exchanges_15 (v := nI a) (nI_z _) ?_
  refine s_aload_n E dX5_exchanges_16 (i := 0) (j := 1) rfl rfl ?_
  refine mg25 E dX5_exchanges_17 ?_
  refine s_iconst E dX5_exchanges_20 (v := nI 0) (by decide) ?_
  refine s_iload_n E dX5_exchanges_21 (i := 2) (j := 3) rfl rfl ?_
  refine s_iadd_ E dX5_exchanges_22 (v := nI b) (nI_z _) ?_
  refine ml25 E (v := σ 25 b) (b) (rfl) (by omega) (rfl) dX5_exchanges_23 ?_
  refine ms25 E (a) (rfl) (by omega) dX5_exchanges_24 ?_
  refine s_aload_n E dX5_exchanges_25 (i := 0) (j := 1) rfl rfl ?_
  refine mg25 E dX5_exchanges_26 ?_
  refine s_iconst E dX5_exchanges_29 (v := nI 0) (by decide) ?_
  refine s_iload_n E dX5_exchanges_30 (i := 2) (j := 3) rfl rfl ?_
  refine s_iadd_ E dX5_exchanges_31 (v := nI b) (nI_z _) ?_
  refine s_iload_n E dX5_exchanges_32 (i := 3) (j := 0) rfl rfl ?_
  refine ms25 E (b) (rfl) (by omega) dX5_exchanges_33 ?_
  exact Rt (st1 (st1 σ 25 a (σ 25 b)) 25 b (σ 25 a)) dX5_exchanges_34 (rfl) rfl (Nat.le_refl _) (Nat.le_refl _) E.2.2.2.2.2.1
set_option maxHeartbeats 1000000 in
set_option maxRecDepth 100000 in
theorem mz_noiseAt {σ : Nat → Nat → Int32} (n u : Nat) (v : Int32) (hn : σ 3 7 = nI n) (hn6 : n ≤ 6) (hs : ∀ v, v < n → In (σ 6 v) 3) (hu : u < n) : Ct l D gt yX5_noiseAt cX5_noiseAt 5 .int 5 113 0 0 [.ref (ad 0), .int (nI u), .int (v)] (wm ad ct σ) (tysA ct) (fun r σ2 => nI (noiseN (st1 σ 25 u v) n) = r ∧ HR σ σ2) (fun σ2 => wm ad ct σ2) (fun _ => tysA ct) := by
  refine Ct.start RX5 (by decide) rfl (Nat.le_of_ble_eq_true rfl) rfl ?_
  intro pP eE sS mM aA bB hM cC QQ AA E Rt
  refine s_aload_n E dX5_noiseAt_0 (i := 0) (j := 0) rfl rfl ?_
  refine mg25 E dX5_noiseAt_1 ?_
  refine s_iconst E dX5_noiseAt_4 (v := nI 0) (by decide) ?_
  refine s_iload_n E dX5_noiseAt_5 (i := 1) (j := 1) rfl rfl ?_
  refine s_iadd_ E dX5_noiseAt_6 (v := nI u) (nI_z _) ?_
  refine ml25 E (v := σ 25 u) (u) (rfl) (by omega) (rfl) dX5_noiseAt_7 ?_
  refine s_istore_n E (L2 := [(3, .int (σ 25 u)), (0, .ref (ad 0)), (1, .int (nI u)), (2, .int (v))]) dX5_noiseAt_8 rfl (Nat.le_of_ble_eq_true rfl) rfl ?_
  refine s_aload_n E dX5_noiseAt_9 (i := 0) (j := 1) rfl rfl ?_
  refine mg25 E dX5_noiseAt_10 ?_
  refine s_iconst E dX5_noiseAt_13 (v := nI 0) (by decide) ?_
  refine s_iload_n E dX5_noiseAt_14 (i := 1) (j := 2) rfl rfl ?_
  refine s_iadd_ E dX5_noiseAt_15 (v := nI u) (nI_z _) ?_
  refine s_iload_n E dX5_noiseAt_16 (i := 2) (j := 3) rfl rfl ?_
  refine ms25 E (u) (rfl) (by omega) dX5_noiseAt_17 ?_
  refine s_aload_n E dX5_noiseAt_18 (i := 0) (j := 1) rfl rfl ?_
  refine m_callv E (mz_laysProducts n (hn) (hn6)) K5_326 (Nat.le_of_ble_eq_true rfl) (Nat.le_of_ble_eq_true rfl) (Nat.zero_le _) (Nat.zero_le _) rfl rfl (Nat.le_of_ble_eq_true rfl) dX5_noiseAt_19 (fun w19 h19 => ?_)
  have h := HW.of (s0 := (st1 σ 25 u v)) h19 hn hn6 hs
  refine s_aload_n E dX5_noiseAt_22 (i := 0) (j := 1) rfl rfl ?_
  refine m_calli E (mz_allHits (st1 σ 25 u v) (prods (st1 σ 25 u v) n) n (h)) K5_381 (Nat.le_of_ble_eq_true rfl) (Nat.le_of_ble_eq_true rfl) (Nat.zero_le _) (Nat.zero_le _) rfl rfl (Nat.le_of_ble_eq_true rfl) dX5_noiseAt_23 (fun r23 w23 h23 => ?_)
  obtain ⟨rfl, rfl⟩ := h23
  refine s_aload_n E dX5_noiseAt_26 (i := 0) (j := 1) rfl rfl ?_
  refine m_calli E (mz_allCrowds n (h.users) (hn6)) K5_384 (Nat.le_of_ble_eq_true rfl) (Nat.le_of_ble_eq_true rfl) (Nat.zero_le _) (Nat.zero_le _) rfl rfl (Nat.le_of_ble_eq_true rfl) dX5_noiseAt_27 (fun r27 w27 h27 => ?_)
  obtain ⟨rfl, rfl⟩ := h27
  refine s_iadd_ E dX5_noiseAt_30 (v := nI (noiseN (st1 σ 25 u v) n)) (by rw [crowdsT_ce h.1.1.ce]; exact nI_add _ _) ?_
  refine s_istore E (L2 := [(4, .int (nI (noiseN (st1 σ 25 u v) n))), (3, .int (σ 25 u)), (0, .ref (ad 0)), (1, .int (nI u)), (2, .int (v))]) dX5_noiseAt_31 (Nat.le_of_ble_eq_true rfl) rfl ?_
  refine s_aload_n E dX5_noiseAt_33 (i := 0) (j := 2) rfl rfl ?_
  refine mg25 E dX5_noiseAt_34 ?_
  refine s_iconst E dX5_noiseAt_37 (v := nI 0) (by decide) ?_
  refine s_iload_n E dX5_noiseAt_38 (i := 1) (j := 3) rfl rfl ?_
  refine s_iadd_ E dX5_noiseAt_39 (v := nI u) (nI_z _) ?_
  refine s_iload_n E dX5_noiseAt_40 (i := 3) (j := 1) rfl rfl ?_
  refine ms25 E (u) (rfl) (by omega) dX5_noiseAt_41 ?_
  refine s_iload E dX5_noiseAt_42 (i := 4) (j := 0) rfl ?_
  exact Rt (nI (noiseN (st1 σ 25 u v) n)) (st1 w19 25 u (σ 25 u)) dX5_noiseAt_44 (⟨rfl, HR.undo (by omega) (by omega) h.1.1⟩) rfl (Nat.le_refl _) (Nat.le_refl _) rfl E.2.2.2.2.2.1
set_option maxHeartbeats 1000000 in
set_option maxRecDepth 100000 in
theorem mz_fitsAt {σ : Nat → Nat → Int32} (n u : Nat) (v : Int32) (hC : CM σ n) (hu : u < n) (hv : In v 61) : Ct l D gt yX5_fitsAt cX5_fitsAt 5 .boolean 5 117 0 0 [.ref (ad 0), .int (nI u), .int (v)] (wm ad ct σ) (tysA ct) (fun r σ2 => bI (cleanB (st1 σ 25 u v) n = true) = r ∧ HR σ σ2) (fun σ2 => wm ad ct σ2) (fun _ => tysA ct) := by
  refine Ct.start RX5 (by decide) rfl (Nat.le_of_ble_eq_true rfl) rfl ?_
  intro pP eE sS mM aA bB hM cC QQ AA E Rt
  have hn := hC.1
  have hn6 := hC.2.1
  have hs := hC.2.2.1
  refine s_aload_n E dX5_fitsAt_0 (i := 0) (j := 0) rfl rfl ?_
  refine mg25 E dX5_fitsAt_1 ?_
  refine s_iconst E dX5_fitsAt_4 (v := nI 0) (by decide) ?_
  refine s_iload_n E dX5_fitsAt_5 (i := 1) (j := 1) rfl rfl ?_
  refine s_iadd_ E dX5_fitsAt_6 (v := nI u) (nI_z _) ?_
  refine ml25 E (v := σ 25 u) (u) (rfl) (by omega) (rfl) dX5_fitsAt_7 ?_
  refine s_istore_n E (L2 := [(3, .int (σ 25 u)), (0, .ref (ad 0)), (1, .int (nI u)), (2, .int (v))]) dX5_fitsAt_8 rfl (Nat.le_of_ble_eq_true rfl) rfl ?_
  refine s_aload_n E dX5_fitsAt_9 (i := 0) (j := 1) rfl rfl ?_
  refine mg25 E dX5_fitsAt_10 ?_
  refine s_iconst E dX5_fitsAt_13 (v := nI 0) (by decide) ?_
  refine s_iload_n E dX5_fitsAt_14 (i := 1) (j := 2) rfl rfl ?_
  refine s_iadd_ E dX5_fitsAt_15 (v := nI u) (nI_z _) ?_
  refine s_iload_n E dX5_fitsAt_16 (i := 2) (j := 3) rfl rfl ?_
  refine ms25 E (u) (rfl) (by omega) dX5_fitsAt_17 ?_
  refine s_aload_n E dX5_fitsAt_18 (i := 0) (j := 1) rfl rfl ?_
  refine m_calli E (mz_isClean n (CM.put hC hv)) K5_332 (Nat.le_of_ble_eq_true rfl) (Nat.le_of_ble_eq_true rfl) (Nat.zero_le _) (Nat.zero_le _) rfl rfl (Nat.le_of_ble_eq_true rfl) dX5_fitsAt_19 (fun r19 w19 h19 => ?_)
  obtain ⟨rfl, h19⟩ := h19
  refine s_istore E (L2 := [(4, .int (bI (cleanB (st1 σ 25 u v) n = true))), (3, .int (σ 25 u)), (0, .ref (ad 0)), (1, .int (nI u)), (2, .int (v))]) dX5_fitsAt_22 (Nat.le_of_ble_eq_true rfl) rfl ?_
  refine s_aload_n E dX5_fitsAt_24 (i := 0) (j := 2) rfl rfl ?_
  refine mg25 E dX5_fitsAt_25 ?_
  refine s_iconst E dX5_fitsAt_28 (v := nI 0) (by decide) ?_
  refine s_iload_n E dX5_fitsAt_29 (i := 1) (j := 3) rfl rfl ?_
  refine s_iadd_ E dX5_fitsAt_30 (v := nI u) (nI_z _) ?_
  refine s_iload_n E dX5_fitsAt_31 (i := 3) (j := 1) rfl rfl ?_
  refine ms25 E (u) (rfl) (by omega) dX5_fitsAt_32 ?_
  refine s_iload E dX5_fitsAt_33 (i := 4) (j := 0) rfl ?_
  exact Rt (bI (cleanB (st1 σ 25 u v) n = true)) (st1 w19 25 u (σ 25 u)) dX5_fitsAt_35 (⟨rfl, HR.undo (by omega) (by omega) h19⟩) rfl (Nat.le_refl _) (Nat.le_refl _) bI_nar E.2.2.2.2.2.1
set_option maxHeartbeats 1000000 in
set_option maxRecDepth 100000 in
theorem mz_fits {σ : Nat → Nat → Int32} (n B : Nat) (u v : Int32) (hC : CM σ n) (hB : σ 3 0 = nI B) (hB2 : B ≤ 60) : Ct l D gt yX5_fits cX5_fits 3 .int 6 141 0 0 [.ref (ad 0), .int (u), .int (v)] (wm ad ct σ) (tysA ct) (fun r σ2 => (if (isU n u && isC (zt σ) v) = true then bI (cleanB (st1 (zt σ) 25 (tN u) v) n = true) else -1) = r ∧ HR (zt σ) σ2) (fun σ2 => wm ad ct σ2) (fun _ => tysA ct) := by
  refine Ct.start RX5 (by decide) rfl (Nat.le_of_ble_eq_true rfl) rfl ?_
  intro pP eE sS mM aA bB hM cC QQ AA E Rt
  have hn := hC.1
  have hn6 := hC.2.1
  have hs := hC.2.2.1
  refine s_aload_n E dX5_fits_0 (i := 0) (j := 0) rfl rfl ?_
  refine s_iconst E dX5_fits_1 (v := nI 0) (by decide) ?_
  refine mp0 E dX5_fits_2 ?_
  refine s_ws (ws2 := wm ad ct (zt σ)) (congrArg (wm ad ct) (rfl)) ?_
  refine s_aload_n E dX5_fits_5 (i := 0) (j := 0) rfl rfl ?_
  refine s_iload_n E dX5_fits_6 (i := 1) (j := 1) rfl rfl ?_
  refine m_calli E (mz_isUser n u (hn)) K5_259 (Nat.le_of_ble_eq_true rfl) (Nat.le_of_ble_eq_true rfl) (Nat.zero_le _) (Nat.zero_le _) rfl rfl (Nat.le_of_ble_eq_true rfl) dX5_fits_7 (fun r7 w7 h7 => ?_)
  obtain ⟨rfl, rfl⟩ := h7
  refine s_if_eq E dX5_fits_10 (tgt := 21) rfl (fun c10 => ?_) (fun c10 => ?_)
  · have c10 := bI_0 c10
    have hU := isU_f c10
    refine s_iconst E dX5_fits_21 (v := (-1)) (by decide) ?_
    exact Rt ((-1)) (zt σ) dX5_fits_22 (⟨by rw [if_neg (by simp [bI, c10, hU])], HR.rf _⟩) rfl (Nat.le_refl _) (Nat.le_refl _) rfl E.2.2.2.2.2.1
  · have c10 := bI_n0 c10
    have hU := isU_t c10
    obtain ⟨j, hj, rfl⟩ := us_of c10 hn6
    refine s_aload_n E dX5_fits_13 (i := 0) (j := 0) rfl rfl ?_
    refine s_iload_n E dX5_fits_14 (i := 2) (j := 2) rfl rfl ?_
    refine m_calli E (mz_isChannel v) K5_262 (Nat.le_of_ble_eq_true rfl) (Nat.le_of_ble_eq_true rfl) (Nat.zero_le _) (Nat.zero_le _) rfl rfl (Nat.le_of_ble_eq_true rfl) dX5_fits_15 (fun r15 w15 h15 => ?_)
    obtain ⟨rfl, rfl⟩ := h15
    refine s_if_ne E dX5_fits_18 (tgt := 23) rfl (fun c18 => ?_) (fun c18 => ?_)
    · have c18 := bI_n0 c18
      have hV := isC_t (s := zt σ) c18
      obtain ⟨b, hb1, hb, rfl⟩ := ch_of c18 hB hB2
      refine s_aload_n E dX5_fits_23 (i := 0) (j := 0) rfl rfl ?_
      refine s_iload_n E dX5_fits_24 (i := 1) (j := 1) rfl rfl ?_
      refine s_iload_n E dX5_fits_25 (i := 2) (j := 2) rfl rfl ?_
      refine m_calli E (mz_fitsAt n j (nI b) (hC) (hj) (In.of (by omega) (by decide))) K5_387 (Nat.le_of_ble_eq_true rfl) (Nat.le_of_ble_eq_true rfl) (Nat.zero_le _) (Nat.zero_le _) rfl rfl (Nat.le_of_ble_eq_true rfl) dX5_fits_26 (fun r26 w26 h26 => ?_)
      obtain ⟨rfl, h26⟩ := h26
      refine s_if_eq E dX5_fits_29 (tgt := 36) rfl (fun c29 => ?_) (fun c29 => ?_)
      · have c29 := bI_0 c29
        refine s_iconst E dX5_fits_36 (v := nI 0) (by decide) ?_
        exact Rt (nI 0) (w26) dX5_fits_37 (⟨by rw [if_pos (by simp [bI, c10, hU, c18, hV, c29]), tN_nI (by omega)]; simp [bI, c10, hU, c18, hV, c29], h26⟩) rfl (Nat.le_refl _) (Nat.le_refl _) rfl E.2.2.2.2.2.1
      · have c29 := bI_n0 c29
        refine s_iconst E dX5_fits_32 (v := nI 1) (by decide) ?_
        refine s_goto E dX5_fits_33 (tgt := 37) rfl ?_
        exact Rt (nI 1) (w26) dX5_fits_37 (⟨by rw [if_pos (by simp [bI, c10, hU, c18, hV, c29]), tN_nI (by omega)]; simp [bI, c10, hU, c18, hV, c29], h26⟩) rfl (Nat.le_refl _) (Nat.le_refl _) rfl E.2.2.2.2.2.1
    · have c18 := bI_0 c18
      have hV := isC_f (s := zt σ) c18
      refine s_iconst E dX5_fits_21 (v := (-1)) (by decide) ?_
      exact Rt ((-1)) (zt σ) dX5_fits_22 (⟨by rw [if_neg (by simp [bI, c10, hU, c18, hV])], HR.rf _⟩) rfl (Nat.le_refl _) (Nat.le_refl _) rfl E.2.2.2.2.2.1
set_option maxHeartbeats 1000000 in
set_option maxRecDepth 100000 in
theorem mz_free {σ : Nat → Nat → Int32} (n B : Nat) (u : Int32) (hC : CM σ n) (hb : σ 0 30 = nI B) (hB2 : B ≤ 60) : Ct l D gt yX5_free cX5_free 4 .int 6 141 0 0 [.ref (ad 0), .int (u)] (wm ad ct σ) (tysA ct) (fun r σ2 => (if isU n u = true then nI (cntN (fitB (zt σ) n (tN u)) B) else -1) = r ∧ HR (zt σ) σ2) (fun σ2 => wm ad ct σ2) (fun _ => tysA ct) := by
  refine Ct.start RX5 (by decide) rfl (Nat.le_of_ble_eq_true rfl) rfl ?_
  intro pP eE sS mM aA bB hM cC QQ AA E Rt
  have hn := hC.1
  have hn6 := hC.2.1
  have hs := hC.2.2.1
  refine s_aload_n E dX5_free_0 (i := 0) (j := 0) rfl rfl ?_
  refine s_iconst E dX5_free_1 (v := nI 0) (by decide) ?_
  refine mp0 E dX5_free_2 ?_
  refine s_ws (ws2 := wm ad ct (zt σ)) (congrArg (wm ad ct) (rfl)) ?_
  refine s_aload_n E dX5_free_5 (i := 0) (j := 0) rfl rfl ?_
  refine s_iload_n E dX5_free_6 (i := 1) (j := 1) rfl rfl ?_
  refine m_calli E (mz_isUser n u (hn)) K5_259 (Nat.le_of_ble_eq_true rfl) (Nat.le_of_ble_eq_true rfl) (Nat.zero_le _) (Nat.zero_le _) rfl rfl (Nat.le_of_ble_eq_true rfl) dX5_free_7 (fun r7 w7 h7 => ?_)
  obtain ⟨rfl, rfl⟩ := h7
  refine s_if_ne E dX5_free_10 (tgt := 15) rfl (fun c10 => ?_) (fun c10 => ?_)
  · have c10 := bI_n0 c10
    have hU := isU_t c10
    obtain ⟨j, hj, rfl⟩ := us_of c10 hn6
    refine s_iconst E dX5_free_15 (v := nI 0) (by decide) ?_
    refine s_istore_n E (L2 := [(2, .int (nI 0)), (0, .ref (ad 0)), (1, .int (nI j))]) dX5_free_16 rfl (Nat.le_of_ble_eq_true rfl) rfl ?_
    refine s_iconst E dX5_free_17 (v := nI 1) (by decide) ?_
    refine s_istore_n E (L2 := [(3, .int (nI 1)), (2, .int (nI 0)), (0, .ref (ad 0)), (1, .int (nI j))]) dX5_free_18 rfl (Nat.le_of_ble_eq_true rfl) rfl ?_
    have L19 : ∀ (fuel : Nat) (i : Nat) (w2 : Nat → Nat → Int32), i ≤ B → HR (zt σ) w2 → (B - i) < fuel → Sm pP l eE { frames := 6, cells := 0, slots := 0, locals := 141 } sS mM aA bB hM cC QQ AA D 4 0 0 (wm ad ct w2) 19 [(0, .ref (ad 0)), (1, .int (nI j)), (2, .int (nI (cntN (fitB (zt σ) n j) i))), (3, .int (nI (i + 1)))] [] := by
      intro fuel
      induction fuel with
      | zero =>
        intro i w2 hi hw hf19
        exact absurd hf19 (Nat.not_lt_zero _)
      | succ fuel ih19 =>
        intro i w2 hi hw hf19
        refine s_iload_n E dX5_free_19 (i := 3) (j := 3) rfl rfl ?_
        refine s_aload_n E dX5_free_20 (i := 0) (j := 0) rfl rfl ?_
        refine mg30 E (v := nI B) (by rw [hw.2 30 (by omega)]; exact hb) dX5_free_21 ?_
        refine s_icmp_gt E dX5_free_24 (tgt := 50) rfl (fun c24 => ?_) (fun c24 => ?_)
        · have c24 : B < i + 1 := (nI_ltI (a := B) (b := i + 1) (by omega) (by omega)).mp c24
          refine s_iload_n E dX5_free_50 (i := 2) (j := 2) rfl rfl ?_
          exact Rt (nI (cntN (fitB (zt σ) n j) i)) (w2) dX5_free_51 (⟨by rw [if_pos hU, tN_nI (by omega), show B = i by omega], hw⟩) rfl (Nat.le_refl _) (Nat.le_refl _) rfl E.2.2.2.2.2.1
        · have c24 : ¬ B < i + 1 := fun h => c24 ((nI_ltI (a := B) (b := i + 1) (by omega) (by omega)).mpr h)
          refine s_iload_n E dX5_free_27 (i := 2) (j := 2) rfl rfl ?_
          refine s_aload_n E dX5_free_28 (i := 0) (j := 0) rfl rfl ?_
          refine s_iload_n E dX5_free_29 (i := 1) (j := 1) rfl rfl ?_
          refine s_iload_n E dX5_free_30 (i := 3) (j := 3) rfl rfl ?_
          refine m_calli E (mz_fitsAt n j (nI (i + 1)) (CM.hr (s0 := zt σ) hC hw) (hj) (In.of (by omega) (by decide))) K5_387 (Nat.le_of_ble_eq_true rfl) (Nat.le_of_ble_eq_true rfl) (Nat.zero_le _) (Nat.zero_le _) rfl rfl (Nat.le_of_ble_eq_true rfl) dX5_free_31 (fun r31 w31 h31 => ?_)
          obtain ⟨rfl, h9⟩ := h31
          have h9 := hw.tr h9
          refine s_top (v2 := bI (fitB (zt σ) n j i = true)) (by rw [cleanB_ce (CE.put hw.ce)]; rfl) ?_
          have J42 : Sm pP l eE { frames := 6, cells := 0, slots := 0, locals := 141 } sS mM aA bB hM cC QQ AA D 4 0 0 (wm ad ct w31) 42 [(0, .ref (ad 0)), (1, .int (nI j)), (2, .int (nI (cntN (fitB (zt σ) n j) i))), (3, .int (nI (i + 1)))] [.int (nI (cntF (fitB (zt σ) n j) i)), .int (nI (cntN (fitB (zt σ) n j) i))] := by
            refine s_iadd_ E dX5_free_42 (v := nI (cntN (fitB (zt σ) n j) (i + 1))) (nI_add _ _) ?_
            refine s_istore_n E (L2 := [(2, .int (nI (cntN (fitB (zt σ) n j) (i + 1)))), (0, .ref (ad 0)), (1, .int (nI j)), (3, .int (nI (i + 1)))]) dX5_free_43 rfl (Nat.le_of_ble_eq_true rfl) rfl ?_
            refine s_iinc E (L2 := [(3, .int (nI (i + 1 + 1))), (2, .int (nI (cntN (fitB (zt σ) n j) (i + 1)))), (0, .ref (ad 0)), (1, .int (nI j))]) dX5_free_44 (k := 3) rfl (v := nI (i + 1 + 1)) (nI_inc _) (Nat.le_of_ble_eq_true rfl) rfl ?_
            refine s_goto E dX5_free_47 (tgt := 19) rfl ?_
            refine s_loc (L2 := [(0, .ref (ad 0)), (1, .int (nI j)), (2, .int (nI (cntN (fitB (zt σ) n j) (i + 1)))), (3, .int (nI (i + 1 + 1)))]) [2, 3, 1, 0] rfl ?_
            exact ih19 (i + 1) w31 (by omega) (h9) (by omega)
          refine s_if_eq E dX5_free_34 (tgt := 41) rfl (fun c34 => ?_) (fun c34 => ?_)
          · have c34 := bI_0 c34
            refine s_iconst E dX5_free_41 (v := nI 0) (by decide) ?_
            refine s_top (v2 := nI (cntF (fitB (zt σ) n j) i)) (by simp [bI, cntF, c10, hU, c24, c34]) ?_
            exact J42
          · have c34 := bI_n0 c34
            refine s_iconst E dX5_free_37 (v := nI 1) (by decide) ?_
            refine s_goto E dX5_free_38 (tgt := 42) rfl ?_
            refine s_top (v2 := nI (cntF (fitB (zt σ) n j) i)) (by simp [bI, cntF, c10, hU, c24, c34]) ?_
            exact J42
    refine s_loc (L2 := [(0, .ref (ad 0)), (1, .int (nI j)), (2, .int (nI 0)), (3, .int (nI 1))]) [2, 3, 1, 0] rfl ?_
    exact L19 (_ + 1) 0 (zt σ) (Nat.zero_le _) (HR.rf _) (Nat.lt_succ_self _)
  · have c10 := bI_0 c10
    have hU := isU_f c10
    refine s_iconst E dX5_free_13 (v := (-1)) (by decide) ?_
    exact Rt ((-1)) (zt σ) dX5_free_14 (⟨by rw [if_neg (by simp [hU])], HR.rf _⟩) rfl (Nat.le_refl _) (Nat.le_refl _) rfl E.2.2.2.2.2.1
set_option maxHeartbeats 1000000 in
set_option maxRecDepth 100000 in
theorem mz_freeAt {σ : Nat → Nat → Int32} (n B : Nat) (u k : Int32) (hC : CM σ n) (hb : σ 0 30 = nI B) (hB2 : B ≤ 60) : Ct l D gt yX5_freeAt cX5_freeAt 5 .int 6 141 0 0 [.ref (ad 0), .int (u), .int (k)] (wm ad ct σ) (tysA ct) (fun r σ2 => (if (isU n u && !decide (k < 0)) = true then (if kthN (fitB (zt σ) n (tN u)) (tN k) B = 0 then -2 else nI (kthN (fitB (zt σ) n (tN u)) (tN k) B)) else -1) = r ∧ HR (zt σ) σ2) (fun σ2 => wm ad ct σ2) (fun _ => tysA ct) := by
  refine Ct.start RX5 (by decide) rfl (Nat.le_of_ble_eq_true rfl) rfl ?_
  intro pP eE sS mM aA bB hM cC QQ AA E Rt
  have hn := hC.1
  have hn6 := hC.2.1
  have hs := hC.2.2.1
  refine s_aload_n E dX5_freeAt_0 (i := 0) (j := 0) rfl rfl ?_
  refine s_iconst E dX5_freeAt_1 (v := nI 0) (by decide) ?_
  refine mp0 E dX5_freeAt_2 ?_
  refine s_ws (ws2 := wm ad ct (zt σ)) (congrArg (wm ad ct) (rfl)) ?_
  refine s_aload_n E dX5_freeAt_5 (i := 0) (j := 0) rfl rfl ?_
  refine s_iload_n E dX5_freeAt_6 (i := 1) (j := 1) rfl rfl ?_
  refine m_calli E (mz_isUser n u (hn)) K5_259 (Nat.le_of_ble_eq_true rfl) (Nat.le_of_ble_eq_true rfl) (Nat.zero_le _) (Nat.zero_le _) rfl rfl (Nat.le_of_ble_eq_true rfl) dX5_freeAt_7 (fun r7 w7 h7 => ?_)
  obtain ⟨rfl, rfl⟩ := h7
  refine s_if_eq E dX5_freeAt_10 (tgt := 17) rfl (fun c10 => ?_) (fun c10 => ?_)
  · have c10 := bI_0 c10
    have hU := isU_f c10
    refine s_iconst E dX5_freeAt_17 (v := (-1)) (by decide) ?_
    exact Rt ((-1)) (zt σ) dX5_freeAt_18 (⟨by rw [if_neg (by simp [bI, c10, hU])], HR.rf _⟩) rfl (Nat.le_refl _) (Nat.le_refl _) rfl E.2.2.2.2.2.1
  · have c10 := bI_n0 c10
    have hU := isU_t c10
    obtain ⟨j, hj, rfl⟩ := us_of c10 hn6
    refine s_iload_n E dX5_freeAt_13 (i := 2) (j := 2) rfl rfl ?_
    refine s_if_ge E dX5_freeAt_14 (tgt := 19) rfl (fun c14 => ?_) (fun c14 => ?_)
    · have c14 := Int32.not_lt.mpr c14
      have hk := Int32.not_lt.mpr (Int32.not_lt.mp c14)
      obtain ⟨q, hq, rfl⟩ := nI_of c14
      refine s_iload_n E dX5_freeAt_19 (i := 2) (j := 2) rfl rfl ?_
      refine s_istore_n E (L2 := [(3, .int (nI q)), (0, .ref (ad 0)), (1, .int (nI j)), (2, .int (nI q))]) dX5_freeAt_20 rfl (Nat.le_of_ble_eq_true rfl) rfl ?_
      refine s_iconst E dX5_freeAt_21 (v := nI 1) (by decide) ?_
      refine s_istore E (L2 := [(4, .int (nI 1)), (3, .int (nI q)), (0, .ref (ad 0)), (1, .int (nI j)), (2, .int (nI q))]) dX5_freeAt_22 (Nat.le_of_ble_eq_true rfl) rfl ?_
      have L24 : ∀ (fuel : Nat) (i : Nat) (w2 : Nat → Nat → Int32), i ≤ B → HR (zt σ) w2 → kthN (fitB (zt σ) n j) q i = 0 → cntN (fitB (zt σ) n j) i ≤ q → (B - i) < fuel → Sm pP l eE { frames := 6, cells := 0, slots := 0, locals := 141 } sS mM aA bB hM cC QQ AA D 5 0 0 (wm ad ct w2) 24 [(0, .ref (ad 0)), (1, .int (nI j)), (2, .int (nI q)), (3, .int (nI (q - cntN (fitB (zt σ) n j) i))), (4, .int (nI (i + 1)))] [] := by
        intro fuel
        induction fuel with
        | zero =>
          intro i w2 hi hw hk0 hkc hf24
          exact absurd hf24 (Nat.not_lt_zero _)
        | succ fuel ih24 =>
          intro i w2 hi hw hk0 hkc hf24
          refine s_iload E dX5_freeAt_24 (i := 4) (j := 4) rfl ?_
          refine s_aload_n E dX5_freeAt_26 (i := 0) (j := 0) rfl rfl ?_
          refine mg30 E (v := nI B) (by rw [hw.2 30 (by omega)]; exact hb) dX5_freeAt_27 ?_
          refine s_icmp_gt E dX5_freeAt_30 (tgt := 62) rfl (fun c30 => ?_) (fun c30 => ?_)
          · have c30 : B < i + 1 := (nI_ltI (a := B) (b := i + 1) (by omega) (by omega)).mp c30
            refine s_bipush E dX5_freeAt_62 (v := (-2)) (by decide) ?_
            exact Rt ((-2)) (w2) dX5_freeAt_64 (⟨by rw [if_pos (by simp [bI, c10, hU, c14, hk, c30]), tN_nI (by omega), tN_nI (by omega), show B = i by omega, if_pos hk0], hw⟩) rfl (Nat.le_refl _) (Nat.le_refl _) rfl E.2.2.2.2.2.1
          · have c30 : ¬ B < i + 1 := fun h => c30 ((nI_ltI (a := B) (b := i + 1) (by omega) (by omega)).mpr h)
            refine s_aload_n E dX5_freeAt_33 (i := 0) (j := 0) rfl rfl ?_
            refine s_iload_n E dX5_freeAt_34 (i := 1) (j := 1) rfl rfl ?_
            refine s_iload E dX5_freeAt_35 (i := 4) (j := 4) rfl ?_
            refine m_calli E (mz_fitsAt n j (nI (i + 1)) (CM.hr (s0 := zt σ) hC hw) (hj) (In.of (by omega) (by decide))) K5_387 (Nat.le_of_ble_eq_true rfl) (Nat.le_of_ble_eq_true rfl) (Nat.zero_le _) (Nat.zero_le _) rfl rfl (Nat.le_of_ble_eq_true rfl) dX5_freeAt_37 (fun r37 w37 h37 => ?_)
            obtain ⟨rfl, h9⟩ := h37
            have h9 := hw.tr h9
            refine s_top (v2 := bI (fitB (zt σ) n j i = true)) (by rw [cleanB_ce (CE.put hw.ce)]; rfl) ?_
            refine s_if_ne E dX5_freeAt_40 (tgt := 46) rfl (fun c40 => ?_) (fun c40 => ?_)
            · have c40 := bI_n0 c40
              refine s_iload_n E dX5_freeAt_46 (i := 3) (j := 3) rfl rfl ?_
              refine s_if_ne E dX5_freeAt_47 (tgt := 53) rfl (fun c47 => ?_) (fun c47 => ?_)
              · have c47 : ¬ q - cntN (fitB (zt σ) n j) i = 0 := fun h => c47 ((nI_eq (a := q - cntN (fitB (zt σ) n j) i) (b := 0) (by omega) (by omega)).mpr h)
                refine s_iinc E (L2 := [(3, .int (nI (q - cntN (fitB (zt σ) n j) (i + 1)))), (0, .ref (ad 0)), (1, .int (nI j)), (2, .int (nI q)), (4, .int (nI (i + 1)))]) dX5_freeAt_53 (k := 3) rfl (v := nI (q - cntN (fitB (zt σ) n j) (i + 1))) (by rw [cntN_t (by simp [bI, c10, hU, c14, hk, c30, c40, c47])]; exact nI_dec2 (by omega)) (Nat.le_of_ble_eq_true rfl) rfl ?_
                refine s_iinc E (L2 := [(4, .int (nI (i + 1 + 1))), (3, .int (nI (q - cntN (fitB (zt σ) n j) (i + 1)))), (0, .ref (ad 0)), (1, .int (nI j)), (2, .int (nI q))]) dX5_freeAt_56 (k := 4) rfl (v := nI (i + 1 + 1)) (nI_inc _) (Nat.le_of_ble_eq_true rfl) rfl ?_
                refine s_goto E dX5_freeAt_59 (tgt := 24) rfl ?_
                refine s_loc (L2 := [(0, .ref (ad 0)), (1, .int (nI j)), (2, .int (nI q)), (3, .int (nI (q - cntN (fitB (zt σ) n j) (i + 1)))), (4, .int (nI (i + 1 + 1)))]) [2, 3, 4, 1, 0] rfl ?_
                exact ih24 (i + 1) w37 (by omega) (h9) (kthN_next hk0 (fun h8 => c47 (by omega))) (by rw [cntN_t (by simp [bI, c10, hU, c14, hk, c30, c40, c47])]; omega) (by omega)
              · have c47 : q - cntN (fitB (zt σ) n j) i = 0 := (nI_eq (a := q - cntN (fitB (zt σ) n j) i) (b := 0) (by omega) (by omega)).mp c47
                refine s_iload E dX5_freeAt_50 (i := 4) (j := 4) rfl ?_
                exact Rt (nI (i + 1)) (w37) dX5_freeAt_52 (⟨by rw [if_pos (by simp [bI, c10, hU, c14, hk, c30, c40, c47]), tN_nI (by omega), tN_nI (by omega), kthN_keep (p := i) (by omega) hk0 (by simp [bI, c10, hU, c14, hk, c30, c40, c47]) (by omega)]; rfl, h9⟩) rfl (Nat.le_refl _) (Nat.le_refl _) rfl E.2.2.2.2.2.1
            · have c40 := bI_0 c40
              refine s_goto E dX5_freeAt_43 (tgt := 56) rfl ?_
              refine s_iinc E (L2 := [(4, .int (nI (i + 1 + 1))), (0, .ref (ad 0)), (1, .int (nI j)), (2, .int (nI q)), (3, .int (nI (q - cntN (fitB (zt σ) n j) i)))]) dX5_freeAt_56 (k := 4) rfl (v := nI (i + 1 + 1)) (nI_inc _) (Nat.le_of_ble_eq_true rfl) rfl ?_
              refine s_goto E dX5_freeAt_59 (tgt := 24) rfl ?_
              refine s_loc (L2 := [(0, .ref (ad 0)), (1, .int (nI j)), (2, .int (nI q)), (3, .int (nI (q - cntN (fitB (zt σ) n j) i))), (4, .int (nI (i + 1 + 1)))]) [1, 2, 3, 4, 0] rfl ?_
              refine s_L (L2 := [(0, .ref (ad 0)), (1, .int (nI j)), (2, .int (nI q)), (3, .int (nI (q - cntN (fitB (zt σ) n j) (i + 1)))), (4, .int (nI ((i + 1) + 1)))]) (by rw [cntN_f (by simp [bI, c10, hU, c14, hk, c30, c40])]) ?_
              exact ih24 (i + 1) w37 (by omega) (h9) (kthN_next hk0 (by simp [bI, c10, hU, c14, hk, c30, c40])) (by rw [cntN_f (by simp [bI, c10, hU, c14, hk, c30, c40])]; exact hkc) (by omega)
      refine s_loc (L2 := [(0, .ref (ad 0)), (1, .int (nI j)), (2, .int (nI q)), (3, .int (nI q)), (4, .int (nI 1))]) [2, 3, 4, 1, 0] rfl ?_
      exact L24 (_ + 1) 0 (zt σ) (Nat.zero_le _) (HR.rf _) (rfl) (Nat.zero_le _) (Nat.lt_succ_self _)
    · have c14 := Int32.not_le.mp c14
      refine s_iconst E dX5_freeAt_17 (v := (-1)) (by decide) ?_
      exact Rt ((-1)) (zt σ) dX5_freeAt_18 (⟨by rw [if_neg (by simp [bI, c10, hU, c14])], HR.rf _⟩) rfl (Nat.le_refl _) (Nat.le_refl _) rfl E.2.2.2.2.2.1
set_option maxHeartbeats 1000000 in
set_option maxRecDepth 100000 in
theorem mz_ifTuned {σ : Nat → Nat → Int32} (n B : Nat) (u v : Int32) (hn : σ 3 7 = nI n) (hn6 : n ≤ 6) (hs : ∀ v, v < n → In (σ 6 v) 3) (hB : σ 3 0 = nI B) (hB2 : B ≤ 60) : Ct l D gt yX5_ifTuned cX5_ifTuned 3 .int 6 137 0 0 [.ref (ad 0), .int (u), .int (v)] (wm ad ct σ) (tysA ct) (fun r σ2 => (if (isU n u && (decide (v = 0) || isC (zt σ) v)) = true then nI (noiseN (st1 (zt σ) 25 (tN u) v) n) else -1) = r ∧ HR (zt σ) σ2) (fun σ2 => wm ad ct σ2) (fun _ => tysA ct) := by
  refine Ct.start RX5 (by decide) rfl (Nat.le_of_ble_eq_true rfl) rfl ?_
  intro pP eE sS mM aA bB hM cC QQ AA E Rt
  refine s_aload_n E dX5_ifTuned_0 (i := 0) (j := 0) rfl rfl ?_
  refine s_iconst E dX5_ifTuned_1 (v := nI 0) (by decide) ?_
  refine mp0 E dX5_ifTuned_2 ?_
  refine s_ws (ws2 := wm ad ct (zt σ)) (congrArg (wm ad ct) (rfl)) ?_
  refine s_aload_n E dX5_ifTuned_5 (i := 0) (j := 0) rfl rfl ?_
  refine s_iload_n E dX5_ifTuned_6 (i := 1) (j := 1) rfl rfl ?_
  refine m_calli E (mz_isUser n u (hn)) K5_259 (Nat.le_of_ble_eq_true rfl) (Nat.le_of_ble_eq_true rfl) (Nat.zero_le _) (Nat.zero_le _) rfl rfl (Nat.le_of_ble_eq_true rfl) dX5_ifTuned_7 (fun r7 w7 h7 => ?_)
  obtain ⟨rfl, rfl⟩ := h7
  refine s_if_eq E dX5_ifTuned_10 (tgt := 25) rfl (fun c10 => ?_) (fun c10 => ?_)
  · have c10 := bI_0 c10
    have hU := isU_f c10
    refine s_iconst E dX5_ifTuned_25 (v := (-1)) (by decide) ?_
    exact Rt ((-1)) (zt σ) dX5_ifTuned_26 (⟨by rw [if_neg (by simp [bI, c10, hU])], HR.rf _⟩) rfl (Nat.le_refl _) (Nat.le_refl _) rfl E.2.2.2.2.2.1
  · have c10 := bI_n0 c10
    have hU := isU_t c10
    obtain ⟨j, hj, rfl⟩ := us_of c10 hn6
    refine s_iload_n E dX5_ifTuned_13 (i := 2) (j := 2) rfl rfl ?_
    refine s_if_eq E dX5_ifTuned_14 (tgt := 27) rfl (fun c14 => ?_) (fun c14 => ?_)
    · refine s_aload_n E dX5_ifTuned_27 (i := 0) (j := 0) rfl rfl ?_
      refine s_iload_n E dX5_ifTuned_28 (i := 1) (j := 1) rfl rfl ?_
      refine s_iload_n E dX5_ifTuned_29 (i := 2) (j := 2) rfl rfl ?_
      refine m_calli E (mz_noiseAt n j v (hn) (hn6) (hs) (hj)) K5_390 (Nat.le_of_ble_eq_true rfl) (Nat.le_of_ble_eq_true rfl) (Nat.zero_le _) (Nat.zero_le _) rfl rfl (Nat.le_of_ble_eq_true rfl) dX5_ifTuned_30 (fun r30 w30 h30 => ?_)
      obtain ⟨rfl, h30⟩ := h30
      exact Rt (nI (noiseN (st1 (zt σ) 25 j v) n)) (w30) dX5_ifTuned_33 (⟨by rw [if_pos (by simp [bI, c10, hU, c14]), tN_nI (by omega)], h30⟩) rfl (Nat.le_refl _) (Nat.le_refl _) rfl E.2.2.2.2.2.1
    · refine s_aload_n E dX5_ifTuned_17 (i := 0) (j := 0) rfl rfl ?_
      refine s_iload_n E dX5_ifTuned_18 (i := 2) (j := 2) rfl rfl ?_
      refine m_calli E (mz_isChannel v) K5_262 (Nat.le_of_ble_eq_true rfl) (Nat.le_of_ble_eq_true rfl) (Nat.zero_le _) (Nat.zero_le _) rfl rfl (Nat.le_of_ble_eq_true rfl) dX5_ifTuned_19 (fun r19 w19 h19 => ?_)
      obtain ⟨rfl, rfl⟩ := h19
      refine s_if_ne E dX5_ifTuned_22 (tgt := 27) rfl (fun c22 => ?_) (fun c22 => ?_)
      · have c22 := bI_n0 c22
        have hV := isC_t (s := zt σ) c22
        refine s_aload_n E dX5_ifTuned_27 (i := 0) (j := 0) rfl rfl ?_
        refine s_iload_n E dX5_ifTuned_28 (i := 1) (j := 1) rfl rfl ?_
        refine s_iload_n E dX5_ifTuned_29 (i := 2) (j := 2) rfl rfl ?_
        refine m_calli E (mz_noiseAt n j v (hn) (hn6) (hs) (hj)) K5_390 (Nat.le_of_ble_eq_true rfl) (Nat.le_of_ble_eq_true rfl) (Nat.zero_le _) (Nat.zero_le _) rfl rfl (Nat.le_of_ble_eq_true rfl) dX5_ifTuned_30 (fun r30 w30 h30 => ?_)
        obtain ⟨rfl, h30⟩ := h30
        exact Rt (nI (noiseN (st1 (zt σ) 25 j v) n)) (w30) dX5_ifTuned_33 (⟨by rw [if_pos (by simp [bI, c10, hU, c14, c22, hV]), tN_nI (by omega)], h30⟩) rfl (Nat.le_refl _) (Nat.le_refl _) rfl E.2.2.2.2.2.1
      · have c22 := bI_0 c22
        have hV := isC_f (s := zt σ) c22
        refine s_iconst E dX5_ifTuned_25 (v := (-1)) (by decide) ?_
        exact Rt ((-1)) (zt σ) dX5_ifTuned_26 (⟨by rw [if_neg (by simp [bI, c10, hU, c14, c22, hV])], HR.rf _⟩) rfl (Nat.le_refl _) (Nat.le_refl _) rfl E.2.2.2.2.2.1
set_option maxHeartbeats 1000000 in
set_option maxRecDepth 100000 in
theorem mz_quietest {σ : Nat → Nat → Int32} (n B : Nat) (u : Int32) (hn : σ 3 7 = nI n) (hn6 : n ≤ 6) (hs : ∀ v, v < n → In (σ 6 v) 3) (hB2 : B ≤ 60) (hlo : ∀ v, v < n → In (σ 8 v) 61 ∧ In (σ 9 v) (B + 1) ∧ tN (σ 8 v) ≤ tN (σ 9 v)) : Ct l D gt yX5_quietest cX5_quietest 6 .int 6 137 0 0 [.ref (ad 0), .int (u)] (wm ad ct σ) (tysA ct) (fun r σ2 => (if isU n u = true then optI (qtF (zt σ) n (tN u) (tN (σ 8 (tN u))) (tN (σ 9 (tN u)) + 1 - tN (σ 8 (tN u)))).1 else -1) = r ∧ HR (zt σ) σ2) (fun σ2 => wm ad ct σ2) (fun _ => tysA ct) := by
  refine Ct.start RX5 (by decide) rfl (Nat.le_of_ble_eq_true rfl) rfl ?_
  intro pP eE sS mM aA bB hM cC QQ AA E Rt
  refine s_aload_n E dX5_quietest_0 (i := 0) (j := 0) rfl rfl ?_
  refine s_iconst E dX5_quietest_1 (v := nI 0) (by decide) ?_
  refine mp0 E dX5_quietest_2 ?_
  refine s_ws (ws2 := wm ad ct (zt σ)) (congrArg (wm ad ct) (rfl)) ?_
  refine s_aload_n E dX5_quietest_5 (i := 0) (j := 0) rfl rfl ?_
  refine s_iload_n E dX5_quietest_6 (i := 1) (j := 1) rfl rfl ?_
  refine m_calli E (mz_isUser n u (hn)) K5_259 (Nat.le_of_ble_eq_true rfl) (Nat.le_of_ble_eq_true rfl) (Nat.zero_le _) (Nat.zero_le _) rfl rfl (Nat.le_of_ble_eq_true rfl) dX5_quietest_7 (fun r7 w7 h7 => ?_)
  obtain ⟨rfl, rfl⟩ := h7
  refine s_if_ne E dX5_quietest_10 (tgt := 15) rfl (fun c10 => ?_) (fun c10 => ?_)
  · have c10 := bI_n0 c10
    have hU := isU_t c10
    obtain ⟨j, hj, rfl⟩ := us_of c10 hn6
    obtain ⟨lo, hlo1, hl8⟩ : ∃ lo, σ 8 j = nI lo ∧ lo = tN (σ 8 j) := ⟨_, (hlo j hj).1.1, rfl⟩
    obtain ⟨hi9, hhi1, hl9⟩ : ∃ hi9, σ 9 j = nI hi9 ∧ hi9 = tN (σ 9 j) := ⟨_, (hlo j hj).2.1.1, rfl⟩
    have hb8 := (hlo j hj).1.2
    have hb9 := (hlo j hj).2.1.2
    have hb10 := (hlo j hj).2.2
    rw [← hl8] at hb8 hb10
    rw [← hl9] at hb9 hb10
    refine s_bipush E dX5_quietest_15 (v := (-2)) (by decide) ?_
    refine s_istore_n E (L2 := [(2, .int ((-2))), (0, .ref (ad 0)), (1, .int (nI j))]) dX5_quietest_17 rfl (Nat.le_of_ble_eq_true rfl) rfl ?_
    refine s_iconst E dX5_quietest_18 (v := nI 0) (by decide) ?_
    refine s_istore_n E (L2 := [(3, .int (nI 0)), (2, .int ((-2))), (0, .ref (ad 0)), (1, .int (nI j))]) dX5_quietest_19 rfl (Nat.le_of_ble_eq_true rfl) rfl ?_
    refine s_aload_n E dX5_quietest_20 (i := 0) (j := 2) rfl rfl ?_
    refine mg8 E dX5_quietest_21 ?_
    refine s_iload_n E dX5_quietest_24 (i := 1) (j := 3) rfl rfl ?_
    refine ml8 E (v := nI lo) (j) (rfl) (by omega) (hlo1) dX5_quietest_25 ?_
    refine s_istore E (L2 := [(4, .int (nI lo)), (3, .int (nI 0)), (2, .int ((-2))), (0, .ref (ad 0)), (1, .int (nI j))]) dX5_quietest_26 (Nat.le_of_ble_eq_true rfl) rfl ?_
    have L28 : ∀ (fuel : Nat) (i : Nat) (w2 : Nat → Nat → Int32), i ≤ hi9 + 1 - lo → HR (zt σ) w2 → (hi9 + 1 - lo - i) < fuel → Sm pP l eE { frames := 6, cells := 0, slots := 0, locals := 137 } sS mM aA bB hM cC QQ AA D 6 0 0 (wm ad ct w2) 28 [(0, .ref (ad 0)), (1, .int (nI j)), (2, .int (optI (qtF (zt σ) n j lo i).1)), (3, .int (nI ((qtF (zt σ) n j lo i).2))), (4, .int (nI (lo + i)))] [] := by
      intro fuel
      induction fuel with
      | zero =>
        intro i w2 hi hw hf28
        exact absurd hf28 (Nat.not_lt_zero _)
      | succ fuel ih28 =>
        intro i w2 hi hw hf28
        have hq := qtF_le (zt σ) j lo i hn6
        refine s_iload E dX5_quietest_28 (i := 4) (j := 4) rfl ?_
        refine s_aload_n E dX5_quietest_30 (i := 0) (j := 0) rfl rfl ?_
        refine mg9 E dX5_quietest_31 ?_
        refine s_iload_n E dX5_quietest_34 (i := 1) (j := 1) rfl rfl ?_
        refine ml9 E (v := nI hi9) (j) (rfl) (by omega) (by rw [hw.ce.2.2.2.2.2.1]; exact hhi1) dX5_quietest_35 ?_
        refine s_icmp_gt E dX5_quietest_36 (tgt := 92) rfl (fun c36 => ?_) (fun c36 => ?_)
        · have c36 : hi9 < lo + i := (nI_ltI (a := hi9) (b := lo + i) (by omega) (by omega)).mp c36
          refine s_iload_n E dX5_quietest_92 (i := 2) (j := 2) rfl rfl ?_
          exact Rt (optI (qtF (zt σ) n j lo i).1) (w2) dX5_quietest_93 (⟨by rw [if_pos hU, tN_nI (by omega), ← hl8, ← hl9, show hi9 + 1 - lo = i by omega], hw⟩) rfl (Nat.le_refl _) (Nat.le_refl _) rfl E.2.2.2.2.2.1
        · have c36 : ¬ hi9 < lo + i := fun h => c36 ((nI_ltI (a := hi9) (b := lo + i) (by omega) (by omega)).mpr h)
          refine s_aload_n E dX5_quietest_39 (i := 0) (j := 0) rfl rfl ?_
          refine mg25 E dX5_quietest_40 ?_
          refine s_bipush E dX5_quietest_43 (v := nI 12) (by decide) ?_
          refine s_iload E dX5_quietest_45 (i := 4) (j := 4) rfl ?_
          refine s_iadd_ E dX5_quietest_47 (v := nI (12 + (lo + i))) (nI_add _ _) ?_
          refine ml25 E (v := w2 25 (12 + (lo + i))) (12 + (lo + i)) (rfl) (by omega) (rfl) dX5_quietest_48 ?_
          refine s_iconst E dX5_quietest_49 (v := nI 1) (by decide) ?_
          refine s_icmp_ne E dX5_quietest_50 (tgt := 56) rfl (fun c50 => ?_) (fun c50 => ?_)
          · have hc50 : ¬ (zt σ) 25 (12 + (lo + i)) = nI 1 := by rw [← hw.ce.1]; exact c50
            refine s_aload_n E dX5_quietest_56 (i := 0) (j := 0) rfl rfl ?_
            refine s_iload_n E dX5_quietest_57 (i := 1) (j := 1) rfl rfl ?_
            refine s_iload E dX5_quietest_58 (i := 4) (j := 4) rfl ?_
            refine m_calli E (mz_noiseAt n j (nI (lo + i)) (by rw [hw.ce.2.2.1]; exact hn) (hn6) (by rw [hw.ce.2.1]; exact hs) (hj)) K5_390 (Nat.le_of_ble_eq_true rfl) (Nat.le_of_ble_eq_true rfl) (Nat.zero_le _) (Nat.zero_le _) rfl rfl (Nat.le_of_ble_eq_true rfl) dX5_quietest_60 (fun r60 w60 h60 => ?_)
            obtain ⟨rfl, h9⟩ := h60
            have h9 := hw.tr h9
            have hb60 := noiseN_le (st1 (zt σ) 25 j (nI (lo + i))) hn6
            refine s_top (v2 := nI (noiseN (st1 (zt σ) 25 j (nI (lo + i))) n)) (by rw [noiseN_ce (CE.put hw.ce)]) ?_
            refine s_istore E (L2 := [(5, .int (nI (noiseN (st1 (zt σ) 25 j (nI (lo + i))) n))), (0, .ref (ad 0)), (1, .int (nI j)), (2, .int (optI (qtF (zt σ) n j lo i).1)), (3, .int (nI ((qtF (zt σ) n j lo i).2))), (4, .int (nI (lo + i)))]) dX5_quietest_63 (Nat.le_of_ble_eq_true rfl) rfl ?_
            refine s_iload_n E dX5_quietest_65 (i := 2) (j := 3) rfl rfl ?_
            refine s_bipush E dX5_quietest_66 (v := (-2)) (by decide) ?_
            refine s_icmp_eq E dX5_quietest_68 (tgt := 80) rfl (fun c68 => ?_) (fun c68 => ?_)
            · have hz := optI_0 c68 (by omega)
              refine s_iload E dX5_quietest_80 (i := 4) (j := 5) rfl ?_
              refine s_istore_n E (L2 := [(2, .int (nI (lo + i))), (5, .int (nI (noiseN (st1 (zt σ) 25 j (nI (lo + i))) n))), (0, .ref (ad 0)), (1, .int (nI j)), (3, .int (nI ((qtF (zt σ) n j lo i).2))), (4, .int (nI (lo + i)))]) dX5_quietest_82 rfl (Nat.le_of_ble_eq_true rfl) rfl ?_
              refine s_iload E dX5_quietest_83 (i := 5) (j := 1) rfl ?_
              refine s_istore_n E (L2 := [(3, .int (nI (noiseN (st1 (zt σ) 25 j (nI (lo + i))) n))), (2, .int (nI (lo + i))), (5, .int (nI (noiseN (st1 (zt σ) 25 j (nI (lo + i))) n))), (0, .ref (ad 0)), (1, .int (nI j)), (4, .int (nI (lo + i)))]) dX5_quietest_85 rfl (Nat.le_of_ble_eq_true rfl) rfl ?_
              refine s_iinc E (L2 := [(4, .int (nI (lo + i + 1))), (3, .int (nI (noiseN (st1 (zt σ) 25 j (nI (lo + i))) n))), (2, .int (nI (lo + i))), (5, .int (nI (noiseN (st1 (zt σ) 25 j (nI (lo + i))) n))), (0, .ref (ad 0)), (1, .int (nI j))]) dX5_quietest_86 (k := 5) rfl (v := nI (lo + i + 1)) (nI_inc _) (Nat.le_of_ble_eq_true rfl) rfl ?_
              refine s_goto E dX5_quietest_89 (tgt := 28) rfl ?_
              refine s_loc (L2 := [(0, .ref (ad 0)), (1, .int (nI j)), (2, .int (nI (lo + i))), (3, .int (nI (noiseN (st1 (zt σ) 25 j (nI (lo + i))) n))), (4, .int (nI (lo + i + 1)))]) [4, 5, 2, 1, 0] rfl ?_
              refine s_L (L2 := [(0, .ref (ad 0)), (1, .int (nI j)), (2, .int (optI (qtF (zt σ) n j lo (i + 1)).1)), (3, .int (nI ((qtF (zt σ) n j lo (i + 1)).2))), (4, .int (nI (lo + (i + 1))))]) (by rw [qtF, qtS, if_neg hc50, if_pos (Or.inl hz)]; first | rfl | (congr 1; omega)) ?_
              exact ih28 (i + 1) w60 (by omega) (h9) (by omega)
            · have hz := optI_s c68
              refine s_iload E dX5_quietest_71 (i := 5) (j := 0) rfl ?_
              refine s_iload_n E dX5_quietest_73 (i := 3) (j := 4) rfl rfl ?_
              refine s_icmp_lt E dX5_quietest_74 (tgt := 80) rfl (fun c74 => ?_) (fun c74 => ?_)
              · have c74 : noiseN (st1 (zt σ) 25 j (nI (lo + i))) n < (qtF (zt σ) n j lo i).2 := (nI_ltI (a := noiseN (st1 (zt σ) 25 j (nI (lo + i))) n) (b := (qtF (zt σ) n j lo i).2) (by omega) (by omega)).mp c74
                refine s_iload E dX5_quietest_80 (i := 4) (j := 5) rfl ?_
                refine s_istore_n E (L2 := [(2, .int (nI (lo + i))), (5, .int (nI (noiseN (st1 (zt σ) 25 j (nI (lo + i))) n))), (0, .ref (ad 0)), (1, .int (nI j)), (3, .int (nI ((qtF (zt σ) n j lo i).2))), (4, .int (nI (lo + i)))]) dX5_quietest_82 rfl (Nat.le_of_ble_eq_true rfl) rfl ?_
                refine s_iload E dX5_quietest_83 (i := 5) (j := 1) rfl ?_
                refine s_istore_n E (L2 := [(3, .int (nI (noiseN (st1 (zt σ) 25 j (nI (lo + i))) n))), (2, .int (nI (lo + i))), (5, .int (nI (noiseN (st1 (zt σ) 25 j (nI (lo + i))) n))), (0, .ref (ad 0)), (1, .int (nI j)), (4, .int (nI (lo + i)))]) dX5_quietest_85 rfl (Nat.le_of_ble_eq_true rfl) rfl ?_
                refine s_iinc E (L2 := [(4, .int (nI (lo + i + 1))), (3, .int (nI (noiseN (st1 (zt σ) 25 j (nI (lo + i))) n))), (2, .int (nI (lo + i))), (5, .int (nI (noiseN (st1 (zt σ) 25 j (nI (lo + i))) n))), (0, .ref (ad 0)), (1, .int (nI j))]) dX5_quietest_86 (k := 5) rfl (v := nI (lo + i + 1)) (nI_inc _) (Nat.le_of_ble_eq_true rfl) rfl ?_
                refine s_goto E dX5_quietest_89 (tgt := 28) rfl ?_
                refine s_loc (L2 := [(0, .ref (ad 0)), (1, .int (nI j)), (2, .int (nI (lo + i))), (3, .int (nI (noiseN (st1 (zt σ) 25 j (nI (lo + i))) n))), (4, .int (nI (lo + i + 1)))]) [4, 5, 2, 1, 0] rfl ?_
                refine s_L (L2 := [(0, .ref (ad 0)), (1, .int (nI j)), (2, .int (optI (qtF (zt σ) n j lo (i + 1)).1)), (3, .int (nI ((qtF (zt σ) n j lo (i + 1)).2))), (4, .int (nI (lo + (i + 1))))]) (by rw [qtF, qtS, if_neg hc50, if_pos (Or.inr c74)]; first | rfl | (congr 1; omega)) ?_
                exact ih28 (i + 1) w60 (by omega) (h9) (by omega)
              · have c74 : ¬ noiseN (st1 (zt σ) 25 j (nI (lo + i))) n < (qtF (zt σ) n j lo i).2 := fun h => c74 ((nI_ltI (a := noiseN (st1 (zt σ) 25 j (nI (lo + i))) n) (b := (qtF (zt σ) n j lo i).2) (by omega) (by omega)).mpr h)
                refine s_goto E dX5_quietest_77 (tgt := 86) rfl ?_
                refine s_iinc E (L2 := [(4, .int (nI (lo + i + 1))), (5, .int (nI (noiseN (st1 (zt σ) 25 j (nI (lo + i))) n))), (0, .ref (ad 0)), (1, .int (nI j)), (2, .int (optI (qtF (zt σ) n j lo i).1)), (3, .int (nI ((qtF (zt σ) n j lo i).2)))]) dX5_quietest_86 (k := 5) rfl (v := nI (lo + i + 1)) (nI_inc _) (Nat.le_of_ble_eq_true rfl) rfl ?_
                refine s_goto E dX5_quietest_89 (tgt := 28) rfl ?_
                refine s_loc (L2 := [(0, .ref (ad 0)), (1, .int (nI j)), (2, .int (optI (qtF (zt σ) n j lo i).1)), (3, .int (nI ((qtF (zt σ) n j lo i).2))), (4, .int (nI (lo + i + 1)))]) [2, 3, 4, 5, 0] rfl ?_
                refine s_L (L2 := [(0, .ref (ad 0)), (1, .int (nI j)), (2, .int (optI (qtF (zt σ) n j lo (i + 1)).1)), (3, .int (nI ((qtF (zt σ) n j lo (i + 1)).2))), (4, .int (nI (lo + (i + 1))))]) (by rw [qtF, qtS, if_neg hc50, if_neg (by rintro (h1 | h1); have := hz.1; omega; exact c74 h1)]; first | rfl | (congr 1; omega)) ?_
                exact ih28 (i + 1) w60 (by omega) (h9) (by omega)
          · refine s_goto E dX5_quietest_53 (tgt := 86) rfl ?_
            refine s_iinc E (L2 := [(4, .int (nI (lo + i + 1))), (0, .ref (ad 0)), (1, .int (nI j)), (2, .int (optI (qtF (zt σ) n j lo i).1)), (3, .int (nI ((qtF (zt σ) n j lo i).2)))]) dX5_quietest_86 (k := 4) rfl (v := nI (lo + i + 1)) (nI_inc _) (Nat.le_of_ble_eq_true rfl) rfl ?_
            refine s_goto E dX5_quietest_89 (tgt := 28) rfl ?_
            refine s_loc (L2 := [(0, .ref (ad 0)), (1, .int (nI j)), (2, .int (optI (qtF (zt σ) n j lo i).1)), (3, .int (nI ((qtF (zt σ) n j lo i).2))), (4, .int (nI (lo + i + 1)))]) [1, 2, 3, 4, 0] rfl ?_
            refine s_L (L2 := [(0, .ref (ad 0)), (1, .int (nI j)), (2, .int (optI (qtF (zt σ) n j lo (i + 1)).1)), (3, .int (nI ((qtF (zt σ) n j lo (i + 1)).2))), (4, .int (nI (lo + (i + 1))))]) (by rw [qtF, qtS, if_pos (by rw [← c50, hw.ce.1])]; first | rfl | (congr 1; omega)) ?_
            exact ih28 (i + 1) w2 (by omega) (hw) (by omega)
    refine s_loc (L2 := [(0, .ref (ad 0)), (1, .int (nI j)), (2, .int ((-2))), (3, .int (nI 0)), (4, .int (nI lo))]) [3, 4, 2, 1, 0] rfl ?_
    exact L28 (_ + 1) 0 (zt σ) (Nat.zero_le _) (HR.rf _) (Nat.lt_succ_self _)
  · have c10 := bI_0 c10
    have hU := isU_f c10
    refine s_iconst E dX5_quietest_13 (v := (-1)) (by decide) ?_
    exact Rt ((-1)) (zt σ) dX5_quietest_14 (⟨by rw [if_neg (by simp [hU])], HR.rf _⟩) rfl (Nat.le_refl _) (Nat.le_refl _) rfl E.2.2.2.2.2.1
end
