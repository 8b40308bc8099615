set_option maxRecDepth 100000
theorem iwX1_g0_7 {p : Program} {l : Launch} {e : Env} {R : Room} {s : State} {m : MethodId} {args : Array Value} {below : List Frame} {meth : Method} {c : Code} {Q : State → Prop} {A : Nat → Prop} {D : va_G} {nL cells slots : Nat} {pc : Nat} {L : List (Nat × Value)} {S : List Value} {cc : ByteArray} {ret : Option FieldType} {gt : Nat → Nat} {ad : Nat → Nat} {ct : Nat → ClassId} {n : Nat} {τ σ : Nat → Nat → Int32} {T : va_W} (E : En p s m args meth c A cc nL RX1 ret D (tysA ct) gt) (d : decode cc pc = .ok (.getfield 47, 3)) (K : Sm p l e R s m args below meth c Q A D nL cells slots (iw ad ct n τ σ T) (pc + 3) L (.ref (ad 17) :: S)) : Sm p l e R s m args below meth c Q A D nL cells slots (iw ad ct n τ σ T) pc L (.ref (ad 0) :: S) := s_get E in_X1 0 rfl rfl 7 (Nat.le_of_ble_eq_true rfl) q398 rfl rfl d K
theorem K_X1_115 : KV RX1 115 RX3 yX3_like cX3_like 2 (some (.object RX3)) 1 := ⟨q782, q783, q784, q115, q785, by decide +kernel⟩
theorem iw_s18 {p : Program} {l : Launch} {e : Env} {R : Room} {s : State} {m : MethodId} {args : Array Value} {below : List Frame} {meth : Method} {c : Code} {Q : State → Prop} {A : Nat → Prop} {D : va_G} {nL cells slots : Nat} {pc : Nat} {L : List (Nat × Value)} {S : List Value} {cc : ByteArray} {ret : Option FieldType} {gt : Nat → Nat} {ad : Nat → Nat} {ct : Nat → ClassId} {n : Nat} {τ σ : Nat → Nat → Int32} {T : va_W} {own : String} (E : En p s m args meth c A cc nL own ret D (tysA ct) gt) {i v : Int32} (N : Nat) (hi : i = nI N) (hN : N < n) (h6 : n ≤ 6) (d : decode cc pc = .ok (.iastore, 1)) (K : Sm p l e R s m args below meth c Q A D nL cells slots (iw ad ct n τ (st1 σ 3 N v) T) (pc + 1) L S) : Sm p l e R s m args below meth c Q A D nL cells slots (iw ad ct n τ σ T) pc L (.int v :: .int i :: .ref (ad 18) :: S) := s_iast E 18 0 rfl rfl N hi (by omega) (Nat.le_of_ble_eq_true rfl) (by unfold iw fw; rw [show pch n 0 ((st1 σ 3 N v) 3) ((st1 σ 3 N v) 7) = upd (pch n 0 (σ 3) (σ 7)) N v from by unfold st1; rw [upR_eq, upR_ne (by decide)]; exact pch_up0 hN, show pch n 6 ((st1 σ 3 N v) 3) ((st1 σ 3 N v) 7) = pch n 6 (σ 3) (σ 7) from by unfold st1; rw [upR_eq, upR_ne (by decide)]; exact pch_off (by omega), show pch n 73 ((st1 σ 3 N v) 3) ((st1 σ 3 N v) 7) = pch n 73 (σ 3) (σ 7) from by unfold st1; rw [upR_eq, upR_ne (by decide)]; exact pch_off (by omega), show pbl ((st1 σ 3 N v) 3) = pbl (σ 3) from by unfold st1; rw [upR_eq]; exact pbl_off (by omega)]; rfl) d K
set_option maxHeartbeats 1000000 in
set_option maxRecDepth 100000 in
theorem x1z_fitsNow {l : Launch} {D : va_G} {gt : Nat → Nat} {ad : Nat → Nat} {ct : Nat → ClassId} {n : Nat} {τ σ : Nat → Nat → Int32} {T : va_W} (j : Nat) (c : Int32) (hX : XT τ n) (hT : UT ad n τ T) (hP : PC (σ 1) n) (hbb : BB (σ 1)) (hj : j < n) (hc : In c 61) : Ct l D gt yX1_fitsNow cX1_fitsNow 3 .boolean 8 194 0 0 [.ref (ad 0), .int (nI j), .int (c)] (iw ad ct n τ σ T) (tysA ct) (fun r σ2 => bI (cleanB (st1 (vw τ (σ 1)) 25 j c) n = true) = r ∧ XS σ σ2 ∧ σ2 3 = upd (σ 1) j c) (fun σ2 : Nat → Nat → Int32 => iw ad ct n τ σ2 T) (fun _ => tysA ct) := by
  refine Ct.start RX1 (by decide) rfl (Nat.le_of_ble_eq_true rfl) rfl ?_
  intro pP eE sS mM aA bB hM cC QQ AA E Rt
  have hn6 := hX.2.1
  refine s_aload_n E dX1_fitsNow_0 (i := 0) (j := 0) rfl rfl ?_
  refine iwX1_g0_7 E dX1_fitsNow_1 ?_
  refine s_aload_n E dX1_fitsNow_4 (i := 0) (j := 0) rfl rfl ?_
  refine iwX1_g0_5 E dX1_fitsNow_5 ?_
  refine c_gor0 E (rV E (cutS _ _) (x3z_like20 (hn6) (hbb)) K_X1_115 (Nat.le_of_ble_eq_true rfl) (Nat.le_of_ble_eq_true rfl) (Nat.zero_le _) (Nat.zero_le _) 17 rfl rfl rfl rfl (Nat.le_of_ble_eq_true rfl) dX1_fitsNow_8) (fun w8 h8 => ?_)
  subst h8
  refine iwX1_g17_0 E dX1_fitsNow_11 ?_
  refine s_iload_n E dX1_fitsNow_14 (i := 1) (j := 1) rfl rfl ?_
  refine s_iload_n E dX1_fitsNow_15 (i := 2) (j := 2) rfl rfl ?_
  refine iw_s18 E (j) (rfl) (by omega) hn6 dX1_fitsNow_16 ?_
  refine s_aload_n E dX1_fitsNow_17 (i := 0) (j := 0) rfl rfl ?_
  refine s_aload_n E dX1_fitsNow_18 (i := 0) (j := 0) rfl rfl ?_
  refine iwX1_g0_7 E dX1_fitsNow_19 ?_
  refine c_goi0 E (rV E (cutS _ _) (x1z_isClean_22 (hX) (hT) (by rw [st3, lik_3]; exact PC.put hP hc)) K_X1_262 (Nat.le_of_ble_eq_true rfl) (Nat.le_of_ble_eq_true rfl) (Nat.zero_le _) (Nat.zero_le _) 0 rfl rfl rfl rfl (Nat.le_of_ble_eq_true rfl) dX1_fitsNow_22) (fun r22 w22 h22 => ?_)
  rw [st3, lik_3, vw_upd] at h22
  obtain ⟨e22, x22⟩ := h22
  subst e22
  exact Rt (bI (cleanB (st1 (vw τ (σ 1)) 25 j c) n = true)) (w22) dX1_fitsNow_25 (⟨rfl, (XS.lik.tr XS.st).tr x22.xs, by rw [x22 3 (by decide), st3, lik_3]⟩) rfl (Nat.le_refl _) (Nat.le_refl _) bI_nar E.2.2.2.2.2.1
theorem K_X1_265 : KV RX1 265 RX1 yX1_fitsNow cX1_fitsNow 3 (some .boolean) 2 := ⟨q1011, q1013, qs34, q113, q1014, by decide +kernel⟩
set_option maxHeartbeats 1000000 in
set_option maxRecDepth 100000 in
theorem x1z_fits {l : Launch} {D : va_G} {gt : Nat → Nat} {ad : Nat → Nat} {ct : Nat → ClassId} {n : Nat} {τ σ : Nat → Nat → Int32} {T : va_W} (u v : Int32) (hX : XT τ n) (hT : UT ad n τ T) (hP : PC (σ 1) n) (hbb : BB (σ 1)) : Ct l D gt yX1_fits cX1_fits 3 .int 9 216 0 0 [.ref (ad 0), .int (u), .int (v)] (iw ad ct n τ σ T) (tysA ct) (fun r σ2 => (if (isU n u && isC τ v) = true then bI (cleanB (st1 (vw τ (σ 1)) 25 (tN u) v) n = true) else -1) = r ∧ XS σ σ2) (fun σ2 : Nat → Nat → Int32 => iw ad ct n τ σ2 T) (fun _ => tysA ct) := by
  refine Ct.start RX1 (by decide) rfl (Nat.le_of_ble_eq_true rfl) rfl ?_
  intro pP eE sS mM aA bB hM cC QQ AA E Rt
  have hn6 := hX.2.1
  have hB1 := hX.2.2.2.2.1
  have hB60 : tN (τ 3 0) ≤ 60 := by have := hB1.2; omega
  refine s_aload_n E dX1_fits_0 (i := 0) (j := 0) rfl rfl ?_
  refine s_iload_n E dX1_fits_1 (i := 1) (j := 1) rfl rfl ?_
  refine c_goi0 E (rV E (cutS _ _) (x1z_isUser u (hX)) K_X1_132 (Nat.le_of_ble_eq_true rfl) (Nat.le_of_ble_eq_true rfl) (Nat.zero_le _) (Nat.zero_le _) 0 rfl rfl rfl rfl (Nat.le_of_ble_eq_true rfl) dX1_fits_2) (fun r2 w2 h2 => ?_)
  obtain ⟨rfl, rfl⟩ := h2
  refine s_if_eq E dX1_fits_5 (tgt := 16) rfl (fun c5 => ?_) (fun c5 => ?_)
  · have c5 := bI_0 c5
    refine s_iconst E dX1_fits_16 (v := (-1)) (by decide) ?_
    refine s_goto E dX1_fits_17 (tgt := 34) rfl ?_
    exact Rt ((-1)) (σ) dX1_fits_34 (⟨by rw [if_neg (by rw [Bool.and_eq_true]; exact fun h => c5 h.1)], XS.rf _⟩) rfl (Nat.le_refl _) (Nat.le_refl _) rfl E.2.2.2.2.2.1
  · have c5 := bI_n0 c5
    obtain ⟨j, hj, rfl⟩ := us_isU c5 hn6
    refine s_aload_n E dX1_fits_8 (i := 0) (j := 0) rfl rfl ?_
    refine s_iload_n E dX1_fits_9 (i := 2) (j := 2) rfl rfl ?_
    refine c_goi0 E (rV E (cutS _ _) (x1z_isChannel v) K_X1_139 (Nat.le_of_ble_eq_true rfl) (Nat.le_of_ble_eq_true rfl) (Nat.zero_le _) (Nat.zero_le _) 0 rfl rfl rfl rfl (Nat.le_of_ble_eq_true rfl) dX1_fits_10) (fun r10 w10 h10 => ?_)
    obtain ⟨rfl, rfl⟩ := h10
    refine s_if_ne E dX1_fits_13 (tgt := 20) rfl (fun c13 => ?_) (fun c13 => ?_)
    · have c13 := bI_n0 c13
      obtain ⟨b, hb1, hb2, rfl⟩ := hX.ch c13
      refine s_aload_n E dX1_fits_20 (i := 0) (j := 0) rfl rfl ?_
      refine s_iload_n E dX1_fits_21 (i := 1) (j := 1) rfl rfl ?_
      refine s_iload_n E dX1_fits_22 (i := 2) (j := 2) rfl rfl ?_
      refine c_goi0 E (rV E (cutS _ _) (x1z_fitsNow j (nI b) (hX) (hT) (hP) (hbb) (hj) (In.of (by omega) (by decide))) K_X1_265 (Nat.le_of_ble_eq_true rfl) (Nat.le_of_ble_eq_true rfl) (Nat.zero_le _) (Nat.zero_le _) 0 rfl rfl rfl rfl (Nat.le_of_ble_eq_true rfl) dX1_fits_23) (fun r23 w23 h23 => ?_)
      obtain ⟨e23, x23, -⟩ := h23
      subst e23
      refine s_if_eq E dX1_fits_26 (tgt := 33) rfl (fun c26 => ?_) (fun c26 => ?_)
      · have c26 := bI_0 c26
        refine s_iconst E dX1_fits_33 (v := nI 0) (by decide) ?_
        exact Rt (nI 0) (w23) dX1_fits_34 (⟨by rw [if_pos (by rw [Bool.and_eq_true]; exact ⟨c5, c13⟩), tN_nI (by omega)]; exact bI_f c26, x23⟩) rfl (Nat.le_refl _) (Nat.le_refl _) rfl E.2.2.2.2.2.1
      · have c26 := bI_n0 c26
        refine s_iconst E dX1_fits_29 (v := nI 1) (by decide) ?_
        refine s_goto E dX1_fits_30 (tgt := 34) rfl ?_
        exact Rt (nI 1) (w23) dX1_fits_34 (⟨by rw [if_pos (by rw [Bool.and_eq_true]; exact ⟨c5, c13⟩), tN_nI (by omega)]; exact bI_t c26, x23⟩) rfl (Nat.le_refl _) (Nat.le_refl _) rfl E.2.2.2.2.2.1
    · have c13 := bI_0 c13
      refine s_iconst E dX1_fits_16 (v := (-1)) (by decide) ?_
      refine s_goto E dX1_fits_17 (tgt := 34) rfl ?_
      exact Rt ((-1)) (σ) dX1_fits_34 (⟨by rw [if_neg (by rw [Bool.and_eq_true]; exact fun h => c13 h.2)], XS.rf _⟩) rfl (Nat.le_refl _) (Nat.le_refl _) rfl E.2.2.2.2.2.1
set_option maxHeartbeats 1000000 in
set_option maxRecDepth 100000 in
theorem x1z_free {l : Launch} {D : va_G} {gt : Nat → Nat} {ad : Nat → Nat} {ct : Nat → ClassId} {n : Nat} {τ σ : Nat → Nat → Int32} {T : va_W} (u : Int32) (hX : XT τ n) (hT : UT ad n τ T) (hP : PC (σ 1) n) (hbb : BB (σ 1)) : Ct l D gt yX1_free cX1_free 4 .int 9 216 0 0 [.ref (ad 0), .int (u)] (iw ad ct n τ σ T) (tysA ct) (fun r σ2 => (if isU n u = true then nI (cntN (fitB (vw τ (σ 1)) n (tN u)) (tN (τ 3 0))) else -1) = r ∧ XS σ σ2) (fun σ2 : Nat → Nat → Int32 => iw ad ct n τ σ2 T) (fun _ => tysA ct) := by
  refine Ct.start RX1 (by decide) rfl (Nat.le_of_ble_eq_true rfl) rfl ?_
  intro pP eE sS mM aA bB hM cC QQ AA E Rt
  have hn6 := hX.2.1
  have hB1 := hX.2.2.2.2.1
  have hB60 : tN (τ 3 0) ≤ 60 := by have := hB1.2; omega
  refine s_aload_n E dX1_free_0 (i := 0) (j := 0) rfl rfl ?_
  refine s_iload_n E dX1_free_1 (i := 1) (j := 1) rfl rfl ?_
  refine c_goi0 E (rV E (cutS _ _) (x1z_isUser u (hX)) K_X1_132 (Nat.le_of_ble_eq_true rfl) (Nat.le_of_ble_eq_true rfl) (Nat.zero_le _) (Nat.zero_le _) 0 rfl rfl rfl rfl (Nat.le_of_ble_eq_true rfl) dX1_free_2) (fun r2 w2 h2 => ?_)
  obtain ⟨rfl, rfl⟩ := h2
  refine s_if_ne E dX1_free_5 (tgt := 10) rfl (fun c5 => ?_) (fun c5 => ?_)
  · have c5 := bI_n0 c5
    obtain ⟨j, hj, rfl⟩ := us_isU c5 hn6
    refine s_iconst E dX1_free_10 (v := nI 0) (by decide) ?_
    refine s_istore_n E (L2 := [(2, .int (nI 0)), (0, .ref (ad 0)), (1, .int (nI j))]) dX1_free_11 rfl (Nat.le_of_ble_eq_true rfl) rfl ?_
    refine s_iconst E dX1_free_12 (v := nI 1) (by decide) ?_
    refine s_istore_n E (L2 := [(3, .int (nI 1)), (2, .int (nI 0)), (0, .ref (ad 0)), (1, .int (nI j))]) dX1_free_13 rfl (Nat.le_of_ble_eq_true rfl) rfl ?_
    have L14 : ∀ (fuel : Nat) (i : Nat) (w14 : Nat → Nat → Int32), (i ≤ tN (τ 3 0)) → (XS σ w14) → (tN (τ 3 0) - i) < fuel → Sm pP l eE { frames := 9, cells := 0, slots := 0, locals := 216 } sS mM aA bB hM cC QQ AA D 4 0 0 (iw ad ct n τ w14 T) 14 [(0, .ref (ad 0)), (1, .int (nI j)), (2, .int (nI (cntN (fitB (vw τ (σ 1)) n j) i))), (3, .int (nI (i + 1)))] [] := by
      intro fuel
      induction fuel with
      | zero =>
        intro i w14 hi hw hf14
        exact absurd hf14 (Nat.not_lt_zero _)
      | succ fuel ih14 =>
        intro i w14 hi hw hf14
        have hw1 : w14 1 = σ 1 := hw 1 (by decide) (by decide) (by decide)
        refine s_iload_n E dX1_free_14 (i := 3) (j := 3) rfl rfl ?_
        refine s_aload_n E dX1_free_15 (i := 0) (j := 0) rfl rfl ?_
        refine iwX1_g0_4 E dX1_free_16 ?_
        refine iwX1_g2_6 E (v := nI (tN (τ 3 0))) (hX.2.2.2.2.1.1) dX1_free_19 ?_
        refine s_icmp_gt E dX1_free_22 (tgt := 48) rfl (fun c22 => ?_) (fun c22 => ?_)
        · have c22 : tN (τ 3 0) < i + 1 := (nI_ltI (a := tN (τ 3 0)) (b := i + 1) (by omega) (by omega)).mp c22
          refine s_iload_n E dX1_free_48 (i := 2) (j := 2) rfl rfl ?_
          exact Rt (nI (cntN (fitB (vw τ (σ 1)) n j) i)) (w14) dX1_free_49 (⟨by rw [if_pos c5, tN_nI (by omega), show tN (τ 3 0) = i by omega], hw⟩) rfl (Nat.le_refl _) (Nat.le_refl _) rfl E.2.2.2.2.2.1
        · have c22 : ¬ tN (τ 3 0) < i + 1 := fun h => c22 ((nI_ltI (a := tN (τ 3 0)) (b := i + 1) (by omega) (by omega)).mpr h)
          refine s_iload_n E dX1_free_25 (i := 2) (j := 2) rfl rfl ?_
          refine s_aload_n E dX1_free_26 (i := 0) (j := 0) rfl rfl ?_
          refine s_iload_n E dX1_free_27 (i := 1) (j := 1) rfl rfl ?_
          refine s_iload_n E dX1_free_28 (i := 3) (j := 3) rfl rfl ?_
          refine c_goi0 E (rV E (cutS _ _) (x1z_fitsNow j (nI (i + 1)) (hX) (hT) (by rw [hw1]; exact hP) (by rw [hw1]; exact hbb) (hj) (In.of (by omega) (by decide))) K_X1_265 (Nat.le_of_ble_eq_true rfl) (Nat.le_of_ble_eq_true rfl) (Nat.zero_le _) (Nat.zero_le _) 0 rfl rfl rfl rfl (Nat.le_of_ble_eq_true rfl) dX1_free_29) (fun r29 w29 h29 => ?_)
          rw [hw1] at h29
          obtain ⟨e29, x29, -⟩ := h29
          subst e29
          have J40 : Sm pP l eE { frames := 9, cells := 0, slots := 0, locals := 216 } sS mM aA bB hM cC QQ AA D 4 0 0 (iw ad ct n τ w29 T) 40 [(0, .ref (ad 0)), (1, .int (nI j)), (2, .int (nI (cntN (fitB (vw τ (σ 1)) n j) i))), (3, .int (nI (i + 1)))] [.int (nI (cntF (fitB (vw τ (σ 1)) n j) i)), .int (nI (cntN (fitB (vw τ (σ 1)) n j) i))] := by
            refine s_iadd_ E dX1_free_40 (v := nI (cntN (fitB (vw τ (σ 1)) n j) (i + 1))) (nI_add _ _) ?_
            refine s_istore_n E (L2 := [(2, .int (nI (cntN (fitB (vw τ (σ 1)) n j) (i + 1)))), (0, .ref (ad 0)), (1, .int (nI j)), (3, .int (nI (i + 1)))]) dX1_free_41 rfl (Nat.le_of_ble_eq_true rfl) rfl ?_
            refine s_iinc E (L2 := [(3, .int (nI (i + 1 + 1))), (2, .int (nI (cntN (fitB (vw τ (σ 1)) n j) (i + 1)))), (0, .ref (ad 0)), (1, .int (nI j))]) dX1_free_42 (k := 3) rfl (v := nI (i + 1 + 1)) (nI_inc _) (Nat.le_of_ble_eq_true rfl) rfl ?_
            refine s_goto E dX1_free_45 (tgt := 14) rfl ?_
            refine s_loc (L2 := [(0, .ref (ad 0)), (1, .int (nI j)), (2, .int (nI (cntN (fitB (vw τ (σ 1)) n j) (i + 1)))), (3, .int (nI (i + 1 + 1)))]) [2, 3, 1, 0] rfl ?_
            exact ih14 (i + 1) w29 (by omega) (hw.tr x29) (by omega)
          refine s_if_eq E dX1_free_32 (tgt := 39) rfl (fun c32 => ?_) (fun c32 => ?_)
          · have c32 : ¬ (fitB (vw τ (σ 1)) n j) i = true := bI_0 c32
            refine s_iconst E dX1_free_39 (v := nI 0) (by decide) ?_
            refine s_top (v2 := nI (cntF (fitB (vw τ (σ 1)) n j) i)) (by unfold cntF; rw [if_neg c32]) ?_
            refine s_ws (ws2 := iw ad ct n τ w29 T) (congrArg (fun z => iw ad ct n τ z T) (show _ = _ from rfl)) ?_
            exact J40
          · have c32 : (fitB (vw τ (σ 1)) n j) i = true := bI_n0 c32
            refine s_iconst E dX1_free_35 (v := nI 1) (by decide) ?_
            refine s_goto E dX1_free_36 (tgt := 40) rfl ?_
            refine s_top (v2 := nI (cntF (fitB (vw τ (σ 1)) n j) i)) (by unfold cntF; rw [if_pos c32]) ?_
            refine s_ws (ws2 := iw ad ct n τ w29 T) (congrArg (fun z => iw ad ct n τ z T) (show _ = _ from rfl)) ?_
            exact J40
    refine s_loc (L2 := [(0, .ref (ad 0)), (1, .int (nI j)), (2, .int (nI 0)), (3, .int (nI 1))]) [2, 3, 1, 0] rfl ?_
    exact L14 (_ + 1) 0 σ (Nat.zero_le _) (XS.rf _) (Nat.lt_succ_self _)
  · have c5 := bI_0 c5
    refine s_iconst E dX1_free_8 (v := (-1)) (by decide) ?_
    exact Rt ((-1)) (σ) dX1_free_9 (⟨by rw [if_neg c5], XS.rf _⟩) rfl (Nat.le_refl _) (Nat.le_refl _) rfl E.2.2.2.2.2.1
set_option maxHeartbeats 1000000 in
set_option maxRecDepth 100000 in
theorem x1z_freeAt {l : Launch} {D : va_G} {gt : Nat → Nat} {ad : Nat → Nat} {ct : Nat → ClassId} {n : Nat} {τ σ : Nat → Nat → Int32} {T : va_W} (u k : Int32) (hX : XT τ n) (hT : UT ad n τ T) (hP : PC (σ 1) n) (hbb : BB (σ 1)) : Ct l D gt yX1_freeAt cX1_freeAt 5 .int 9 216 0 0 [.ref (ad 0), .int (u), .int (k)] (iw ad ct n τ σ T) (tysA ct) (fun r σ2 => (if (isU n u && !decide (k < 0)) = true then (if kthN (fitB (vw τ (σ 1)) n (tN u)) (tN k) (tN (τ 3 0)) = 0 then -2 else nI (kthN (fitB (vw τ (σ 1)) n (tN u)) (tN k) (tN (τ 3 0)))) else -1) = r ∧ XS σ σ2) (fun σ2 : Nat → Nat → Int32 => iw ad ct n τ σ2 T) (fun _ => tysA ct) := by
  refine Ct.start RX1 (by decide) rfl (Nat.le_of_ble_eq_true rfl) rfl ?_
  intro pP eE sS mM aA bB hM cC QQ AA E Rt
  have hn6 := hX.2.1
  have hB1 := hX.2.2.2.2.1
  have hB60 : tN (τ 3 0) ≤ 60 := by have := hB1.2; omega
  refine s_aload_n E dX1_freeAt_0 (i := 0) (j := 0) rfl rfl ?_
  refine s_iload_n E dX1_freeAt_1 (i := 1) (j := 1) rfl rfl ?_
  refine c_goi0 E (rV E (cutS _ _) (x1z_isUser u (hX)) K_X1_132 (Nat.le_of_ble_eq_true rfl) (Nat.le_of_ble_eq_true rfl) (Nat.zero_le _) (Nat.zero_le _) 0 rfl rfl rfl rfl (Nat.le_of_ble_eq_true rfl) dX1_freeAt_2) (fun r2 w2 h2 => ?_)
  obtain ⟨rfl, rfl⟩ := h2
  refine s_if_eq E dX1_freeAt_5 (tgt := 12) rfl (fun c5 => ?_) (fun c5 => ?_)
  · have c5 := bI_0 c5
    refine s_iconst E dX1_freeAt_12 (v := (-1)) (by decide) ?_
    exact Rt ((-1)) (σ) dX1_freeAt_13 (⟨by rw [if_neg (by simp only [Bool.and_eq_true, Bool.not_eq_true', decide_eq_false_iff_not]; exact fun h => c5 h.1)], XS.rf _⟩) rfl (Nat.le_refl _) (Nat.le_refl _) rfl E.2.2.2.2.2.1
  · have c5 := bI_n0 c5
    obtain ⟨j, hj, rfl⟩ := us_isU c5 hn6
    refine s_iload_n E dX1_freeAt_8 (i := 2) (j := 2) rfl rfl ?_
    refine s_if_ge E dX1_freeAt_9 (tgt := 14) rfl (fun c9 => ?_) (fun c9 => ?_)
    · have c9 := Int32.not_lt.mpr c9
      obtain ⟨q, hq, rfl⟩ := nI_of c9
      refine s_iload_n E dX1_freeAt_14 (i := 2) (j := 2) rfl rfl ?_
      refine s_istore_n E (L2 := [(3, .int (nI q)), (0, .ref (ad 0)), (1, .int (nI j)), (2, .int (nI q))]) dX1_freeAt_15 rfl (Nat.le_of_ble_eq_true rfl) rfl ?_
      refine s_iconst E dX1_freeAt_16 (v := nI 1) (by decide) ?_
      refine s_istore E (L2 := [(4, .int (nI 1)), (3, .int (nI q)), (0, .ref (ad 0)), (1, .int (nI j)), (2, .int (nI q))]) dX1_freeAt_17 (Nat.le_of_ble_eq_true rfl) rfl ?_
      have L19 : ∀ (fuel : Nat) (i : Nat) (w19 : Nat → Nat → Int32), (i ≤ tN (τ 3 0)) → (kthN (fitB (vw τ (σ 1)) n j) q i = 0) → (cntN (fitB (vw τ (σ 1)) n j) i ≤ q) → (XS σ w19) → (tN (τ 3 0) - i) < fuel → Sm pP l eE { frames := 9, cells := 0, slots := 0, locals := 216 } sS mM aA bB hM cC QQ AA D 5 0 0 (iw ad ct n τ w19 T) 19 [(0, .ref (ad 0)), (1, .int (nI j)), (2, .int (nI q)), (3, .int (nI (q - cntN (fitB (vw τ (σ 1)) n j) i))), (4, .int (nI (i + 1)))] [] := by
        intro fuel
        induction fuel with
        | zero =>
          intro i w19 hi hk0 hkc hw hf19
          exact absurd hf19 (Nat.not_lt_zero _)
        | succ fuel ih19 =>
          intro i w19 hi hk0 hkc hw hf19
          have hw1 : w19 1 = σ 1 := hw 1 (by decide) (by decide) (by decide)
          refine s_iload E dX1_freeAt_19 (i := 4) (j := 4) rfl ?_
          refine s_aload_n E dX1_freeAt_21 (i := 0) (j := 0) rfl rfl ?_
          refine iwX1_g0_4 E dX1_freeAt_22 ?_
          refine iwX1_g2_6 E (v := nI (tN (τ 3 0))) (hX.2.2.2.2.1.1) dX1_freeAt_25 ?_
          refine s_icmp_gt E dX1_freeAt_28 (tgt := 60) rfl (fun c28 => ?_) (fun c28 => ?_)
          · have c28 : tN (τ 3 0) < i + 1 := (nI_ltI (a := tN (τ 3 0)) (b := i + 1) (by omega) (by omega)).mp c28
            refine s_bipush E dX1_freeAt_60 (v := (-2)) (by decide) ?_
            exact Rt ((-2)) (w19) dX1_freeAt_62 (⟨by rw [if_pos (by simp only [Bool.and_eq_true, Bool.not_eq_true', decide_eq_false_iff_not]; exact ⟨c5, nI_pos hq⟩), tN_nI (by omega), tN_nI (by omega), show tN (τ 3 0) = i by omega, if_pos hk0], hw⟩) rfl (Nat.le_refl _) (Nat.le_refl _) rfl E.2.2.2.2.2.1
          · have c28 : ¬ tN (τ 3 0) < i + 1 := fun h => c28 ((nI_ltI (a := tN (τ 3 0)) (b := i + 1) (by omega) (by omega)).mpr h)
            refine s_aload_n E dX1_freeAt_31 (i := 0) (j := 0) rfl rfl ?_
            refine s_iload_n E dX1_freeAt_32 (i := 1) (j := 1) rfl rfl ?_
            refine s_iload E dX1_freeAt_33 (i := 4) (j := 4) rfl ?_
            refine c_goi0 E (rV E (cutS _ _) (x1z_fitsNow j (nI (i + 1)) (hX) (hT) (by rw [hw1]; exact hP) (by rw [hw1]; exact hbb) (hj) (In.of (by omega) (by decide))) K_X1_265 (Nat.le_of_ble_eq_true rfl) (Nat.le_of_ble_eq_true rfl) (Nat.zero_le _) (Nat.zero_le _) 0 rfl rfl rfl rfl (Nat.le_of_ble_eq_true rfl) dX1_freeAt_35) (fun r35 w35 h35 => ?_)
            rw [hw1] at h35
            obtain ⟨e35, x35, -⟩ := h35
            subst e35
            refine s_if_ne E dX1_freeAt_38 (tgt := 44) rfl (fun c38 => ?_) (fun c38 => ?_)
            · have c38 : (fitB (vw τ (σ 1)) n j) i = true := bI_n0 c38
              refine s_iload_n E dX1_freeAt_44 (i := 3) (j := 3) rfl rfl ?_
              refine s_if_ne E dX1_freeAt_45 (tgt := 51) rfl (fun c45 => ?_) (fun c45 => ?_)
              · have c45 : ¬ q - cntN (fitB (vw τ (σ 1)) n j) i = 0 := fun h => c45 ((nI_eq (a := q - cntN (fitB (vw τ (σ 1)) n j) i) (b := 0) (by omega) (by omega)).mpr h)
                refine s_iinc E (L2 := [(3, .int (nI (q - cntN (fitB (vw τ (σ 1)) n j) (i + 1)))), (0, .ref (ad 0)), (1, .int (nI j)), (2, .int (nI q)), (4, .int (nI (i + 1)))]) dX1_freeAt_51 (k := 3) rfl (v := nI (q - cntN (fitB (vw τ (σ 1)) n j) (i + 1))) (by rw [cntN_t c38]; exact nI_dec2 (by omega)) (Nat.le_of_ble_eq_true rfl) rfl ?_
                refine s_iinc E (L2 := [(4, .int (nI (i + 1 + 1))), (3, .int (nI (q - cntN (fitB (vw τ (σ 1)) n j) (i + 1)))), (0, .ref (ad 0)), (1, .int (nI j)), (2, .int (nI q))]) dX1_freeAt_54 (k := 4) rfl (v := nI (i + 1 + 1)) (nI_inc _) (Nat.le_of_ble_eq_true rfl) rfl ?_
                refine s_goto E dX1_freeAt_57 (tgt := 19) rfl ?_
                refine s_loc (L2 := [(0, .ref (ad 0)), (1, .int (nI j)), (2, .int (nI q)), (3, .int (nI (q - cntN (fitB (vw τ (σ 1)) n j) (i + 1)))), (4, .int (nI (i + 1 + 1)))]) [2, 3, 4, 1, 0] rfl ?_
                exact ih19 (i + 1) w35 (by omega) (kthN_next hk0 (fun h => c45 (by omega))) (by rw [cntN_t c38]; omega) (hw.tr x35) (by omega)
              · have c45 : q - cntN (fitB (vw τ (σ 1)) n j) i = 0 := (nI_eq (a := q - cntN (fitB (vw τ (σ 1)) n j) i) (b := 0) (by omega) (by omega)).mp c45
                refine s_iload E dX1_freeAt_48 (i := 4) (j := 4) rfl ?_
                exact Rt (nI (i + 1)) (w35) dX1_freeAt_50 (⟨by rw [if_pos (by simp only [Bool.and_eq_true, Bool.not_eq_true', decide_eq_false_iff_not]; exact ⟨c5, nI_pos hq⟩), tN_nI (by omega), tN_nI (by omega), kthN_keep (p := i) (by omega) hk0 c38 (by omega)]; rfl, hw.tr x35⟩) rfl (Nat.le_refl _) (Nat.le_refl _) rfl E.2.2.2.2.2.1
            · have c38 : ¬ (fitB (vw τ (σ 1)) n j) i = true := bI_0 c38
              refine s_goto E dX1_freeAt_41 (tgt := 54) rfl ?_
              refine s_iinc E (L2 := [(4, .int (nI (i + 1 + 1))), (0, .ref (ad 0)), (1, .int (nI j)), (2, .int (nI q)), (3, .int (nI (q - cntN (fitB (vw τ (σ 1)) n j) i)))]) dX1_freeAt_54 (k := 4) rfl (v := nI (i + 1 + 1)) (nI_inc _) (Nat.le_of_ble_eq_true rfl) rfl ?_
              refine s_goto E dX1_freeAt_57 (tgt := 19) rfl ?_
              refine s_loc (L2 := [(0, .ref (ad 0)), (1, .int (nI j)), (2, .int (nI q)), (3, .int (nI (q - cntN (fitB (vw τ (σ 1)) n j) i))), (4, .int (nI (i + 1 + 1)))]) [1, 2, 3, 4, 0] rfl ?_
              refine s_L (L2 := [(0, .ref (ad 0)), (1, .int (nI j)), (2, .int (nI q)), (3, .int (nI (q - cntN (fitB (vw τ (σ 1)) n j) (i + 1)))), (4, .int (nI ((i + 1) + 1)))]) (by rw [cntN_f c38]) ?_
              exact ih19 (i + 1) w35 (by omega) (kthN_next hk0 (fun h => c38 h.1)) (by rw [cntN_f c38]; exact hkc) (hw.tr x35) (by omega)
      refine s_loc (L2 := [(0, .ref (ad 0)), (1, .int (nI j)), (2, .int (nI q)), (3, .int (nI q)), (4, .int (nI 1))]) [2, 3, 4, 1, 0] rfl ?_
      exact L19 (_ + 1) 0 σ (Nat.zero_le _) (rfl) (Nat.zero_le _) (XS.rf _) (Nat.lt_succ_self _)
    · have c9 := Int32.not_le.mp c9
      refine s_iconst E dX1_freeAt_12 (v := (-1)) (by decide) ?_
      exact Rt ((-1)) (σ) dX1_freeAt_13 (⟨by rw [if_neg (by simp only [Bool.and_eq_true, Bool.not_eq_true', decide_eq_false_iff_not]; exact fun h => h.2 c9)], XS.rf _⟩) rfl (Nat.le_refl _) (Nat.le_refl _) rfl E.2.2.2.2.2.1
set_option maxHeartbeats 1000000 in
set_option maxRecDepth 100000 in
theorem x1z_troubleBy {l : Launch} {D : va_G} {gt : Nat → Nat} {ad : Nat → Nat} {ct : Nat → ClassId} {n : Nat} {τ σ : Nat → Nat → Int32} {T : va_W} (j : Nat) (c : Int32) (hX : XT τ n) (hT : UT ad n τ T) (hP : PC (σ 1) n) (hbb : BB (σ 1)) (hj : j < n) (hc : In c 61) : Ct l D gt yX1_troubleBy cX1_troubleBy 3 .int 6 150 0 0 [.ref (ad 0), .int (nI j), .int (c)] (iw ad ct n τ σ T) (tysA ct) (fun r σ2 => nI (noiseN (st1 (vw τ (σ 1)) 25 j c) n) = r ∧ XS σ σ2) (fun σ2 : Nat → Nat → Int32 => iw ad ct n τ σ2 T) (fun _ => tysA ct) := by
  refine Ct.start RX1 (by decide) rfl (Nat.le_of_ble_eq_true rfl) rfl ?_
  intro pP eE sS mM aA bB hM cC QQ AA E Rt
  have hn6 := hX.2.1
  refine s_aload_n E dX1_troubleBy_0 (i := 0) (j := 0) rfl rfl ?_
  refine iwX1_g0_7 E dX1_troubleBy_1 ?_
  refine s_aload_n E dX1_troubleBy_4 (i := 0) (j := 0) rfl rfl ?_
  refine iwX1_g0_5 E dX1_troubleBy_5 ?_
  refine c_gor0 E (rV E (cutS _ _) (x3z_like20 (hn6) (hbb)) K_X1_115 (Nat.le_of_ble_eq_true rfl) (Nat.le_of_ble_eq_true rfl) (Nat.zero_le _) (Nat.zero_le _) 17 rfl rfl rfl rfl (Nat.le_of_ble_eq_true rfl) dX1_troubleBy_8) (fun w8 h8 => ?_)
  subst h8
  refine iwX1_g17_0 E dX1_troubleBy_11 ?_
  refine s_iload_n E dX1_troubleBy_14 (i := 1) (j := 1) rfl rfl ?_
  refine s_iload_n E dX1_troubleBy_15 (i := 2) (j := 2) rfl rfl ?_
  refine iw_s18 E (j) (rfl) (by omega) hn6 dX1_troubleBy_16 ?_
  refine s_aload_n E dX1_troubleBy_17 (i := 0) (j := 0) rfl rfl ?_
  refine iwX1_g0_11 E dX1_troubleBy_18 ?_
  refine s_aload_n E dX1_troubleBy_21 (i := 0) (j := 0) rfl rfl ?_
  refine iwX1_g0_7 E dX1_troubleBy_22 ?_
  refine c_gor0 E (rV E (cutS _ _) (x4z_of2 (hX) (hT)) K_X1_152 (Nat.le_of_ble_eq_true rfl) (Nat.le_of_ble_eq_true rfl) (Nat.zero_le _) (Nat.zero_le _) 27 rfl rfl rfl rfl (Nat.le_of_ble_eq_true rfl) dX1_troubleBy_25) (fun w25 h25 => ?_)
  rw [st3, lik_3, vw_upd] at h25
  refine ia0_gor E (x4z_counted (st1 (vw τ (σ 1)) 25 j c) n (h25.2) (hn6) (by decide) (by rw [← vw_upd]; exact hX.tv) (by rw [← vw_upd]; exact hX.nv (PC.put hP hc)) (by rw [← vw_upd]; exact hX.ov)) K_X1_156 (Nat.le_of_ble_eq_true rfl) (Nat.le_of_ble_eq_true rfl) (Nat.zero_le _) (Nat.zero_le _) rfl rfl (Nat.le_of_ble_eq_true rfl) dX1_troubleBy_28 (fun w28 h28 => ?_)
  show Sm pP l eE { frames := 6, cells := 0, slots := 0, locals := 150 } sS mM aA bB hM cC QQ AA D 3 0 0 (iw ad ct n τ (airU0 w25 w28) T) 31 [(0, .ref (ad 0)), (1, .int (nI j)), (2, .int (c))] [.ref (ad 27)]
  refine ia0_goi E (x4z_trouble ) K_X1_177 (Nat.le_of_ble_eq_true rfl) (Nat.le_of_ble_eq_true rfl) (Nat.zero_le _) (Nat.zero_le _) rfl rfl (Nat.le_of_ble_eq_true rfl) dX1_troubleBy_31 (fun r31 w31 h31 => ?_)
  obtain ⟨rfl, rfl⟩ := h31
  refine s_ws (ws2 := iw ad ct n τ (airU0 w25 w28) T) (congrArg (fun z => iw ad ct n τ z T) airU_S0) ?_
  refine s_top (v2 := nI (noiseN (st1 (vw τ (σ 1)) 25 j c) n)) (by show w28 0 16 + w28 0 17 = _; rw [h28.1.1.2.2.2.2.1, h28.2, nI_add]; rfl) ?_
  exact Rt (nI (noiseN (st1 (vw τ (σ 1)) 25 j c) n)) (airU0 w25 w28) dX1_troubleBy_34 (⟨rfl, ((XS.lik.tr XS.st).tr h25.1.xs).tr XA.up.xs⟩) rfl (Nat.le_refl _) (Nat.le_refl _) rfl E.2.2.2.2.2.1
theorem K_X1_268 : KV RX1 268 RX1 yX1_troubleBy cX1_troubleBy 3 (some .int) 2 := ⟨q1027, q1029, qs35, q113, q1030, by decide +kernel⟩
set_option maxHeartbeats 1000000 in
set_option maxRecDepth 100000 in
theorem x1z_ifTuned {l : Launch} {D : va_G} {gt : Nat → Nat} {ad : Nat → Nat} {ct : Nat → ClassId} {n : Nat} {τ σ : Nat → Nat → Int32} {T : va_W} (u v : Int32) (hX : XT τ n) (hT : UT ad n τ T) (hP : PC (σ 1) n) (hbb : BB (σ 1)) : Ct l D gt yX1_ifTuned cX1_ifTuned 3 .int 7 172 0 0 [.ref (ad 0), .int (u), .int (v)] (iw ad ct n τ σ T) (tysA ct) (fun r σ2 => (if (isU n u && (decide (v = 0) || isC τ v)) = true then nI (noiseN (st1 (vw τ (σ 1)) 25 (tN u) v) n) else -1) = r ∧ XS σ σ2) (fun σ2 : Nat → Nat → Int32 => iw ad ct n τ σ2 T) (fun _ => tysA ct) := by
  refine Ct.start RX1 (by decide) rfl (Nat.le_of_ble_eq_true rfl) rfl ?_
  intro pP eE sS mM aA bB hM cC QQ AA E Rt
  have hn6 := hX.2.1
  have hB1 := hX.2.2.2.2.1
  have hB60 : tN (τ 3 0) ≤ 60 := by have := hB1.2; omega
  refine s_aload_n E dX1_ifTuned_0 (i := 0) (j := 0) rfl rfl ?_
  refine s_iload_n E dX1_ifTuned_1 (i := 1) (j := 1) rfl rfl ?_
  refine c_goi0 E (rV E (cutS _ _) (x1z_isUser u (hX)) K_X1_132 (Nat.le_of_ble_eq_true rfl) (Nat.le_of_ble_eq_true rfl) (Nat.zero_le _) (Nat.zero_le _) 0 rfl rfl rfl rfl (Nat.le_of_ble_eq_true rfl) dX1_ifTuned_2) (fun r2 w2 h2 => ?_)
  obtain ⟨rfl, rfl⟩ := h2
  refine s_if_eq E dX1_ifTuned_5 (tgt := 32) rfl (fun c5 => ?_) (fun c5 => ?_)
  · have c5 := bI_0 c5
    refine s_iconst E dX1_ifTuned_32 (v := (-1)) (by decide) ?_
    exact Rt ((-1)) (σ) dX1_ifTuned_33 (⟨by rw [if_neg (by rw [Bool.and_eq_true]; exact fun h => c5 h.1)], XS.rf _⟩) rfl (Nat.le_refl _) (Nat.le_refl _) rfl E.2.2.2.2.2.1
  · have c5 := bI_n0 c5
    obtain ⟨j, hj, rfl⟩ := us_isU c5 hn6
    refine s_iload_n E dX1_ifTuned_8 (i := 2) (j := 2) rfl rfl ?_
    refine s_iconst E dX1_ifTuned_9 (v := nI 0) (by decide) ?_
    refine s_aload_n E dX1_ifTuned_10 (i := 0) (j := 0) rfl rfl ?_
    refine iwX1_g0_4 E dX1_ifTuned_11 ?_
    refine iwX1_g2_6 E (v := τ 3 0) (rfl) dX1_ifTuned_14 ?_
    refine c_gos E (rS E (cutZ _ _) (x1z_isIn v (nI 0) (τ 3 0)) K_X1_75 (Nat.le_of_ble_eq_true rfl) (Nat.le_of_ble_eq_true rfl) (Nat.zero_le _) (Nat.zero_le _) rfl rfl (Nat.le_of_ble_eq_true rfl) dX1_ifTuned_17) (fun r17 h17 => ?_)
    subst h17
    refine s_if_eq E dX1_ifTuned_20 (tgt := 32) rfl (fun c20 => ?_) (fun c20 => ?_)
    · have c20 := bI_0 c20
      refine s_iconst E dX1_ifTuned_32 (v := (-1)) (by decide) ?_
      exact Rt ((-1)) (σ) dX1_ifTuned_33 (⟨by rw [if_neg (by rw [Bool.and_eq_true]; exact fun h => c20 ((c0_iff hB1).mp h.2))], XS.rf _⟩) rfl (Nat.le_refl _) (Nat.le_refl _) rfl E.2.2.2.2.2.1
    · have c20 := bI_n0 c20
      refine s_aload_n E dX1_ifTuned_23 (i := 0) (j := 0) rfl rfl ?_
      refine s_iload_n E dX1_ifTuned_24 (i := 1) (j := 1) rfl rfl ?_
      refine s_iload_n E dX1_ifTuned_25 (i := 2) (j := 2) rfl rfl ?_
      refine c_goi0 E (rV E (cutS _ _) (x1z_troubleBy j v (hX) (hT) (hP) (hbb) (hj) (c0_in hB1 c20)) K_X1_268 (Nat.le_of_ble_eq_true rfl) (Nat.le_of_ble_eq_true rfl) (Nat.zero_le _) (Nat.zero_le _) 0 rfl rfl rfl rfl (Nat.le_of_ble_eq_true rfl) dX1_ifTuned_26) (fun r26 w26 h26 => ?_)
      obtain ⟨e26, x26⟩ := h26
      subst e26
      refine s_goto E dX1_ifTuned_29 (tgt := 33) rfl ?_
      exact Rt (nI (noiseN (st1 (vw τ (σ 1)) 25 j v) n)) (w26) dX1_ifTuned_33 (⟨by rw [if_pos (by rw [Bool.and_eq_true]; exact ⟨c5, (c0_iff hB1).mpr c20⟩), tN_nI (by omega)], x26⟩) rfl (Nat.le_refl _) (Nat.le_refl _) rfl E.2.2.2.2.2.1
set_option maxHeartbeats 2000000 in
set_option maxRecDepth 100000 in
theorem x1z_quietest {l : Launch} {D : va_G} {gt : Nat → Nat} {ad : Nat → Nat} {ct : Nat → ClassId} {n : Nat} {τ σ : Nat → Nat → Int32} {T : va_W} (u : Int32) (hX : XT τ n) (hT : UT ad n τ T) (hP : PC (σ 1) n) (hbb : BB (σ 1)) (hlo : ∀ v, v < n → tN (τ 8 v) ≤ tN (τ 9 v)) : Ct l D gt yX1_quietest cX1_quietest 6 .int 7 172 0 0 [.ref (ad 0), .int (u)] (iw ad ct n τ σ T) (tysA ct) (fun r σ2 => (if isU n u = true then optI (qtF (vw τ (σ 1)) n (tN u) (tN (τ 8 (tN u))) (tN (τ 9 (tN u)) + 1 - tN (τ 8 (tN u)))).1 else -1) = r ∧ XS σ σ2) (fun σ2 : Nat → Nat → Int32 => iw ad ct n τ σ2 T) (fun _ => tysA ct) := by
  refine Ct.start RX1 (by decide) rfl (Nat.le_of_ble_eq_true rfl) rfl ?_
  intro pP eE sS mM aA bB hM cC QQ AA E Rt
  have hn6 := hX.2.1
  have hB1 := hX.2.2.2.2.1
  have hB60 : tN (τ 3 0) ≤ 60 := by have := hB1.2; omega
  refine s_aload_n E dX1_quietest_0 (i := 0) (j := 0) rfl rfl ?_
  refine s_iload_n E dX1_quietest_1 (i := 1) (j := 1) rfl rfl ?_
  refine c_goi0 E (rV E (cutS _ _) (x1z_isUser u (hX)) K_X1_132 (Nat.le_of_ble_eq_true rfl) (Nat.le_of_ble_eq_true rfl) (Nat.zero_le _) (Nat.zero_le _) 0 rfl rfl rfl rfl (Nat.le_of_ble_eq_true rfl) dX1_quietest_2) (fun r2 w2 h2 => ?_)
  obtain ⟨rfl, rfl⟩ := h2
  refine s_if_ne E dX1_quietest_5 (tgt := 10) rfl (fun c5 => ?_) (fun c5 => ?_)
  · have c5 := bI_n0 c5
    obtain ⟨j, hj, rfl⟩ := us_isU c5 hn6
    have h89 := hX.2.2.2.1 j hj
    have hll := hlo j hj
    obtain ⟨lo, hlo1, hl8⟩ : ∃ lo, τ 8 j = nI lo ∧ lo = tN (τ 8 j) := ⟨_, h89.1.1, rfl⟩
    obtain ⟨hi9, hhi1, hl9⟩ : ∃ hi9, τ 9 j = nI hi9 ∧ hi9 = tN (τ 9 j) := ⟨_, h89.2.1.1, rfl⟩
    have hb8 := h89.1.2
    have hb9 := h89.2.1.2
    rw [← hl8] at hb8 hll
    rw [← hl9] at hb9 hll
    refine s_bipush E dX1_quietest_10 (v := (-2)) (by decide) ?_
    refine s_istore_n E (L2 := [(2, .int ((-2))), (0, .ref (ad 0)), (1, .int (nI j))]) dX1_quietest_12 rfl (Nat.le_of_ble_eq_true rfl) rfl ?_
    refine s_iconst E dX1_quietest_13 (v := nI 0) (by decide) ?_
    refine s_istore_n E (L2 := [(3, .int (nI 0)), (2, .int ((-2))), (0, .ref (ad 0)), (1, .int (nI j))]) dX1_quietest_14 rfl (Nat.le_of_ble_eq_true rfl) rfl ?_
    refine s_aload_n E dX1_quietest_15 (i := 0) (j := 2) rfl rfl ?_
    refine iwX1_g0_4 E dX1_quietest_16 ?_
    refine iwX1_g2_0 E dX1_quietest_19 ?_
    refine s_iload_n E dX1_quietest_22 (i := 1) (j := 3) rfl rfl ?_
    refine iwX1_l3 E (j) (rfl) (by omega) hn6 dX1_quietest_23 ?_
    refine iwX1_gu3 E (v := nI lo) (j) (by omega) hT (hlo1) dX1_quietest_24 ?_
    refine s_istore E (L2 := [(4, .int (nI lo)), (3, .int (nI 0)), (2, .int ((-2))), (0, .ref (ad 0)), (1, .int (nI j))]) dX1_quietest_27 (Nat.le_of_ble_eq_true rfl) rfl ?_
    have L29 : ∀ (fuel : Nat) (i : Nat) (w29 : Nat → Nat → Int32), (i ≤ hi9 + 1 - lo) → (XS σ w29) → (hi9 + 1 - lo - i) < fuel → Sm pP l eE { frames := 7, cells := 0, slots := 0, locals := 172 } sS mM aA bB hM cC QQ AA D 6 0 0 (iw ad ct n τ w29 T) 29 [(0, .ref (ad 0)), (1, .int (nI j)), (2, .int (optI (qtF (vw τ (σ 1)) n j lo i).1)), (3, .int (nI ((qtF (vw τ (σ 1)) n j lo i).2))), (4, .int (nI (lo + i)))] [] := by
      intro fuel
      induction fuel with
      | zero =>
        intro i w29 hi hw hf29
        exact absurd hf29 (Nat.not_lt_zero _)
      | succ fuel ih29 =>
        intro i w29 hi hw hf29
        have hw1 : w29 1 = σ 1 := hw 1 (by decide) (by decide) (by decide)
        have hq := qtF_le (vw τ (σ 1)) j lo i hn6
        refine s_iload E dX1_quietest_29 (i := 4) (j := 4) rfl ?_
        refine s_aload_n E dX1_quietest_31 (i := 0) (j := 0) rfl rfl ?_
        refine iwX1_g0_4 E dX1_quietest_32 ?_
        refine iwX1_g2_0 E dX1_quietest_35 ?_
        refine s_iload_n E dX1_quietest_38 (i := 1) (j := 1) rfl rfl ?_
        refine iwX1_l3 E (j) (rfl) (by omega) hn6 dX1_quietest_39 ?_
        refine iwX1_gu4 E (v := nI hi9) (j) (by omega) hT (hhi1) dX1_quietest_40 ?_
        refine s_icmp_gt E dX1_quietest_43 (tgt := 96) rfl (fun c43 => ?_) (fun c43 => ?_)
        · have c43 : hi9 < lo + i := (nI_ltI (a := hi9) (b := lo + i) (by omega) (by omega)).mp c43
          refine s_iload_n E dX1_quietest_96 (i := 2) (j := 2) rfl rfl ?_
          exact Rt (optI (qtF (vw τ (σ 1)) n j lo i).1) (w29) dX1_quietest_97 (⟨by rw [if_pos c5, tN_nI (by omega), ← hl8, ← hl9, show hi9 + 1 - lo = i by omega], hw⟩) rfl (Nat.le_refl _) (Nat.le_refl _) rfl E.2.2.2.2.2.1
        · have c43 : ¬ hi9 < lo + i := fun h => c43 ((nI_ltI (a := hi9) (b := lo + i) (by omega) (by omega)).mpr h)
          refine s_aload_n E dX1_quietest_46 (i := 0) (j := 0) rfl rfl ?_
          refine iwX1_g0_5 E dX1_quietest_47 ?_
          refine iwX1_g7_3 E dX1_quietest_50 ?_
          refine s_iload E dX1_quietest_53 (i := 4) (j := 4) rfl ?_
          refine iw_l11 E (v := σ 1 (12 + (lo + i))) (lo + i) (rfl) (by omega) (by rw [hw1]) dX1_quietest_55 ?_
          refine s_if_eq E dX1_quietest_56 (tgt := 62) rfl (fun c56 => ?_) (fun c56 => ?_)
          · refine s_aload_n E dX1_quietest_62 (i := 0) (j := 0) rfl rfl ?_
            refine s_iload_n E dX1_quietest_63 (i := 1) (j := 1) rfl rfl ?_
            refine s_iload E dX1_quietest_64 (i := 4) (j := 4) rfl ?_
            refine c_goi0 E (rV E (cutS _ _) (x1z_troubleBy j (nI (lo + i)) (hX) (hT) (by rw [hw1]; exact hP) (by rw [hw1]; exact hbb) (hj) (In.of (by omega) (by decide))) K_X1_268 (Nat.le_of_ble_eq_true rfl) (Nat.le_of_ble_eq_true rfl) (Nat.zero_le _) (Nat.zero_le _) 0 rfl rfl rfl rfl (Nat.le_of_ble_eq_true rfl) dX1_quietest_66) (fun r66 w66 h66 => ?_)
            rw [hw1] at h66
            obtain ⟨e66, x66⟩ := h66
            subst e66
            have hb66 := noise_le (s := (st1 (vw τ (σ 1)) 25 j (nI (lo + i)))) (n := n) hn6
            refine s_istore E (L2 := [(5, .int (nI (noiseN (st1 (vw τ (σ 1)) 25 j (nI (lo + i))) n))), (0, .ref (ad 0)), (1, .int (nI j)), (2, .int (optI (qtF (vw τ (σ 1)) n j lo i).1)), (3, .int (nI ((qtF (vw τ (σ 1)) n j lo i).2))), (4, .int (nI (lo + i)))]) dX1_quietest_69 (Nat.le_of_ble_eq_true rfl) rfl ?_
            refine s_iload_n E dX1_quietest_71 (i := 2) (j := 3) rfl rfl ?_
            refine s_if_lt E dX1_quietest_72 (tgt := 84) rfl (fun c72 => ?_) (fun c72 => ?_)
            · refine s_iload E dX1_quietest_84 (i := 4) (j := 5) rfl ?_
              refine s_istore_n E (L2 := [(2, .int (nI (lo + i))), (5, .int (nI (noiseN (st1 (vw τ (σ 1)) 25 j (nI (lo + i))) n))), (0, .ref (ad 0)), (1, .int (nI j)), (3, .int (nI ((qtF (vw τ (σ 1)) n j lo i).2))), (4, .int (nI (lo + i)))]) dX1_quietest_86 rfl (Nat.le_of_ble_eq_true rfl) rfl ?_
              refine s_iload E dX1_quietest_87 (i := 5) (j := 1) rfl ?_
              refine s_istore_n E (L2 := [(3, .int (nI (noiseN (st1 (vw τ (σ 1)) 25 j (nI (lo + i))) n))), (2, .int (nI (lo + i))), (5, .int (nI (noiseN (st1 (vw τ (σ 1)) 25 j (nI (lo + i))) n))), (0, .ref (ad 0)), (1, .int (nI j)), (4, .int (nI (lo + i)))]) dX1_quietest_89 rfl (Nat.le_of_ble_eq_true rfl) rfl ?_
              refine s_iinc E (L2 := [(4, .int (nI (lo + i + 1))), (3, .int (nI (noiseN (st1 (vw τ (σ 1)) 25 j (nI (lo + i))) n))), (2, .int (nI (lo + i))), (5, .int (nI (noiseN (st1 (vw τ (σ 1)) 25 j (nI (lo + i))) n))), (0, .ref (ad 0)), (1, .int (nI j))]) dX1_quietest_90 (k := 5) rfl (v := nI (lo + i + 1)) (nI_inc _) (Nat.le_of_ble_eq_true rfl) rfl ?_
              refine s_goto E dX1_quietest_93 (tgt := 29) rfl ?_
              refine s_loc (L2 := [(0, .ref (ad 0)), (1, .int (nI j)), (2, .int (nI (lo + i))), (3, .int (nI (noiseN (st1 (vw τ (σ 1)) 25 j (nI (lo + i))) n))), (4, .int (nI (lo + i + 1)))]) [4, 5, 2, 1, 0] rfl ?_
              refine s_L (L2 := [(0, .ref (ad 0)), (1, .int (nI j)), (2, .int (optI (qtF (vw τ (σ 1)) n j lo (i + 1)).1)), (3, .int (nI ((qtF (vw τ (σ 1)) n j lo (i + 1)).2))), (4, .int (nI (lo + (i + 1))))]) (by rw [qtF, qtS, if_neg (show ¬ (vw τ (σ 1)) 25 (12 + (lo + i)) = nI 1 from fun h => absurd (c56.symm.trans h) (by decide)), if_pos (Or.inl ((optI_neg (by omega)).mp c72))]; first | rfl | (congr 1; omega)) ?_
              exact ih29 (i + 1) w66 (by omega) (hw.tr x66) (by omega)
            · have c72 := Int32.not_lt.mpr (Int32.not_lt.mp c72)
              refine s_iload E dX1_quietest_75 (i := 5) (j := 0) rfl ?_
              refine s_iload_n E dX1_quietest_77 (i := 3) (j := 4) rfl rfl ?_
              refine s_icmp_lt E dX1_quietest_78 (tgt := 84) rfl (fun c78 => ?_) (fun c78 => ?_)
              · have c78 : noiseN (st1 (vw τ (σ 1)) 25 j (nI (lo + i))) n < (qtF (vw τ (σ 1)) n j lo i).2 := (nI_ltI (a := noiseN (st1 (vw τ (σ 1)) 25 j (nI (lo + i))) n) (b := (qtF (vw τ (σ 1)) n j lo i).2) (by omega) (by omega)).mp c78
                refine s_iload E dX1_quietest_84 (i := 4) (j := 5) rfl ?_
                refine s_istore_n E (L2 := [(2, .int (nI (lo + i))), (5, .int (nI (noiseN (st1 (vw τ (σ 1)) 25 j (nI (lo + i))) n))), (0, .ref (ad 0)), (1, .int (nI j)), (3, .int (nI ((qtF (vw τ (σ 1)) n j lo i).2))), (4, .int (nI (lo + i)))]) dX1_quietest_86 rfl (Nat.le_of_ble_eq_true rfl) rfl ?_
                refine s_iload E dX1_quietest_87 (i := 5) (j := 1) rfl ?_
                refine s_istore_n E (L2 := [(3, .int (nI (noiseN (st1 (vw τ (σ 1)) 25 j (nI (lo + i))) n))), (2, .int (nI (lo + i))), (5, .int (nI (noiseN (st1 (vw τ (σ 1)) 25 j (nI (lo + i))) n))), (0, .ref (ad 0)), (1, .int (nI j)), (4, .int (nI (lo + i)))]) dX1_quietest_89 rfl (Nat.le_of_ble_eq_true rfl) rfl ?_
                refine s_iinc E (L2 := [(4, .int (nI (lo + i + 1))), (3, .int (nI (noiseN (st1 (vw τ (σ 1)) 25 j (nI (lo + i))) n))), (2, .int (nI (lo + i))), (5, .int (nI (noiseN (st1 (vw τ (σ 1)) 25 j (nI (lo + i))) n))), (0, .ref (ad 0)), (1, .int (nI j))]) dX1_quietest_90 (k := 5) rfl (v := nI (lo + i + 1)) (nI_inc _) (Nat.le_of_ble_eq_true rfl) rfl ?_
                refine s_goto E dX1_quietest_93 (tgt := 29) rfl ?_
                refine s_loc (L2 := [(0, .ref (ad 0)), (1, .int (nI j)), (2, .int (nI (lo + i))), (3, .int (nI (noiseN (st1 (vw τ (σ 1)) 25 j (nI (lo + i))) n))), (4, .int (nI (lo + i + 1)))]) [4, 5, 2, 1, 0] rfl ?_
                refine s_L (L2 := [(0, .ref (ad 0)), (1, .int (nI j)), (2, .int (optI (qtF (vw τ (σ 1)) n j lo (i + 1)).1)), (3, .int (nI ((qtF (vw τ (σ 1)) n j lo (i + 1)).2))), (4, .int (nI (lo + (i + 1))))]) (by rw [qtF, qtS, if_neg (show ¬ (vw τ (σ 1)) 25 (12 + (lo + i)) = nI 1 from fun h => absurd (c56.symm.trans h) (by decide)), if_pos (Or.inr c78)]; first | rfl | (congr 1; omega)) ?_
                exact ih29 (i + 1) w66 (by omega) (hw.tr x66) (by omega)
              · have c78 : ¬ noiseN (st1 (vw τ (σ 1)) 25 j (nI (lo + i))) n < (qtF (vw τ (σ 1)) n j lo i).2 := fun h => c78 ((nI_ltI (a := noiseN (st1 (vw τ (σ 1)) 25 j (nI (lo + i))) n) (b := (qtF (vw τ (σ 1)) n j lo i).2) (by omega) (by omega)).mpr h)
                refine s_goto E dX1_quietest_81 (tgt := 90) rfl ?_
                refine s_iinc E (L2 := [(4, .int (nI (lo + i + 1))), (5, .int (nI (noiseN (st1 (vw τ (σ 1)) 25 j (nI (lo + i))) n))), (0, .ref (ad 0)), (1, .int (nI j)), (2, .int (optI (qtF (vw τ (σ 1)) n j lo i).1)), (3, .int (nI ((qtF (vw τ (σ 1)) n j lo i).2)))]) dX1_quietest_90 (k := 5) rfl (v := nI (lo + i + 1)) (nI_inc _) (Nat.le_of_ble_eq_true rfl) rfl ?_
                refine s_goto E dX1_quietest_93 (tgt := 29) rfl ?_
                refine s_loc (L2 := [(0, .ref (ad 0)), (1, .int (nI j)), (2, .int (optI (qtF (vw τ (σ 1)) n j lo i).1)), (3, .int (nI ((qtF (vw τ (σ 1)) n j lo i).2))), (4, .int (nI (lo + i + 1)))]) [2, 3, 4, 5, 0] rfl ?_
                refine s_L (L2 := [(0, .ref (ad 0)), (1, .int (nI j)), (2, .int (optI (qtF (vw τ (σ 1)) n j lo (i + 1)).1)), (3, .int (nI ((qtF (vw τ (σ 1)) n j lo (i + 1)).2))), (4, .int (nI (lo + (i + 1))))]) (by rw [qtF, qtS, if_neg (show ¬ (vw τ (σ 1)) 25 (12 + (lo + i)) = nI 1 from fun h => absurd (c56.symm.trans h) (by decide)), if_neg (by rintro (h1 | h1); exact c72 ((optI_neg (by omega)).mpr h1); exact c78 h1)]; first | rfl | (congr 1; omega)) ?_
                exact ih29 (i + 1) w66 (by omega) (hw.tr x66) (by omega)
          · refine s_goto E dX1_quietest_59 (tgt := 90) rfl ?_
            refine s_iinc E (L2 := [(4, .int (nI (lo + i + 1))), (0, .ref (ad 0)), (1, .int (nI j)), (2, .int (optI (qtF (vw τ (σ 1)) n j lo i).1)), (3, .int (nI ((qtF (vw τ (σ 1)) n j lo i).2)))]) dX1_quietest_90 (k := 4) rfl (v := nI (lo + i + 1)) (nI_inc _) (Nat.le_of_ble_eq_true rfl) rfl ?_
            refine s_goto E dX1_quietest_93 (tgt := 29) rfl ?_
            refine s_loc (L2 := [(0, .ref (ad 0)), (1, .int (nI j)), (2, .int (optI (qtF (vw τ (σ 1)) n j lo i).1)), (3, .int (nI ((qtF (vw τ (σ 1)) n j lo i).2))), (4, .int (nI (lo + i + 1)))]) [1, 2, 3, 4, 0] rfl ?_
            refine s_L (L2 := [(0, .ref (ad 0)), (1, .int (nI j)), (2, .int (optI (qtF (vw τ (σ 1)) n j lo (i + 1)).1)), (3, .int (nI ((qtF (vw τ (σ 1)) n j lo (i + 1)).2))), (4, .int (nI (lo + (i + 1))))]) (by rw [qtF, qtS, if_pos (show (vw τ (σ 1)) 25 (12 + (lo + i)) = nI 1 from (hbb _ (by omega)).resolve_left c56)]; first | rfl | (congr 1; omega)) ?_
            exact ih29 (i + 1) w29 (by omega) (hw) (by omega)
    refine s_loc (L2 := [(0, .ref (ad 0)), (1, .int (nI j)), (2, .int ((-2))), (3, .int (nI 0)), (4, .int (nI lo))]) [3, 4, 2, 1, 0] rfl ?_
    exact L29 (_ + 1) 0 σ (Nat.zero_le _) (XS.rf _) (Nat.lt_succ_self _)
  · have c5 := bI_0 c5
    refine s_iconst E dX1_quietest_8 (v := (-1)) (by decide) ?_
    exact Rt ((-1)) (σ) dX1_quietest_9 (⟨by rw [if_neg c5], XS.rf _⟩) rfl (Nat.le_refl _) (Nat.le_refl _) rfl E.2.2.2.2.2.1
