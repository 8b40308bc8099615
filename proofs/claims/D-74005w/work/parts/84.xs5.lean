set_option maxRecDepth 100000
theorem iwX1_g0_13 {p : Program} {l : Launch} {e : Env} {R : Room} {s : State} {m : MethodId} {args : Array Value} {below : List Frame} {meth : Method} {c : Code} {Q : State → Prop} {A : Nat → Prop} {D : va_G} {nL cells slots : Nat} {pc : Nat} {L : List (Nat × Value)} {S : List Value} {cc : ByteArray} {ret : Option FieldType} {gt : Nat → Nat} {ad : Nat → Nat} {ct : Nat → ClassId} {n : Nat} {τ σ : Nat → Nat → Int32} {T : va_W} (E : En p s m args meth c A cc nL RX1 ret D (tysA ct) gt) {v : Int64} (hv : lN (tN (σ 0 13)) = v) (d : decode cc pc = .ok (.getfield 320, 3)) (K : Sm p l e R s m args below meth c Q A D nL cells slots (iw ad ct n τ σ T) (pc + 3) L (.long v :: S)) : Sm p l e R s m args below meth c Q A D nL cells slots (iw ad ct n τ σ T) pc L (.ref (ad 0) :: S) := s_get E in_X1 0 rfl rfl 13 (Nat.le_of_ble_eq_true rfl) q404 (congrArg (fun z => some (Value.long z)) hv) rfl d K
theorem iwX1_p0_13 {p : Program} {l : Launch} {e : Env} {R : Room} {s : State} {m : MethodId} {args : Array Value} {below : List Frame} {meth : Method} {c : Code} {Q : State → Prop} {A : Nat → Prop} {D : va_G} {nL cells slots : Nat} {pc : Nat} {L : List (Nat × Value)} {S : List Value} {cc : ByteArray} {ret : Option FieldType} {gt : Nat → Nat} {ad : Nat → Nat} {ct : Nat → ClassId} {n : Nat} {τ σ : Nat → Nat → Int32} {T : va_W} (E : En p s m args meth c A cc nL RX1 ret D (tysA ct) gt) (v : Nat) (hv : v < 2 ^ 31) (d : decode cc pc = .ok (.putfield 320, 3)) (K : Sm p l e R s m args below meth c Q A D nL cells slots (iw ad ct n τ (st1 σ 0 13 (nI v)) T) (pc + 3) L S) : Sm p l e R s m args below meth c Q A D nL cells slots (iw ad ct n τ σ T) pc L (.long (lN v) :: .ref (ad 0) :: S) := s_put E in_X1 tyX1 tyX1_ok nmX1 0 rfl rfl 13 (Nat.le_of_ble_eq_true rfl) q404 rfl rfl rfl rfl (Nat.le_of_ble_eq_true rfl) (by show _ = iw ad ct n τ (st1 σ 0 13 (nI v)) T; rw [show lN v = lN (tN (st1 σ 0 13 (nI v) 0 13)) from by rw [st1_eq, tN_nI hv]]; rfl) d K
set_option maxHeartbeats 1000000 in
set_option maxRecDepth 100000 in
theorem x1z_draw {l : Launch} {D : va_G} {gt : Nat → Nat} {ad : Nat → Nat} {ct : Nat → ClassId} {n : Nat} {τ σ : Nat → Nat → Int32} {T : va_W} (d B : Nat) (hd : σ 0 13 = nI d) (hd2 : d < 2147483648) (hB : 0 < B) (hB2 : B ≤ 60) : Ct l D gt yX1_draw cX1_draw 2 .int 0 0 0 0 [.ref (ad 0), .int (nI B)] (iw ad ct n τ σ T) (tysA ct) (fun r σ2 => nI (drawN B d) = r ∧ st1 σ 0 13 (nI (dwN d)) = σ2) (fun σ2 : Nat → Nat → Int32 => iw ad ct n τ σ2 T) (fun _ => tysA ct) := by
  refine Ct.start RX1 (by decide) rfl (Nat.le_of_ble_eq_true rfl) rfl ?_
  intro pP eE sS mM aA bB hM cC QQ AA E Rt
  refine s_aload_n E dX1_draw_0 (i := 0) (j := 0) rfl rfl ?_
  refine s_aload_n E dX1_draw_1 (i := 0) (j := 0) rfl rfl ?_
  refine iwX1_g0_13 E (v := lN d) (by rw [hd, tN_nI hd2]) dX1_draw_2 ?_
  refine s_ldc2 E (v := 1103515245) dX1_draw_5 q1120 ?_
  refine s_lmul E (v := lN (d * 1103515245)) dX1_draw_8 (lN_mul _ _) ?_
  refine s_ldc2 E (v := 12345) dX1_draw_9 q1121 ?_
  refine s_ladd E (v := lN (d * 1103515245 + 12345)) dX1_draw_12 (lN_add _ _) ?_
  refine s_ldc2 E (v := 2147483647) dX1_draw_13 q1122 ?_
  refine s_land E (v := lN (dwN d)) dX1_draw_16 (lN_mask _) ?_
  refine iwX1_p0_13 E (dwN d) (dwN_lt d) dX1_draw_17 ?_
  refine s_aload_n E dX1_draw_20 (i := 0) (j := 0) rfl rfl ?_
  refine iwX1_g0_13 E (v := lN (dwN d)) (by rw [st1_eq, tN_nI (dwN_lt d)]) dX1_draw_21 ?_
  refine s_ldc2 E (v := 65536) dX1_draw_24 q1123 ?_
  refine s_ldiv E (v := lN (dwN d / 65536)) dX1_draw_27 (by decide) (pk_lDiv (by have := dwN_lt d; omega) (by decide) (by decide)) ?_
  refine s_iload_n E dX1_draw_28 (i := 1) (j := 1) rfl rfl ?_
  refine s_i2l E (v := lN B) dX1_draw_29 (nI_l (by omega)) ?_
  refine s_lrem E (v := lN (drawN B d)) dX1_draw_30 (fun h => by have := (lN_eq (a := B) (b := 0) (by omega) (by omega)).mp h; omega) (pk_lRem (by have := dwN_lt d; omega) hB (by omega)) ?_
  refine s_l2i E (v := nI (drawN B d)) dX1_draw_31 (lN_i _) ?_
  exact Rt (nI (drawN B d)) (st1 σ 0 13 (nI (dwN d))) dX1_draw_32 (⟨rfl, rfl⟩) rfl (Nat.le_refl _) (Nat.le_refl _) rfl E.2.2.2.2.2.1
theorem iwX1_g0_14 {p : Program} {l : Launch} {e : Env} {R : Room} {s : State} {m : MethodId} {args : Array Value} {below : List Frame} {meth : Method} {c : Code} {Q : State → Prop} {A : Nat → Prop} {D : va_G} {nL cells slots : Nat} {pc : Nat} {L : List (Nat × Value)} {S : List Value} {cc : ByteArray} {ret : Option FieldType} {gt : Nat → Nat} {ad : Nat → Nat} {ct : Nat → ClassId} {n : Nat} {τ σ : Nat → Nat → Int32} {T : va_W} (E : En p s m args meth c A cc nL RX1 ret D (tysA ct) gt) (d : decode cc pc = .ok (.getfield 66, 3)) (K : Sm p l e R s m args below meth c Q A D nL cells slots (iw ad ct n τ σ T) (pc + 3) L (.ref (ad 22) :: S)) : Sm p l e R s m args below meth c Q A D nL cells slots (iw ad ct n τ σ T) pc L (.ref (ad 0) :: S) := s_get E in_X1 0 rfl rfl 14 (Nat.le_of_ble_eq_true rfl) q405 rfl rfl d K
theorem K_X1_125 : KV RX1 125 RX1 yX1_tuned cX1_tuned 4 (some .int) 1 := ⟨q793, q795, qs17, q113, q796, by decide +kernel⟩
theorem K_X1_335 : KV RX1 335 RX1 yX1_draw cX1_draw 2 (some .int) 1 := ⟨q1116, q1118, qs39, q113, q1119, by decide +kernel⟩
theorem iw_s26 {p : Program} {l : Launch} {e : Env} {R : Room} {s : State} {m : MethodId} {args : Array Value} {below : List Frame} {meth : Method} {c : Code} {Q : State → Prop} {A : Nat → Prop} {D : va_G} {nL cells slots : Nat} {pc : Nat} {L : List (Nat × Value)} {S : List Value} {cc : ByteArray} {ret : Option FieldType} {gt : Nat → Nat} {ad : Nat → Nat} {ct : Nat → ClassId} {n : Nat} {τ σ : Nat → Nat → Int32} {T : va_W} {own : String} (E : En p s m args meth c A cc nL own ret D (tysA ct) gt) {i v : Int32} (hy : vp_nar .boolean v = v) (N : Nat) (hi : i = nI N) (hN : N < 61) (h6 : n ≤ 6) (d : decode cc pc = .ok (.bastore, 1)) (K : Sm p l e R s m args below meth c Q A D nL cells slots (iw ad ct n τ (st1 σ 4 (12 + N) v) T) (pc + 1) L S) : Sm p l e R s m args below meth c Q A D nL cells slots (iw ad ct n τ σ T) pc L (.int v :: .int i :: .ref (ad 26) :: S) := s_zast E 26 1 rfl rfl hy N hi (by omega) (Nat.le_of_ble_eq_true rfl) (by unfold iw fw; rw [show pch n 0 ((st1 σ 4 (12 + N) v) 4) ((st1 σ 4 (12 + N) v) 8) = pch n 0 (σ 4) (σ 8) from by unfold st1; rw [upR_eq, upR_ne (by decide)]; exact pch_off (by omega), show pch n 6 ((st1 σ 4 (12 + N) v) 4) ((st1 σ 4 (12 + N) v) 8) = pch n 6 (σ 4) (σ 8) from by unfold st1; rw [upR_eq, upR_ne (by decide)]; exact pch_off (by omega), show pch n 73 ((st1 σ 4 (12 + N) v) 4) ((st1 σ 4 (12 + N) v) 8) = pch n 73 (σ 4) (σ 8) from by unfold st1; rw [upR_eq, upR_ne (by decide)]; exact pch_off (by omega), show pbl ((st1 σ 4 (12 + N) v) 4) = upd (pbl (σ 4)) N v from by unfold st1; rw [upR_eq]; exact pbl_up hN]; rfl) d K
theorem iw_s23 {p : Program} {l : Launch} {e : Env} {R : Room} {s : State} {m : MethodId} {args : Array Value} {below : List Frame} {meth : Method} {c : Code} {Q : State → Prop} {A : Nat → Prop} {D : va_G} {nL cells slots : Nat} {pc : Nat} {L : List (Nat × Value)} {S : List Value} {cc : ByteArray} {ret : Option FieldType} {gt : Nat → Nat} {ad : Nat → Nat} {ct : Nat → ClassId} {n : Nat} {τ σ : Nat → Nat → Int32} {T : va_W} {own : String} (E : En p s m args meth c A cc nL own ret D (tysA ct) gt) {i v : Int32} (N : Nat) (hi : i = nI N) (hN : N < n) (h6 : n ≤ 6) (d : decode cc pc = .ok (.iastore, 1)) (K : Sm p l e R s m args below meth c Q A D nL cells slots (iw ad ct n τ (st1 σ 4 N v) T) (pc + 1) L S) : Sm p l e R s m args below meth c Q A D nL cells slots (iw ad ct n τ σ T) pc L (.int v :: .int i :: .ref (ad 23) :: S) := s_iast E 23 0 rfl rfl N hi (by omega) (Nat.le_of_ble_eq_true rfl) (by unfold iw fw; rw [show pch n 0 ((st1 σ 4 N v) 4) ((st1 σ 4 N v) 8) = upd (pch n 0 (σ 4) (σ 8)) N v from by unfold st1; rw [upR_eq, upR_ne (by decide)]; exact pch_up0 hN, show pch n 6 ((st1 σ 4 N v) 4) ((st1 σ 4 N v) 8) = pch n 6 (σ 4) (σ 8) from by unfold st1; rw [upR_eq, upR_ne (by decide)]; exact pch_off (by omega), show pch n 73 ((st1 σ 4 N v) 4) ((st1 σ 4 N v) 8) = pch n 73 (σ 4) (σ 8) from by unfold st1; rw [upR_eq, upR_ne (by decide)]; exact pch_off (by omega), show pbl ((st1 σ 4 N v) 4) = pbl (σ 4) from by unfold st1; rw [upR_eq]; exact pbl_off (by omega)]; rfl) d K
theorem iwX1_g2_10 {p : Program} {l : Launch} {e : Env} {R : Room} {s : State} {m : MethodId} {args : Array Value} {below : List Frame} {meth : Method} {c : Code} {Q : State → Prop} {A : Nat → Prop} {D : va_G} {nL cells slots : Nat} {pc : Nat} {L : List (Nat × Value)} {S : List Value} {cc : ByteArray} {ret : Option FieldType} {gt : Nat → Nat} {ad : Nat → Nat} {ct : Nat → ClassId} {n : Nat} {τ σ : Nat → Nat → Int32} {T : va_W} (E : En p s m args meth c A cc nL RX1 ret D (tysA ct) gt) {v : Int32} (hv : τ 3 9 = v) (d : decode cc pc = .ok (.getfield 332, 3)) (K : Sm p l e R s m args below meth c Q A D nL cells slots (iw ad ct n τ σ T) (pc + 3) L (.int v :: S)) : Sm p l e R s m args below meth c Q A D nL cells slots (iw ad ct n τ σ T) pc L (.ref (ad 2) :: S) := s_getN E in_X2 2 rfl rfl 10 (Nat.le_of_ble_eq_true rfl) q193 (congrArg (fun z => some (Value.int z)) hv) rfl d K
set_option maxHeartbeats 3000000 in
set_option maxRecDepth 100000 in
theorem x1z_chance {l : Launch} {D : va_G} {gt : Nat → Nat} {ad : Nat → Nat} {ct : Nat → ClassId} {n : Nat} {τ σ : Nat → Nat → Int32} {T : va_W} (a b q : Int32) (hX : XT τ n) (hT : UT ad n τ T) (hP : PC (σ 1) n) (hbb : BB (σ 1)) : Ct l D gt yX1_chance cX1_chance 9 .int 9 219 240 1440 [.ref (ad 0), .int (a), .int (b), .int (q)] (iw ad ct n τ σ T) (tysA ct) (fun r σ2 => chF (vw τ (σ 1)) n (tN (τ 3 0)) a b q = r ∧ XC σ σ2) (fun σ2 : Nat → Nat → Int32 => iw ad ct n τ σ2 T) (fun _ => tysA ct) := by
  refine Ct.start RX1 (by decide) rfl (Nat.le_of_ble_eq_true rfl) rfl ?_
  intro pP eE sS mM aA bB hM cC QQ AA E Rt
  have hn6 := hX.2.1
  have hB1 := hX.2.2.2.2.1
  have hB60 : tN (τ 3 0) ≤ 60 := by have := hB1.2; omega
  have hB4 := hX.2.2.2.2.2.1
  have hsd := hX.2.2.2.2.2.2.2.2.2.1
  refine s_iload_n E dX1_chance_0 (i := 1) (j := 1) rfl rfl ?_
  refine s_iconst E dX1_chance_1 (v := (-1)) (by decide) ?_
  refine s_icmp_lt E dX1_chance_2 (tgt := 24) rfl (fun c2 => ?_) (fun c2 => ?_)
  · refine s_iconst E dX1_chance_24 (v := (-1)) (by decide) ?_
    exact Rt ((-1)) (σ) dX1_chance_25 (⟨by unfold chF; rw [if_neg]; unfold chOk; simp only [Bool.and_eq_true, Bool.not_eq_true', decide_eq_false_iff_not]; exact fun h => h.1.1.1.1 c2, XC.rf _⟩) rfl (by first | exact Nat.le_refl _ | omega) (by first | exact Nat.le_refl _ | omega) rfl E.2.2.2.2.2.1
  · refine s_iload_n E dX1_chance_5 (i := 2) (j := 2) rfl rfl ?_
    refine s_iconst E dX1_chance_6 (v := nI 1) (by decide) ?_
    refine s_bipush E dX1_chance_7 (v := nI 20) (by decide) ?_
    refine c_gos E (rS E (cutZ _ _) (x1z_isIn b (nI 1) (nI 20)) K_X1_75 (Nat.le_of_ble_eq_true rfl) (Nat.le_of_ble_eq_true rfl) (Nat.zero_le _) (Nat.zero_le _) rfl rfl (Nat.le_of_ble_eq_true rfl) dX1_chance_9) (fun r9 h9 => ?_)
    subst h9
    refine s_if_eq E dX1_chance_12 (tgt := 24) rfl (fun c12 => ?_) (fun c12 => ?_)
    · have c12 := bI_0 c12
      refine s_iconst E dX1_chance_24 (v := (-1)) (by decide) ?_
      exact Rt ((-1)) (σ) dX1_chance_25 (⟨by unfold chF; rw [if_neg]; unfold chOk; simp only [Bool.and_eq_true, Bool.not_eq_true', decide_eq_false_iff_not]; exact fun h => c12 ⟨h.1.1.1.2, h.1.1.2⟩, XC.rf _⟩) rfl (by first | exact Nat.le_refl _ | omega) (by first | exact Nat.le_refl _ | omega) rfl E.2.2.2.2.2.1
    · have c12 := bI_n0 c12
      refine s_iload_n E dX1_chance_15 (i := 3) (j := 3) rfl rfl ?_
      refine s_iconst E dX1_chance_16 (v := nI 0) (by decide) ?_
      refine s_iconst E dX1_chance_17 (v := nI 2) (by decide) ?_
      refine c_gos E (rS E (cutZ _ _) (x1z_isIn q (nI 0) (nI 2)) K_X1_75 (Nat.le_of_ble_eq_true rfl) (Nat.le_of_ble_eq_true rfl) (Nat.zero_le _) (Nat.zero_le _) rfl rfl (Nat.le_of_ble_eq_true rfl) dX1_chance_18) (fun r18 h18 => ?_)
      subst h18
      refine s_if_ne E dX1_chance_21 (tgt := 26) rfl (fun c21 => ?_) (fun c21 => ?_)
      · have c21 := bI_n0 c21
        have hok : chOk a b q = true := by unfold chOk; simp only [Bool.and_eq_true, Bool.not_eq_true', decide_eq_false_iff_not]; exact ⟨⟨⟨⟨c2, c12.1⟩, c12.2⟩, c21.1⟩, c21.2⟩
        obtain ⟨kb, hkb1, hkb2, rfl⟩ := ch_of (B := 20) (b := nI 20) c12 rfl (by omega)
        have hd0 : (seedN (vw τ (σ 1)) a) < 2147483648 := by unfold seedN; split <;> exact tN_lt _
        refine s_aload_n E dX1_chance_26 (i := 0) (j := 0) rfl rfl ?_
        refine s_iload_n E dX1_chance_27 (i := 1) (j := 1) rfl rfl ?_
        have J47 : Sm pP l eE { frames := 9, cells := 240, slots := 1440, locals := 219 } sS mM aA bB hM cC QQ AA D 9 0 0 (iw ad ct n τ (st1 σ 0 13 (nI (seedN (vw τ (σ 1)) a))) T) 47 [(0, .ref (ad 0)), (1, .int (a)), (2, .int (nI kb)), (3, .int (q))] [] := by
          refine s_aload_n E dX1_chance_47 (i := 0) (j := 0) rfl rfl ?_
          refine iwX1_g0_14 E dX1_chance_48 ?_
          refine s_aload_n E dX1_chance_51 (i := 0) (j := 0) rfl rfl ?_
          refine iwX1_g0_5 E dX1_chance_52 ?_
          refine c_gor0 E (rV E (cutS _ _) (x3z_like30 (hn6) (hbb)) K_X1_115 (Nat.le_of_ble_eq_true rfl) (Nat.le_of_ble_eq_true rfl) (Nat.zero_le _) (Nat.zero_le _) 22 rfl rfl rfl rfl (Nat.le_of_ble_eq_true rfl) dX1_chance_55) (fun w55 h55 => ?_)
          subst h55
          refine s_pop E dX1_chance_58 rfl ?_
          refine s_iconst E dX1_chance_59 (v := nI 0) (by decide) ?_
          refine s_istore E (L2 := [(4, .int (nI 0)), (0, .ref (ad 0)), (1, .int (a)), (2, .int (nI kb)), (3, .int (q))]) dX1_chance_60 (Nat.le_of_ble_eq_true rfl) rfl ?_
          refine s_iconst E dX1_chance_62 (v := nI 0) (by decide) ?_
          refine s_istore E (L2 := [(5, .int (nI 0)), (4, .int (nI 0)), (0, .ref (ad 0)), (1, .int (a)), (2, .int (nI kb)), (3, .int (q))]) dX1_chance_63 (Nat.le_of_ble_eq_true rfl) rfl ?_
          have L65 : ∀ (fuel : Nat) (k : Nat) (w65 : Nat → Nat → Int32), (k ≤ kb) → (XC σ w65) → (vw τ (w65 4) = (chK (vw τ (σ 1)) n (tN (τ 3 0)) (seedN (vw τ (σ 1)) a) k).1) → (w65 0 13 = nI (chK (vw τ (σ 1)) n (tN (τ 3 0)) (seedN (vw τ (σ 1)) a) k).2.2) → ((chK (vw τ (σ 1)) n (tN (τ 3 0)) (seedN (vw τ (σ 1)) a) k).2.2 < 2147483648) → (PC (w65 4) n) → (BB (w65 4)) → (kb - k) < fuel → Sm pP l eE { frames := 9, cells := 240, slots := 1440, locals := 219 } sS mM aA bB hM cC QQ AA D 9 (12 * k) (72 * k) (iw ad ct n τ w65 T) 65 [(0, .ref (ad 0)), (1, .int (a)), (2, .int (nI kb)), (3, .int (q)), (4, .int (nI ((chK (vw τ (σ 1)) n (tN (τ 3 0)) (seedN (vw τ (σ 1)) a) k).2.1))), (5, .int (nI k))] [] := by
            intro fuel
            induction fuel with
            | zero =>
              intro k w65 hk hx hv hd1 hd2 hPo hBo hf65
              exact absurd hf65 (Nat.not_lt_zero _)
            | succ fuel ih65 =>
              intro k w65 hk hx hv hd1 hd2 hPo hBo hf65
              have hdr : drawN (tN (τ 3 0)) (chK (vw τ (σ 1)) n (tN (τ 3 0)) (seedN (vw τ (σ 1)) a) k).2.2 < tN (τ 3 0) := Nat.mod_lt _ (by omega)
              refine s_iload E dX1_chance_65 (i := 5) (j := 5) rfl ?_
              refine s_iload_n E dX1_chance_67 (i := 2) (j := 2) rfl rfl ?_
              refine s_icmp_ge E dX1_chance_68 (tgt := 209) rfl (fun c68 => ?_) (fun c68 => ?_)
              · have c68 : ¬ k < kb := fun h => absurd c68 (Int32.not_le.mpr ((nI_ltI (a := k) (b := kb) (by omega) (by omega)).mpr h))
                refine s_iload_n E dX1_chance_209 (i := 3) (j := 3) rfl rfl ?_
                refine s_if_ne E dX1_chance_210 (tgt := 224) rfl (fun c210 => ?_) (fun c210 => ?_)
                · refine s_iload_n E dX1_chance_224 (i := 3) (j := 3) rfl rfl ?_
                  refine s_iconst E dX1_chance_225 (v := nI 1) (by decide) ?_
                  refine s_icmp_ne E dX1_chance_226 (tgt := 234) rfl (fun c226 => ?_) (fun c226 => ?_)
                  · refine s_aload_n E dX1_chance_234 (i := 0) (j := 0) rfl rfl ?_
                    refine s_aload_n E dX1_chance_235 (i := 0) (j := 0) rfl rfl ?_
                    refine iwX1_g0_14 E dX1_chance_236 ?_
                    refine c_goi0 E (rV E (cutS _ _) (x1z_isClean_23 (hX) (hT) (hPo)) K_X1_262 (Nat.le_of_ble_eq_true rfl) (Nat.le_of_ble_eq_true rfl) (by show _ ≤ 240; omega) (by show _ ≤ 1440; omega) 0 rfl rfl rfl rfl (Nat.le_of_ble_eq_true rfl) dX1_chance_239) (fun r239 w239 h239 => ?_)
                    obtain ⟨e239, x239⟩ := h239
                    subst e239
                    refine s_if_eq E dX1_chance_242 (tgt := 249) rfl (fun c242 => ?_) (fun c242 => ?_)
                    · have c242 := bI_0 c242
                      refine s_iconst E dX1_chance_249 (v := nI 0) (by decide) ?_
                      exact Rt (nI 0) (w239) dX1_chance_250 (⟨by unfold chF; rw [if_pos hok, tN_nI (by omega), show kb = k by omega, if_neg c210, if_neg c226, ← hv]; exact bI_f c242, hx.tr x239.xs.xc⟩) rfl (by first | exact Nat.le_refl _ | omega) (by first | exact Nat.le_refl _ | omega) rfl E.2.2.2.2.2.1
                    · have c242 := bI_n0 c242
                      refine s_iconst E dX1_chance_245 (v := nI 1) (by decide) ?_
                      refine s_goto E dX1_chance_246 (tgt := 250) rfl ?_
                      exact Rt (nI 1) (w239) dX1_chance_250 (⟨by unfold chF; rw [if_pos hok, tN_nI (by omega), show kb = k by omega, if_neg c210, if_neg c226, ← hv]; exact bI_t c242, hx.tr x239.xs.xc⟩) rfl (by first | exact Nat.le_refl _ | omega) (by first | exact Nat.le_refl _ | omega) rfl E.2.2.2.2.2.1
                  · refine s_iload E dX1_chance_229 (i := 4) (j := 4) rfl ?_
                    refine s_goto E dX1_chance_231 (tgt := 250) rfl ?_
                    exact Rt (nI ((chK (vw τ (σ 1)) n (tN (τ 3 0)) (seedN (vw τ (σ 1)) a) k).2.1)) (w65) dX1_chance_250 (⟨by unfold chF; rw [if_pos hok, tN_nI (by omega), show kb = k by omega, if_neg c210, if_pos c226], hx⟩) rfl (by first | exact Nat.le_refl _ | omega) (by first | exact Nat.le_refl _ | omega) rfl E.2.2.2.2.2.1
                · refine s_aload_n E dX1_chance_213 (i := 0) (j := 0) rfl rfl ?_
                  refine s_aload_n E dX1_chance_214 (i := 0) (j := 0) rfl rfl ?_
                  refine iwX1_g0_14 E dX1_chance_215 ?_
                  refine c_goi0 E (rV E (cutS _ _) (x1z_tuned3 (hX)) K_X1_125 (Nat.le_of_ble_eq_true rfl) (Nat.le_of_ble_eq_true rfl) (by show _ ≤ 240; omega) (by show _ ≤ 1440; omega) 0 rfl rfl rfl rfl (Nat.le_of_ble_eq_true rfl) dX1_chance_218) (fun r218 w218 h218 => ?_)
                  obtain ⟨rfl, rfl⟩ := h218
                  refine s_goto E dX1_chance_221 (tgt := 250) rfl ?_
                  exact Rt (nI (tunedN (vw τ (w65 4)) n)) (w65) dX1_chance_250 (⟨by unfold chF; rw [if_pos hok, tN_nI (by omega), show kb = k by omega, if_pos c210, hv], hx⟩) rfl (by first | exact Nat.le_refl _ | omega) (by first | exact Nat.le_refl _ | omega) rfl E.2.2.2.2.2.1
              · have c68 : k < kb := (nI_ltI (a := k) (b := kb) (by omega) (by omega)).mp (Int32.not_le.mp c68)
                refine s_aload_n E dX1_chance_71 (i := 0) (j := 0) rfl rfl ?_
                refine s_aload_n E dX1_chance_72 (i := 0) (j := 0) rfl rfl ?_
                refine iwX1_g0_4 E dX1_chance_73 ?_
                refine iwX1_g2_6 E (v := nI (tN (τ 3 0))) (hX.2.2.2.2.1.1) dX1_chance_76 ?_
                refine c_goi0 E (rV E (cutS _ _) (x1z_draw ((chK (vw τ (σ 1)) n (tN (τ 3 0)) (seedN (vw τ (σ 1)) a) k).2.2) (tN (τ 3 0)) (hd1) (hd2) (by omega) (hB60)) K_X1_335 (Nat.le_of_ble_eq_true rfl) (Nat.le_of_ble_eq_true rfl) (by show _ ≤ 240; omega) (by show _ ≤ 1440; omega) 0 rfl rfl rfl rfl (Nat.le_of_ble_eq_true rfl) dX1_chance_79) (fun r79 w79 h79 => ?_)
                obtain ⟨rfl, rfl⟩ := h79
                refine s_iconst E dX1_chance_82 (v := nI 1) (by decide) ?_
                refine s_iadd_ E dX1_chance_83 (v := nI ((drawN (tN (τ 3 0)) ((chK (vw τ (σ 1)) n (tN (τ 3 0)) (seedN (vw τ (σ 1)) a) k).2.2)) + 1)) (nI_add _ _) ?_
                refine s_istore E (L2 := [(6, .int (nI ((drawN (tN (τ 3 0)) ((chK (vw τ (σ 1)) n (tN (τ 3 0)) (seedN (vw τ (σ 1)) a) k).2.2)) + 1))), (0, .ref (ad 0)), (1, .int (a)), (2, .int (nI kb)), (3, .int (q)), (4, .int (nI ((chK (vw τ (σ 1)) n (tN (τ 3 0)) (seedN (vw τ (σ 1)) a) k).2.1))), (5, .int (nI k))]) dX1_chance_84 (Nat.le_of_ble_eq_true rfl) rfl ?_
                refine s_aload_n E dX1_chance_86 (i := 0) (j := 1) rfl rfl ?_
                refine iwX1_g0_14 E dX1_chance_87 ?_
                refine iwX1_g22_3 E dX1_chance_90 ?_
                refine s_iload E dX1_chance_93 (i := 6) (j := 0) rfl ?_
                refine s_iconst E dX1_chance_95 (v := nI 1) (by decide) ?_
                refine iw_s26 E rfl ((drawN (tN (τ 3 0)) (chK (vw τ (σ 1)) n (tN (τ 3 0)) (seedN (vw τ (σ 1)) a) k).2.2 + 1)) (rfl) (by omega) hn6 dX1_chance_96 ?_
                refine s_iconst E dX1_chance_97 (v := nI 0) (by decide) ?_
                refine s_istore E (L2 := [(7, .int (nI 0)), (6, .int (nI ((drawN (tN (τ 3 0)) ((chK (vw τ (σ 1)) n (tN (τ 3 0)) (seedN (vw τ (σ 1)) a) k).2.2)) + 1))), (0, .ref (ad 0)), (1, .int (a)), (2, .int (nI kb)), (3, .int (q)), (4, .int (nI ((chK (vw τ (σ 1)) n (tN (τ 3 0)) (seedN (vw τ (σ 1)) a) k).2.1))), (5, .int (nI k))]) dX1_chance_98 (Nat.le_of_ble_eq_true rfl) rfl ?_
                have L100 : ∀ (fuel : Nat) (u : Nat) (w100 : Nat → Nat → Int32), (u ≤ n) → (XC σ w100) → (vw τ (w100 4) = (chU n (drawN (tN (τ 3 0)) (chK (vw τ (σ 1)) n (tN (τ 3 0)) (seedN (vw τ (σ 1)) a) k).2.2 + 1) u (st1 (chK (vw τ (σ 1)) n (tN (τ 3 0)) (seedN (vw τ (σ 1)) a) k).1 25 (12 + (drawN (tN (τ 3 0)) (chK (vw τ (σ 1)) n (tN (τ 3 0)) (seedN (vw τ (σ 1)) a) k).2.2 + 1)) (nI 1), (chK (vw τ (σ 1)) n (tN (τ 3 0)) (seedN (vw τ (σ 1)) a) k).2.1)).1) → (w100 0 13 = nI (dwN (chK (vw τ (σ 1)) n (tN (τ 3 0)) (seedN (vw τ (σ 1)) a) k).2.2)) → (PC (w100 4) n) → (BB (w100 4)) → (n - u) < fuel → Sm pP l eE { frames := 9, cells := 240, slots := 1440, locals := 219 } sS mM aA bB hM cC QQ AA D 9 (12 * k + 2 * u) (72 * k + 12 * u) (iw ad ct n τ w100 T) 100 [(0, .ref (ad 0)), (1, .int (a)), (2, .int (nI kb)), (3, .int (q)), (5, .int (nI k)), (6, .int (nI ((drawN (tN (τ 3 0)) ((chK (vw τ (σ 1)) n (tN (τ 3 0)) (seedN (vw τ (σ 1)) a) k).2.2)) + 1))), (4, .int (nI ((chU n (drawN (tN (τ 3 0)) (chK (vw τ (σ 1)) n (tN (τ 3 0)) (seedN (vw τ (σ 1)) a) k).2.2 + 1) u (st1 (chK (vw τ (σ 1)) n (tN (τ 3 0)) (seedN (vw τ (σ 1)) a) k).1 25 (12 + (drawN (tN (τ 3 0)) (chK (vw τ (σ 1)) n (tN (τ 3 0)) (seedN (vw τ (σ 1)) a) k).2.2 + 1)) (nI 1), (chK (vw τ (σ 1)) n (tN (τ 3 0)) (seedN (vw τ (σ 1)) a) k).2.1)).2))), (7, .int (nI u))] [] := by
                  intro fuel
                  induction fuel with
                  | zero =>
                    intro u w100 hu hx hv hd hPo hBo hf100
                    exact absurd hf100 (Nat.not_lt_zero _)
                  | succ fuel ih100 =>
                    intro u w100 hu hx hv hd hPo hBo hf100
                    refine s_iload E dX1_chance_100 (i := 7) (j := 7) rfl ?_
                    refine s_aload_n E dX1_chance_102 (i := 0) (j := 0) rfl rfl ?_
                    refine iwX1_g0_4 E dX1_chance_103 ?_
                    refine iwX1_g2_4 E (v := nI n) (hX.1) dX1_chance_106 ?_
                    refine s_icmp_ge E dX1_chance_109 (tgt := 203) rfl (fun c109 => ?_) (fun c109 => ?_)
                    · have c109 : ¬ u < n := fun h => absurd c109 (Int32.not_le.mpr ((nI_ltI (a := u) (b := n) (by omega) (by omega)).mpr h))
                      refine s_iinc E (L2 := [(5, .int (nI (k + 1))), (0, .ref (ad 0)), (1, .int (a)), (2, .int (nI kb)), (3, .int (q)), (6, .int (nI ((drawN (tN (τ 3 0)) ((chK (vw τ (σ 1)) n (tN (τ 3 0)) (seedN (vw τ (σ 1)) a) k).2.2)) + 1))), (4, .int (nI ((chU n (drawN (tN (τ 3 0)) (chK (vw τ (σ 1)) n (tN (τ 3 0)) (seedN (vw τ (σ 1)) a) k).2.2 + 1) u (st1 (chK (vw τ (σ 1)) n (tN (τ 3 0)) (seedN (vw τ (σ 1)) a) k).1 25 (12 + (drawN (tN (τ 3 0)) (chK (vw τ (σ 1)) n (tN (τ 3 0)) (seedN (vw τ (σ 1)) a) k).2.2 + 1)) (nI 1), (chK (vw τ (σ 1)) n (tN (τ 3 0)) (seedN (vw τ (σ 1)) a) k).2.1)).2))), (7, .int (nI u))]) dX1_chance_203 (k := 4) rfl (v := nI (k + 1)) (nI_inc _) (Nat.le_of_ble_eq_true rfl) rfl ?_
                      refine s_goto E dX1_chance_206 (tgt := 65) rfl ?_
                      have hun : u = n := by omega
                      refine s_loc (L2 := [(0, .ref (ad 0)), (1, .int (a)), (2, .int (nI kb)), (3, .int (q)), (4, .int (nI ((chU n (drawN (tN (τ 3 0)) (chK (vw τ (σ 1)) n (tN (τ 3 0)) (seedN (vw τ (σ 1)) a) k).2.2 + 1) u (st1 (chK (vw τ (σ 1)) n (tN (τ 3 0)) (seedN (vw τ (σ 1)) a) k).1 25 (12 + (drawN (tN (τ 3 0)) (chK (vw τ (σ 1)) n (tN (τ 3 0)) (seedN (vw τ (σ 1)) a) k).2.2 + 1)) (nI 1), (chK (vw τ (σ 1)) n (tN (τ 3 0)) (seedN (vw τ (σ 1)) a) k).2.1)).2))), (5, .int (nI (k + 1)))]) [1, 2, 3, 4, 6, 0] rfl ?_
                      refine s_widen (k := 12 * (k + 1)) (n := 72 * (k + 1)) (by omega) (by omega) ?_
                      refine s_L (L2 := [(0, .ref (ad 0)), (1, .int (a)), (2, .int (nI kb)), (3, .int (q)), (4, .int (nI ((chK (vw τ (σ 1)) n (tN (τ 3 0)) (seedN (vw τ (σ 1)) a) (k + 1)).2.1))), (5, .int (nI (k + 1)))]) (by rw [chK, hun]) ?_
                      exact ih65 (k + 1) w100 (by omega) (hx) (by rw [chK]; rw [hun] at hv; exact hv) (by rw [chK]; exact hd) (by rw [chK]; exact dwN_lt _) (hPo) (hBo) (by omega)
                    · have c109 : u < n := (nI_ltI (a := u) (b := n) (by omega) (by omega)).mp (Int32.not_le.mp c109)
                      refine s_aload_n E dX1_chance_112 (i := 0) (j := 0) rfl rfl ?_
                      refine iwX1_g0_14 E dX1_chance_113 ?_
                      refine iwX1_g22_0 E dX1_chance_116 ?_
                      refine s_iload E dX1_chance_119 (i := 7) (j := 7) rfl ?_
                      refine iw_l23 E (v := w100 4 u) (u) (rfl) (by omega) hn6 (rfl) dX1_chance_121 ?_
                      refine s_iload E dX1_chance_122 (i := 6) (j := 5) rfl ?_
                      refine s_icmp_eq E dX1_chance_124 (tgt := 130) rfl (fun c124 => ?_) (fun c124 => ?_)
                      · refine s_iinc E (L2 := [(4, .int (nI ((chU n (drawN (tN (τ 3 0)) (chK (vw τ (σ 1)) n (tN (τ 3 0)) (seedN (vw τ (σ 1)) a) k).2.2 + 1) u (st1 (chK (vw τ (σ 1)) n (tN (τ 3 0)) (seedN (vw τ (σ 1)) a) k).1 25 (12 + (drawN (tN (τ 3 0)) (chK (vw τ (σ 1)) n (tN (τ 3 0)) (seedN (vw τ (σ 1)) a) k).2.2 + 1)) (nI 1), (chK (vw τ (σ 1)) n (tN (τ 3 0)) (seedN (vw τ (σ 1)) a) k).2.1)).2 + 1))), (0, .ref (ad 0)), (1, .int (a)), (2, .int (nI kb)), (3, .int (q)), (5, .int (nI k)), (6, .int (nI ((drawN (tN (τ 3 0)) ((chK (vw τ (σ 1)) n (tN (τ 3 0)) (seedN (vw τ (σ 1)) a) k).2.2)) + 1))), (7, .int (nI u))]) dX1_chance_130 (k := 6) rfl (v := nI ((chU n (drawN (tN (τ 3 0)) (chK (vw τ (σ 1)) n (tN (τ 3 0)) (seedN (vw τ (σ 1)) a) k).2.2 + 1) u (st1 (chK (vw τ (σ 1)) n (tN (τ 3 0)) (seedN (vw τ (σ 1)) a) k).1 25 (12 + (drawN (tN (τ 3 0)) (chK (vw τ (σ 1)) n (tN (τ 3 0)) (seedN (vw τ (σ 1)) a) k).2.2 + 1)) (nI 1), (chK (vw τ (σ 1)) n (tN (τ 3 0)) (seedN (vw τ (σ 1)) a) k).2.1)).2 + 1)) (nI_inc _) (Nat.le_of_ble_eq_true rfl) rfl ?_
                        refine s_aload_n E dX1_chance_133 (i := 0) (j := 1) rfl rfl ?_
                        refine iwX1_g0_14 E dX1_chance_134 ?_
                        refine iwX1_g22_0 E dX1_chance_137 ?_
                        refine s_iload E dX1_chance_140 (i := 7) (j := 7) rfl ?_
                        refine s_iconst E dX1_chance_142 (v := nI 0) (by decide) ?_
                        refine iw_s23 E (u) (rfl) (by omega) hn6 dX1_chance_143 ?_
                        refine s_new E in_X9 tyX9 tyX9_ok q834 q835 q130 (ci := 8) (fs := [.null, .int 0, .null, .int 0, .int 0, .null]) rfl df_X9 (by show _ ≤ 240; omega) (by show _ ≤ 1440; omega) dX1_chance_144 (fun sa => ?_)
                        refine s_ws (ws2 := iw ad ct n τ (st1 w100 4 u (nI 0)) (T ++ [(sa, .inr (8, [.null, .int 0, .null, .int 0, .int 0, .null]))])) iw_snoc ?_
                        refine s_dup E dX1_chance_147 rfl ?_
                        refine s_aload_n E dX1_chance_148 (i := 0) (j := 1) rfl rfl ?_
                        refine s_aload_n E dX1_chance_149 (i := 0) (j := 1) rfl rfl ?_
                        refine iwX1_g0_7 E dX1_chance_150 ?_
                        refine s_aload_n E dX1_chance_153 (i := 0) (j := 1) rfl rfl ?_
                        refine iwX1_g0_14 E dX1_chance_154 ?_
                        refine c_gor0 E (rV E (cutS _ _) (x3z_like23 (hn6) (by rw [st4]; exact BB.put hBo (by omega))) K_X1_115 (Nat.le_of_ble_eq_true rfl) (Nat.le_of_ble_eq_true rfl) (by show _ ≤ 240; omega) (by show _ ≤ 1440; omega) 17 rfl rfl rfl rfl (Nat.le_of_ble_eq_true rfl) dX1_chance_157) (fun w157 h157 => ?_)
                        subst h157
                        refine s_iconst E dX1_chance_160 (v := nI 1) (by decide) ?_
                        refine s_iload E dX1_chance_161 (i := 7) (j := 7) rfl ?_
                        refine s_ishl_ E dX1_chance_163 (v := nI (2 ^ u)) (one_int u (by omega)) ?_
                        refine c_gov E (rI E (cutS _ _) (x9z_init (S := 2 ^ u) hX (sub_one (by omega) hn6)) K_X1_189 (Nat.le_of_ble_eq_true rfl) (Nat.le_of_ble_eq_true rfl) (by show _ ≤ 240; omega) (by show _ ≤ 1440; omega) rfl rfl (Nat.le_of_ble_eq_true rfl) dX1_chance_164) (fun fa _ => ?_)
                        refine c_goi0 E (rV E (cutS _ _) (x9z_goes (τ 3 0) (w100 4) (2 ^ u) (hX) (hT) (hPo) (hX.2.2.2.2.1) (RC.zt hX) (sub_one (by omega) hn6) (rfl) (siS_h0 (sub_one (by omega) hn6)) (rfl) (siS_el (sub_one (by omega) hn6)) (by show zP (st1 w100 4 u (nI 0) 4) _ n = _; rw [st4]; exact zP_one (by omega) hn6)) K_X1_192 (Nat.le_of_ble_eq_true rfl) (Nat.le_of_ble_eq_true rfl) (by show _ ≤ 240; omega) (by show _ ≤ 1440; omega) (47 + T.length + 0) ((iw_len (k := 0)).trans rfl) rfl rfl rfl (Nat.le_of_ble_eq_true rfl) dX1_chance_167) (fun r167 w167 h167 => ?_)
                        rw [vwB_self] at h167
                        obtain ⟨e167, x167, f167⟩ := h167
                        subst e167
                        have xs167 := XS.go (XS.lik) x167
                        refine iw_drop ?_
                        refine s_ws (ws2 := iw ad ct n τ (offS (st1 w100 4 u (nI 0)) w167) T) rfl ?_
                        refine s_istore E (L2 := [(8, .int (goV (vw τ (w100 4)) n (2 ^ u))), (4, .int (nI ((chU n (drawN (tN (τ 3 0)) (chK (vw τ (σ 1)) n (tN (τ 3 0)) (seedN (vw τ (σ 1)) a) k).2.2 + 1) u (st1 (chK (vw τ (σ 1)) n (tN (τ 3 0)) (seedN (vw τ (σ 1)) a) k).1 25 (12 + (drawN (tN (τ 3 0)) (chK (vw τ (σ 1)) n (tN (τ 3 0)) (seedN (vw τ (σ 1)) a) k).2.2 + 1)) (nI 1), (chK (vw τ (σ 1)) n (tN (τ 3 0)) (seedN (vw τ (σ 1)) a) k).2.1)).2 + 1))), (0, .ref (ad 0)), (1, .int (a)), (2, .int (nI kb)), (3, .int (q)), (5, .int (nI k)), (6, .int (nI ((drawN (tN (τ 3 0)) ((chK (vw τ (σ 1)) n (tN (τ 3 0)) (seedN (vw τ (σ 1)) a) k).2.2)) + 1))), (7, .int (nI u))]) dX1_chance_170 (Nat.le_of_ble_eq_true rfl) rfl ?_
                        refine s_iload E dX1_chance_172 (i := 8) (j := 0) rfl ?_
                        refine s_if_ne E dX1_chance_174 (tgt := 197) rfl (fun c174 => ?_) (fun c174 => ?_)
                        · have hx7 := (hx.tr XC.st).tr xs167.xc
                          have h74 : offS (st1 w100 4 u (nI 0)) w167 4 = upd (w100 4) u (nI 0) := by rw [xs167 4 (by decide) (by decide) (by decide), st4]
                          have hd7 : offS (st1 w100 4 u (nI 0)) w167 0 13 = nI (dwN (chK (vw τ (σ 1)) n (tN (τ 3 0)) (seedN (vw τ (σ 1)) a) k).2.2) := by rw [xs167 0 (by decide) (by decide) (by decide), st1_ne (by decide)]; exact hd
                          have c174 := (go_n c174).2
                          refine s_iinc E (L2 := [(7, .int (nI (u + 1))), (8, .int (goV (vw τ (w100 4)) n (2 ^ u))), (4, .int (nI ((chU n (drawN (tN (τ 3 0)) (chK (vw τ (σ 1)) n (tN (τ 3 0)) (seedN (vw τ (σ 1)) a) k).2.2 + 1) u (st1 (chK (vw τ (σ 1)) n (tN (τ 3 0)) (seedN (vw τ (σ 1)) a) k).1 25 (12 + (drawN (tN (τ 3 0)) (chK (vw τ (σ 1)) n (tN (τ 3 0)) (seedN (vw τ (σ 1)) a) k).2.2 + 1)) (nI 1), (chK (vw τ (σ 1)) n (tN (τ 3 0)) (seedN (vw τ (σ 1)) a) k).2.1)).2 + 1))), (0, .ref (ad 0)), (1, .int (a)), (2, .int (nI kb)), (3, .int (q)), (5, .int (nI k)), (6, .int (nI ((drawN (tN (τ 3 0)) ((chK (vw τ (σ 1)) n (tN (τ 3 0)) (seedN (vw τ (σ 1)) a) k).2.2)) + 1)))]) dX1_chance_197 (k := 8) rfl (v := nI (u + 1)) (nI_inc _) (Nat.le_of_ble_eq_true rfl) rfl ?_
                          refine s_goto E dX1_chance_200 (tgt := 100) rfl ?_
                          have hch := ch_lost hv c124 c174
                          refine s_loc (L2 := [(0, .ref (ad 0)), (1, .int (a)), (2, .int (nI kb)), (3, .int (q)), (5, .int (nI k)), (6, .int (nI ((drawN (tN (τ 3 0)) ((chK (vw τ (σ 1)) n (tN (τ 3 0)) (seedN (vw τ (σ 1)) a) k).2.2)) + 1))), (4, .int (nI ((chU n (drawN (tN (τ 3 0)) (chK (vw τ (σ 1)) n (tN (τ 3 0)) (seedN (vw τ (σ 1)) a) k).2.2 + 1) u (st1 (chK (vw τ (σ 1)) n (tN (τ 3 0)) (seedN (vw τ (σ 1)) a) k).1 25 (12 + (drawN (tN (τ 3 0)) (chK (vw τ (σ 1)) n (tN (τ 3 0)) (seedN (vw τ (σ 1)) a) k).2.2 + 1)) (nI 1), (chK (vw τ (σ 1)) n (tN (τ 3 0)) (seedN (vw τ (σ 1)) a) k).2.1)).2 + 1))), (7, .int (nI (u + 1)))]) [3, 4, 5, 6, 7, 8, 2, 0] rfl ?_
                          refine s_widen (k := 12 * k + 2 * (u + 1)) (n := 72 * k + 12 * (u + 1)) (by omega) (by omega) ?_
                          refine s_L (L2 := [(0, .ref (ad 0)), (1, .int (a)), (2, .int (nI kb)), (3, .int (q)), (5, .int (nI k)), (6, .int (nI ((drawN (tN (τ 3 0)) ((chK (vw τ (σ 1)) n (tN (τ 3 0)) (seedN (vw τ (σ 1)) a) k).2.2)) + 1))), (4, .int (nI ((chU n (drawN (tN (τ 3 0)) (chK (vw τ (σ 1)) n (tN (τ 3 0)) (seedN (vw τ (σ 1)) a) k).2.2 + 1) (u + 1) (st1 (chK (vw τ (σ 1)) n (tN (τ 3 0)) (seedN (vw τ (σ 1)) a) k).1 25 (12 + (drawN (tN (τ 3 0)) (chK (vw τ (σ 1)) n (tN (τ 3 0)) (seedN (vw τ (σ 1)) a) k).2.2 + 1)) (nI 1), (chK (vw τ (σ 1)) n (tN (τ 3 0)) (seedN (vw τ (σ 1)) a) k).2.1)).2))), (7, .int (nI (u + 1)))]) (by rw [hch.2]) ?_
                          exact ih100 (u + 1) (offS (st1 w100 4 u (nI 0)) w167) (by omega) (hx7) (by rw [h74]; exact hch.1) (hd7) (by rw [h74]; exact PC.put hPo (In.of (by decide) (by decide))) (by rw [h74]; exact BB.put hBo (by omega)) (by omega)
                        · have hx7 := (hx.tr XC.st).tr xs167.xc
                          have h74 : offS (st1 w100 4 u (nI 0)) w167 4 = upd (w100 4) u (nI 0) := by rw [xs167 4 (by decide) (by decide) (by decide), st4]
                          have hd7 : offS (st1 w100 4 u (nI 0)) w167 0 13 = nI (dwN (chK (vw τ (σ 1)) n (tN (τ 3 0)) (seedN (vw τ (σ 1)) a) k).2.2) := by rw [xs167 0 (by decide) (by decide) (by decide), st1_ne (by decide)]; exact hd
                          have hg0 := c174
                          have c174 := go_f c174
                          refine s_aload_n E dX1_chance_177 (i := 0) (j := 2) rfl rfl ?_
                          refine iwX1_g0_14 E dX1_chance_178 ?_
                          refine iwX1_g22_0 E dX1_chance_181 ?_
                          refine s_iload E dX1_chance_184 (i := 7) (j := 8) rfl ?_
                          refine s_aload_n E dX1_chance_186 (i := 0) (j := 2) rfl rfl ?_
                          refine iwX1_g0_7 E dX1_chance_187 ?_
                          refine iwX1_g17_0 E dX1_chance_190 ?_
                          refine s_iload E dX1_chance_193 (i := 7) (j := 8) rfl ?_
                          refine iw_l18 E (v := foundP (vw τ (w100 4)) n (2 ^ u) u) (u) (rfl) (by omega) hn6 (by show w167 3 u = _; rw [(f167 hg0).2]) dX1_chance_195 ?_
                          refine iw_s23 E (u) (rfl) (by omega) hn6 dX1_chance_196 ?_
                          refine s_iinc E (L2 := [(7, .int (nI (u + 1))), (8, .int (goV (vw τ (w100 4)) n (2 ^ u))), (4, .int (nI ((chU n (drawN (tN (τ 3 0)) (chK (vw τ (σ 1)) n (tN (τ 3 0)) (seedN (vw τ (σ 1)) a) k).2.2 + 1) u (st1 (chK (vw τ (σ 1)) n (tN (τ 3 0)) (seedN (vw τ (σ 1)) a) k).1 25 (12 + (drawN (tN (τ 3 0)) (chK (vw τ (σ 1)) n (tN (τ 3 0)) (seedN (vw τ (σ 1)) a) k).2.2 + 1)) (nI 1), (chK (vw τ (σ 1)) n (tN (τ 3 0)) (seedN (vw τ (σ 1)) a) k).2.1)).2 + 1))), (0, .ref (ad 0)), (1, .int (a)), (2, .int (nI kb)), (3, .int (q)), (5, .int (nI k)), (6, .int (nI ((drawN (tN (τ 3 0)) ((chK (vw τ (σ 1)) n (tN (τ 3 0)) (seedN (vw τ (σ 1)) a) k).2.2)) + 1)))]) dX1_chance_197 (k := 8) rfl (v := nI (u + 1)) (nI_inc _) (Nat.le_of_ble_eq_true rfl) rfl ?_
                          refine s_goto E dX1_chance_200 (tgt := 100) rfl ?_
                          have hch := ch_found hX hPo (by omega) hv c124 c174
                          have hsu := sub_one (show u < n by omega) hn6
                          have h84 : st1 (offS (st1 w100 4 u (nI 0)) w167) 4 u (foundP (vw τ (w100 4)) n (2 ^ u) u) 4 = foundP (vw τ (w100 4)) n (2 ^ u) := by rw [st4, h74]; exact found_one hX hPo (by omega)
                          refine s_loc (L2 := [(0, .ref (ad 0)), (1, .int (a)), (2, .int (nI kb)), (3, .int (q)), (5, .int (nI k)), (6, .int (nI ((drawN (tN (τ 3 0)) ((chK (vw τ (σ 1)) n (tN (τ 3 0)) (seedN (vw τ (σ 1)) a) k).2.2)) + 1))), (4, .int (nI ((chU n (drawN (tN (τ 3 0)) (chK (vw τ (σ 1)) n (tN (τ 3 0)) (seedN (vw τ (σ 1)) a) k).2.2 + 1) u (st1 (chK (vw τ (σ 1)) n (tN (τ 3 0)) (seedN (vw τ (σ 1)) a) k).1 25 (12 + (drawN (tN (τ 3 0)) (chK (vw τ (σ 1)) n (tN (τ 3 0)) (seedN (vw τ (σ 1)) a) k).2.2 + 1)) (nI 1), (chK (vw τ (σ 1)) n (tN (τ 3 0)) (seedN (vw τ (σ 1)) a) k).2.1)).2 + 1))), (7, .int (nI (u + 1)))]) [3, 4, 5, 6, 7, 8, 2, 0] rfl ?_
                          refine s_widen (k := 12 * k + 2 * (u + 1)) (n := 72 * k + 12 * (u + 1)) (by omega) (by omega) ?_
                          refine s_L (L2 := [(0, .ref (ad 0)), (1, .int (a)), (2, .int (nI kb)), (3, .int (q)), (5, .int (nI k)), (6, .int (nI ((drawN (tN (τ 3 0)) ((chK (vw τ (σ 1)) n (tN (τ 3 0)) (seedN (vw τ (σ 1)) a) k).2.2)) + 1))), (4, .int (nI ((chU n (drawN (tN (τ 3 0)) (chK (vw τ (σ 1)) n (tN (τ 3 0)) (seedN (vw τ (σ 1)) a) k).2.2 + 1) (u + 1) (st1 (chK (vw τ (σ 1)) n (tN (τ 3 0)) (seedN (vw τ (σ 1)) a) k).1 25 (12 + (drawN (tN (τ 3 0)) (chK (vw τ (σ 1)) n (tN (τ 3 0)) (seedN (vw τ (σ 1)) a) k).2.2 + 1)) (nI 1), (chK (vw τ (σ 1)) n (tN (τ 3 0)) (seedN (vw τ (σ 1)) a) k).2.1)).2))), (7, .int (nI (u + 1)))]) (by rw [hch.2]) ?_
                          exact ih100 (u + 1) (st1 (offS (st1 w100 4 u (nI 0)) w167) 4 u (foundP (vw τ (w100 4)) n (2 ^ u) u)) (by omega) (hx7.tr XC.st) (by rw [st4, h74]; exact hch.1) (by rw [st1_ne (by decide)]; exact hd7) (by rw [h84]; exact PC.found hPo hX hsu) (by rw [h84]; exact BB.found hBo hPo hX hsu) (by omega)
                      · refine s_goto E dX1_chance_127 (tgt := 197) rfl ?_
                        refine s_iinc E (L2 := [(7, .int (nI (u + 1))), (0, .ref (ad 0)), (1, .int (a)), (2, .int (nI kb)), (3, .int (q)), (5, .int (nI k)), (6, .int (nI ((drawN (tN (τ 3 0)) ((chK (vw τ (σ 1)) n (tN (τ 3 0)) (seedN (vw τ (σ 1)) a) k).2.2)) + 1))), (4, .int (nI ((chU n (drawN (tN (τ 3 0)) (chK (vw τ (σ 1)) n (tN (τ 3 0)) (seedN (vw τ (σ 1)) a) k).2.2 + 1) u (st1 (chK (vw τ (σ 1)) n (tN (τ 3 0)) (seedN (vw τ (σ 1)) a) k).1 25 (12 + (drawN (tN (τ 3 0)) (chK (vw τ (σ 1)) n (tN (τ 3 0)) (seedN (vw τ (σ 1)) a) k).2.2 + 1)) (nI 1), (chK (vw τ (σ 1)) n (tN (τ 3 0)) (seedN (vw τ (σ 1)) a) k).2.1)).2)))]) dX1_chance_197 (k := 7) rfl (v := nI (u + 1)) (nI_inc _) (Nat.le_of_ble_eq_true rfl) rfl ?_
                        refine s_goto E dX1_chance_200 (tgt := 100) rfl ?_
                        refine s_loc (L2 := [(0, .ref (ad 0)), (1, .int (a)), (2, .int (nI kb)), (3, .int (q)), (5, .int (nI k)), (6, .int (nI ((drawN (tN (τ 3 0)) ((chK (vw τ (σ 1)) n (tN (τ 3 0)) (seedN (vw τ (σ 1)) a) k).2.2)) + 1))), (4, .int (nI ((chU n (drawN (tN (τ 3 0)) (chK (vw τ (σ 1)) n (tN (τ 3 0)) (seedN (vw τ (σ 1)) a) k).2.2 + 1) u (st1 (chK (vw τ (σ 1)) n (tN (τ 3 0)) (seedN (vw τ (σ 1)) a) k).1 25 (12 + (drawN (tN (τ 3 0)) (chK (vw τ (σ 1)) n (tN (τ 3 0)) (seedN (vw τ (σ 1)) a) k).2.2 + 1)) (nI 1), (chK (vw τ (σ 1)) n (tN (τ 3 0)) (seedN (vw τ (σ 1)) a) k).2.1)).2))), (7, .int (nI (u + 1)))]) [1, 2, 3, 4, 5, 6, 7, 0] rfl ?_
                        refine s_widen (k := 12 * k + 2 * (u + 1)) (n := 72 * k + 12 * (u + 1)) (by omega) (by omega) ?_
                        refine s_L (L2 := [(0, .ref (ad 0)), (1, .int (a)), (2, .int (nI kb)), (3, .int (q)), (5, .int (nI k)), (6, .int (nI ((drawN (tN (τ 3 0)) ((chK (vw τ (σ 1)) n (tN (τ 3 0)) (seedN (vw τ (σ 1)) a) k).2.2)) + 1))), (4, .int (nI ((chU n (drawN (tN (τ 3 0)) (chK (vw τ (σ 1)) n (tN (τ 3 0)) (seedN (vw τ (σ 1)) a) k).2.2 + 1) (u + 1) (st1 (chK (vw τ (σ 1)) n (tN (τ 3 0)) (seedN (vw τ (σ 1)) a) k).1 25 (12 + (drawN (tN (τ 3 0)) (chK (vw τ (σ 1)) n (tN (τ 3 0)) (seedN (vw τ (σ 1)) a) k).2.2 + 1)) (nI 1), (chK (vw τ (σ 1)) n (tN (τ 3 0)) (seedN (vw τ (σ 1)) a) k).2.1)).2))), (7, .int (nI (u + 1)))]) (by rw [ch_no hv c124]) ?_
                        exact ih100 (u + 1) w100 (by omega) (hx) (by rw [ch_no hv c124]; exact hv) (hd) (hPo) (hBo) (by omega)
                refine s_loc (L2 := [(0, .ref (ad 0)), (1, .int (a)), (2, .int (nI kb)), (3, .int (q)), (5, .int (nI k)), (6, .int (nI ((drawN (tN (τ 3 0)) ((chK (vw τ (σ 1)) n (tN (τ 3 0)) (seedN (vw τ (σ 1)) a) k).2.2)) + 1))), (4, .int (nI ((chK (vw τ (σ 1)) n (tN (τ 3 0)) (seedN (vw τ (σ 1)) a) k).2.1))), (7, .int (nI 0))]) [2, 3, 4, 5, 7, 1, 6, 0] rfl ?_
                refine s_widen (k := 12 * k + 2 * 0) (n := 72 * k + 12 * 0) (by omega) (by omega) ?_
                exact L100 (_ + 1) 0 (st1 (st1 w65 0 13 (nI (dwN (chK (vw τ (σ 1)) n (tN (τ 3 0)) (seedN (vw τ (σ 1)) a) k).2.2))) 4 (12 + (drawN (tN (τ 3 0)) (chK (vw τ (σ 1)) n (tN (τ 3 0)) (seedN (vw τ (σ 1)) a) k).2.2 + 1)) (nI 1)) (Nat.zero_le _) ((hx.tr XC.dr).tr XC.st) (by rw [st4, st1_ne (by decide), vw_upd, hv]; rfl) (by rw [st1_ne (by decide), st1_eq]) (by rw [st4, st1_ne (by decide)]; exact PC.off hPo (by omega)) (by rw [st4, st1_ne (by decide)]; exact BB.bl hBo) (Nat.lt_succ_self _)
          refine s_loc (L2 := [(0, .ref (ad 0)), (1, .int (a)), (2, .int (nI kb)), (3, .int (q)), (4, .int (nI 0)), (5, .int (nI 0))]) [2, 3, 4, 5, 1, 0] rfl ?_
          refine s_widen (k := 12 * 0) (n := 72 * 0) (by omega) (by omega) ?_
          exact L65 (_ + 1) 0 (likS 3 0 (st1 σ 0 13 (nI (seedN (vw τ (σ 1)) a)))) (Nat.zero_le _) (XC.dr.tr XC.lik) (rfl) (rfl) (hd0) (hP) (hbb) (Nat.lt_succ_self _)
        refine s_if_ge E dX1_chance_28 (tgt := 42) rfl (fun c28 => ?_) (fun c28 => ?_)
        · have c28 := Int32.not_lt.mpr c28
          have hpos28 := c28
          refine s_iload_n E dX1_chance_42 (i := 1) (j := 1) rfl rfl ?_
          refine s_i2l E (v := lN (tN a)) dX1_chance_43 (by exact long_of c28) ?_
          refine iwX1_p0_13 E (tN a) (tN_lt _) dX1_chance_44 ?_
          refine s_ws (ws2 := iw ad ct n τ (st1 σ 0 13 (nI (seedN (vw τ (σ 1)) a))) T) (congrArg (fun z => iw ad ct n τ z T) (show _ = _ from by unfold seedN; rw [if_neg (fun e => c28 (by rw [e]; decide))])) ?_
          exact J47
        · have c28 := Int32.not_le.mp c28
          have hneg28 := c28
          refine s_aload_n E dX1_chance_31 (i := 0) (j := 0) rfl rfl ?_
          refine iwX1_g0_4 E dX1_chance_32 ?_
          refine iwX1_g2_10 E (v := τ 3 9) (rfl) dX1_chance_35 ?_
          refine s_i2l E (v := lN (tN (τ 3 9))) dX1_chance_38 ((congrArg Int32.toInt64 hsd.1).trans (nI_l (by have := hsd.2; omega))) ?_
          refine s_goto E dX1_chance_39 (tgt := 44) rfl ?_
          refine iwX1_p0_13 E (tN (τ 3 9)) (by have := hsd.2; omega) dX1_chance_44 ?_
          refine s_ws (ws2 := iw ad ct n τ (st1 σ 0 13 (nI (seedN (vw τ (σ 1)) a))) T) (congrArg (fun z => iw ad ct n τ z T) (show _ = _ from by unfold seedN; rw [if_pos (m1_lt c2 c28), vw_r (by decide) (by decide)])) ?_
          exact J47
      · have c21 := bI_0 c21
        refine s_iconst E dX1_chance_24 (v := (-1)) (by decide) ?_
        exact Rt ((-1)) (σ) dX1_chance_25 (⟨by unfold chF; rw [if_neg]; unfold chOk; simp only [Bool.and_eq_true, Bool.not_eq_true', decide_eq_false_iff_not]; exact fun h => c21 ⟨h.1.2, h.2⟩, XC.rf _⟩) rfl (by first | exact Nat.le_refl _ | omega) (by first | exact Nat.le_refl _ | omega) rfl E.2.2.2.2.2.1
