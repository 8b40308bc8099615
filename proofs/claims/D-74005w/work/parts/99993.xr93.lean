set_option maxRecDepth 100000
theorem twX6_gV_5 {p : Program} {l : Launch} {e : Env} {R : Room} {s : State} {m : MethodId} {args : Array Value} {below : List Frame} {meth : Method} {c : Code} {Q : State → Prop} {A : Nat → Prop} {D : va_G} {nL cells slots : Nat} {pc : Nat} {L : List (Nat × Value)} {S : List Value} {cc : ByteArray} {ret : Option FieldType} {gt : Nat → Nat} {ad ra : Nat → Nat} {ct : Nat → ClassId} {n : Nat} {ξ σ : Nat → Nat → Int32} (E : En p s m args meth c A cc nL RX6 ret D (tysA ct) gt) {v : Int32} (hv : σ 3 18 = v) (d : decode cc pc = .ok (.getfield 176, 3)) (K : Sm p l e R s m args below meth c Q A D nL cells slots (rw ad ra ct ξ σ (tW ra ct n σ)) (pc + 3) L (.int v :: S)) : Sm p l e R s m args below meth c Q A D nL cells slots (rw ad ra ct ξ σ (tW ra ct n σ)) pc L (.ref (ra 1) :: S) := s_getN E in_X2 3 rfl rfl 5 (Nat.le_of_ble_eq_true rfl) q175 (congrArg (fun z => some (Value.int z)) hv) rfl d K
theorem twX6_gV_1 {p : Program} {l : Launch} {e : Env} {R : Room} {s : State} {m : MethodId} {args : Array Value} {below : List Frame} {meth : Method} {c : Code} {Q : State → Prop} {A : Nat → Prop} {D : va_G} {nL cells slots : Nat} {pc : Nat} {L : List (Nat × Value)} {S : List Value} {cc : ByteArray} {ret : Option FieldType} {gt : Nat → Nat} {ad ra : Nat → Nat} {ct : Nat → ClassId} {n : Nat} {ξ σ : Nat → Nat → Int32} (E : En p s m args meth c A cc nL RX6 ret D (tysA ct) gt) (d : decode cc pc = .ok (.getfield 179, 3)) (K : Sm p l e R s m args below meth c Q A D nL cells slots (rw ad ra ct ξ σ (tW ra ct n σ)) (pc + 3) L (.ref (ra 3) :: S)) : Sm p l e R s m args below meth c Q A D nL cells slots (rw ad ra ct ξ σ (tW ra ct n σ)) pc L (.ref (ra 1) :: S) := s_getN E in_X2 3 rfl rfl 1 (Nat.le_of_ble_eq_true rfl) q160 rfl rfl d K
theorem tw_sB {p : Program} {l : Launch} {e : Env} {R : Room} {s : State} {m : MethodId} {args : Array Value} {below : List Frame} {meth : Method} {c : Code} {Q : State → Prop} {A : Nat → Prop} {D : va_G} {nL cells slots : Nat} {pc : Nat} {L : List (Nat × Value)} {S : List Value} {cc : ByteArray} {ret : Option FieldType} {gt : Nat → Nat} {ad ra : Nat → Nat} {ct : Nat → ClassId} {n : Nat} {ξ σ : Nat → Nat → Int32} {own : String} (E : En p s m args meth c A cc nL own ret D (tysA ct) gt) {i v : Int32} (N : Nat) (hi : i = nI N) (hN : N < 12) (d : decode cc pc = .ok (.iastore, 1)) (K : Sm p l e R s m args below meth c Q A D nL cells slots (rw ad ra ct ξ (st1 σ 31 N v) (tW ra ct n (st1 σ 31 N v))) (pc + 1) L S) : Sm p l e R s m args below meth c Q A D nL cells slots (rw ad ra ct ξ σ (tW ra ct n σ)) pc L (.int v :: .int i :: .ref (ra 3) :: S) := s_iast E 5 0 rfl rfl N hi hN (Nat.le_of_ble_eq_true rfl) rfl d K
theorem twX6_pV_5 {p : Program} {l : Launch} {e : Env} {R : Room} {s : State} {m : MethodId} {args : Array Value} {below : List Frame} {meth : Method} {c : Code} {Q : State → Prop} {A : Nat → Prop} {D : va_G} {nL cells slots : Nat} {pc : Nat} {L : List (Nat × Value)} {S : List Value} {cc : ByteArray} {ret : Option FieldType} {gt : Nat → Nat} {ad ra : Nat → Nat} {ct : Nat → ClassId} {n : Nat} {ξ σ : Nat → Nat → Int32} (E : En p s m args meth c A cc nL RX6 ret D (tysA ct) gt) {v : Int32} (d : decode cc pc = .ok (.putfield 176, 3)) (K : Sm p l e R s m args below meth c Q A D nL cells slots (rw ad ra ct ξ (st1 σ 3 18 v) (tW ra ct n (st1 σ 3 18 v))) (pc + 3) L S) : Sm p l e R s m args below meth c Q A D nL cells slots (rw ad ra ct ξ σ (tW ra ct n σ)) pc L (.int v :: .ref (ra 1) :: S) := s_putN E in_X2 tyX2 tyX2_ok nmX2 3 rfl rfl 5 (Nat.le_of_ble_eq_true rfl) q175 rfl rfl rfl rfl (Nat.le_of_ble_eq_true rfl) (by first | rfl | (unfold rw tW; rw [lsF_st (by decide)]; rfl)) d K
set_option maxHeartbeats 3000000 in
set_option maxRecDepth 100000 in
theorem x6z_block {l : Launch} {D : va_G} {gt : Nat → Nat} {ad ra : Nat → Nat} {ct : Nat → ClassId} {n : Nat} {ξ σ : Nat → Nat → Int32} (s0 s : Nat → Nat → Int32) (m B : Nat) (hs0 : s = st1 s0 0 14 (nI 1)) (hb : BT ξ (s 1)) (hr : RL s σ) (hn6 : n ≤ 6) (hn : s 3 17 = nI n) (hm : s 3 18 = nI m) (hm6 : m ≤ 6) (hB : s 3 10 = nI B) (hB60 : B ≤ 60) (hB1 : 1 ≤ B) : CvX l D gt yX6_block cX6_block 2 8 174 5 40 [.ref (ra 0)] (rw ad ra ct ξ σ (tW ra ct n σ)) (tysA ct) (fun σ2 => (readBlockS s0) 0 21 = 0 ∧ RL (readBlockS s0) σ2 ∧ σ2 31 = upd (upd (σ 31) (2 * m) (nI (blA s0))) (2 * m + 1) (nI (blB s0)) ∧ σ2 0 30 = σ 0 30) (fun σ2 : Nat → Nat → Int32 => rw ad ra ct ξ σ2 (tW ra ct n σ2)) (fun _ => tysA ct) (fun _ : Nat => ¬ (readBlockS s0) 0 21 = 0) (fun q : Nat => xtW ad ct ξ ++ [faultC q ((readBlockS s0) 0 21) ((readBlockS s0) 0 22)]) (fun _ => tysA ct) (fun q => q) (fun _ => RX7) := by
  refine CvX.start RX6 (by decide) rfl (Nat.le_of_ble_eq_true rfl) rfl ?_
  intro pP eE sS mM aA bB hM cC QQ AA E Rt Tt
  have hz := hr.2.2.1.trans hr.1.1.1.1
  have hn7 : tN (s 0 16) ≤ 700 := by have := hr.1.1.1.2; omega
  have h17 := hr.2.2.2.1.trans hr.1.1.2.1.1
  have han : tN (s 0 17) ≤ tN (s 0 16) := by have := hr.1.1.2.1.2; omega
  have h0 := hr.2.1
  have hkd := hr.2.2.2.2.2.1
  have h18 := hr.2.2.2.2.1
  have h00 : s0 0 21 = 0 := by rw [hs0, st1_nj (by decide)] at h0; exact h0
  have hm0 : s0 3 18 = nI m := by rw [hs0, st1_ne (by decide)] at hm; exact hm
  have hB0 : s0 3 10 = nI B := by rw [hs0, st1_ne (by decide)] at hB; exact hB
  have h180 : s 0 18 = s0 0 18 := by rw [hs0, st1_nj (by decide)]
  refine s_aload_n E dX6_block_0 (i := 0) (j := 0) rfl rfl ?_
  refine s_aload_n E dX6_block_1 (i := 0) (j := 0) rfl rfl ?_
  refine twX6_gR_1 E dX6_block_2 ?_
  refine twX6_gV_5 E (v := nI m) ((congrFun (hr.2.2.2.2.2.2.1 3 (Or.inl rfl)) 18).trans hm) dX6_block_5 ?_
  refine s_bipush E dX6_block_8 (v := nI 6) (by decide) ?_
  have J18 : Sm pP l eE { frames := 8, cells := 5, slots := 40, locals := 174 } sS mM aA bB hM cC QQ AA D 2 0 0 (rw ad ra ct ξ σ (tW ra ct n σ)) 18 [(0, .ref (ra 0))] [.int (bI (m < 6)), .ref (ra 0)] := by
    refine s_iconst E dX6_block_18 (v := nI 2) (by decide) ?_
    refine cx_gov E (rVX E (cutS _ _) (x6z_must (m < 6) (nI 2)) K_X6_96 (Nat.le_of_ble_eq_true rfl) (Nat.le_of_ble_eq_true rfl) (by show _ ≤ 5; omega) (by show _ ≤ 40; omega) 0 rfl rfl rfl rfl (Nat.le_of_ble_eq_true rfl) dX6_block_19) (fun qX hX => ?_) (fun w19 h19 => ?_)
    · exact Tt qX ((bk_6 h00 (by rw [hm0, show m = 6 by omega])).2.2) (congrArg (fun z => xtW ad ct ξ ++ [z]) (by rw [(bk_6 h00 (by rw [hm0, show m = 6 by omega])).1, (bk_6 h00 (by rw [hm0, show m = 6 by omega])).2.1, h18, h180])) (by show _ ≤ 5; omega) (by show _ ≤ 40; omega) E.2.2.2.2.2.1
    obtain ⟨hm5, rfl⟩ := h19
    have hm6n : ¬ s0 3 18 = nI 6 := fun z => by rw [hm0] at z; have := (nI_eq (by omega) (by omega)).mp z; omega
    have e1 : bl1 s0 = tokS s := by rw [bl1_of h00 hm6n, ← hs0]
    have e10 : bl1 s0 3 10 = nI B := by rw [e1, tokS_r (by decide)]; exact hB
    refine s_aload_n E dX6_block_22 (i := 0) (j := 0) rfl rfl ?_
    refine c_gov0 E (rV E (cutS _ _) (x6z_take (s 1) (tN (s 0 16)) (tN (s 0 17)) (hb) (hz) (hn7) (h17) (han)) K_X6_29 (Nat.le_of_ble_eq_true rfl) (Nat.le_of_ble_eq_true rfl) (by show _ ≤ 5; omega) (by show _ ≤ 40; omega) 0 rfl rfl rfl rfl (Nat.le_of_ble_eq_true rfl) dX6_block_23) (fun w23 h23 => ?_)
    subst h23
    refine s_ws (ws2 := rw ad ra ct ξ (setT σ (tokX (s 1) (tN (s 0 16)) (tN (s 0 17)) (σ 0 20))) (tW ra ct n (setT σ (tokX (s 1) (tN (s 0 16)) (tN (s 0 17)) (σ 0 20))))) (congrArg (rw ad ra ct ξ _) (tW_rf RF.set)) ?_
    obtain ⟨w1, hw1⟩ : ∃ z, z = setT σ (tokX (s 1) (tN (s 0 16)) (tN (s 0 17)) (σ 0 20)) := ⟨_, rfl⟩
    have hr1 : RL (tokS s) w1 := by rw [hw1]; exact hr.tok
    have hf1 : RF σ w1 := by rw [hw1]; exact RF.set
    have hk1 := hr1.2.2.2.2.2.1
    have hb1 : BT ξ (tokS s 1) := by rw [tokS_r (by decide)]; exact hb
    refine s_ws (ws2 := rw ad ra ct ξ w1 (tW ra ct n w1)) (congrArg (fun z => rw ad ra ct ξ z (tW ra ct n z)) (show _ = _ from by rw [hw1])) ?_
    refine s_aload_n E dX6_block_26 (i := 0) (j := 0) rfl rfl ?_
    refine s_iconst E dX6_block_27 (v := nI 1) (by decide) ?_
    refine s_aload_n E dX6_block_28 (i := 0) (j := 0) rfl rfl ?_
    refine twX6_gR_1 E dX6_block_29 ?_
    refine twX6_gV_6 E (v := nI B) (by rw [hr1.2.2.2.2.2.2.1 3 (Or.inl rfl), tokS_r (by decide)]; exact hB) dX6_block_32 ?_
    refine cx_goi E (rVX E (cutS _ _) (x6z_number (tokS s) 1 B (hb1) (hr1) (by decide) (by omega)) K_X6_129 (Nat.le_of_ble_eq_true rfl) (Nat.le_of_ble_eq_true rfl) (by show _ ≤ 5; omega) (by show _ ≤ 40; omega) 0 rfl rfl rfl rfl (Nat.le_of_ble_eq_true rfl) dX6_block_35) (fun qX hX => ?_) (fun r35 w35 h35 => ?_)
    · exact Tt qX (by rw [bk_2 (by unfold bl2; rw [e10, e1]; exact hX)]; unfold bl2; rw [e10, e1]; exact hX) (congrArg (fun z => xtW ad ct ξ ++ [z]) (by rw [bk_2 (by unfold bl2; rw [e10, e1]; exact hX)]; unfold bl2; rw [e10, e1])) (by show _ ≤ 5; omega) (by show _ ≤ 40; omega) E.2.2.2.2.2.1
    obtain ⟨hN1, e35, hr2, hf2⟩ := h35
    subst e35
    have e2 : bl2 s0 = (numS (nI 1) (nI B) (tokS s)) := by unfold bl2; rw [e10, e1]
    obtain ⟨hA1, hA2, hA3⟩ := blA_of (s := s0) (by rw [hB0]; exact In.of (by omega) (by decide)) (by rw [hB0, tN_nI (by omega)]; exact hB1)
    rw [e10, e1] at hA1
    rw [hB0, tN_nI (by omega)] at hA2
    have e20 : bl2 s0 3 10 = nI B := by rw [e2, numS_r (by decide), tokS_r (by decide)]; exact hB
    refine s_ws (ws2 := rw ad ra ct ξ w35 (tW ra ct n w35)) (congrArg (rw ad ra ct ξ _) (tW_rf hf2)) ?_
    refine s_top (v2 := nI (blA s0)) (hA1) ?_
    refine s_istore_n E (L2 := [(1, .int (nI (blA s0))), (0, .ref (ra 0))]) dX6_block_38 rfl (Nat.le_of_ble_eq_true rfl) rfl ?_
    refine s_aload_n E dX6_block_39 (i := 0) (j := 1) rfl rfl ?_
    refine twX6_gR_1 E dX6_block_40 ?_
    refine twX6_gV_1 E dX6_block_43 ?_
    refine s_iconst E dX6_block_46 (v := nI 2) (by decide) ?_
    refine s_aload_n E dX6_block_47 (i := 0) (j := 1) rfl rfl ?_
    refine twX6_gR_1 E dX6_block_48 ?_
    refine twX6_gV_5 E (v := nI m) (by rw [hr2.2.2.2.2.2.2.1 3 (Or.inl rfl), numS_r (by decide), tokS_r (by decide)]; exact hm) dX6_block_51 ?_
    refine s_imul_ E dX6_block_54 (v := nI (2 * m)) (pk_mul _ _) ?_
    refine s_iload_n E dX6_block_55 (i := 1) (j := 0) rfl rfl ?_
    refine tw_sB E (2 * m) (rfl) (by omega) dX6_block_56 ?_
    refine s_aload_n E dX6_block_57 (i := 0) (j := 1) rfl rfl ?_
    refine twX6_gR_1 E dX6_block_58 ?_
    refine twX6_gV_1 E dX6_block_61 ?_
    refine s_iconst E dX6_block_64 (v := nI 2) (by decide) ?_
    refine s_aload_n E dX6_block_65 (i := 0) (j := 1) rfl rfl ?_
    refine twX6_gR_1 E dX6_block_66 ?_
    refine twX6_gV_5 E (v := nI m) (by rw [st1_ne (by decide), hr2.2.2.2.2.2.2.1 3 (Or.inl rfl), numS_r (by decide), tokS_r (by decide)]; exact hm) dX6_block_69 ?_
    refine s_imul_ E dX6_block_72 (v := nI (2 * m)) (pk_mul _ _) ?_
    refine s_iconst E dX6_block_73 (v := nI 1) (by decide) ?_
    refine s_iadd_ E dX6_block_74 (v := nI ((2 * m) + 1)) (nI_add _ _) ?_
    refine s_aload_n E dX6_block_75 (i := 0) (j := 1) rfl rfl ?_
    refine s_iload_n E dX6_block_76 (i := 1) (j := 0) rfl rfl ?_
    refine s_aload_n E dX6_block_77 (i := 0) (j := 1) rfl rfl ?_
    refine twX6_gR_1 E dX6_block_78 ?_
    refine twX6_gV_6 E (v := nI B) (by rw [st1_ne (by decide), hr2.2.2.2.2.2.2.1 3 (Or.inl rfl), numS_r (by decide), tokS_r (by decide)]; exact hB) dX6_block_81 ?_
    refine cx_goi E (rVX E (cutS _ _) (x6z_number (numS (nI 1) (nI B) (tokS s)) (blA s0) B (by rw [numS_r (by decide)]; exact hb1) (hr2.st31) (by omega) (by omega)) K_X6_129 (Nat.le_of_ble_eq_true rfl) (Nat.le_of_ble_eq_true rfl) (by show _ ≤ 5; omega) (by show _ ≤ 40; omega) 0 rfl rfl rfl rfl (Nat.le_of_ble_eq_true rfl) dX6_block_84) (fun qX hX => ?_) (fun r84 w84 h84 => ?_)
    · exact Tt qX (by rw [bk_3 (by unfold bl3; rw [e20, e2]; exact hX)]; unfold bl3; rw [e20, e2]; exact hX) (congrArg (fun z => xtW ad ct ξ ++ [z]) (by rw [bk_3 (by unfold bl3; rw [e20, e2]; exact hX)]; unfold bl3; rw [e20, e2])) (by show _ ≤ 5; omega) (by show _ ≤ 40; omega) E.2.2.2.2.2.1
    obtain ⟨hN2, e84, hr3, hf3⟩ := h84
    subst e84
    have e3 : bl3 s0 = numS (nI (blA s0)) (nI B) (numS (nI 1) (nI B) (tokS s)) := by unfold bl3; rw [e20, e2]
    obtain ⟨hC1, hC2, hC3⟩ := blB_of (s := s0) (by rw [hB0]; exact In.of (by omega) (by decide)) (by rw [hB0, tN_nI (by omega)]; exact hB1)
    rw [e20, e2] at hC1
    rw [← e3] at hr3 hN2
    refine s_ws (ws2 := rw ad ra ct ξ w84 (tW ra ct n w84)) (congrArg (rw ad ra ct ξ _) (tW_rf hf3)) ?_
    refine s_top (v2 := nI (blB s0)) (hC1) ?_
    refine tw_sB E ((2 * m) + 1) (rfl) (by omega) dX6_block_87 ?_
    refine s_aload_n E dX6_block_88 (i := 0) (j := 1) rfl rfl ?_
    refine twX6_gR_1 E dX6_block_89 ?_
    refine s_dup E dX6_block_92 rfl ?_
    refine twX6_gV_5 E (v := bl3 s0 3 18) (by rw [st1_ne (by decide), hr3.2.2.2.2.2.2.1 3 (Or.inl rfl)]) dX6_block_93 ?_
    refine s_iconst E dX6_block_96 (v := nI 1) (by decide) ?_
    refine s_iadd E dX6_block_97 ?_
    refine twX6_pV_5 E dX6_block_98 ?_
    exact Rt (st1 (st1 w84 31 ((2 * m) + 1) (nI (blB s0))) 3 18 ((bl3 s0 3 18) + (nI 1))) dX6_block_101 (⟨by rw [bk_ok hN2]; exact hN2, by rw [bk_ok hN2]; exact (hr3.st31.up13).put (Or.inl rfl), by rw [st1_ne (by decide)]; show upd (w84 31) _ _ = _; rw [hf3.1 31 (by decide)]; show upd (upd (w35 31) _ _) _ _ = _; rw [hf2.1 31 (by decide), hf1.1 31 (by decide)], by rw [st1_ne (by decide), st1_ne (by decide), hf3.2 30 (by decide), st1_ne (by decide), hf2.2 30 (by decide), hf1.2 30 (by decide)]⟩) rfl (by first | exact Nat.le_refl _ | omega) (by first | exact Nat.le_refl _ | omega) E.2.2.2.2.2.1
  refine s_icmp_ge E dX6_block_10 (tgt := 17) rfl (fun c10 => ?_) (fun c10 => ?_)
  · have c10 : ¬ m < 6 := fun h => absurd c10 (Int32.not_le.mpr ((nI_ltI (a := m) (b := 6) (by omega) (by omega)).mpr h))
    refine s_iconst E dX6_block_17 (v := nI 0) (by decide) ?_
    refine s_top (v2 := bI (m < 6)) ((bI_f (show ¬ m < 6 by omega)).symm) ?_
    exact J18
  · have c10 : m < 6 := (nI_ltI (a := m) (b := 6) (by omega) (by omega)).mp (Int32.not_le.mp c10)
    refine s_iconst E dX6_block_13 (v := nI 1) (by decide) ?_
    refine s_goto E dX6_block_14 (tgt := 18) rfl ?_
    refine s_top (v2 := bI (m < 6)) ((bI_t (show m < 6 by omega)).symm) ?_
    exact J18
