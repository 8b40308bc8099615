set_option maxRecDepth 100000
theorem twX6_gV_3 {p : Program} {l : Launch} {e : Env} {R : Room} {s : State} {m : MethodId} {args : Array Value} {below : List Frame} {meth : Method} {c : Code} {Q : State → Prop} {A : Nat → Prop} {D : va_G} {nL cells slots : Nat} {pc : Nat} {L : List (Nat × Value)} {S : List Value} {cc : ByteArray} {ret : Option FieldType} {gt : Nat → Nat} {ad ra : Nat → Nat} {ct : Nat → ClassId} {n : Nat} {ξ σ : Nat → Nat → Int32} (E : En p s m args meth c A cc nL RX6 ret D (tysA ct) gt) (d : decode cc pc = .ok (.getfield 171, 3)) (K : Sm p l e R s m args below meth c Q A D nL cells slots (rw ad ra ct ξ σ (tW ra ct n σ)) (pc + 3) L (.ref (ra 5) :: S)) : Sm p l e R s m args below meth c Q A D nL cells slots (rw ad ra ct ξ σ (tW ra ct n σ)) pc L (.ref (ra 1) :: S) := s_getN E in_X2 3 rfl rfl 3 (Nat.le_of_ble_eq_true rfl) q166 rfl rfl d K
theorem tw_lK {p : Program} {l : Launch} {e : Env} {R : Room} {s : State} {m : MethodId} {args : Array Value} {below : List Frame} {meth : Method} {c : Code} {Q : State → Prop} {A : Nat → Prop} {D : va_G} {nL cells slots : Nat} {pc : Nat} {L : List (Nat × Value)} {S : List Value} {cc : ByteArray} {ret : Option FieldType} {gt : Nat → Nat} {ad ra : Nat → Nat} {ct : Nat → ClassId} {n : Nat} {ξ σ : Nat → Nat → Int32} {own : String} (E : En p s m args meth c A cc nL own ret D (tysA ct) gt) {i v : Int32} (N : Nat) (hi : i = nI N) (hN : N < 9) (hv : lkF σ N = v) (d : decode cc pc = .ok (.iaload, 1)) (K : Sm p l e R s m args below meth c Q A D nL cells slots (rw ad ra ct ξ σ (tW ra ct n σ)) (pc + 1) L (.int v :: S)) : Sm p l e R s m args below meth c Q A D nL cells slots (rw ad ra ct ξ σ (tW ra ct n σ)) pc L (.int i :: .ref (ra 5) :: S) := s_iald E 7 0 rfl rfl N hi hN (Nat.le_of_ble_eq_true rfl) hv d K
set_option maxHeartbeats 3000000 in
set_option maxRecDepth 100000 in
theorem x6z_link {l : Launch} {D : va_G} {gt : Nat → Nat} {ad ra : Nat → Nat} {ct : Nat → ClassId} {n : Nat} {ξ σ : Nat → Nat → Int32} (s : Nat → Nat → Int32) (hb : BT ξ (s 1)) (hr : RL s σ) (hn6 : n ≤ 6) (hn : s 3 17 = nI n) (hlk : ∀ j, j < 9 → s 12 (9 + j) = -2 ∨ ¬ s 12 (9 + j) < 0) : CvX l D gt yX6_link cX6_link 4 8 174 7 56 [.ref (ra 0)] (rw ad ra ct ξ σ (tW ra ct n σ)) (tysA ct) (fun σ2 => (readLinkS s) 0 21 = 0 ∧ RL (readLinkS s) σ2 ∧ σ2 31 = σ 31 ∧ σ2 0 30 = σ 0 30) (fun σ2 : Nat → Nat → Int32 => rw ad ra ct ξ σ2 (tW ra ct n σ2)) (fun _ => tysA ct) (fun _ : Nat => ¬ (readLinkS s) 0 21 = 0) (fun q : Nat => xtW ad ct ξ ++ [faultC q ((readLinkS s) 0 21) ((readLinkS s) 0 22)]) (fun _ => tysA ct) (fun q => q) (fun _ => RX7) := by
  refine CvX.start RX6 (by decide) rfl (Nat.le_of_ble_eq_true rfl) rfl ?_
  intro pP eE sS mM aA bB hM cC QQ AA E Rt Tt
  have hz := hr.2.2.1.trans hr.1.1.1.1
  have hn7 : tN (s 0 16) ≤ 700 := by have := hr.1.1.1.2; omega
  have h17 := hr.2.2.2.1.trans hr.1.1.2.1.1
  have han : tN (s 0 17) ≤ tN (s 0 16) := by have := hr.1.1.2.1.2; omega
  have h0 := hr.2.1
  have hkd := hr.2.2.2.2.2.1
  have h18 := hr.2.2.2.2.1
  obtain ⟨ha1, ha3⟩ := lkA_3 s
  rw [goOnS_0 h0] at ha1
  refine s_aload_n E dX6_link_0 (i := 0) (j := 0) rfl rfl ?_
  refine c_gov0 E (rV E (cutS _ _) (x6z_take (s 1) (tN (s 0 16)) (tN (s 0 17)) (hb) (hz) (hn7) (h17) (han)) K_X6_29 (Nat.le_of_ble_eq_true rfl) (Nat.le_of_ble_eq_true rfl) (Nat.zero_le _) (Nat.zero_le _) 0 rfl rfl rfl rfl (Nat.le_of_ble_eq_true rfl) dX6_link_1) (fun w1 h1 => ?_)
  subst h1
  refine s_ws (ws2 := rw ad ra ct ξ (setT σ (tokX (s 1) (tN (s 0 16)) (tN (s 0 17)) (σ 0 20))) (tW ra ct n (setT σ (tokX (s 1) (tN (s 0 16)) (tN (s 0 17)) (σ 0 20))))) (congrArg (rw ad ra ct ξ _) (tW_rf RF.set)) ?_
  obtain ⟨w1, hw1⟩ : ∃ z, z = setT σ (tokX (s 1) (tN (s 0 16)) (tN (s 0 17)) (σ 0 20)) := ⟨_, rfl⟩
  have hr1 : RL (tokS s) w1 := by rw [hw1]; exact hr.tok
  have hf1 : RF σ w1 := by rw [hw1]; exact RF.set
  have hk1 := hr1.2.2.2.2.2.1
  have hb1 : BT ξ (tokS s 1) := by rw [tokS_r (by decide)]; exact hb
  refine s_ws (ws2 := rw ad ra ct ξ w1 (tW ra ct n w1)) (congrArg (fun z => rw ad ra ct ξ z (tW ra ct n z)) (show _ = _ from by rw [hw1])) ?_
  refine s_aload_n E dX6_link_4 (i := 0) (j := 0) rfl rfl ?_
  refine s_iconst E dX6_link_5 (v := nI 0) (by decide) ?_
  refine s_iconst E dX6_link_6 (v := nI 2) (by decide) ?_
  refine cx_goi E (rVX E (cutS _ _) (x6z_number (tokS s) 0 2 (hb1) (hr1) (by decide) (by decide)) K_X6_129 (Nat.le_of_ble_eq_true rfl) (Nat.le_of_ble_eq_true rfl) (by show _ ≤ 7; omega) (by show _ ≤ 56; omega) 0 rfl rfl rfl rfl (Nat.le_of_ble_eq_true rfl) dX6_link_7) (fun qX hX => ?_) (fun r7 w7 h7 => ?_)
  · exact Tt qX (by rw [lkx_1 h0 hX]; exact hX) (congrArg (fun z => xtW ad ct ξ ++ [z]) (by rw [lkx_1 h0 hX])) (by show _ ≤ 7; omega) (by show _ ≤ 56; omega) E.2.2.2.2.2.1
  obtain ⟨hN7, e7, hr2, hf2⟩ := h7
  subst e7
  have hk2 := hr2.2.2.2.2.2.1
  refine s_ws (ws2 := rw ad ra ct ξ w7 (tW ra ct n w7)) (congrArg (rw ad ra ct ξ _) (tW_rf hf2)) ?_
  refine s_top (v2 := nI (lkA s)) (ha1) ?_
  refine s_istore_n E (L2 := [(1, .int (nI (lkA s))), (0, .ref (ra 0))]) dX6_link_10 rfl (Nat.le_of_ble_eq_true rfl) rfl ?_
  refine s_aload_n E dX6_link_11 (i := 0) (j := 1) rfl rfl ?_
  refine s_aload_n E dX6_link_12 (i := 0) (j := 1) rfl rfl ?_
  refine twX6_gR_3 E (v := w7 0 19) (rfl) dX6_link_13 ?_
  refine s_iconst E dX6_link_16 (v := nI 3) (by decide) ?_
  have J25 : Sm pP l eE { frames := 8, cells := 7, slots := 56, locals := 174 } sS mM aA bB hM cC QQ AA D 4 (0 + 2) (0 + 16) (rw ad ra ct ξ w7 (tW ra ct n w7)) 25 [(1, .int (nI (lkA s))), (0, .ref (ra 0))] [.int (bI ((numS (nI 0) (nI 2) (tokS s)) 0 19 = nI 2)), .ref (ra 0)] := by
    refine s_iconst E dX6_link_25 (v := nI 1) (by decide) ?_
    refine cx_gov E (rVX E (cutS _ _) (x6z_must ((numS (nI 0) (nI 2) (tokS s)) 0 19 = nI 2) (nI 1)) K_X6_96 (Nat.le_of_ble_eq_true rfl) (Nat.le_of_ble_eq_true rfl) (by show _ ≤ 7; omega) (by show _ ≤ 56; omega) 0 rfl rfl rfl rfl (Nat.le_of_ble_eq_true rfl) dX6_link_26) (fun qX hX => ?_) (fun w26 h26 => ?_)
    · exact Tt qX ((lkx_2 (lk2_of h0) hN7 hX).2.2) (congrArg (fun z => xtW ad ct ξ ++ [z]) (by rw [(lkx_2 (lk2_of h0) hN7 hX).1, (lkx_2 (lk2_of h0) hN7 hX).2.1, hr2.2.2.2.2.1])) (by show _ ≤ 7; omega) (by show _ ≤ 56; omega) E.2.2.2.2.2.1
    obtain ⟨hA, rfl⟩ := h26
    obtain ⟨j, hj, hv1, hw1⟩ := hk2.num hA
    refine s_aload_n E dX6_link_29 (i := 0) (j := 1) rfl rfl ?_
    refine s_aload_n E dX6_link_30 (i := 0) (j := 1) rfl rfl ?_
    refine twX6_gR_4 E (v := w7 0 20) (rfl) dX6_link_31 ?_
    refine s_iconst E dX6_link_34 (v := nI 0) (by decide) ?_
    refine s_iconst E dX6_link_35 (v := nI 2) (by decide) ?_
    refine c_gos E (rSN E (cutZ _ _) (x1z_isIn (w7 0 20) (nI 0) (nI 2)) K_X6_40 (Nat.le_of_ble_eq_true rfl) (Nat.le_of_ble_eq_true rfl) (by show _ ≤ 7; omega) (by show _ ≤ 56; omega) rfl rfl (Nat.le_of_ble_eq_true rfl) dX6_link_36) (fun r36 h36 => ?_)
    subst h36
    refine s_top (v2 := bI (¬ (numS (nI 0) (nI 2) (tokS s)) 0 20 < nI 0 ∧ ¬ nI 2 < (numS (nI 0) (nI 2) (tokS s)) 0 20)) (bI_cg (by rw [hv1, hw1]; exact cap_rng hj (by decide) (by decide))) ?_
    have J55 : Sm pP l eE { frames := 8, cells := 7, slots := 56, locals := 174 } sS mM aA bB hM cC QQ AA D 4 (0 + 2 + 1) (0 + 16 + 8) (rw ad ra ct ξ w7 (tW ra ct n w7)) 55 [(1, .int (nI (lkA s))), (0, .ref (ra 0))] [.int (bI (¬ (nI 2 < (numS (nI 0) (nI 2) (tokS s)) 0 20 ∨ (numS (nI 0) (nI 2) (tokS s)) 0 20 = nI (lkA s)))), .ref (ra 0)] := by
      refine s_iconst E dX6_link_55 (v := nI 2) (by decide) ?_
      refine cx_gov E (rVX E (cutS _ _) (x6z_must (¬ (nI 2 < (numS (nI 0) (nI 2) (tokS s)) 0 20 ∨ (numS (nI 0) (nI 2) (tokS s)) 0 20 = nI (lkA s))) (nI 2)) K_X6_96 (Nat.le_of_ble_eq_true rfl) (Nat.le_of_ble_eq_true rfl) (by show _ ≤ 7; omega) (by show _ ≤ 56; omega) 0 rfl rfl rfl rfl (Nat.le_of_ble_eq_true rfl) dX6_link_56) (fun qX hX => ?_) (fun w56 h56 => ?_)
      · exact Tt qX ((lkx_3 (lk3_of (lk2_of h0) hA) hN7 (Classical.not_not.mp hX)).2.2) (congrArg (fun z => xtW ad ct ξ ++ [z]) (by rw [(lkx_3 (lk3_of (lk2_of h0) hA) hN7 (Classical.not_not.mp hX)).1, (lkx_3 (lk3_of (lk2_of h0) hA) hN7 (Classical.not_not.mp hX)).2.1, hr2.2.2.2.2.1])) (by show _ ≤ 7; omega) (by show _ ≤ 56; omega) E.2.2.2.2.2.1
      obtain ⟨hC, rfl⟩ := h56
      have hB : lkB s = j := by rw [lkB_of (lk4_of (lk3_of (lk2_of h0) hA) hC) hN7, hv1, tN_nI (by omega)]
      have hj2 : ¬ 2 < j := fun z => hC (Or.inl (by rw [hv1]; exact (nI_ltI (by decide) (by omega)).mpr z))
      have hab : lkA s ≠ lkB s := fun z => hC (Or.inr (by rw [hv1, z, hB]))
      have hcell := lk_cell _ ha3 (lkB s) (by omega) hab
      have e12 : ∀ i, w7 12 i = s 12 i := fun i => by rw [hr2.2.2.2.2.2.2.1 12 (Or.inr (by omega)), numS_r (by decide), tokS_r (by decide)]
      have es2 : (numS (nI 0) (nI 2) (tokS s)) 12 = s 12 := by rw [numS_r (by decide), tokS_r (by decide)]
      refine s_aload_n E dX6_link_59 (i := 0) (j := 1) rfl rfl ?_
      refine twX6_gR_4 E (v := nI (lkB s)) (by rw [hw1, if_neg (by omega), hB]) dX6_link_60 ?_
      refine s_istore_n E (L2 := [(2, .int (nI (lkB s))), (1, .int (nI (lkA s))), (0, .ref (ra 0))]) dX6_link_63 rfl (Nat.le_of_ble_eq_true rfl) rfl ?_
      refine s_aload_n E dX6_link_64 (i := 0) (j := 2) rfl rfl ?_
      refine s_aload_n E dX6_link_65 (i := 0) (j := 2) rfl rfl ?_
      refine twX6_gR_1 E dX6_link_66 ?_
      refine twX6_gV_3 E dX6_link_69 ?_
      refine s_iconst E dX6_link_72 (v := nI 3) (by decide) ?_
      refine s_iload_n E dX6_link_73 (i := 1) (j := 1) rfl rfl ?_
      refine s_imul_ E dX6_link_74 (v := nI (3 * (lkA s))) (pk_mul _ _) ?_
      refine s_iload_n E dX6_link_75 (i := 2) (j := 0) rfl rfl ?_
      refine s_iadd_ E dX6_link_76 (v := nI ((3 * (lkA s)) + (lkB s))) (nI_add _ _) ?_
      refine tw_lK E (v := s 12 (9 + 3 * lkA s + lkB s)) (3 * lkA s + lkB s) (rfl) (hcell.1) (by rw [lkF_at hcell, e12, Nat.add_assoc]) dX6_link_77 ?_
      have J86 : Sm pP l eE { frames := 8, cells := 7, slots := 56, locals := 174 } sS mM aA bB hM cC QQ AA D 4 (0 + 2 + 1 + 1) (0 + 16 + 8 + 8) (rw ad ra ct ξ w7 (tW ra ct n w7)) 86 [(2, .int (nI (lkB s))), (1, .int (nI (lkA s))), (0, .ref (ra 0))] [.int (bI (s 12 (9 + 3 * lkA s + lkB s) = -2)), .ref (ra 0)] := by
        refine s_iconst E dX6_link_86 (v := nI 3) (by decide) ?_
        refine cx_gov E (rVX E (cutS _ _) (x6z_must (s 12 (9 + 3 * lkA s + lkB s) = -2) (nI 3)) K_X6_96 (Nat.le_of_ble_eq_true rfl) (Nat.le_of_ble_eq_true rfl) (by show _ ≤ 7; omega) (by show _ ≤ 56; omega) 0 rfl rfl rfl rfl (Nat.le_of_ble_eq_true rfl) dX6_link_87) (fun qX hX => ?_) (fun w87 h87 => ?_)
        · exact Tt qX ((lkx_4 (lk4_of (lk3_of (lk2_of h0) hA) hC) hN7 (by rw [es2]; exact hX)).2.2) (congrArg (fun z => xtW ad ct ξ ++ [z]) (by rw [(lkx_4 (lk4_of (lk3_of (lk2_of h0) hA) hC) hN7 (by rw [es2]; exact hX)).1, (lkx_4 (lk4_of (lk3_of (lk2_of h0) hA) hC) hN7 (by rw [es2]; exact hX)).2.1, hr2.2.2.2.2.1])) (by show _ ≤ 7; omega) (by show _ ≤ 56; omega) E.2.2.2.2.2.1
        obtain ⟨hZ0, rfl⟩ := h87
        have hZ : (numS (nI 0) (nI 2) (tokS s)) 12 (9 + 3 * lkA s + lkB s) = -2 := by rw [es2]; exact hZ0
        have hb2 : BT ξ ((numS (nI 0) (nI 2) (tokS s)) 1) := by rw [numS_r (by decide)]; exact hb1
        refine s_aload_n E dX6_link_90 (i := 0) (j := 2) rfl rfl ?_
        refine c_gov0 E (rV E (cutS _ _) (x6z_take ((numS (nI 0) (nI 2) (tokS s)) 1) (tN ((numS (nI 0) (nI 2) (tokS s)) 0 16)) (tN ((numS (nI 0) (nI 2) (tokS s)) 0 17)) (hb2) (hr2.2.2.1.trans hr2.1.1.1.1) (by have := hr2.1.1.1.2; omega) (hr2.2.2.2.1.trans hr2.1.1.2.1.1) (by have := hr2.1.1.2.1.2; omega)) K_X6_29 (Nat.le_of_ble_eq_true rfl) (Nat.le_of_ble_eq_true rfl) (by show _ ≤ 7; omega) (by show _ ≤ 56; omega) 0 rfl rfl rfl rfl (Nat.le_of_ble_eq_true rfl) dX6_link_91) (fun w91 h91 => ?_)
        subst h91
        refine s_ws (ws2 := rw ad ra ct ξ (setT w7 (tokX ((numS (nI 0) (nI 2) (tokS s)) 1) (tN ((numS (nI 0) (nI 2) (tokS s)) 0 16)) (tN ((numS (nI 0) (nI 2) (tokS s)) 0 17)) (w7 0 20))) (tW ra ct n (setT w7 (tokX ((numS (nI 0) (nI 2) (tokS s)) 1) (tN ((numS (nI 0) (nI 2) (tokS s)) 0 16)) (tN ((numS (nI 0) (nI 2) (tokS s)) 0 17)) (w7 0 20))))) (congrArg (rw ad ra ct ξ _) (tW_rf RF.set)) ?_
        obtain ⟨w2, hw2⟩ : ∃ z, z = setT w7 (tokX ((numS (nI 0) (nI 2) (tokS s)) 1) (tN ((numS (nI 0) (nI 2) (tokS s)) 0 16)) (tN ((numS (nI 0) (nI 2) (tokS s)) 0 17)) (w7 0 20)) := ⟨_, rfl⟩
        have hr3 : RL (tokS (numS (nI 0) (nI 2) (tokS s))) w2 := by rw [hw2]; exact hr2.tok
        have hf3 : RF w7 w2 := by rw [hw2]; exact RF.set
        have hb3 : BT ξ (tokS (numS (nI 0) (nI 2) (tokS s)) 1) := by rw [tokS_r (by decide)]; exact hb2
        refine s_ws (ws2 := rw ad ra ct ξ w2 (tW ra ct n w2)) (congrArg (fun z => rw ad ra ct ξ z (tW ra ct n z)) (show _ = _ from by rw [hw2])) ?_
        refine s_aload_n E dX6_link_94 (i := 0) (j := 2) rfl rfl ?_
        refine s_iconst E dX6_link_95 (v := nI 0) (by decide) ?_
        refine s_bipush E dX6_link_96 (v := nI 99) (by decide) ?_
        refine cx_goi E (rVX E (cutS _ _) (x6z_number (tokS (numS (nI 0) (nI 2) (tokS s))) 0 99 (hb3) (hr3) (by decide) (by decide)) K_X6_129 (Nat.le_of_ble_eq_true rfl) (Nat.le_of_ble_eq_true rfl) (by show _ ≤ 7; omega) (by show _ ≤ 56; omega) 0 rfl rfl rfl rfl (Nat.le_of_ble_eq_true rfl) dX6_link_98) (fun qX hX => ?_) (fun r98 w98 h98 => ?_)
        · exact Tt qX (by rw [lkx_5 (by rw [(lk7_of (lk4_of (lk3_of (lk2_of h0) hA) hC) hN7 hZ).1]; exact hX), (lk7_of (lk4_of (lk3_of (lk2_of h0) hA) hC) hN7 hZ).1]; exact hX) (congrArg (fun z => xtW ad ct ξ ++ [z]) (by rw [lkx_5 (by rw [(lk7_of (lk4_of (lk3_of (lk2_of h0) hA) hC) hN7 hZ).1]; exact hX), (lk7_of (lk4_of (lk3_of (lk2_of h0) hA) hC) hN7 hZ).1])) (by show _ ≤ 7; omega) (by show _ ≤ 56; omega) E.2.2.2.2.2.1
        obtain ⟨hN, e9, hr4, hf4⟩ := h98
        subst e9
        refine s_ws (ws2 := rw ad ra ct ξ w98 (tW ra ct n w98)) (congrArg (rw ad ra ct ξ _) (tW_rf hf4)) ?_
        refine s_istore_n E (L2 := [(3, .int (numV (nI 0) (nI 99) (tokS (numS (nI 0) (nI 2) (tokS s))))), (2, .int (nI (lkB s))), (1, .int (nI (lkA s))), (0, .ref (ra 0))]) dX6_link_101 rfl (Nat.le_of_ble_eq_true rfl) rfl ?_
        refine s_aload_n E dX6_link_102 (i := 0) (j := 3) rfl rfl ?_
        refine twX6_gR_1 E dX6_link_103 ?_
        refine twX6_gV_3 E dX6_link_106 ?_
        refine s_iconst E dX6_link_109 (v := nI 3) (by decide) ?_
        refine s_iload_n E dX6_link_110 (i := 1) (j := 2) rfl rfl ?_
        refine s_imul_ E dX6_link_111 (v := nI (3 * (lkA s))) (pk_mul _ _) ?_
        refine s_iload_n E dX6_link_112 (i := 2) (j := 1) rfl rfl ?_
        refine s_iadd_ E dX6_link_113 (v := nI ((3 * (lkA s)) + (lkB s))) (nI_add _ _) ?_
        refine s_iload_n E dX6_link_114 (i := 3) (j := 0) rfl rfl ?_
        refine s_iast E 7 0 rfl rfl (3 * lkA s + lkB s) rfl (by omega) (Nat.le_of_ble_eq_true rfl) (rt_lk (lk_cell _ (by omega) _ (by omega) (by omega))) dX6_link_115 ?_
        refine s_aload_n E dX6_link_116 (i := 0) (j := 3) rfl rfl ?_
        refine twX6_gR_1 E dX6_link_117 ?_
        refine twX6_gV_3 E dX6_link_120 ?_
        refine s_iconst E dX6_link_123 (v := nI 3) (by decide) ?_
        refine s_iload_n E dX6_link_124 (i := 2) (j := 1) rfl rfl ?_
        refine s_imul_ E dX6_link_125 (v := nI (3 * (lkB s))) (pk_mul _ _) ?_
        refine s_iload_n E dX6_link_126 (i := 1) (j := 2) rfl rfl ?_
        refine s_iadd_ E dX6_link_127 (v := nI ((3 * (lkB s)) + (lkA s))) (nI_add _ _) ?_
        refine s_iload_n E dX6_link_128 (i := 3) (j := 0) rfl rfl ?_
        refine s_iast E 7 0 rfl rfl (3 * lkB s + lkA s) rfl (by omega) (Nat.le_of_ble_eq_true rfl) (rt_lk (lk_cell _ (by omega) _ (by omega) (by omega))) dX6_link_129 ?_
        exact Rt (st1 (st1 w98 12 (9 + (3 * lkA s + lkB s)) (numV (nI 0) (nI 99) (tokS (numS (nI 0) (nI 2) (tokS s))))) 12 (9 + (3 * lkB s + lkA s)) (numV (nI 0) (nI 99) (tokS (numS (nI 0) (nI 2) (tokS s))))) dX6_link_130 (⟨by rw [lkx_ok (by rw [(lk7_of (lk4_of (lk3_of (lk2_of h0) hA) hC) hN7 hZ).1]; exact hN), st1_ne (by decide), st1_ne (by decide), (lk7_of (lk4_of (lk3_of (lk2_of h0) hA) hC) hN7 hZ).1]; exact hN, by rw [lkx_ok (by rw [(lk7_of (lk4_of (lk3_of (lk2_of h0) hA) hC) hN7 hZ).1]; exact hN), (lk7_of (lk4_of (lk3_of (lk2_of h0) hA) hC) hN7 hZ).1, (lk7_of (lk4_of (lk3_of (lk2_of h0) hA) hC) hN7 hZ).2, Nat.add_assoc, Nat.add_assoc]; exact (hr4.put (Or.inr (by omega))).put (Or.inr (by omega)), by rw [st1_ne (by decide), st1_ne (by decide), hf4.1 31 (by decide), hf3.1 31 (by decide), hf2.1 31 (by decide), hf1.1 31 (by decide)], by rw [st1_ne (by decide), st1_ne (by decide), hf4.2 30 (by decide), hf3.2 30 (by decide), hf2.2 30 (by decide), hf1.2 30 (by decide)]⟩) rfl (by first | exact Nat.le_refl _ | omega) (by first | exact Nat.le_refl _ | omega) E.2.2.2.2.2.1
      refine s_if_ge E dX6_link_78 (tgt := 85) rfl (fun c78 => ?_) (fun c78 => ?_)
      · have hl9 := hlk (3 * lkA s + lkB s) hcell.1
        rw [← Nat.add_assoc] at hl9
        have c78 : ¬ s 12 (9 + 3 * lkA s + lkB s) = -2 := fun h => by rw [h] at c78; exact absurd c78 (by decide)
        refine s_iconst E dX6_link_85 (v := nI 0) (by decide) ?_
        refine s_top (v2 := bI (s 12 (9 + 3 * lkA s + lkB s) = -2)) ((bI_f c78).symm) ?_
        exact J86
      · have hl9 := hlk (3 * lkA s + lkB s) hcell.1
        rw [← Nat.add_assoc] at hl9
        have c78 : s 12 (9 + 3 * lkA s + lkB s) = -2 := by rcases hl9 with h | h; exact h; exact absurd (Int32.not_lt.mp h) c78
        refine s_iconst E dX6_link_81 (v := nI 1) (by decide) ?_
        refine s_goto E dX6_link_82 (tgt := 86) rfl ?_
        refine s_top (v2 := bI (s 12 (9 + 3 * lkA s + lkB s) = -2)) ((bI_t c78).symm) ?_
        exact J86
    refine s_if_eq E dX6_link_39 (tgt := 54) rfl (fun c39 => ?_) (fun c39 => ?_)
    · have c39 := bI_0 c39
      refine s_iconst E dX6_link_54 (v := nI 0) (by decide) ?_
      refine s_top (v2 := bI (¬ (nI 2 < (numS (nI 0) (nI 2) (tokS s)) 0 20 ∨ (numS (nI 0) (nI 2) (tokS s)) 0 20 = nI (lkA s)))) ((bI_f (fun h => h (Or.inl (lk_gt hv1 hj c39)))).symm) ?_
      exact J55
    · have c39 := bI_n0 c39
      refine s_aload_n E dX6_link_42 (i := 0) (j := 1) rfl rfl ?_
      refine twX6_gR_4 E (v := (numS (nI 0) (nI 2) (tokS s)) 0 20) (by rw [hw1, hv1, if_neg (cap_le (hi := 2) hj (by decide) (by rw [← hv1]; exact c39.2))]) dX6_link_43 ?_
      refine s_iload_n E dX6_link_46 (i := 1) (j := 0) rfl rfl ?_
      refine s_icmp_eq E dX6_link_47 (tgt := 54) rfl (fun c47 => ?_) (fun c47 => ?_)
      · refine s_iconst E dX6_link_54 (v := nI 0) (by decide) ?_
        refine s_top (v2 := bI (¬ (nI 2 < (numS (nI 0) (nI 2) (tokS s)) 0 20 ∨ (numS (nI 0) (nI 2) (tokS s)) 0 20 = nI (lkA s)))) ((bI_f (fun h => h (Or.inr c47))).symm) ?_
        exact J55
      · refine s_iconst E dX6_link_50 (v := nI 1) (by decide) ?_
        refine s_goto E dX6_link_51 (tgt := 55) rfl ?_
        refine s_top (v2 := bI (¬ (nI 2 < (numS (nI 0) (nI 2) (tokS s)) 0 20 ∨ (numS (nI 0) (nI 2) (tokS s)) 0 20 = nI (lkA s)))) (by unfold bI; exact (if_pos (fun h => Or.elim h c39.2 c47)).symm) ?_
        exact J55
  refine s_icmp_ne E dX6_link_17 (tgt := 24) rfl (fun c17 => ?_) (fun c17 => ?_)
  · have c17 : ¬ (numS (nI 0) (nI 2) (tokS s)) 0 19 = nI 2 := fun h => c17 (hk2.k3.1.mpr h)
    refine s_iconst E dX6_link_24 (v := nI 0) (by decide) ?_
    refine s_top (v2 := bI ((numS (nI 0) (nI 2) (tokS s)) 0 19 = nI 2)) ((bI_f c17).symm) ?_
    exact J25
  · have c17 : (numS (nI 0) (nI 2) (tokS s)) 0 19 = nI 2 := hk2.k3.1.mp c17
    refine s_iconst E dX6_link_20 (v := nI 1) (by decide) ?_
    refine s_goto E dX6_link_21 (tgt := 25) rfl ?_
    refine s_top (v2 := bI ((numS (nI 0) (nI 2) (tokS s)) 0 19 = nI 2)) ((bI_t c17).symm) ?_
    exact J25
