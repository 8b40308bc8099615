set_option maxRecDepth 100000
theorem K_X6_96 : KV RX6 96 RX6 yX6_must cX6_must 3 none 2 := ⟨q620, q622, qs7, q118, q623, by decide +kernel⟩
theorem K_X6_29 : KV RX6 29 RX6 yX6_take cX6_take 1 none 0 := ⟨q460, q462, qs1, q118, q463, by decide +kernel⟩
set_option maxHeartbeats 1000000 in
set_option maxRecDepth 100000 in
theorem x6z_number {l : Launch} {D : va_G} {gt : Nat → Nat} {ad ra : Nat → Nat} {ct : Nat → ClassId} {ξ σ : Nat → Nat → Int32} {T : va_W} (s : Nat → Nat → Int32) (lo hi : Nat) (hb : BT ξ (s 1)) (hr : RL s σ) (hlo : lo ≤ 99999) (hhi : hi ≤ 99999) : CtX l D gt yX6_number cX6_number 4 .int 7 151 2 16 [.ref (ra 0), .int (nI lo), .int (nI hi)] (rw ad ra ct ξ σ T) (tysA ct) (fun r σ2 => (numS (nI lo) (nI hi) s) 0 21 = 0 ∧ numV (nI lo) (nI hi) s = r ∧ RL (numS (nI lo) (nI hi) s) σ2 ∧ RF σ σ2) (fun σ2 : Nat → Nat → Int32 => rw ad ra ct ξ σ2 T) (fun _ => tysA ct) (fun _ : Nat => ¬ (numS (nI lo) (nI hi) s) 0 21 = 0) (fun q : Nat => xtW ad ct ξ ++ [faultC q ((numS (nI lo) (nI hi) s) 0 21) ((numS (nI lo) (nI hi) s) 0 22)]) (fun _ => tysA ct) (fun q => q) (fun _ => RX7) := by
  refine CtX.start RX6 (by decide) rfl (Nat.le_of_ble_eq_true rfl) rfl ?_
  intro pP eE sS mM aA bB hM cC QQ AA E Rt Tt
  have hz := hr.2.2.1.trans hr.1.1.1.1
  have hn7 : tN (s 0 16) ≤ 700 := by have := hr.1.1.1.2; omega
  have h17 := hr.2.2.2.1.trans hr.1.1.2.1.1
  have han : tN (s 0 17) ≤ tN (s 0 16) := by have := hr.1.1.2.1.2; omega
  have h0 := hr.2.1
  have hkd := hr.2.2.2.2.2.1
  have h18 := hr.2.2.2.2.1
  refine s_aload_n E dX6_number_0 (i := 0) (j := 0) rfl rfl ?_
  refine s_aload_n E dX6_number_1 (i := 0) (j := 0) rfl rfl ?_
  refine rwX6_gR_3 E (v := σ 0 19) (rfl) dX6_number_2 ?_
  refine s_iconst E dX6_number_5 (v := nI 3) (by decide) ?_
  have J14 : Sm pP l eE { frames := 7, cells := 2, slots := 16, locals := 151 } sS mM aA bB hM cC QQ AA D 4 0 0 (rw ad ra ct ξ σ T) 14 [(0, .ref (ra 0)), (1, .int (nI lo)), (2, .int (nI hi))] [.int (bI (s 0 19 = nI 2)), .ref (ra 0)] := by
    refine s_iconst E dX6_number_14 (v := nI 1) (by decide) ?_
    refine cx_gov E (rVX E (cutS _ _) (x6z_must (s 0 19 = nI 2) (nI 1)) K_X6_96 (Nat.le_of_ble_eq_true rfl) (Nat.le_of_ble_eq_true rfl) (by show _ ≤ 2; omega) (by show _ ≤ 16; omega) 0 rfl rfl rfl rfl (Nat.le_of_ble_eq_true rfl) dX6_number_15) (fun qX hX => ?_) (fun w15 h15 => ?_)
    · exact Tt qX (by rw [(num_1 h0 hX).1]; decide) (congrArg (fun z => xtW ad ct ξ ++ [z]) (by rw [(num_1 h0 hX).1, (num_1 h0 hX).2, h18])) (by show _ ≤ 2; omega) (by show _ ≤ 16; omega) E.2.2.2.2.2.1
    obtain ⟨hA, rfl⟩ := h15
    obtain ⟨j, hj, hv1, hw1⟩ := hkd.num hA
    refine s_aload_n E dX6_number_18 (i := 0) (j := 0) rfl rfl ?_
    refine s_aload_n E dX6_number_19 (i := 0) (j := 0) rfl rfl ?_
    refine rwX6_gR_4 E (v := σ 0 20) (rfl) dX6_number_20 ?_
    refine s_iload_n E dX6_number_23 (i := 1) (j := 1) rfl rfl ?_
    refine s_iload_n E dX6_number_24 (i := 2) (j := 2) rfl rfl ?_
    refine c_gos E (rSN E (cutZ _ _) (x1z_isIn (σ 0 20) (nI lo) (nI hi)) K_X6_40 (Nat.le_of_ble_eq_true rfl) (Nat.le_of_ble_eq_true rfl) (by show _ ≤ 2; omega) (by show _ ≤ 16; omega) rfl rfl (Nat.le_of_ble_eq_true rfl) dX6_number_25) (fun r25 h25 => ?_)
    subst h25
    refine s_top (v2 := bI (¬ s 0 20 < nI lo ∧ ¬ nI hi < s 0 20)) (bI_cg (by rw [hv1, hw1]; exact cap_rng hj hlo hhi)) ?_
    refine s_iconst E dX6_number_28 (v := nI 2) (by decide) ?_
    refine cx_gov E (rVX E (cutS _ _) (x6z_must (¬ s 0 20 < nI lo ∧ ¬ nI hi < s 0 20) (nI 2)) K_X6_96 (Nat.le_of_ble_eq_true rfl) (Nat.le_of_ble_eq_true rfl) (by show _ ≤ 2; omega) (by show _ ≤ 16; omega) 0 rfl rfl rfl rfl (Nat.le_of_ble_eq_true rfl) dX6_number_29) (fun qX hX => ?_) (fun w29 h29 => ?_)
    · exact Tt qX (by rw [(num_2 h0 hA hX).1]; decide) (congrArg (fun z => xtW ad ct ξ ++ [z]) (by rw [(num_2 h0 hA hX).1, (num_2 h0 hA hX).2, h18])) (by show _ ≤ 2; omega) (by show _ ≤ 16; omega) E.2.2.2.2.2.1
    obtain ⟨hC, rfl⟩ := h29
    refine s_aload_n E dX6_number_32 (i := 0) (j := 0) rfl rfl ?_
    refine rwX6_gR_4 E (v := s 0 20) (by rw [hw1, hv1, if_neg (cap_le hj hhi (by rw [← hv1]; exact hC.2))]) dX6_number_33 ?_
    refine s_istore_n E (L2 := [(3, .int (s 0 20)), (0, .ref (ra 0)), (1, .int (nI lo)), (2, .int (nI hi))]) dX6_number_36 rfl (Nat.le_of_ble_eq_true rfl) rfl ?_
    refine s_aload_n E dX6_number_37 (i := 0) (j := 1) rfl rfl ?_
    refine c_gov0 E (rV E (cutS _ _) (x6z_take (s 1) (tN (s 0 16)) (tN (s 0 17)) (hb) (hz) (hn7) (h17) (han)) K_X6_29 (Nat.le_of_ble_eq_true rfl) (Nat.le_of_ble_eq_true rfl) (by show _ ≤ 2; omega) (by show _ ≤ 16; omega) 0 rfl rfl rfl rfl (Nat.le_of_ble_eq_true rfl) dX6_number_38) (fun w38 h38 => ?_)
    subst h38
    refine s_iload_n E dX6_number_41 (i := 3) (j := 0) rfl rfl ?_
    exact Rt (s 0 20) (setT σ (tokX (s 1) (tN (s 0 16)) (tN (s 0 17)) (σ 0 20))) dX6_number_42 (⟨by rw [(num_ok h0 hA hC).1]; exact (hr.tok).2.1, (num_ok h0 hA hC).2, by rw [(num_ok h0 hA hC).1]; exact hr.tok, RF.set⟩) rfl (by first | exact Nat.le_refl _ | omega) (by first | exact Nat.le_refl _ | omega) rfl E.2.2.2.2.2.1
  refine s_icmp_ne E dX6_number_6 (tgt := 13) rfl (fun c6 => ?_) (fun c6 => ?_)
  · have c6 : ¬ s 0 19 = nI 2 := fun h => c6 (hkd.k3.1.mpr h)
    refine s_iconst E dX6_number_13 (v := nI 0) (by decide) ?_
    refine s_top (v2 := bI (s 0 19 = nI 2)) ((bI_f c6).symm) ?_
    exact J14
  · have c6 : s 0 19 = nI 2 := hkd.k3.1.mp c6
    refine s_iconst E dX6_number_9 (v := nI 1) (by decide) ?_
    refine s_goto E dX6_number_10 (tgt := 14) rfl ?_
    refine s_top (v2 := bI (s 0 19 = nI 2)) ((bI_t c6).symm) ?_
    exact J14
