set_option maxRecDepth 100000
set_option maxHeartbeats 1000000 in
theorem j6z_init_2 {l : Launch} {D : va_G} {gt : Nat → Nat} {ct : Nat → ClassId} {q : Nat} : Cv l D gt yJ6_init_2 cJ6_init_2 5 1 20 0 0 [.ref q, .null, .null, .int (nI 0), .int (nI 0)] [(q, .inr (6, [.null, .null, .null, .null, .null, .int 0, .int 0, .int 0]))] (tysA ct) (fun _ : Unit => True) (fun _ => [(q, .inr (6, [.null, .null, .null, .null, .null, .int 0, .int 0, .int 0]))]) (fun _ => tysA ct) := by
  refine Cv.startI RJ6 (by decide) rfl rfl (Nat.le_of_ble_eq_true rfl) rfl ?_
  intro pP eE sS mM aA bB hM cC QQ AA E hN Rt
  obtain ⟨v1, hv1, hc1⟩ := zq_v E.2.2.2.2.2.2.1.1.2.2.2.2.2.2.2.1
  obtain ⟨v2, hv2, hc2⟩ := zq_v E.2.2.2.2.2.2.1.1.2.2.2.2.2.2.2.2
  have hn1 : narrow (tyX7 1) v1 = v1 := by rcases hc1 with rfl | ⟨t, rfl⟩ <;> rfl
  have hf1 : fits (tyX7 1) v1 = true := by rcases hc1 with rfl | ⟨t, rfl⟩ <;> rfl
  have hn2 : narrow (tyX7 2) v2 = v2 := by rcases hc2 with rfl | ⟨t, rfl⟩ <;> rfl
  have hf2 : fits (tyX7 2) v2 = true := by rcases hc2 with rfl | ⟨t, rfl⟩ <;> rfl
  refine s_aload_n E dJ6_init_2_0 (i := 0) (j := 0) rfl rfl ?_
  refine s_oinit E q647 (Nat.le_of_ble_eq_true rfl) (Nat.le_of_ble_eq_true rfl) (Nat.le_of_ble_eq_true rfl) dJ6_init_2_1 ?_
  refine s_aload_n E dJ6_init_2_4 (i := 0) (j := 0) rfl rfl ?_
  refine s_aload_n E dJ6_init_2_5 (i := 0) (j := 0) rfl rfl ?_
  refine s_put E in_X7 tyX7 tyX7_ok nmX7 0 rfl rfl 0 (Nat.le_of_ble_eq_true rfl) q679 rfl rfl rfl rfl (Nat.le_of_ble_eq_true rfl) (ws2 := [(q, .inr (6, [.ref q, .null, .null, .null, .null, .int 0, .int 0, .int 0]))]) rfl dJ6_init_2_6 ?_
  refine s_aload_n E dJ6_init_2_9 (i := 0) (j := 0) rfl rfl ?_
  refine s_getsT E hv1 q648 dJ6_init_2_10 ?_
  refine s_put E in_X7 tyX7 tyX7_ok nmX7 0 rfl rfl 1 (Nat.le_of_ble_eq_true rfl) q680 rfl rfl hn1 hf1 (Nat.le_of_ble_eq_true rfl) (ws2 := [(q, .inr (6, [.ref q, v1, .null, .null, .null, .int 0, .int 0, .int 0]))]) rfl dJ6_init_2_13 ?_
  refine s_aload_n E dJ6_init_2_16 (i := 0) (j := 0) rfl rfl ?_
  refine s_getsT E hv2 q650 dJ6_init_2_17 ?_
  refine s_put E in_X7 tyX7 tyX7_ok nmX7 0 rfl rfl 2 (Nat.le_of_ble_eq_true rfl) q681 rfl rfl hn2 hf2 (Nat.le_of_ble_eq_true rfl) (ws2 := [(q, .inr (6, [.ref q, v1, v2, .null, .null, .int 0, .int 0, .int 0]))]) rfl dJ6_init_2_20 ?_
  refine s_iload E dJ6_init_2_23 (i := 4) (j := 4) rfl ?_
  refine s_if_eq E dJ6_init_2_25 (tgt := 36) rfl (fun c25 => ?_) (fun c25 => absurd c25 (by decide))
  refine s_aload_n E dJ6_init_2_36 (i := 0) (j := 0) rfl rfl ?_
  refine s_null E dJ6_init_2_37 ?_
  refine s_put E in_X7 tyX7 tyX7_ok nmX7 0 rfl rfl 1 (Nat.le_of_ble_eq_true rfl) q680 rfl rfl rfl rfl (Nat.le_of_ble_eq_true rfl) (ws2 := [(q, .inr (6, [.ref q, .null, v2, .null, .null, .int 0, .int 0, .int 0]))]) rfl dJ6_init_2_38 ?_
  refine s_aload_n E dJ6_init_2_41 (i := 0) (j := 0) rfl rfl ?_
  refine s_aload_nN E dJ6_init_2_42 (i := 1) (j := 1) rfl rfl ?_
  refine s_put E in_X7 tyX7 tyX7_ok nmX7 0 rfl rfl 3 (Nat.le_of_ble_eq_true rfl) q678 rfl rfl rfl rfl (Nat.le_of_ble_eq_true rfl) (ws2 := [(q, .inr (6, [.ref q, .null, v2, .null, .null, .int 0, .int 0, .int 0]))]) rfl dJ6_init_2_43 ?_
  refine s_aload_n E dJ6_init_2_46 (i := 0) (j := 0) rfl rfl ?_
  refine s_aload_nN E dJ6_init_2_47 (i := 2) (j := 2) rfl rfl ?_
  refine s_put E in_X7 tyX7 tyX7_ok nmX7 0 rfl rfl 0 (Nat.le_of_ble_eq_true rfl) q679 rfl rfl rfl rfl (Nat.le_of_ble_eq_true rfl) (ws2 := [(q, .inr (6, [.null, .null, v2, .null, .null, .int 0, .int 0, .int 0]))]) rfl dJ6_init_2_48 ?_
  refine s_iload_n E dJ6_init_2_51 (i := 3) (j := 3) rfl rfl ?_
  refine s_if_ne E dJ6_init_2_52 (tgt := 60) rfl (fun c52 => absurd c52 (by decide)) (fun c52 => ?_)
  refine s_aload_n E dJ6_init_2_55 (i := 0) (j := 0) rfl rfl ?_
  refine s_null E dJ6_init_2_56 ?_
  refine s_put E in_X7 tyX7 tyX7_ok nmX7 0 rfl rfl 2 (Nat.le_of_ble_eq_true rfl) q681 rfl rfl rfl rfl (Nat.le_of_ble_eq_true rfl) (ws2 := [(q, .inr (6, [.null, .null, .null, .null, .null, .int 0, .int 0, .int 0]))]) rfl dJ6_init_2_57 ?_
  exact Rt () dJ6_init_2_60 trivial (by first | rfl | skip) (Nat.le_of_ble_eq_true rfl) (Nat.le_of_ble_eq_true rfl) E.2.2.2.2.2.1
set_option maxHeartbeats 1000000 in
theorem j7z_init {l : Launch} {D : va_G} {gt : Nat → Nat} {ct : Nat → ClassId} {q : Nat} : Cv l D gt yJ7_init cJ7_init 5 2 44 0 0 [.ref q, .null, .null, .int (nI 0), .int (nI 0)] [(q, .inr (6, [.null, .null, .null, .null, .null, .int 0, .int 0, .int 0]))] (tysA ct) (fun _ : Unit => True) (fun _ => [(q, .inr (6, [.null, .null, .null, .null, .null, .int 0, .int 0, .int 0]))]) (fun _ => tysA ct) := by
  refine Cv.startI RJ7 (by decide) rfl rfl (Nat.le_of_ble_eq_true rfl) rfl ?_
  intro pP eE sS mM aA bB hM cC QQ AA E hN Rt
  refine s_aload_n E dJ7_init_0 (i := 0) (j := 0) rfl rfl ?_
  refine s_aload_nN E dJ7_init_1 (i := 1) (j := 1) rfl rfl ?_
  refine s_aload_nN E dJ7_init_2 (i := 2) (j := 2) rfl rfl ?_
  refine s_iload_n E dJ7_init_3 (i := 3) (j := 3) rfl rfl ?_
  refine s_iload E dJ7_init_4 (i := 4) (j := 4) rfl ?_
  refine c_gov0 E (rI E (cutS _ _) j6z_init_2 (show KI RJ7 16 yJ6_init_2 cJ6_init_2 5 4 from ⟨q670, q671, q125, q672, rfl, by decide +kernel⟩) (Nat.le_of_ble_eq_true rfl) (Nat.le_of_ble_eq_true rfl) (Nat.zero_le _) (Nat.zero_le _) rfl rfl (Nat.le_of_ble_eq_true rfl) dJ7_init_6) (fun _ _ => ?_)
  exact Rt () dJ7_init_9 trivial (by first | rfl | skip) (Nat.le_of_ble_eq_true rfl) (Nat.le_of_ble_eq_true rfl) E.2.2.2.2.2.1
set_option maxHeartbeats 1000000 in
theorem x7z_init {l : Launch} {D : va_G} {gt : Nat → Nat} {ct : Nat → ClassId} {q : Nat} {a b : Int32} : Cv l D gt yX7_init cX7_init 3 3 68 0 0 [.ref q, .int a, .int b] [(q, .inr (6, [.null, .null, .null, .null, .null, .int 0, .int 0, .int 0]))] (tysA ct) (fun _ : Unit => True) (fun _ => [(q, .inr (6, [.null, .null, .null, .null, .null, .int 0, .int a, .int b]))]) (fun _ => tysA ct) := by
  refine Cv.startI RX7 (by decide) rfl rfl (Nat.le_of_ble_eq_true rfl) rfl ?_
  intro pP eE sS mM aA bB hM cC QQ AA E hN Rt
  refine s_aload_n E dX7_init_0 (i := 0) (j := 0) rfl rfl ?_
  refine s_null E dX7_init_1 ?_
  refine s_null E dX7_init_2 ?_
  refine s_iconst E dX7_init_3 (v := nI 0) (by decide) ?_
  refine s_iconst E dX7_init_4 (v := nI 0) (by decide) ?_
  refine c_gov0 E (rI E (cutS _ _) j7z_init (show KI RX7 1 yJ7_init cJ7_init 5 4 from ⟨q667, q668, q126, q669, rfl, by decide +kernel⟩) (Nat.le_of_ble_eq_true rfl) (Nat.le_of_ble_eq_true rfl) (Nat.zero_le _) (Nat.zero_le _) rfl rfl (Nat.le_of_ble_eq_true rfl) dX7_init_5) (fun _ _ => ?_)
  refine s_aload_n E dX7_init_8 (i := 0) (j := 0) rfl rfl ?_
  refine s_iload_n E dX7_init_9 (i := 1) (j := 1) rfl rfl ?_
  refine s_putF E hN in_X7 tyX7 tyX7_ok nmX7 0 rfl rfl 6 (Nat.le_of_ble_eq_true rfl) q673 rfl rfl rfl rfl rfl (Nat.le_of_ble_eq_true rfl) (ws2 := [(q, .inr (6, [.null, .null, .null, .null, .null, .int 0, .int a, .int 0]))]) rfl dX7_init_10 ?_
  refine s_aload_n E dX7_init_13 (i := 0) (j := 0) rfl rfl ?_
  refine s_iload_n E dX7_init_14 (i := 2) (j := 2) rfl rfl ?_
  refine s_putF E hN in_X7 tyX7 tyX7_ok nmX7 0 rfl rfl 7 (Nat.le_of_ble_eq_true rfl) q675 rfl rfl rfl rfl rfl (Nat.le_of_ble_eq_true rfl) (ws2 := [(q, .inr (6, [.null, .null, .null, .null, .null, .int 0, .int a, .int b]))]) rfl dX7_init_15 ?_
  exact Rt () dX7_init_18 trivial (by first | rfl | skip) (Nat.le_of_ble_eq_true rfl) (Nat.le_of_ble_eq_true rfl) E.2.2.2.2.2.1
