set_option maxRecDepth 100000
theorem x8z_init {l : Launch} {D : va_G} {gt : Nat → Nat} {ct : Nat → ClassId} {q : Nat} {v1 v2 v3 v4 v5 : Int32} : Cv l D gt yX8_init cX8_init 6 1 20 0 0 [.ref q, .int v1, .int v2, .int v3, .int v4, .int v5] [(q, .inr (7, [.int 0, .int 0, .int 0, .int 0, .int 0, .int 0, .int 0]))] (tysA ct) (fun _ : Unit => True) (fun _ => [(q, .inr (7, [.int v1, .int v2, .int v3, .int v4, .int v5, .int 0, .int 0]))]) (fun _ => tysA ct) := by
  refine Cv.startI RX8 (by decide) rfl rfl (Nat.le_of_ble_eq_true rfl) rfl ?_
  intro pP eE sS mM aA bB hM cC QQ AA E hN Rt
  refine s_aload_n E dX8_init_0 (i := 0) (j := 0) rfl rfl ?_
  refine s_oinit E q715 (Nat.le_of_ble_eq_true rfl) (Nat.le_of_ble_eq_true rfl) (Nat.le_of_ble_eq_true rfl) dX8_init_1 ?_
  refine s_aload_n E dX8_init_4 (i := 0) (j := 0) rfl rfl ?_
  refine s_iload_n E dX8_init_5 (i := 1) (j := 1) rfl rfl ?_
  refine s_putF E hN in_X8 tyX8 tyX8_ok nmX8 0 rfl rfl 0 (Nat.le_of_ble_eq_true rfl) q716 rfl rfl rfl rfl rfl (Nat.le_of_ble_eq_true rfl) (ws2 := [(q, .inr (7, [.int v1, .int 0, .int 0, .int 0, .int 0, .int 0, .int 0]))]) rfl dX8_init_6 ?_
  refine s_aload_n E dX8_init_9 (i := 0) (j := 0) rfl rfl ?_
  refine s_iload_n E dX8_init_10 (i := 2) (j := 2) rfl rfl ?_
  refine s_putF E hN in_X8 tyX8 tyX8_ok nmX8 0 rfl rfl 1 (Nat.le_of_ble_eq_true rfl) q718 rfl rfl rfl rfl rfl (Nat.le_of_ble_eq_true rfl) (ws2 := [(q, .inr (7, [.int v1, .int v2, .int 0, .int 0, .int 0, .int 0, .int 0]))]) rfl dX8_init_11 ?_
  refine s_aload_n E dX8_init_14 (i := 0) (j := 0) rfl rfl ?_
  refine s_iload_n E dX8_init_15 (i := 3) (j := 3) rfl rfl ?_
  refine s_putF E hN in_X8 tyX8 tyX8_ok nmX8 0 rfl rfl 2 (Nat.le_of_ble_eq_true rfl) q721 rfl rfl rfl rfl rfl (Nat.le_of_ble_eq_true rfl) (ws2 := [(q, .inr (7, [.int v1, .int v2, .int v3, .int 0, .int 0, .int 0, .int 0]))]) rfl dX8_init_16 ?_
  refine s_aload_n E dX8_init_19 (i := 0) (j := 0) rfl rfl ?_
  refine s_iload E dX8_init_20 (i := 4) (j := 4) rfl ?_
  refine s_putF E hN in_X8 tyX8 tyX8_ok nmX8 0 rfl rfl 3 (Nat.le_of_ble_eq_true rfl) q723 rfl rfl rfl rfl rfl (Nat.le_of_ble_eq_true rfl) (ws2 := [(q, .inr (7, [.int v1, .int v2, .int v3, .int v4, .int 0, .int 0, .int 0]))]) rfl dX8_init_22 ?_
  refine s_aload_n E dX8_init_25 (i := 0) (j := 0) rfl rfl ?_
  refine s_iload E dX8_init_26 (i := 5) (j := 5) rfl ?_
  refine s_putF E hN in_X8 tyX8 tyX8_ok nmX8 0 rfl rfl 4 (Nat.le_of_ble_eq_true rfl) q726 rfl rfl rfl rfl rfl (Nat.le_of_ble_eq_true rfl) (ws2 := [(q, .inr (7, [.int v1, .int v2, .int v3, .int v4, .int v5, .int 0, .int 0]))]) rfl dX8_init_28 ?_
  exact Rt () dX8_init_31 trivial rfl (Nat.le_of_ble_eq_true rfl) (Nat.le_of_ble_eq_true rfl) E.2.2.2.2.2.1
