set_option maxRecDepth 100000
set_option maxHeartbeats 4000000 in
theorem x2z_init {l : Launch} {D : va_G} {gt : Nat → Nat} {ct : Nat → ClassId} {σ : Nat → Nat → Int32} {t : Nat} (hTI : TI σ) : Cv l D gt yX2_init cX2_init 2 1 20 4 30 [.ref t] [(t, .inr (1, tdZ))] (tysA ct) (fun ra : Nat → Nat => ra 1 = t) (fun ra => tW ra ct 0 σ) (fun _ => tysA ct) := by
  refine Cv.startI RX2 (by decide) rfl rfl (Nat.le_of_ble_eq_true rfl) rfl ?_
  intro pP eE sS mM aA bB hM cC QQ AA E hN Rt
  refine s_ws (ws2 := [(t, .inr (1, [.null, .null, .null, .null, .int 0, .int 0, .int 0, .int 0, .int 0, .int 0, .int 0, .int 0, .int 0]))]) rfl ?_
  refine s_aload_n E dX2_init_0 (i := 0) (j := 0) rfl rfl ?_
  refine s_oinit E q149 (Nat.le_of_ble_eq_true rfl) (Nat.le_of_ble_eq_true rfl) (Nat.le_of_ble_eq_true rfl) dX2_init_1 ?_
  refine s_aload_n E dX2_init_4 (i := 0) (j := 0) rfl rfl ?_
  refine s_bipush E dX2_init_5 (v := (nI 6)) (by decide) ?_
  refine s_newqT E q150 E.2.2.2.2.2.2.1.2.2.2.2.1 3 rfl (N := 6) (by decide) (nI_clamp (by decide)) (by decide) (by show _ ≤ 4; omega) (by show _ ≤ 30; omega) dX2_init_7 (fun q1 => ?_)
  refine s_ws (ws2 := [(t, .inr (1, [.null, .null, .null, .null, .int 0, .int 0, .int 0, .int 0, .int 0, .int 0, .int 0, .int 0, .int 0])), (q1, .inl (ct 3, 6, .inr (.inr (.inr (.inr (fun _ => none))))))]) rfl ?_
  refine s_putF E hN in_X2 tyX2 tyX2_ok nmX2 0 rfl rfl 0 (Nat.le_of_ble_eq_true rfl) q152 rfl rfl rfl rfl rfl (Nat.le_of_ble_eq_true rfl) (ws2 := [(t, .inr (1, [.ref q1, .null, .null, .null, .int 0, .int 0, .int 0, .int 0, .int 0, .int 0, .int 0, .int 0, .int 0])), (q1, .inl (ct 3, 6, .inr (.inr (.inr (.inr (fun _ => none))))))]) rfl dX2_init_10 ?_
  refine s_aload_n E dX2_init_13 (i := 0) (j := 0) rfl rfl ?_
  refine s_bipush E dX2_init_14 (v := (nI 12)) (by decide) ?_
  refine s_newaT E (atype := .int) q225 rfl 0 rfl (N := 12) (a0 := (12, .inl (fun _ => 0))) (fun _ => rfl) (by decide) (nI_clamp (by decide)) (by decide) (by show _ ≤ 4; omega) (by show _ ≤ 30; omega) dX2_init_16 (fun q2 => ?_)
  refine s_ws (ws2 := [(t, .inr (1, [.ref q1, .null, .null, .null, .int 0, .int 0, .int 0, .int 0, .int 0, .int 0, .int 0, .int 0, .int 0])), (q1, .inl (ct 3, 6, .inr (.inr (.inr (.inr (fun _ => none)))))), (q2, .inl (ct 0, 12, .inl (fun _ => 0)))]) rfl ?_
  refine s_putF E hN in_X2 tyX2 tyX2_ok nmX2 0 rfl rfl 1 (Nat.le_of_ble_eq_true rfl) q158 rfl rfl rfl rfl rfl (Nat.le_of_ble_eq_true rfl) (ws2 := [(t, .inr (1, [.ref q1, .ref q2, .null, .null, .int 0, .int 0, .int 0, .int 0, .int 0, .int 0, .int 0, .int 0, .int 0])), (q1, .inl (ct 3, 6, .inr (.inr (.inr (.inr (fun _ => none)))))), (q2, .inl (ct 0, 12, .inl (fun _ => 0)))]) rfl dX2_init_18 ?_
  refine s_aload_n E dX2_init_21 (i := 0) (j := 0) rfl rfl ?_
  refine s_iconst E dX2_init_22 (v := (nI 3)) (by decide) ?_
  refine s_newaT E (atype := .int) q225 rfl 0 rfl (N := 3) (a0 := (3, .inl (fun _ => 0))) (fun _ => rfl) (by decide) (nI_clamp (by decide)) (by decide) (by show _ ≤ 4; omega) (by show _ ≤ 30; omega) dX2_init_23 (fun q3 => ?_)
  refine s_ws (ws2 := [(t, .inr (1, [.ref q1, .ref q2, .null, .null, .int 0, .int 0, .int 0, .int 0, .int 0, .int 0, .int 0, .int 0, .int 0])), (q1, .inl (ct 3, 6, .inr (.inr (.inr (.inr (fun _ => none)))))), (q2, .inl (ct 0, 12, .inl (fun _ => 0))), (q3, .inl (ct 0, 3, .inl (fun _ => 0)))]) rfl ?_
  refine s_putF E hN in_X2 tyX2 tyX2_ok nmX2 0 rfl rfl 2 (Nat.le_of_ble_eq_true rfl) q161 rfl rfl rfl rfl rfl (Nat.le_of_ble_eq_true rfl) (ws2 := [(t, .inr (1, [.ref q1, .ref q2, .ref q3, .null, .int 0, .int 0, .int 0, .int 0, .int 0, .int 0, .int 0, .int 0, .int 0])), (q1, .inl (ct 3, 6, .inr (.inr (.inr (.inr (fun _ => none)))))), (q2, .inl (ct 0, 12, .inl (fun _ => 0))), (q3, .inl (ct 0, 3, .inl (fun _ => 0)))]) rfl dX2_init_25 ?_
  refine s_aload_n E dX2_init_28 (i := 0) (j := 0) rfl rfl ?_
  refine s_bipush E dX2_init_29 (v := (nI 9)) (by decide) ?_
  refine s_newaT E (atype := .int) q225 rfl 0 rfl (N := 9) (a0 := (9, .inl (fun _ => 0))) (fun _ => rfl) (by decide) (nI_clamp (by decide)) (by decide) (by show _ ≤ 4; omega) (by show _ ≤ 30; omega) dX2_init_31 (fun q4 => ?_)
  refine s_ws (ws2 := [(t, .inr (1, [.ref q1, .ref q2, .ref q3, .null, .int 0, .int 0, .int 0, .int 0, .int 0, .int 0, .int 0, .int 0, .int 0])), (q1, .inl (ct 3, 6, .inr (.inr (.inr (.inr (fun _ => none)))))), (q2, .inl (ct 0, 12, .inl (fun _ => 0))), (q3, .inl (ct 0, 3, .inl (fun _ => 0))), (q4, .inl (ct 0, 9, .inl (fun _ => 0)))]) rfl ?_
  refine s_putF E hN in_X2 tyX2 tyX2_ok nmX2 0 rfl rfl 3 (Nat.le_of_ble_eq_true rfl) q164 rfl rfl rfl rfl rfl (Nat.le_of_ble_eq_true rfl) (ws2 := [(t, .inr (1, [.ref q1, .ref q2, .ref q3, .ref q4, .int 0, .int 0, .int 0, .int 0, .int 0, .int 0, .int 0, .int 0, .int 0])), (q1, .inl (ct 3, 6, .inr (.inr (.inr (.inr (fun _ => none)))))), (q2, .inl (ct 0, 12, .inl (fun _ => 0))), (q3, .inl (ct 0, 3, .inl (fun _ => 0))), (q4, .inl (ct 0, 9, .inl (fun _ => 0)))]) rfl dX2_init_33 ?_
  refine s_aload_n E dX2_init_36 (i := 0) (j := 0) rfl rfl ?_
  refine s_bipush E dX2_init_37 (v := (nI 30)) (by decide) ?_
  refine s_put E in_X2 tyX2 tyX2_ok nmX2 0 rfl rfl 6 (Nat.le_of_ble_eq_true rfl) q177 rfl rfl rfl rfl (Nat.le_of_ble_eq_true rfl) (ws2 := [(t, .inr (1, [.ref q1, .ref q2, .ref q3, .ref q4, .int 0, .int 0, .int (nI 30), .int 0, .int 0, .int 0, .int 0, .int 0, .int 0])), (q1, .inl (ct 3, 6, .inr (.inr (.inr (.inr (fun _ => none)))))), (q2, .inl (ct 0, 12, .inl (fun _ => 0))), (q3, .inl (ct 0, 3, .inl (fun _ => 0))), (q4, .inl (ct 0, 9, .inl (fun _ => 0)))]) rfl dX2_init_39 ?_
  refine s_aload_n E dX2_init_42 (i := 0) (j := 0) rfl rfl ?_
  refine s_iconst E dX2_init_43 (v := (nI 1)) (by decide) ?_
  refine s_put E in_X2 tyX2 tyX2_ok nmX2 0 rfl rfl 8 (Nat.le_of_ble_eq_true rfl) q184 rfl rfl rfl rfl (Nat.le_of_ble_eq_true rfl) (ws2 := [(t, .inr (1, [.ref q1, .ref q2, .ref q3, .ref q4, .int 0, .int 0, .int (nI 30), .int 0, .int (nI 1), .int 0, .int 0, .int 0, .int 0])), (q1, .inl (ct 3, 6, .inr (.inr (.inr (.inr (fun _ => none)))))), (q2, .inl (ct 0, 12, .inl (fun _ => 0))), (q3, .inl (ct 0, 3, .inl (fun _ => 0))), (q4, .inl (ct 0, 9, .inl (fun _ => 0)))]) rfl dX2_init_44 ?_
  refine s_aload_n E dX2_init_47 (i := 0) (j := 0) rfl rfl ?_
  refine s_iconst E dX2_init_48 (v := (nI 2)) (by decide) ?_
  refine s_put E in_X2 tyX2 tyX2_ok nmX2 0 rfl rfl 9 (Nat.le_of_ble_eq_true rfl) q188 rfl rfl rfl rfl (Nat.le_of_ble_eq_true rfl) (ws2 := [(t, .inr (1, [.ref q1, .ref q2, .ref q3, .ref q4, .int 0, .int 0, .int (nI 30), .int 0, .int (nI 1), .int (nI 2), .int 0, .int 0, .int 0])), (q1, .inl (ct 3, 6, .inr (.inr (.inr (.inr (fun _ => none)))))), (q2, .inl (ct 0, 12, .inl (fun _ => 0))), (q3, .inl (ct 0, 3, .inl (fun _ => 0))), (q4, .inl (ct 0, 9, .inl (fun _ => 0)))]) rfl dX2_init_49 ?_
  refine s_iconst E dX2_init_52 (v := (nI 0)) (by decide) ?_
  refine s_istore_n E (L2 := [(1, .int (nI 0)), (0, .ref t)]) dX2_init_53 rfl (Nat.le_of_ble_eq_true rfl) rfl ?_
  refine s_iload_n E dX2_init_54 (i := 1) (j := 0) rfl rfl ?_
  refine s_iconst E dX2_init_55 (v := (nI 3)) (by decide) ?_
  refine s_icmp_ge E dX2_init_56 (tgt := 74) rfl (fun c56 => absurd c56 (by decide)) (fun c56 => ?_)
  refine s_aload_n E dX2_init_59 (i := 0) (j := 1) rfl rfl ?_
  refine s_get E in_X2 0 rfl rfl 2 (Nat.le_of_ble_eq_true rfl) q161 rfl rfl dX2_init_60 ?_
  refine s_iload_n E dX2_init_63 (i := 1) (j := 0) rfl rfl ?_
  refine s_iconst E dX2_init_64 (v := (nI 5)) (by decide) ?_
  refine s_iload_n E dX2_init_65 (i := 1) (j := 0) rfl rfl ?_
  refine s_ishl E dX2_init_66 ?_
  refine s_top (v2 := (nI 5)) (by decide) ?_
  refine s_iast E 3 0 rfl rfl 0 rfl (by decide) (Nat.le_of_ble_eq_true rfl) (ws2 := [(t, .inr (1, [.ref q1, .ref q2, .ref q3, .ref q4, .int 0, .int 0, .int (nI 30), .int 0, .int (nI 1), .int (nI 2), .int 0, .int 0, .int 0])), (q1, .inl (ct 3, 6, .inr (.inr (.inr (.inr (fun _ => none)))))), (q2, .inl (ct 0, 12, .inl (fun _ => 0))), (q3, .inl (ct 0, 3, .inl (upd (fun _ => 0) 0 (nI 5)))), (q4, .inl (ct 0, 9, .inl (fun _ => 0)))]) rfl dX2_init_67 ?_
  refine s_iinc E (L2 := [(1, .int (nI 1)), (0, .ref t)]) dX2_init_68 (k := 0) rfl (v := (nI 1)) (by decide) (Nat.le_of_ble_eq_true rfl) rfl ?_
  refine s_goto E dX2_init_71 (tgt := 54) rfl ?_
  refine s_iload_n E dX2_init_54 (i := 1) (j := 0) rfl rfl ?_
  refine s_iconst E dX2_init_55 (v := (nI 3)) (by decide) ?_
  refine s_icmp_ge E dX2_init_56 (tgt := 74) rfl (fun c56 => absurd c56 (by decide)) (fun c56 => ?_)
  refine s_aload_n E dX2_init_59 (i := 0) (j := 1) rfl rfl ?_
  refine s_get E in_X2 0 rfl rfl 2 (Nat.le_of_ble_eq_true rfl) q161 rfl rfl dX2_init_60 ?_
  refine s_iload_n E dX2_init_63 (i := 1) (j := 0) rfl rfl ?_
  refine s_iconst E dX2_init_64 (v := (nI 5)) (by decide) ?_
  refine s_iload_n E dX2_init_65 (i := 1) (j := 0) rfl rfl ?_
  refine s_ishl E dX2_init_66 ?_
  refine s_top (v2 := (nI 10)) (by decide) ?_
  refine s_iast E 3 0 rfl rfl 1 rfl (by decide) (Nat.le_of_ble_eq_true rfl) (ws2 := [(t, .inr (1, [.ref q1, .ref q2, .ref q3, .ref q4, .int 0, .int 0, .int (nI 30), .int 0, .int (nI 1), .int (nI 2), .int 0, .int 0, .int 0])), (q1, .inl (ct 3, 6, .inr (.inr (.inr (.inr (fun _ => none)))))), (q2, .inl (ct 0, 12, .inl (fun _ => 0))), (q3, .inl (ct 0, 3, .inl (upd (upd (fun _ => 0) 0 (nI 5)) 1 (nI 10)))), (q4, .inl (ct 0, 9, .inl (fun _ => 0)))]) rfl dX2_init_67 ?_
  refine s_iinc E (L2 := [(1, .int (nI 2)), (0, .ref t)]) dX2_init_68 (k := 0) rfl (v := (nI 2)) (by decide) (Nat.le_of_ble_eq_true rfl) rfl ?_
  refine s_goto E dX2_init_71 (tgt := 54) rfl ?_
  refine s_iload_n E dX2_init_54 (i := 1) (j := 0) rfl rfl ?_
  refine s_iconst E dX2_init_55 (v := (nI 3)) (by decide) ?_
  refine s_icmp_ge E dX2_init_56 (tgt := 74) rfl (fun c56 => absurd c56 (by decide)) (fun c56 => ?_)
  refine s_aload_n E dX2_init_59 (i := 0) (j := 1) rfl rfl ?_
  refine s_get E in_X2 0 rfl rfl 2 (Nat.le_of_ble_eq_true rfl) q161 rfl rfl dX2_init_60 ?_
  refine s_iload_n E dX2_init_63 (i := 1) (j := 0) rfl rfl ?_
  refine s_iconst E dX2_init_64 (v := (nI 5)) (by decide) ?_
  refine s_iload_n E dX2_init_65 (i := 1) (j := 0) rfl rfl ?_
  refine s_ishl E dX2_init_66 ?_
  refine s_top (v2 := (nI 20)) (by decide) ?_
  refine s_iast E 3 0 rfl rfl 2 rfl (by decide) (Nat.le_of_ble_eq_true rfl) (ws2 := [(t, .inr (1, [.ref q1, .ref q2, .ref q3, .ref q4, .int 0, .int 0, .int (nI 30), .int 0, .int (nI 1), .int (nI 2), .int 0, .int 0, .int 0])), (q1, .inl (ct 3, 6, .inr (.inr (.inr (.inr (fun _ => none)))))), (q2, .inl (ct 0, 12, .inl (fun _ => 0))), (q3, .inl (ct 0, 3, .inl (upd (upd (upd (fun _ => 0) 0 (nI 5)) 1 (nI 10)) 2 (nI 20)))), (q4, .inl (ct 0, 9, .inl (fun _ => 0)))]) rfl dX2_init_67 ?_
  refine s_iinc E (L2 := [(1, .int (nI 3)), (0, .ref t)]) dX2_init_68 (k := 0) rfl (v := (nI 3)) (by decide) (Nat.le_of_ble_eq_true rfl) rfl ?_
  refine s_goto E dX2_init_71 (tgt := 54) rfl ?_
  refine s_iload_n E dX2_init_54 (i := 1) (j := 0) rfl rfl ?_
  refine s_iconst E dX2_init_55 (v := (nI 3)) (by decide) ?_
  refine s_icmp_ge E dX2_init_56 (tgt := 74) rfl (fun c56 => ?_) (fun c56 => absurd c56 (by decide))
  refine s_iconst E dX2_init_74 (v := (nI 0)) (by decide) ?_
  refine s_istore_n E (L2 := [(1, .int (nI 0)), (0, .ref t)]) dX2_init_75 rfl (Nat.le_of_ble_eq_true rfl) rfl ?_
  refine s_iload_n E dX2_init_76 (i := 1) (j := 0) rfl rfl ?_
  refine s_bipush E dX2_init_77 (v := (nI 9)) (by decide) ?_
  refine s_icmp_ge E dX2_init_79 (tgt := 106) rfl (fun c79 => absurd c79 (by decide)) (fun c79 => ?_)
  refine s_aload_n E dX2_init_82 (i := 0) (j := 1) rfl rfl ?_
  refine s_get E in_X2 0 rfl rfl 3 (Nat.le_of_ble_eq_true rfl) q164 rfl rfl dX2_init_83 ?_
  refine s_iload_n E dX2_init_86 (i := 1) (j := 0) rfl rfl ?_
  refine s_iload_n E dX2_init_87 (i := 1) (j := 0) rfl rfl ?_
  refine s_iconst E dX2_init_88 (v := (nI 4)) (by decide) ?_
  refine s_irem_ E dX2_init_89 (by decide) (v := (nI 0)) (by decide) ?_
  refine s_if_ne E dX2_init_90 (tgt := 97) rfl (fun c90 => absurd c90 (by decide)) (fun c90 => ?_)
  refine s_iconst E dX2_init_93 (v := (nI 0)) (by decide) ?_
  refine s_goto E dX2_init_94 (tgt := 99) rfl ?_
  refine s_iast E 4 0 rfl rfl 0 rfl (by decide) (Nat.le_of_ble_eq_true rfl) (ws2 := [(t, .inr (1, [.ref q1, .ref q2, .ref q3, .ref q4, .int 0, .int 0, .int (nI 30), .int 0, .int (nI 1), .int (nI 2), .int 0, .int 0, .int 0])), (q1, .inl (ct 3, 6, .inr (.inr (.inr (.inr (fun _ => none)))))), (q2, .inl (ct 0, 12, .inl (fun _ => 0))), (q3, .inl (ct 0, 3, .inl (upd (upd (upd (fun _ => 0) 0 (nI 5)) 1 (nI 10)) 2 (nI 20)))), (q4, .inl (ct 0, 9, .inl (upd (fun _ => 0) 0 (nI 0))))]) rfl dX2_init_99 ?_
  refine s_iinc E (L2 := [(1, .int (nI 1)), (0, .ref t)]) dX2_init_100 (k := 0) rfl (v := (nI 1)) (by decide) (Nat.le_of_ble_eq_true rfl) rfl ?_
  refine s_goto E dX2_init_103 (tgt := 76) rfl ?_
  refine s_iload_n E dX2_init_76 (i := 1) (j := 0) rfl rfl ?_
  refine s_bipush E dX2_init_77 (v := (nI 9)) (by decide) ?_
  refine s_icmp_ge E dX2_init_79 (tgt := 106) rfl (fun c79 => absurd c79 (by decide)) (fun c79 => ?_)
  refine s_aload_n E dX2_init_82 (i := 0) (j := 1) rfl rfl ?_
  refine s_get E in_X2 0 rfl rfl 3 (Nat.le_of_ble_eq_true rfl) q164 rfl rfl dX2_init_83 ?_
  refine s_iload_n E dX2_init_86 (i := 1) (j := 0) rfl rfl ?_
  refine s_iload_n E dX2_init_87 (i := 1) (j := 0) rfl rfl ?_
  refine s_iconst E dX2_init_88 (v := (nI 4)) (by decide) ?_
  refine s_irem_ E dX2_init_89 (by decide) (v := (nI 1)) (by decide) ?_
  refine s_if_ne E dX2_init_90 (tgt := 97) rfl (fun c90 => ?_) (fun c90 => absurd c90 (by decide))
  refine s_bipush E dX2_init_97 (v := ((-2))) (by decide) ?_
  refine s_iast E 4 0 rfl rfl 1 rfl (by decide) (Nat.le_of_ble_eq_true rfl) (ws2 := [(t, .inr (1, [.ref q1, .ref q2, .ref q3, .ref q4, .int 0, .int 0, .int (nI 30), .int 0, .int (nI 1), .int (nI 2), .int 0, .int 0, .int 0])), (q1, .inl (ct 3, 6, .inr (.inr (.inr (.inr (fun _ => none)))))), (q2, .inl (ct 0, 12, .inl (fun _ => 0))), (q3, .inl (ct 0, 3, .inl (upd (upd (upd (fun _ => 0) 0 (nI 5)) 1 (nI 10)) 2 (nI 20)))), (q4, .inl (ct 0, 9, .inl (upd (upd (fun _ => 0) 0 (nI 0)) 1 ((-2)))))]) rfl dX2_init_99 ?_
  refine s_iinc E (L2 := [(1, .int (nI 2)), (0, .ref t)]) dX2_init_100 (k := 0) rfl (v := (nI 2)) (by decide) (Nat.le_of_ble_eq_true rfl) rfl ?_
  refine s_goto E dX2_init_103 (tgt := 76) rfl ?_
  refine s_iload_n E dX2_init_76 (i := 1) (j := 0) rfl rfl ?_
  refine s_bipush E dX2_init_77 (v := (nI 9)) (by decide) ?_
  refine s_icmp_ge E dX2_init_79 (tgt := 106) rfl (fun c79 => absurd c79 (by decide)) (fun c79 => ?_)
  refine s_aload_n E dX2_init_82 (i := 0) (j := 1) rfl rfl ?_
  refine s_get E in_X2 0 rfl rfl 3 (Nat.le_of_ble_eq_true rfl) q164 rfl rfl dX2_init_83 ?_
  refine s_iload_n E dX2_init_86 (i := 1) (j := 0) rfl rfl ?_
  refine s_iload_n E dX2_init_87 (i := 1) (j := 0) rfl rfl ?_
  refine s_iconst E dX2_init_88 (v := (nI 4)) (by decide) ?_
  refine s_irem_ E dX2_init_89 (by decide) (v := (nI 2)) (by decide) ?_
  refine s_if_ne E dX2_init_90 (tgt := 97) rfl (fun c90 => ?_) (fun c90 => absurd c90 (by decide))
  refine s_bipush E dX2_init_97 (v := ((-2))) (by decide) ?_
  refine s_iast E 4 0 rfl rfl 2 rfl (by decide) (Nat.le_of_ble_eq_true rfl) (ws2 := [(t, .inr (1, [.ref q1, .ref q2, .ref q3, .ref q4, .int 0, .int 0, .int (nI 30), .int 0, .int (nI 1), .int (nI 2), .int 0, .int 0, .int 0])), (q1, .inl (ct 3, 6, .inr (.inr (.inr (.inr (fun _ => none)))))), (q2, .inl (ct 0, 12, .inl (fun _ => 0))), (q3, .inl (ct 0, 3, .inl (upd (upd (upd (fun _ => 0) 0 (nI 5)) 1 (nI 10)) 2 (nI 20)))), (q4, .inl (ct 0, 9, .inl (upd (upd (upd (fun _ => 0) 0 (nI 0)) 1 ((-2))) 2 ((-2)))))]) rfl dX2_init_99 ?_
  refine s_iinc E (L2 := [(1, .int (nI 3)), (0, .ref t)]) dX2_init_100 (k := 0) rfl (v := (nI 3)) (by decide) (Nat.le_of_ble_eq_true rfl) rfl ?_
  refine s_goto E dX2_init_103 (tgt := 76) rfl ?_
  refine s_iload_n E dX2_init_76 (i := 1) (j := 0) rfl rfl ?_
  refine s_bipush E dX2_init_77 (v := (nI 9)) (by decide) ?_
  refine s_icmp_ge E dX2_init_79 (tgt := 106) rfl (fun c79 => absurd c79 (by decide)) (fun c79 => ?_)
  refine s_aload_n E dX2_init_82 (i := 0) (j := 1) rfl rfl ?_
  refine s_get E in_X2 0 rfl rfl 3 (Nat.le_of_ble_eq_true rfl) q164 rfl rfl dX2_init_83 ?_
  refine s_iload_n E dX2_init_86 (i := 1) (j := 0) rfl rfl ?_
  refine s_iload_n E dX2_init_87 (i := 1) (j := 0) rfl rfl ?_
  refine s_iconst E dX2_init_88 (v := (nI 4)) (by decide) ?_
  refine s_irem_ E dX2_init_89 (by decide) (v := (nI 3)) (by decide) ?_
  refine s_if_ne E dX2_init_90 (tgt := 97) rfl (fun c90 => ?_) (fun c90 => absurd c90 (by decide))
  refine s_bipush E dX2_init_97 (v := ((-2))) (by decide) ?_
  refine s_iast E 4 0 rfl rfl 3 rfl (by decide) (Nat.le_of_ble_eq_true rfl) (ws2 := [(t, .inr (1, [.ref q1, .ref q2, .ref q3, .ref q4, .int 0, .int 0, .int (nI 30), .int 0, .int (nI 1), .int (nI 2), .int 0, .int 0, .int 0])), (q1, .inl (ct 3, 6, .inr (.inr (.inr (.inr (fun _ => none)))))), (q2, .inl (ct 0, 12, .inl (fun _ => 0))), (q3, .inl (ct 0, 3, .inl (upd (upd (upd (fun _ => 0) 0 (nI 5)) 1 (nI 10)) 2 (nI 20)))), (q4, .inl (ct 0, 9, .inl (upd (upd (upd (upd (fun _ => 0) 0 (nI 0)) 1 ((-2))) 2 ((-2))) 3 ((-2)))))]) rfl dX2_init_99 ?_
  refine s_iinc E (L2 := [(1, .int (nI 4)), (0, .ref t)]) dX2_init_100 (k := 0) rfl (v := (nI 4)) (by decide) (Nat.le_of_ble_eq_true rfl) rfl ?_
  refine s_goto E dX2_init_103 (tgt := 76) rfl ?_
  refine s_iload_n E dX2_init_76 (i := 1) (j := 0) rfl rfl ?_
  refine s_bipush E dX2_init_77 (v := (nI 9)) (by decide) ?_
  refine s_icmp_ge E dX2_init_79 (tgt := 106) rfl (fun c79 => absurd c79 (by decide)) (fun c79 => ?_)
  refine s_aload_n E dX2_init_82 (i := 0) (j := 1) rfl rfl ?_
  refine s_get E in_X2 0 rfl rfl 3 (Nat.le_of_ble_eq_true rfl) q164 rfl rfl dX2_init_83 ?_
  refine s_iload_n E dX2_init_86 (i := 1) (j := 0) rfl rfl ?_
  refine s_iload_n E dX2_init_87 (i := 1) (j := 0) rfl rfl ?_
  refine s_iconst E dX2_init_88 (v := (nI 4)) (by decide) ?_
  refine s_irem_ E dX2_init_89 (by decide) (v := (nI 0)) (by decide) ?_
  refine s_if_ne E dX2_init_90 (tgt := 97) rfl (fun c90 => absurd c90 (by decide)) (fun c90 => ?_)
  refine s_iconst E dX2_init_93 (v := (nI 0)) (by decide) ?_
  refine s_goto E dX2_init_94 (tgt := 99) rfl ?_
  refine s_iast E 4 0 rfl rfl 4 rfl (by decide) (Nat.le_of_ble_eq_true rfl) (ws2 := [(t, .inr (1, [.ref q1, .ref q2, .ref q3, .ref q4, .int 0, .int 0, .int (nI 30), .int 0, .int (nI 1), .int (nI 2), .int 0, .int 0, .int 0])), (q1, .inl (ct 3, 6, .inr (.inr (.inr (.inr (fun _ => none)))))), (q2, .inl (ct 0, 12, .inl (fun _ => 0))), (q3, .inl (ct 0, 3, .inl (upd (upd (upd (fun _ => 0) 0 (nI 5)) 1 (nI 10)) 2 (nI 20)))), (q4, .inl (ct 0, 9, .inl (upd (upd (upd (upd (upd (fun _ => 0) 0 (nI 0)) 1 ((-2))) 2 ((-2))) 3 ((-2))) 4 (nI 0))))]) rfl dX2_init_99 ?_
  refine s_iinc E (L2 := [(1, .int (nI 5)), (0, .ref t)]) dX2_init_100 (k := 0) rfl (v := (nI 5)) (by decide) (Nat.le_of_ble_eq_true rfl) rfl ?_
  refine s_goto E dX2_init_103 (tgt := 76) rfl ?_
  refine s_iload_n E dX2_init_76 (i := 1) (j := 0) rfl rfl ?_
  refine s_bipush E dX2_init_77 (v := (nI 9)) (by decide) ?_
  refine s_icmp_ge E dX2_init_79 (tgt := 106) rfl (fun c79 => absurd c79 (by decide)) (fun c79 => ?_)
  refine s_aload_n E dX2_init_82 (i := 0) (j := 1) rfl rfl ?_
  refine s_get E in_X2 0 rfl rfl 3 (Nat.le_of_ble_eq_true rfl) q164 rfl rfl dX2_init_83 ?_
  refine s_iload_n E dX2_init_86 (i := 1) (j := 0) rfl rfl ?_
  refine s_iload_n E dX2_init_87 (i := 1) (j := 0) rfl rfl ?_
  refine s_iconst E dX2_init_88 (v := (nI 4)) (by decide) ?_
  refine s_irem_ E dX2_init_89 (by decide) (v := (nI 1)) (by decide) ?_
  refine s_if_ne E dX2_init_90 (tgt := 97) rfl (fun c90 => ?_) (fun c90 => absurd c90 (by decide))
  refine s_bipush E dX2_init_97 (v := ((-2))) (by decide) ?_
  refine s_iast E 4 0 rfl rfl 5 rfl (by decide) (Nat.le_of_ble_eq_true rfl) (ws2 := [(t, .inr (1, [.ref q1, .ref q2, .ref q3, .ref q4, .int 0, .int 0, .int (nI 30), .int 0, .int (nI 1), .int (nI 2), .int 0, .int 0, .int 0])), (q1, .inl (ct 3, 6, .inr (.inr (.inr (.inr (fun _ => none)))))), (q2, .inl (ct 0, 12, .inl (fun _ => 0))), (q3, .inl (ct 0, 3, .inl (upd (upd (upd (fun _ => 0) 0 (nI 5)) 1 (nI 10)) 2 (nI 20)))), (q4, .inl (ct 0, 9, .inl (upd (upd (upd (upd (upd (upd (fun _ => 0) 0 (nI 0)) 1 ((-2))) 2 ((-2))) 3 ((-2))) 4 (nI 0)) 5 ((-2)))))]) rfl dX2_init_99 ?_
  refine s_iinc E (L2 := [(1, .int (nI 6)), (0, .ref t)]) dX2_init_100 (k := 0) rfl (v := (nI 6)) (by decide) (Nat.le_of_ble_eq_true rfl) rfl ?_
  refine s_goto E dX2_init_103 (tgt := 76) rfl ?_
  refine s_iload_n E dX2_init_76 (i := 1) (j := 0) rfl rfl ?_
  refine s_bipush E dX2_init_77 (v := (nI 9)) (by decide) ?_
  refine s_icmp_ge E dX2_init_79 (tgt := 106) rfl (fun c79 => absurd c79 (by decide)) (fun c79 => ?_)
  refine s_aload_n E dX2_init_82 (i := 0) (j := 1) rfl rfl ?_
  refine s_get E in_X2 0 rfl rfl 3 (Nat.le_of_ble_eq_true rfl) q164 rfl rfl dX2_init_83 ?_
  refine s_iload_n E dX2_init_86 (i := 1) (j := 0) rfl rfl ?_
  refine s_iload_n E dX2_init_87 (i := 1) (j := 0) rfl rfl ?_
  refine s_iconst E dX2_init_88 (v := (nI 4)) (by decide) ?_
  refine s_irem_ E dX2_init_89 (by decide) (v := (nI 2)) (by decide) ?_
  refine s_if_ne E dX2_init_90 (tgt := 97) rfl (fun c90 => ?_) (fun c90 => absurd c90 (by decide))
  refine s_bipush E dX2_init_97 (v := ((-2))) (by decide) ?_
  refine s_iast E 4 0 rfl rfl 6 rfl (by decide) (Nat.le_of_ble_eq_true rfl) (ws2 := [(t, .inr (1, [.ref q1, .ref q2, .ref q3, .ref q4, .int 0, .int 0, .int (nI 30), .int 0, .int (nI 1), .int (nI 2), .int 0, .int 0, .int 0])), (q1, .inl (ct 3, 6, .inr (.inr (.inr (.inr (fun _ => none)))))), (q2, .inl (ct 0, 12, .inl (fun _ => 0))), (q3, .inl (ct 0, 3, .inl (upd (upd (upd (fun _ => 0) 0 (nI 5)) 1 (nI 10)) 2 (nI 20)))), (q4, .inl (ct 0, 9, .inl (upd (upd (upd (upd (upd (upd (upd (fun _ => 0) 0 (nI 0)) 1 ((-2))) 2 ((-2))) 3 ((-2))) 4 (nI 0)) 5 ((-2))) 6 ((-2)))))]) rfl dX2_init_99 ?_
  refine s_iinc E (L2 := [(1, .int (nI 7)), (0, .ref t)]) dX2_init_100 (k := 0) rfl (v := (nI 7)) (by decide) (Nat.le_of_ble_eq_true rfl) rfl ?_
  refine s_goto E dX2_init_103 (tgt := 76) rfl ?_
  refine s_iload_n E dX2_init_76 (i := 1) (j := 0) rfl rfl ?_
  refine s_bipush E dX2_init_77 (v := (nI 9)) (by decide) ?_
  refine s_icmp_ge E dX2_init_79 (tgt := 106) rfl (fun c79 => absurd c79 (by decide)) (fun c79 => ?_)
  refine s_aload_n E dX2_init_82 (i := 0) (j := 1) rfl rfl ?_
  refine s_get E in_X2 0 rfl rfl 3 (Nat.le_of_ble_eq_true rfl) q164 rfl rfl dX2_init_83 ?_
  refine s_iload_n E dX2_init_86 (i := 1) (j := 0) rfl rfl ?_
  refine s_iload_n E dX2_init_87 (i := 1) (j := 0) rfl rfl ?_
  refine s_iconst E dX2_init_88 (v := (nI 4)) (by decide) ?_
  refine s_irem_ E dX2_init_89 (by decide) (v := (nI 3)) (by decide) ?_
  refine s_if_ne E dX2_init_90 (tgt := 97) rfl (fun c90 => ?_) (fun c90 => absurd c90 (by decide))
  refine s_bipush E dX2_init_97 (v := ((-2))) (by decide) ?_
  refine s_iast E 4 0 rfl rfl 7 rfl (by decide) (Nat.le_of_ble_eq_true rfl) (ws2 := [(t, .inr (1, [.ref q1, .ref q2, .ref q3, .ref q4, .int 0, .int 0, .int (nI 30), .int 0, .int (nI 1), .int (nI 2), .int 0, .int 0, .int 0])), (q1, .inl (ct 3, 6, .inr (.inr (.inr (.inr (fun _ => none)))))), (q2, .inl (ct 0, 12, .inl (fun _ => 0))), (q3, .inl (ct 0, 3, .inl (upd (upd (upd (fun _ => 0) 0 (nI 5)) 1 (nI 10)) 2 (nI 20)))), (q4, .inl (ct 0, 9, .inl (upd (upd (upd (upd (upd (upd (upd (upd (fun _ => 0) 0 (nI 0)) 1 ((-2))) 2 ((-2))) 3 ((-2))) 4 (nI 0)) 5 ((-2))) 6 ((-2))) 7 ((-2)))))]) rfl dX2_init_99 ?_
  refine s_iinc E (L2 := [(1, .int (nI 8)), (0, .ref t)]) dX2_init_100 (k := 0) rfl (v := (nI 8)) (by decide) (Nat.le_of_ble_eq_true rfl) rfl ?_
  refine s_goto E dX2_init_103 (tgt := 76) rfl ?_
  refine s_iload_n E dX2_init_76 (i := 1) (j := 0) rfl rfl ?_
  refine s_bipush E dX2_init_77 (v := (nI 9)) (by decide) ?_
  refine s_icmp_ge E dX2_init_79 (tgt := 106) rfl (fun c79 => absurd c79 (by decide)) (fun c79 => ?_)
  refine s_aload_n E dX2_init_82 (i := 0) (j := 1) rfl rfl ?_
  refine s_get E in_X2 0 rfl rfl 3 (Nat.le_of_ble_eq_true rfl) q164 rfl rfl dX2_init_83 ?_
  refine s_iload_n E dX2_init_86 (i := 1) (j := 0) rfl rfl ?_
  refine s_iload_n E dX2_init_87 (i := 1) (j := 0) rfl rfl ?_
  refine s_iconst E dX2_init_88 (v := (nI 4)) (by decide) ?_
  refine s_irem_ E dX2_init_89 (by decide) (v := (nI 0)) (by decide) ?_
  refine s_if_ne E dX2_init_90 (tgt := 97) rfl (fun c90 => absurd c90 (by decide)) (fun c90 => ?_)
  refine s_iconst E dX2_init_93 (v := (nI 0)) (by decide) ?_
  refine s_goto E dX2_init_94 (tgt := 99) rfl ?_
  refine s_iast E 4 0 rfl rfl 8 rfl (by decide) (Nat.le_of_ble_eq_true rfl) (ws2 := [(t, .inr (1, [.ref q1, .ref q2, .ref q3, .ref q4, .int 0, .int 0, .int (nI 30), .int 0, .int (nI 1), .int (nI 2), .int 0, .int 0, .int 0])), (q1, .inl (ct 3, 6, .inr (.inr (.inr (.inr (fun _ => none)))))), (q2, .inl (ct 0, 12, .inl (fun _ => 0))), (q3, .inl (ct 0, 3, .inl (upd (upd (upd (fun _ => 0) 0 (nI 5)) 1 (nI 10)) 2 (nI 20)))), (q4, .inl (ct 0, 9, .inl (upd (upd (upd (upd (upd (upd (upd (upd (upd (fun _ => 0) 0 (nI 0)) 1 ((-2))) 2 ((-2))) 3 ((-2))) 4 (nI 0)) 5 ((-2))) 6 ((-2))) 7 ((-2))) 8 (nI 0))))]) rfl dX2_init_99 ?_
  refine s_iinc E (L2 := [(1, .int (nI 9)), (0, .ref t)]) dX2_init_100 (k := 0) rfl (v := (nI 9)) (by decide) (Nat.le_of_ble_eq_true rfl) rfl ?_
  refine s_goto E dX2_init_103 (tgt := 76) rfl ?_
  refine s_iload_n E dX2_init_76 (i := 1) (j := 0) rfl rfl ?_
  refine s_bipush E dX2_init_77 (v := (nI 9)) (by decide) ?_
  refine s_icmp_ge E dX2_init_79 (tgt := 106) rfl (fun c79 => ?_) (fun c79 => absurd c79 (by decide))
  have hw := told_w (ra := fun k => [t, t, q1, q2, q3, q4].getD k 0) (ct := ct) hTI
  exact Rt (fun k => [t, t, q1, q2, q3, q4].getD k 0) dX2_init_106 rfl hw (Nat.le_of_ble_eq_true rfl) (Nat.le_of_ble_eq_true rfl) E.2.2.2.2.2.1
set_option maxHeartbeats 2000000 in
theorem x6z_init_2 {l : Launch} {D : va_G} {gt : Nat → Nat} {ad ra : Nat → Nat} {ct : Nat → ClassId} {ξ σ : Nat → Nat → Int32} {T : va_W} (t : Nat → Int32) (N : Nat) (hb : BT ξ t) (hN7 : N ≤ 700) (hRZ : RZ σ N) : Cv l D gt yX6_init_2 cX6_init_2 4 7 151 0 0 [.ref (ra 0), .ref (ad 0), .int (nI N), .ref (ra 1)] ((ra 0, .inr (5, rdZ)) :: (xtW ad ct ξ ++ T)) (tysA ct) (fun _ : Unit => True) (fun _ => rw ad ra ct ξ (setT σ (tokX t N 0 (σ 0 20))) T) (fun _ => tysA ct) := by
  refine Cv.startI RX6 (by decide) rfl rfl (Nat.le_of_ble_eq_true rfl) rfl ?_
  intro pP eE sS mM aA bB hM cC QQ AA E hN Rt
  refine s_ws (ws2 := (ra 0, .inr (5, [.int 0, .null, .int 0, .int 0, .int 0, .int 0, .int 0, .null])) :: (xtW ad ct ξ ++ T)) rfl ?_
  refine s_aload_n E dX6_init_2_0 (i := 0) (j := 0) rfl rfl ?_
  refine s_aload_n E dX6_init_2_1 (i := 1) (j := 1) rfl rfl ?_
  refine s_putF E hN in_X6 tyX6 tyX6_ok nmX6 0 rfl rfl 7 (Nat.le_of_ble_eq_true rfl) q598 rfl rfl rfl rfl rfl (Nat.le_of_ble_eq_true rfl) (ws2 := (ra 0, .inr (5, [.int 0, .null, .int 0, .int 0, .int 0, .int 0, .int 0, .ref (ad 0)])) :: (xtW ad ct ξ ++ T)) rfl dX6_init_2_2 ?_
  refine s_aload_n E dX6_init_2_5 (i := 0) (j := 0) rfl rfl ?_
  refine s_oinit E q459 (Nat.le_of_ble_eq_true rfl) (Nat.le_of_ble_eq_true rfl) (Nat.le_of_ble_eq_true rfl) dX6_init_2_6 ?_
  refine s_aload_n E dX6_init_2_9 (i := 0) (j := 0) rfl rfl ?_
  refine s_iload_n E dX6_init_2_10 (i := 2) (j := 2) rfl rfl ?_
  refine s_putF E hN in_X6 tyX6 tyX6_ok nmX6 0 rfl rfl 0 (Nat.le_of_ble_eq_true rfl) q591 rfl rfl rfl rfl rfl (Nat.le_of_ble_eq_true rfl) (ws2 := (ra 0, .inr (5, [.int (nI N), .null, .int 0, .int 0, .int 0, .int 0, .int 0, .ref (ad 0)])) :: (xtW ad ct ξ ++ T)) rfl dX6_init_2_11 ?_
  refine s_aload_n E dX6_init_2_14 (i := 0) (j := 0) rfl rfl ?_
  refine s_aload_n E dX6_init_2_15 (i := 3) (j := 3) rfl rfl ?_
  refine s_putF E hN in_X6 tyX6 tyX6_ok nmX6 0 rfl rfl 1 (Nat.le_of_ble_eq_true rfl) q592 rfl rfl rfl rfl rfl (Nat.le_of_ble_eq_true rfl) (ws2 := (ra 0, .inr (5, [.int (nI N), .ref (ra 1), .int 0, .int 0, .int 0, .int 0, .int 0, .ref (ad 0)])) :: (xtW ad ct ξ ++ T)) rfl dX6_init_2_16 ?_
  refine s_aload_n E dX6_init_2_19 (i := 0) (j := 0) rfl rfl ?_
  refine s_ws (rdr_w hRZ) ?_
  refine c_gov0 E (rV E (cutS _ _) (x6z_take t N 0 hb hRZ.1 hN7 hRZ.2.1 (Nat.zero_le _)) K_X6_29 (Nat.le_of_ble_eq_true rfl) (Nat.le_of_ble_eq_true rfl) (Nat.le_of_ble_eq_true rfl) (Nat.le_of_ble_eq_true rfl) 0 rfl rfl rfl rfl (Nat.le_of_ble_eq_true rfl) dX6_init_2_20) (fun w h => ?_)
  subst h
  exact Rt () dX6_init_2_23 trivial rfl (Nat.le_of_ble_eq_true rfl) (Nat.le_of_ble_eq_true rfl) E.2.2.2.2.2.1
set_option maxHeartbeats 2000000 in
theorem x6z_init {l : Launch} {D : va_G} {gt : Nat → Nat} {ad : Nat → Nat} {ct : Nat → ClassId} {ξ σ : Nat → Nat → Int32} {r0 : Nat} (t : Nat → Int32) (N : Nat) (hb : BT ξ t) (hN7 : N ≤ 700) (hRZ : RZ σ N) (hTI : TI σ) : Cv l D gt yX6_init cX6_init 3 8 174 5 43 [.ref r0, .ref (ad 0), .int (nI N)] ((r0, .inr (5, rdZ)) :: xtW ad ct ξ) (tysA ct) (fun ra : Nat → Nat => ra 0 = r0) (fun ra => rw ad ra ct ξ (setT σ (tokX t N 0 (σ 0 20))) (tW ra ct 0 (setT σ (tokX t N 0 (σ 0 20))))) (fun _ => tysA ct) := by
  refine Cv.startI RX6 (by decide) rfl rfl (Nat.le_of_ble_eq_true rfl) rfl ?_
  intro pP eE sS mM aA bB hM cC QQ AA E hN Rt
  refine s_aload_n E dX6_init_0 (i := 0) (j := 0) rfl rfl ?_
  refine s_aload_n E dX6_init_1 (i := 1) (j := 1) rfl rfl ?_
  refine s_iload_n E dX6_init_2 (i := 2) (j := 2) rfl rfl ?_
  refine s_new E in_X2 tyX2 tyX2_ok q454 q145 q114 (ci := 1) (fs := tdZ) rfl df_X2 (by show _ ≤ 5; omega) (by show _ ≤ 43; omega) dX6_init_3 (fun tq => ?_)
  refine s_dup E dX6_init_6 rfl ?_
  refine p_gov (wc := [(tq, .inr (1, tdZ))]) (wr := (r0, .inr (5, rdZ)) :: xtW ad ct ξ) (ws2 := fun ra => (r0, .inr (5, rdZ)) :: (xtW ad ct ξ ++ tW ra ct 0 σ)) E (tyc := tysA ct) (isT := ixT) rfl List.perm_append_comm (rIN E (cutP (tyc := tysA ct) (isT := ixT) rfl) (x2z_init hTI) (show KIN RX6 5 yX2_init "QuietChannels" cX2_init 2 0 from ⟨q455, q147, q114, q148, rfl, by decide +kernel⟩) (Nat.le_of_ble_eq_true rfl) (Nat.le_of_ble_eq_true rfl) (by show _ ≤ 5; omega) (by show _ ≤ 43; omega) rfl rfl (Nat.le_of_ble_eq_true rfl) dX6_init_7) (fun _ => List.Perm.refl _) (fun rb hrb _ => ?_)
  obtain ⟨ra, hra⟩ : ∃ z : Nat → Nat, z = fun k => if k = 0 then r0 else rb k := ⟨_, rfl⟩
  have h0 : r0 = ra 0 := by rw [hra]; rfl
  have h1 : tq = ra 1 := by rw [hra]; exact hrb.symm
  have hk : ∀ k, 1 ≤ k → rb k = ra k := fun k hk => by rw [hra]; exact (if_neg (by omega)).symm
  refine s_ws (ws2 := (ra 0, .inr (5, rdZ)) :: (xtW ad ct ξ ++ tW ra ct 0 σ)) (by rw [tW_ra0 hk, h0]) ?_
  rw [h0, h1]
  refine c_gov0 E (rI E (cutS _ _) (x6z_init_2 (ra := ra) (ad := ad) (T := tW ra ct 0 σ) t N hb hN7 hRZ) (show KI RX6 9 yX6_init_2 cX6_init_2 4 3 from ⟨q456, q457, q118, q458, rfl, by decide +kernel⟩) (Nat.le_of_ble_eq_true rfl) (Nat.le_of_ble_eq_true rfl) (by show _ ≤ 5; omega) (by show _ ≤ 43; omega) rfl rfl (Nat.le_of_ble_eq_true rfl) dX6_init_10) (fun _ _ => ?_)
  refine s_ws (ws2 := rw ad ra ct ξ (setT σ (tokX t N 0 (σ 0 20))) (tW ra ct 0 (setT σ (tokX t N 0 (σ 0 20))))) (congrArg (rw ad ra ct ξ _) (tW_rf RF.set)) ?_
  exact Rt ra dX6_init_13 h0.symm rfl (by show _ ≤ 5; omega) (by show _ ≤ 43; omega) E.2.2.2.2.2.1
