set_option maxRecDepth 100000
set_option maxHeartbeats 1000000 in
set_option maxRecDepth 100000 in
theorem x6z_must {l : Launch} {D : va_G} {gt : Nat → Nat} {ad ra : Nat → Nat} {ct : Nat → ClassId} {ξ σ : Nat → Nat → Int32} {T : va_W} (P : Prop) [Decidable P] (v : Int32)  : CvX l D gt yX6_must cX6_must 3 4 90 1 8 [.ref (ra 0), .int (bI (P)), .int (v)] (rw ad ra ct ξ σ T) (tysA ct) (fun σ2 => P ∧ σ = σ2) (fun σ2 : Nat → Nat → Int32 => rw ad ra ct ξ σ2 T) (fun _ => tysA ct) (fun _ : Nat => ¬ P) (fun q : Nat => xtW ad ct ξ ++ [faultC q v (σ 0 18)]) (fun _ => tysA ct) (fun q => q) (fun _ => RX7) := by
  refine CvX.start RX6 (by decide) rfl (Nat.le_of_ble_eq_true rfl) rfl ?_
  intro pP eE sS mM aA bB hM cC QQ AA E Rt Tt
  refine s_iload_n E dX6_must_0 (i := 1) (j := 1) rfl rfl ?_
  refine s_if_ne E dX6_must_1 (tgt := 17) rfl (fun c1 => ?_) (fun c1 => ?_)
  · have c1 := bI_n0 c1
    exact Rt (σ) dX6_must_17 (⟨c1, rfl⟩) rfl (by first | exact Nat.le_refl _ | omega) (by first | exact Nat.le_refl _ | omega) E.2.2.2.2.2.1
  · have c1 := bI_0 c1
    refine s_new E in_X7 tyX7 tyX7_ok q624 q625 q127 (ci := 6) (fs := [.null, .null, .null, .null, .null, .int 0, .int 0, .int 0]) rfl df_X7 ((Nat.le_of_ble_eq_true rfl)) ((Nat.le_of_ble_eq_true rfl)) dX6_must_4 (fun q9 => ?_)
    refine s_ws (ws2 := rw ad ra ct ξ σ (T ++ [(q9, .inr (6, [.null, .null, .null, .null, .null, .int 0, .int 0, .int 0]))])) rw_snoc ?_
    refine s_dup E dX6_must_7 rfl ?_
    refine s_iload_n E dX6_must_8 (i := 2) (j := 2) rfl rfl ?_
    refine s_aload_n E dX6_must_9 (i := 0) (j := 0) rfl rfl ?_
    refine rwX6_gR_5 E (v := σ 0 18) (rfl) dX6_must_10 ?_
    refine p_gov (wc := [(q9, .inr (6, [.null, .null, .null, .null, .null, .int 0, .int 0, .int 0]))]) (wr := rw ad ra ct ξ σ T) (ws2 := fun _ => rw ad ra ct ξ σ T ++ [faultC q9 v (σ 0 18)]) E (tyc := tysA ct) (isT := ixT) rfl (by rw [← rw_snoc]; exact List.perm_append_comm) (rI E (cutP (tyc := tysA ct) (isT := ixT) rfl) (x7z_init (a := v) (b := σ 0 18)) (show KI RX6 93 yX7_init cX7_init 3 2 from ⟨q664, q665, q127, q666, rfl, by decide +kernel⟩) (Nat.le_of_ble_eq_true rfl) (Nat.le_of_ble_eq_true rfl) (by show _ ≤ 1; omega) (by show _ ≤ 8; omega) rfl rfl (Nat.le_of_ble_eq_true rfl) dX6_must_13) (fun _ => List.Perm.refl _) (fun _ _ _ => ?_)
    refine s_perm rw_out ?_
    refine s_athrow E (q0 := 2) rfl rfl dX6_must_16 ?_
    refine sx_drop ?_
    exact Tt q9 c1 rfl (by show _ ≤ 1; omega) (by show _ ≤ 8; omega) E.2.2.2.2.2.1
