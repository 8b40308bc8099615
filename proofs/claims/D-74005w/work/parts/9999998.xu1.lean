set_option maxRecDepth 100000
set_option maxHeartbeats 2000000 in
set_option maxRecDepth 100000 in
theorem x1z_user {l : Launch} {D : va_G} {gt : Nat → Nat} {ad : Nat → Nat} {ct : Nat → ClassId} {n : Nat} {τ σ : Nat → Nat → Int32} {T : va_W} (hst : l.stackTraces = false) (u v : Int32) (hX : XT τ n) (hT : UT ad n τ T) (hP : PC (σ 1) n) : CtU l D gt yX1_user cX1_user 4 .int 7 90 1 6 [.ref (ad 0), .int (u), .int (v)] (iw ad ct n τ σ T) (tysA ct) (fun r σ2 => userF (vw τ (σ 1)) n u v = (nI 0, r) ∧ σ = σ2) (fun σ2 : Nat → Nat → Int32 => iw ad ct n τ σ2 T) (fun _ => tysA ct) (fun cls => (cls = "java/lang/IndexOutOfBoundsException" ∧ (userF (vw τ (σ 1)) n u v).1 = nI 1) ∨ (cls = "java/util/NoSuchElementException" ∧ (userF (vw τ (σ 1)) n u v).1 = nI 2)) (iw ad ct n τ σ T) := by
  refine CtU.start hst RX1 (by decide) rfl (Nat.le_of_ble_eq_true rfl) rfl ?_
  intro pP eE sS mM aA bB hM cC QQ AA E Rt Tt
  have hn6 := hX.2.1
  refine s_aload_n E dX1_user_0 (i := 0) (j := 0) rfl rfl ?_
  refine s_iload_n E dX1_user_1 (i := 1) (j := 1) rfl rfl ?_
  refine c_goi0 E (rV E (cutS _ _) (x1z_isUser u (hX)) K_X1_132 (Nat.le_of_ble_eq_true rfl) (Nat.le_of_ble_eq_true rfl) (Nat.zero_le _) (Nat.zero_le _) 0 rfl rfl rfl rfl (Nat.le_of_ble_eq_true rfl) dX1_user_2) (fun r2 w2 h2 => ?_)
  obtain ⟨rfl, rfl⟩ := h2
  refine s_if_ne E dX1_user_5 (tgt := 16) rfl (fun c5 => ?_) (fun c5 => ?_)
  · have c5 := bI_n0 c5
    obtain ⟨j, hj, rfl⟩ := us_isU c5 hn6
    refine s_aload_n E dX1_user_16 (i := 0) (j := 0) rfl rfl ?_
    refine iwX1_g0_4 E dX1_user_17 ?_
    refine iwX1_g2_0 E dX1_user_20 ?_
    refine s_iload_n E dX1_user_23 (i := 1) (j := 1) rfl rfl ?_
    refine iwX1_l3 E (j) (rfl) (by omega) hn6 dX1_user_24 ?_
    refine s_astore_n E (L2 := [(3, .ref (ad (100 + j))), (0, .ref (ad 0)), (1, .int (nI j)), (2, .int (v))]) dX1_user_25 rfl (Nat.le_of_ble_eq_true rfl) rfl ?_
    refine s_iload_n E dX1_user_26 (i := 2) (j := 3) rfl rfl ?_
    rcases sw_c (v) 7 (by decide) with ⟨j27, k27, rfl⟩ | c27
    · obtain rfl | rfl | rfl | rfl | rfl | rfl | rfl : j27 = 0 ∨ j27 = 1 ∨ j27 = 2 ∨ j27 = 3 ∨ j27 = 4 ∨ j27 = 5 ∨ j27 = 6 := by omega
      · refine s_tableIn E dX1_user_27 (off := 41) (tgt := 68) (by decide) (by decide) rfl rfl ?_
        refine s_aload_n E dX1_user_68 (i := 3) (j := 0) rfl rfl ?_
        refine iwX1_gu1 E (v := τ 6 j) (j) (by omega) hT (rfl) dX1_user_69 ?_
        exact Rt (τ 6 j) (σ) dX1_user_72 (⟨by unfold userF; rw [if_neg (by rw [c5]; decide), swt_in (by decide) (by decide), tN_nI (by omega)]; rfl, rfl⟩) rfl (by first | exact Nat.le_refl _ | omega) (by first | exact Nat.le_refl _ | omega) rfl E.2.2.2.2.2.1
      · refine s_tableIn E dX1_user_27 (off := 46) (tgt := 73) (by decide) (by decide) rfl rfl ?_
        refine s_aload_n E dX1_user_73 (i := 0) (j := 1) rfl rfl ?_
        refine iwX1_g0_5 E dX1_user_74 ?_
        refine iwX1_g7_1 E dX1_user_77 ?_
        refine s_iload_n E dX1_user_80 (i := 1) (j := 2) rfl rfl ?_
        refine iw_l9 E (v := σ 1 (6 + j)) (j) (rfl) (by omega) hn6 (rfl) dX1_user_81 ?_
        exact Rt (σ 1 (6 + j)) (σ) dX1_user_82 (⟨by unfold userF; rw [if_neg (by rw [c5]; decide), swt_in (by decide) (by decide), tN_nI (by omega)]; rfl, rfl⟩) rfl (by first | exact Nat.le_refl _ | omega) (by first | exact Nat.le_refl _ | omega) rfl E.2.2.2.2.2.1
      · refine s_tableIn E dX1_user_27 (off := 56) (tgt := 83) (by decide) (by decide) rfl rfl ?_
        refine s_aload_n E dX1_user_83 (i := 3) (j := 0) rfl rfl ?_
        refine iwX1_gu3 E (v := τ 8 j) (j) (by omega) hT (rfl) dX1_user_84 ?_
        exact Rt (τ 8 j) (σ) dX1_user_87 (⟨by unfold userF; rw [if_neg (by rw [c5]; decide), swt_in (by decide) (by decide), tN_nI (by omega)]; rfl, rfl⟩) rfl (by first | exact Nat.le_refl _ | omega) (by first | exact Nat.le_refl _ | omega) rfl E.2.2.2.2.2.1
      · refine s_tableIn E dX1_user_27 (off := 61) (tgt := 88) (by decide) (by decide) rfl rfl ?_
        refine s_aload_n E dX1_user_88 (i := 3) (j := 0) rfl rfl ?_
        refine iwX1_gu4 E (v := τ 9 j) (j) (by omega) hT (rfl) dX1_user_89 ?_
        exact Rt (τ 9 j) (σ) dX1_user_92 (⟨by unfold userF; rw [if_neg (by rw [c5]; decide), swt_in (by decide) (by decide), tN_nI (by omega)]; rfl, rfl⟩) rfl (by first | exact Nat.le_refl _ | omega) (by first | exact Nat.le_refl _ | omega) rfl E.2.2.2.2.2.1
      · refine s_tableIn E dX1_user_27 (off := 66) (tgt := 93) (by decide) (by decide) rfl rfl ?_
        refine s_aload_n E dX1_user_93 (i := 0) (j := 1) rfl rfl ?_
        refine iwX1_g0_5 E dX1_user_94 ?_
        refine iwX1_g7_0 E dX1_user_97 ?_
        refine s_iload_n E dX1_user_100 (i := 1) (j := 2) rfl rfl ?_
        refine iw_l8 E (v := σ 1 j) (j) (rfl) (by omega) hn6 (rfl) dX1_user_101 ?_
        exact Rt (σ 1 j) (σ) dX1_user_102 (⟨by unfold userF; rw [if_neg (by rw [c5]; decide), swt_in (by decide) (by decide), tN_nI (by omega)]; rfl, rfl⟩) rfl (by first | exact Nat.le_refl _ | omega) (by first | exact Nat.le_refl _ | omega) rfl E.2.2.2.2.2.1
      · refine s_tableIn E dX1_user_27 (off := 76) (tgt := 103) (by decide) (by decide) rfl rfl ?_
        refine s_aload_n E dX1_user_103 (i := 0) (j := 1) rfl rfl ?_
        refine s_aload_n E dX1_user_104 (i := 0) (j := 1) rfl rfl ?_
        refine iwX1_g0_5 E dX1_user_105 ?_
        refine s_iload_n E dX1_user_108 (i := 1) (j := 2) rfl rfl ?_
        refine c_goi0 E (rV E (cutS _ _) (x1z_isRight0 j (hX) (hT) (by omega) (hP)) K_X1_172 (Nat.le_of_ble_eq_true rfl) (Nat.le_of_ble_eq_true rfl) (Nat.zero_le _) (Nat.zero_le _) 0 rfl rfl rfl rfl (Nat.le_of_ble_eq_true rfl) dX1_user_109) (fun r109 w109 h109 => ?_)
        obtain ⟨rfl, rfl⟩ := h109
        refine s_if_eq E dX1_user_112 (tgt := 119) rfl (fun c112 => ?_) (fun c112 => ?_)
        · have c112 := bI_0 c112
          refine s_iconst E dX1_user_119 (v := nI 0) (by decide) ?_
          exact Rt (nI 0) (σ) dX1_user_120 (⟨by unfold userF; rw [if_neg (by rw [c5]; decide), swt_in (by decide) (by decide)]; show (nI 0, bI ((decide (0 < σ 1 (tN (nI j))) && rightB (vw τ (σ 1)) (tN (nI j))) = true)) = _; rw [tN_nI (by omega), bI_f (fun h => c112 ((us_right hX hP (by omega)).mp h))], rfl⟩) rfl (by first | exact Nat.le_refl _ | omega) (by first | exact Nat.le_refl _ | omega) rfl E.2.2.2.2.2.1
        · have c112 := bI_n0 c112
          refine s_iconst E dX1_user_115 (v := nI 1) (by decide) ?_
          refine s_goto E dX1_user_116 (tgt := 120) rfl ?_
          exact Rt (nI 1) (σ) dX1_user_120 (⟨by unfold userF; rw [if_neg (by rw [c5]; decide), swt_in (by decide) (by decide)]; show (nI 0, bI ((decide (0 < σ 1 (tN (nI j))) && rightB (vw τ (σ 1)) (tN (nI j))) = true)) = _; rw [tN_nI (by omega), bI_t ((us_right hX hP (by omega)).mpr c112)], rfl⟩) rfl (by first | exact Nat.le_refl _ | omega) (by first | exact Nat.le_refl _ | omega) rfl E.2.2.2.2.2.1
      · refine s_tableIn E dX1_user_27 (off := 94) (tgt := 121) (by decide) (by decide) rfl rfl ?_
        refine s_aload_n E dX1_user_121 (i := 0) (j := 1) rfl rfl ?_
        refine iwX1_g0_5 E dX1_user_122 ?_
        refine iwX1_g7_2 E dX1_user_125 ?_
        refine s_iload_n E dX1_user_128 (i := 1) (j := 2) rfl rfl ?_
        refine iw_l10 E (v := σ 1 (73 + j)) (j) (rfl) (by omega) hn6 (rfl) dX1_user_129 ?_
        exact Rt (σ 1 (73 + j)) (σ) dX1_user_130 (⟨by unfold userF; rw [if_neg (by rw [c5]; decide), swt_in (by decide) (by decide), tN_nI (by omega)]; rfl, rfl⟩) rfl (by first | exact Nat.le_refl _ | omega) (by first | exact Nat.le_refl _ | omega) rfl E.2.2.2.2.2.1
    · refine s_tableOut E dX1_user_27 c27 (tgt := 131) rfl ?_
      have hat131 : ∀ w ∈ vx_at0 RX1 217 "java/util/NoSuchElementException" ["java/lang/RuntimeException", "java/lang/Exception"], w.before aA sS = true := hat_of (And.intro (fun _ => E.2.2.2.2.1 _ q125) (And.intro (fun _ => E.2.2.2.2.1 _ q644) (And.intro (fun _ => E.2.2.2.2.1 _ q653) (And.intro (fun _ => E.2.2.2.2.1 _ q658) (And.intro (fun _ => E.2.2.2.2.1 _ q661) (And.intro (fun _ => E.2.2.2.2.1 _ q663) (And.intro (fun _ => E.2.2.2.2.1 _ q645) (And.intro (fun _ => E.2.2.2.2.1 _ q646) (And.intro (fun _ => E.2.2.2.2.1 _ q142) (And.intro (fun _ => E.2.2.2.2.1 _ q143) (And.intro (fun _ => E.2.2.2.2.1 _ q647) (And.intro (fun _ => E.2.2.2.2.1 _ q652) (And.intro (fun _ => E.2.2.2.2.1 _ q659) (And.intro (fun _ => E.2.2.2.2.1 _ q679) (And.intro (fun _ => E.2.2.2.2.1 _ q634) (And.intro (fun _ => E.2.2.2.2.1 _ q680) (And.intro (fun _ => E.2.2.2.2.1 _ q636) (And.intro (fun _ => E.2.2.2.2.1 _ q681) (And.intro (fun _ => E.2.2.2.2.1 _ q638) (And.intro (fun _ => E.2.2.2.2.1 _ q648) (And.intro (fun h => absurd h (by decide +kernel)) (And.intro (fun _ => E.2.2.2.2.1 _ q650) (And.intro (fun h => absurd h (by decide +kernel)) (And.intro (fun _ => E.2.2.2.2.1 _ q640) (And.intro (fun _ => E.2.2.2.2.1 _ q1201) (And.intro (fun _ => E.2.2.2.2.1 _ q1202) (And.intro (fun _ => E.2.2.2.2.1 _ q1203) (And.intro (fun _ => E.2.2.2.2.1 _ q1183) (And.intro (fun _ => va_Nw.use rfl (E.2.2.2.2.2.2.1.2.2.2.1 _ q1157 rfl)) (And.intro (fun _ => E.2.2.2.2.1 _ q1183) (And.intro (fun _ => E.2.2.2.2.1 _ q1184) (And.intro (fun _ => E.2.2.2.2.1 _ q1185) (And.intro (fun _ => E.2.2.2.2.1 _ q1186) (And.intro (fun _ => va_Nw.use rfl (E.2.2.2.2.2.2.1.2.2.2.1 _ q627 rfl)) (And.intro (fun _ => E.2.2.2.2.1 _ q1186) (And.intro (fun _ => E.2.2.2.2.1 _ q1187) (And.intro (fun _ => E.2.2.2.2.1 _ q1188) (And.intro (fun _ => E.2.2.2.2.1 _ q645) (And.intro (fun _ => va_Nw.use rfl (E.2.2.2.2.2.2.1.2.2.2.1 _ q629 rfl)) (And.intro (fun _ => E.2.2.2.2.1 _ q1200) (And.intro (fun _ => E.2.2.2.2.1 _ q1192) (And.intro (fun _ => va_Nw.use rfl (E.2.2.2.2.2.2.1.2.2.2.1 _ q1193 rfl)) (And.intro (fun _ => E.2.2.2.2.1 _ q1194) (And.intro (fun _ => E.2.2.2.2.1 _ q657) (And.intro (fun _ => E.2.2.2.2.1 _ q1195) (And.intro (fun _ => E.2.2.2.2.1 _ q1196) (And.intro (fun _ => E.2.2.2.2.1 _ q1197) (And.intro (fun _ => E.2.2.2.2.1 _ q1198) (And.intro (fun h => absurd h (by decide +kernel)) (And.intro (fun h => absurd h (by decide +kernel)) (And.intro (fun _ => E.2.2.2.2.1 _ q677) (And.intro (fun _ => E.2.2.2.2.1 _ q642) (And.intro (fun _ => E.2.2.2.2.1 _ q1199) (trivial))))))))))))))))))))))))))))))))))))))))))))))))))))))
      exact Tt "java/util/NoSuchElementException" ["java/lang/RuntimeException", "java/lang/Exception"] (Or.inr ⟨rfl, by unfold userF; rw [if_neg (by rw [c5]; decide), swt_out c27]; rfl⟩) rfl (by decide +kernel) (by decide +kernel) q1191 q135 hat131 (by decide +kernel) dX1_user_131 dX1_user_134 dX1_user_135 dX1_user_138 (by decide) (by decide) (by show _ ≤ 1; omega) (by show _ ≤ 6; omega)
  · have c5 := bI_0 c5
    have hat8 : ∀ w ∈ vx_at0 RX1 211 "java/lang/IndexOutOfBoundsException" ["java/lang/RuntimeException", "java/lang/Exception"], w.before aA sS = true := hat_of (And.intro (fun _ => E.2.2.2.2.1 _ q125) (And.intro (fun _ => E.2.2.2.2.1 _ q644) (And.intro (fun _ => E.2.2.2.2.1 _ q653) (And.intro (fun _ => E.2.2.2.2.1 _ q658) (And.intro (fun _ => E.2.2.2.2.1 _ q661) (And.intro (fun _ => E.2.2.2.2.1 _ q663) (And.intro (fun _ => E.2.2.2.2.1 _ q645) (And.intro (fun _ => E.2.2.2.2.1 _ q646) (And.intro (fun _ => E.2.2.2.2.1 _ q142) (And.intro (fun _ => E.2.2.2.2.1 _ q143) (And.intro (fun _ => E.2.2.2.2.1 _ q647) (And.intro (fun _ => E.2.2.2.2.1 _ q652) (And.intro (fun _ => E.2.2.2.2.1 _ q659) (And.intro (fun _ => E.2.2.2.2.1 _ q679) (And.intro (fun _ => E.2.2.2.2.1 _ q634) (And.intro (fun _ => E.2.2.2.2.1 _ q680) (And.intro (fun _ => E.2.2.2.2.1 _ q636) (And.intro (fun _ => E.2.2.2.2.1 _ q681) (And.intro (fun _ => E.2.2.2.2.1 _ q638) (And.intro (fun _ => E.2.2.2.2.1 _ q648) (And.intro (fun h => absurd h (by decide +kernel)) (And.intro (fun _ => E.2.2.2.2.1 _ q650) (And.intro (fun h => absurd h (by decide +kernel)) (And.intro (fun _ => E.2.2.2.2.1 _ q640) (And.intro (fun _ => E.2.2.2.2.1 _ q1180) (And.intro (fun _ => E.2.2.2.2.1 _ q1181) (And.intro (fun _ => E.2.2.2.2.1 _ q1182) (And.intro (fun _ => E.2.2.2.2.1 _ q1183) (And.intro (fun _ => va_Nw.use rfl (E.2.2.2.2.2.2.1.2.2.2.1 _ q1157 rfl)) (And.intro (fun _ => E.2.2.2.2.1 _ q1183) (And.intro (fun _ => E.2.2.2.2.1 _ q1184) (And.intro (fun _ => E.2.2.2.2.1 _ q1185) (And.intro (fun _ => E.2.2.2.2.1 _ q1186) (And.intro (fun _ => va_Nw.use rfl (E.2.2.2.2.2.2.1.2.2.2.1 _ q627 rfl)) (And.intro (fun _ => E.2.2.2.2.1 _ q1186) (And.intro (fun _ => E.2.2.2.2.1 _ q1187) (And.intro (fun _ => E.2.2.2.2.1 _ q1188) (And.intro (fun _ => E.2.2.2.2.1 _ q645) (And.intro (fun _ => va_Nw.use rfl (E.2.2.2.2.2.2.1.2.2.2.1 _ q629 rfl)) (And.intro (fun _ => E.2.2.2.2.1 _ q1179) (And.intro (fun _ => E.2.2.2.2.1 _ q1171) (And.intro (fun _ => va_Nw.use rfl (E.2.2.2.2.2.2.1.2.2.2.1 _ q1172 rfl)) (And.intro (fun _ => E.2.2.2.2.1 _ q1173) (And.intro (fun _ => E.2.2.2.2.1 _ q656) (And.intro (fun _ => E.2.2.2.2.1 _ q1174) (And.intro (fun _ => E.2.2.2.2.1 _ q1175) (And.intro (fun _ => E.2.2.2.2.1 _ q1176) (And.intro (fun _ => E.2.2.2.2.1 _ q1177) (And.intro (fun h => absurd h (by decide +kernel)) (And.intro (fun h => absurd h (by decide +kernel)) (And.intro (fun _ => E.2.2.2.2.1 _ q677) (And.intro (fun _ => E.2.2.2.2.1 _ q642) (And.intro (fun _ => E.2.2.2.2.1 _ q1178) (trivial))))))))))))))))))))))))))))))))))))))))))))))))))))))
    exact Tt "java/lang/IndexOutOfBoundsException" ["java/lang/RuntimeException", "java/lang/Exception"] (Or.inl ⟨rfl, by unfold userF; rw [if_pos (Bool.eq_false_iff.mpr c5)]⟩) rfl (by decide +kernel) (by decide +kernel) q1170 q133 hat8 (by decide +kernel) dX1_user_8 dX1_user_11 dX1_user_12 dX1_user_15 (by decide) (by decide) (by show _ ≤ 1; omega) (by show _ ≤ 6; omega)
