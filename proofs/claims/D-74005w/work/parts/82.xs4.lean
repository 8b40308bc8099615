set_option maxRecDepth 100000
theorem K_X1_186 : KV RX1 186 RX1 yX1_untuned cX1_untuned 4 (some .int) 1 := ⟨q836, q838, qs21, q113, q839, by decide +kernel⟩
theorem K_X1_189 : KI RX1 189 yX9_init cX9_init 4 3 := ⟨q840, q841, q130, q842, rfl, by decide +kernel⟩
theorem K_X1_192 : KV RX1 192 RX9 yX9_goes cX9_goes 3 (some .int) 0 := ⟨q867, q868, q869, q130, q870, by decide +kernel⟩
set_option maxHeartbeats 1000000 in
set_option maxRecDepth 100000 in
theorem x1z_planned {l : Launch} {D : va_G} {gt : Nat → Nat} {ad : Nat → Nat} {ct : Nat → ClassId} {n : Nat} {τ σ : Nat → Nat → Int32} {T : va_W} (u : Int32) (hX : XT τ n) (hT : UT ad n τ T) (hP : PC (σ 1) n) (hbb : BB (σ 1)) : Ct l D gt yX1_planned cX1_planned 3 .int 9 219 2 12 [.ref (ad 0), .int (u)] (iw ad ct n τ σ T) (tysA ct) (fun r σ2 => (if isU n u = false then -1 else if 0 < σ 1 (tN u) then -2 else if srV (vw τ (σ 1)) n (FS (vw τ (σ 1)) n) < 0 then srV (vw τ (σ 1)) n (FS (vw τ (σ 1)) n) else foundP (vw τ (σ 1)) n (FS (vw τ (σ 1)) n) (tN u)) = r ∧ XS σ σ2) (fun σ2 : Nat → Nat → Int32 => iw ad ct n τ σ2 T) (fun _ => tysA ct) := by
  refine Ct.start RX1 (by decide) rfl (Nat.le_of_ble_eq_true rfl) rfl ?_
  intro pP eE sS mM aA bB hM cC QQ AA E Rt
  have hn6 := hX.2.1
  refine s_aload_n E dX1_planned_0 (i := 0) (j := 0) rfl rfl ?_
  refine s_iload_n E dX1_planned_1 (i := 1) (j := 1) rfl rfl ?_
  refine c_goi0 E (rV E (cutS _ _) (x1z_isUser u (hX)) K_X1_132 (Nat.le_of_ble_eq_true rfl) (Nat.le_of_ble_eq_true rfl) (Nat.zero_le _) (Nat.zero_le _) 0 rfl rfl rfl rfl (Nat.le_of_ble_eq_true rfl) dX1_planned_2) (fun r2 w2 h2 => ?_)
  obtain ⟨rfl, rfl⟩ := h2
  refine s_if_ne E dX1_planned_5 (tgt := 10) rfl (fun c5 => ?_) (fun c5 => ?_)
  · have c5 := bI_n0 c5
    obtain ⟨j, hj, rfl⟩ := us_isU c5 hn6
    refine s_aload_n E dX1_planned_10 (i := 0) (j := 0) rfl rfl ?_
    refine iwX1_g0_5 E dX1_planned_11 ?_
    refine iwX1_g7_0 E dX1_planned_14 ?_
    refine s_iload_n E dX1_planned_17 (i := 1) (j := 1) rfl rfl ?_
    refine iw_l8 E (v := σ 1 j) (j) (rfl) (by omega) hn6 (rfl) dX1_planned_18 ?_
    refine s_if_le E dX1_planned_19 (tgt := 25) rfl (fun c19 => ?_) (fun c19 => ?_)
    · have c19 := Int32.not_lt.mpr c19
      refine s_new E in_X9 tyX9 tyX9_ok q834 q835 q130 (ci := 8) (fs := [.null, .int 0, .null, .int 0, .int 0, .null]) rfl df_X9 (by show _ ≤ 2; omega) (by show _ ≤ 12; omega) dX1_planned_25 (fun sa => ?_)
      refine s_ws (ws2 := iw ad ct n τ σ (T ++ [(sa, .inr (8, [.null, .int 0, .null, .int 0, .int 0, .null]))])) iw_snoc ?_
      refine s_dup E dX1_planned_28 rfl ?_
      refine s_aload_n E dX1_planned_29 (i := 0) (j := 0) rfl rfl ?_
      refine s_aload_n E dX1_planned_30 (i := 0) (j := 0) rfl rfl ?_
      refine iwX1_g0_7 E dX1_planned_31 ?_
      refine s_aload_n E dX1_planned_34 (i := 0) (j := 0) rfl rfl ?_
      refine iwX1_g0_5 E dX1_planned_35 ?_
      refine c_gor0 E (rV E (cutS _ _) (x3z_like20 (hn6) (hbb)) K_X1_115 (Nat.le_of_ble_eq_true rfl) (Nat.le_of_ble_eq_true rfl) (by show _ ≤ 2; omega) (by show _ ≤ 12; omega) 17 rfl rfl rfl rfl (Nat.le_of_ble_eq_true rfl) dX1_planned_38) (fun w38 h38 => ?_)
      subst h38
      refine s_aload_n E dX1_planned_41 (i := 0) (j := 0) rfl rfl ?_
      refine s_aload_n E dX1_planned_42 (i := 0) (j := 0) rfl rfl ?_
      refine iwX1_g0_5 E dX1_planned_43 ?_
      refine c_goi0 E (rV E (cutS _ _) (x1z_untuned0 (hX)) K_X1_186 (Nat.le_of_ble_eq_true rfl) (Nat.le_of_ble_eq_true rfl) (by show _ ≤ 2; omega) (by show _ ≤ 12; omega) 0 rfl rfl rfl rfl (Nat.le_of_ble_eq_true rfl) dX1_planned_46) (fun r46 w46 h46 => ?_)
      obtain ⟨rfl, rfl⟩ := h46
      refine s_top (v2 := nI (FS (vw τ (σ 1)) n)) (rfl) ?_
      refine c_gov E (rI E (cutS _ _) (x9z_init (S := FS (vw τ (σ 1)) n) hX (FS_sub _ hn6)) K_X1_189 (Nat.le_of_ble_eq_true rfl) (Nat.le_of_ble_eq_true rfl) (by show _ ≤ 2; omega) (by show _ ≤ 12; omega) rfl rfl (Nat.le_of_ble_eq_true rfl) dX1_planned_49) (fun fa _ => ?_)
      refine c_goi0 E (rV E (cutS _ _) (x9z_goes (τ 3 0) (σ 1) (FS (vw τ (σ 1)) n) (hX) (hT) (hP) (hX.2.2.2.2.1) (RC.zt hX) (FS_sub _ hn6) (rfl) (siS_h0 (FS_sub _ hn6)) (rfl) (siS_el (FS_sub _ hn6)) (rfl)) K_X1_192 (Nat.le_of_ble_eq_true rfl) (Nat.le_of_ble_eq_true rfl) (by show _ ≤ 2; omega) (by show _ ≤ 12; omega) (47 + T.length + 0) ((iw_len (k := 0)).trans rfl) rfl rfl rfl (Nat.le_of_ble_eq_true rfl) dX1_planned_52) (fun r52 w52 h52 => ?_)
      rw [vwB_self] at h52
      obtain ⟨e52, x52, f52⟩ := h52
      subst e52
      have xs52 := XS.go (XS.lik) x52
      refine iw_drop ?_
      refine s_ws (ws2 := iw ad ct n τ (offS σ w52) T) rfl ?_
      refine s_istore_n E (L2 := [(2, .int (goV (vw τ (σ 1)) n (FS (vw τ (σ 1)) n))), (0, .ref (ad 0)), (1, .int (nI j))]) dX1_planned_55 rfl (Nat.le_of_ble_eq_true rfl) rfl ?_
      refine s_iload_n E dX1_planned_56 (i := 2) (j := 0) rfl rfl ?_
      refine s_if_ne E dX1_planned_57 (tgt := 72) rfl (fun c57 => ?_) (fun c57 => ?_)
      · have hgn := go_n c57
        refine s_iload_n E dX1_planned_72 (i := 2) (j := 0) rfl rfl ?_
        exact Rt (goV (vw τ (σ 1)) n (FS (vw τ (σ 1)) n)) (offS σ w52) dX1_planned_73 (⟨by rw [if_neg (by simp [c5]), tN_nI (by omega), if_neg c19, if_pos hgn.2, hgn.1], xs52⟩) rfl (by first | exact Nat.le_refl _ | omega) (by first | exact Nat.le_refl _ | omega) rfl E.2.2.2.2.2.1
      · have hgf := go_f c57
        refine s_aload_n E dX1_planned_60 (i := 0) (j := 1) rfl rfl ?_
        refine iwX1_g0_7 E dX1_planned_61 ?_
        refine iwX1_g17_0 E dX1_planned_64 ?_
        refine s_iload_n E dX1_planned_67 (i := 1) (j := 2) rfl rfl ?_
        refine iw_l18 E (v := foundP (vw τ (σ 1)) n (FS (vw τ (σ 1)) n) j) (j) (rfl) (by omega) hn6 (by show w52 3 j = _; rw [(f52 c57).2]) dX1_planned_68 ?_
        refine s_goto E dX1_planned_69 (tgt := 73) rfl ?_
        exact Rt (foundP (vw τ (σ 1)) n (FS (vw τ (σ 1)) n) j) (offS σ w52) dX1_planned_73 (⟨by rw [if_neg (by simp [c5]), tN_nI (by omega), if_neg c19, if_neg hgf], xs52⟩) rfl (by first | exact Nat.le_refl _ | omega) (by first | exact Nat.le_refl _ | omega) rfl E.2.2.2.2.2.1
    · have c19 := Int32.not_le.mp c19
      refine s_bipush E dX1_planned_22 (v := (-2)) (by decide) ?_
      exact Rt ((-2)) (σ) dX1_planned_24 (⟨by rw [if_neg (by simp [c5]), tN_nI (by omega), if_pos c19], XS.rf _⟩) rfl (by first | exact Nat.le_refl _ | omega) (by first | exact Nat.le_refl _ | omega) rfl E.2.2.2.2.2.1
  · have c5 := bI_0 c5
    refine s_iconst E dX1_planned_8 (v := (-1)) (by decide) ?_
    exact Rt ((-1)) (σ) dX1_planned_9 (⟨by rw [if_pos (by simpa using c5)], XS.rf _⟩) rfl (by first | exact Nat.le_refl _ | omega) (by first | exact Nat.le_refl _ | omega) rfl E.2.2.2.2.2.1
theorem K_X1_198 : KS RX1 198 yJ8_bitCount cJ8_bitCount 1 (some .int) 1 := ⟨q958, q927, q131, q928, by decide +kernel⟩
set_option maxHeartbeats 2000000 in
set_option maxRecDepth 100000 in
theorem x1z_mendedSet {l : Launch} {D : va_G} {gt : Nat → Nat} {ad : Nat → Nat} {ct : Nat → ClassId} {n : Nat} {τ σ : Nat → Nat → Int32} {T : va_W}  (hX : XT τ n) (hT : UT ad n τ T) (hP : PC (σ 1) n) (hbb : BB (σ 1)) : Ct l D gt yX1_mendedSet cX1_mendedSet 4 .int 9 219 1000 6000 [.ref (ad 0)] (iw ad ct n τ σ T) (tysA ct) (fun r σ2 => optI (mdN (vw τ (σ 1)) n) = r ∧ XS σ σ2 ∧ (mdN (vw τ (σ 1)) n ≠ 0 → σ2 3 = foundP (vw τ (σ 1)) n (mdN (vw τ (σ 1)) n - 1))) (fun σ2 : Nat → Nat → Int32 => iw ad ct n τ σ2 T) (fun _ => tysA ct) := by
  refine Ct.start RX1 (by decide) rfl (Nat.le_of_ble_eq_true rfl) rfl ?_
  intro pP eE sS mM aA bB hM cC QQ AA E Rt
  have hn6 := hX.2.1
  have hFS := FS_sub (vw τ (σ 1)) hn6
  have hF64 := hFS.s64
  have h2p := Nat.two_pow_pos n
  have h2n : 2 ^ n ≤ 64 := Nat.pow_le_pow_right (n := 2) (by decide) (show n ≤ 6 from hn6)
  refine s_iconst E dX1_mendedSet_0 (v := nI 1) (by decide) ?_
  refine s_aload_n E dX1_mendedSet_1 (i := 0) (j := 0) rfl rfl ?_
  refine iwX1_g0_4 E dX1_mendedSet_2 ?_
  refine iwX1_g2_4 E (v := nI n) (hX.1) dX1_mendedSet_5 ?_
  refine s_ishl_ E dX1_mendedSet_8 (v := (nI 1) <<< (nI n &&& 31)) (rfl) ?_
  refine s_iconst E dX1_mendedSet_9 (v := nI 1) (by decide) ?_
  refine s_isub_ E dX1_mendedSet_10 (v := (nI 1) <<< (nI n &&& 31) - nI 1) (rfl) ?_
  refine s_aload_n E dX1_mendedSet_11 (i := 0) (j := 0) rfl rfl ?_
  refine s_aload_n E dX1_mendedSet_12 (i := 0) (j := 0) rfl rfl ?_
  refine iwX1_g0_5 E dX1_mendedSet_13 ?_
  refine c_goi0 E (rV E (cutS _ _) (x1z_untuned0 (hX)) K_X1_186 (Nat.le_of_ble_eq_true rfl) (Nat.le_of_ble_eq_true rfl) (Nat.zero_le _) (Nat.zero_le _) 0 rfl rfl rfl rfl (Nat.le_of_ble_eq_true rfl) dX1_mendedSet_16) (fun r16 w16 h16 => ?_)
  obtain ⟨rfl, rfl⟩ := h16
  refine s_top (v2 := nI (FS (vw τ (σ 1)) n)) (rfl) ?_
  refine s_iconst E dX1_mendedSet_19 (v := (-1)) (by decide) ?_
  refine s_ixor_ E dX1_mendedSet_20 (v := (nI (FS (vw τ (σ 1)) n)) ^^^ (-1)) (rfl) ?_
  refine s_iand_ E dX1_mendedSet_21 (v := nI ((2 ^ n - 1 - FS (vw τ (σ 1)) n))) (have_int n (by omega) _ hFS.1) ?_
  refine s_istore_n E (L2 := [(1, .int (nI ((2 ^ n - 1 - FS (vw τ (σ 1)) n)))), (0, .ref (ad 0))]) dX1_mendedSet_22 rfl (Nat.le_of_ble_eq_true rfl) rfl ?_
  refine s_iconst E dX1_mendedSet_23 (v := nI 0) (by decide) ?_
  refine s_istore_n E (L2 := [(2, .int (nI 0)), (1, .int (nI ((2 ^ n - 1 - FS (vw τ (σ 1)) n)))), (0, .ref (ad 0))]) dX1_mendedSet_24 rfl (Nat.le_of_ble_eq_true rfl) rfl ?_
  have L25 : ∀ (fuel : Nat) (m : Nat) (w25 : Nat → Nat → Int32), (m ≤ n + 1) → (XS σ w25) → (mdF (vw τ (σ 1)) n (2 ^ n - 1 - FS (vw τ (σ 1)) n) m = 0) → (n + 1 - m) < fuel → Sm pP l eE { frames := 9, cells := 1000, slots := 6000, locals := 219 } sS mM aA bB hM cC QQ AA D 4 (128 * m) (768 * m) (iw ad ct n τ w25 T) 25 [(0, .ref (ad 0)), (1, .int (nI ((2 ^ n - 1 - FS (vw τ (σ 1)) n)))), (2, .int (nI m))] [] := by
    intro fuel
    induction fuel with
    | zero =>
      intro m w25 hm hw hf hf25
      exact absurd hf25 (Nat.not_lt_zero _)
    | succ fuel ih25 =>
      intro m w25 hm hw hf hf25
      refine s_iload_n E dX1_mendedSet_25 (i := 2) (j := 2) rfl rfl ?_
      refine s_aload_n E dX1_mendedSet_26 (i := 0) (j := 0) rfl rfl ?_
      refine iwX1_g0_4 E dX1_mendedSet_27 ?_
      refine iwX1_g2_4 E (v := nI n) (hX.1) dX1_mendedSet_30 ?_
      refine s_icmp_gt E dX1_mendedSet_33 (tgt := 102) rfl (fun c33 => ?_) (fun c33 => ?_)
      · have c33 : n < m := (nI_ltI (a := n) (b := m) (by omega) (by omega)).mp c33
        refine s_bipush E dX1_mendedSet_102 (v := (-2)) (by decide) ?_
        exact Rt ((-2)) (w25) dX1_mendedSet_104 (⟨by unfold mdN; rw [show n + 1 = m by omega, hf]; rfl, hw, fun h9 => absurd (by unfold mdN; rw [show n + 1 = m by omega, hf]) h9⟩) rfl (by first | exact Nat.le_refl _ | omega) (by first | exact Nat.le_refl _ | omega) rfl E.2.2.2.2.2.1
      · have c33 : ¬ n < m := fun h => c33 ((nI_ltI (a := n) (b := m) (by omega) (by omega)).mpr h)
        refine s_iconst E dX1_mendedSet_36 (v := nI 0) (by decide) ?_
        refine s_istore_n E (L2 := [(3, .int (nI 0)), (0, .ref (ad 0)), (1, .int (nI ((2 ^ n - 1 - FS (vw τ (σ 1)) n)))), (2, .int (nI m))]) dX1_mendedSet_37 rfl (Nat.le_of_ble_eq_true rfl) rfl ?_
        have L38 : ∀ (fuel : Nat) (S : Nat) (w38 : Nat → Nat → Int32), (S ≤ (2 ^ n - 1 - FS (vw τ (σ 1)) n) + 1) → (XS σ w38) → (firstN (candB (vw τ (σ 1)) n (2 ^ n - 1 - FS (vw τ (σ 1)) n) m) S = 0) → ((2 ^ n - 1 - FS (vw τ (σ 1)) n) + 1 - S) < fuel → Sm pP l eE { frames := 9, cells := 1000, slots := 6000, locals := 219 } sS mM aA bB hM cC QQ AA D 4 (128 * m + 2 * S) (768 * m + 12 * S) (iw ad ct n τ w38 T) 38 [(0, .ref (ad 0)), (1, .int (nI ((2 ^ n - 1 - FS (vw τ (σ 1)) n)))), (2, .int (nI m)), (3, .int (nI S))] [] := by
          intro fuel
          induction fuel with
          | zero =>
            intro S w38 hs hw3 hg hf38
            exact absurd hf38 (Nat.not_lt_zero _)
          | succ fuel ih38 =>
            intro S w38 hs hw3 hg hf38
            have hw1 := hw3 1 (by decide) (by decide) (by decide)
            refine s_iload_n E dX1_mendedSet_38 (i := 3) (j := 3) rfl rfl ?_
            refine s_iload_n E dX1_mendedSet_39 (i := 1) (j := 1) rfl rfl ?_
            refine s_icmp_gt E dX1_mendedSet_40 (tgt := 96) rfl (fun c40 => ?_) (fun c40 => ?_)
            · have c40 : (2 ^ n - 1 - FS (vw τ (σ 1)) n) < S := (nI_ltI (a := (2 ^ n - 1 - FS (vw τ (σ 1)) n)) (b := S) (by omega) (by omega)).mp c40
              refine s_iinc E (L2 := [(2, .int (nI (m + 1))), (0, .ref (ad 0)), (1, .int (nI ((2 ^ n - 1 - FS (vw τ (σ 1)) n)))), (3, .int (nI S))]) dX1_mendedSet_96 (k := 2) rfl (v := nI (m + 1)) (nI_inc _) (Nat.le_of_ble_eq_true rfl) rfl ?_
              refine s_goto E dX1_mendedSet_99 (tgt := 25) rfl ?_
              refine s_loc (L2 := [(0, .ref (ad 0)), (1, .int (nI ((2 ^ n - 1 - FS (vw τ (σ 1)) n)))), (2, .int (nI (m + 1)))]) [1, 2, 0] rfl ?_
              refine s_widen (k := 128 * (m + 1)) (n := 768 * (m + 1)) (by omega) (by omega) ?_
              exact ih25 (m + 1) w38 (by omega) (hw3) (by rw [mdF, if_pos hf, show (2 ^ n - 1 - FS (vw τ (σ 1)) n) + 1 = S by omega]; exact hg) (by omega)
            · have c40 : ¬ (2 ^ n - 1 - FS (vw τ (σ 1)) n) < S := fun h => c40 ((nI_ltI (a := (2 ^ n - 1 - FS (vw τ (σ 1)) n)) (b := S) (by omega) (by omega)).mpr h)
              refine s_iload_n E dX1_mendedSet_43 (i := 3) (j := 3) rfl rfl ?_
              refine c_gos E (rS E (cutZ _ _) (j8z_bitCount S (by omega)) K_X1_198 (Nat.le_of_ble_eq_true rfl) (Nat.le_of_ble_eq_true rfl) (by show _ ≤ 1000; omega) (by show _ ≤ 6000; omega) rfl rfl (Nat.le_of_ble_eq_true rfl) dX1_mendedSet_44) (fun r44 h44 => ?_)
              subst h44
              have hp44 := pop_le S
              refine s_iload_n E dX1_mendedSet_47 (i := 2) (j := 2) rfl rfl ?_
              refine s_icmp_ne E dX1_mendedSet_48 (tgt := 90) rfl (fun c48 => ?_) (fun c48 => ?_)
              · have c48 : ¬ pop S = m := fun h => c48 ((nI_eq (a := pop S) (b := m) (by omega) (by omega)).mpr h)
                refine s_iinc E (L2 := [(3, .int (nI (S + 1))), (0, .ref (ad 0)), (1, .int (nI ((2 ^ n - 1 - FS (vw τ (σ 1)) n)))), (2, .int (nI m))]) dX1_mendedSet_90 (k := 3) rfl (v := nI (S + 1)) (nI_inc _) (Nat.le_of_ble_eq_true rfl) rfl ?_
                refine s_goto E dX1_mendedSet_93 (tgt := 38) rfl ?_
                refine s_loc (L2 := [(0, .ref (ad 0)), (1, .int (nI ((2 ^ n - 1 - FS (vw τ (σ 1)) n)))), (2, .int (nI m)), (3, .int (nI (S + 1)))]) [1, 2, 3, 0] rfl ?_
                refine s_widen (k := 128 * m + 2 * (S + 1)) (n := 768 * m + 12 * (S + 1)) (by omega) (by omega) ?_
                exact ih38 (S + 1) w38 (by omega) (hw3) (firstN_next hg (by simp [bI, candB, c33, c40, c48])) (by omega)
              · have c48 : pop S = m := (nI_eq (a := pop S) (b := m) (by omega) (by omega)).mp c48
                refine s_iload_n E dX1_mendedSet_51 (i := 3) (j := 3) rfl rfl ?_
                refine s_iload_n E dX1_mendedSet_52 (i := 1) (j := 1) rfl rfl ?_
                refine s_iconst E dX1_mendedSet_53 (v := (-1)) (by decide) ?_
                refine s_ixor E dX1_mendedSet_54 ?_
                refine s_iand_ E dX1_mendedSet_55 (v := nI S &&& (nI (2 ^ n - 1 - FS (vw τ (σ 1)) n) ^^^ (-1))) (rfl) ?_
                refine s_if_eq E dX1_mendedSet_56 (tgt := 62) rfl (fun c56 => ?_) (fun c56 => ?_)
                · have c56 : subB S (2 ^ n - 1 - FS (vw τ (σ 1)) n) = true := decide_eq_true c56
                  refine s_new E in_X9 tyX9 tyX9_ok q834 q835 q130 (ci := 8) (fs := [.null, .int 0, .null, .int 0, .int 0, .null]) rfl df_X9 (by show _ ≤ 1000; omega) (by show _ ≤ 6000; omega) dX1_mendedSet_62 (fun sa => ?_)
                  refine s_ws (ws2 := iw ad ct n τ w38 (T ++ [(sa, .inr (8, [.null, .int 0, .null, .int 0, .int 0, .null]))])) iw_snoc ?_
                  refine s_dup E dX1_mendedSet_65 rfl ?_
                  refine s_aload_n E dX1_mendedSet_66 (i := 0) (j := 0) rfl rfl ?_
                  refine s_aload_n E dX1_mendedSet_67 (i := 0) (j := 0) rfl rfl ?_
                  refine iwX1_g0_7 E dX1_mendedSet_68 ?_
                  refine s_aload_n E dX1_mendedSet_71 (i := 0) (j := 0) rfl rfl ?_
                  refine iwX1_g0_5 E dX1_mendedSet_72 ?_
                  refine c_gor0 E (rV E (cutS _ _) (x3z_like20 (hn6) (by rw [hw1]; exact hbb)) K_X1_115 (Nat.le_of_ble_eq_true rfl) (Nat.le_of_ble_eq_true rfl) (by show _ ≤ 1000; omega) (by show _ ≤ 6000; omega) 17 rfl rfl rfl rfl (Nat.le_of_ble_eq_true rfl) dX1_mendedSet_75) (fun w75 h75 => ?_)
                  subst h75
                  refine s_iload_n E dX1_mendedSet_78 (i := 3) (j := 3) rfl rfl ?_
                  refine c_gov E (rI E (cutS _ _) (x9z_init (S := S) hX (⟨by omega, hn6⟩)) K_X1_189 (Nat.le_of_ble_eq_true rfl) (Nat.le_of_ble_eq_true rfl) (by show _ ≤ 1000; omega) (by show _ ≤ 6000; omega) rfl rfl (Nat.le_of_ble_eq_true rfl) dX1_mendedSet_79) (fun fa _ => ?_)
                  refine c_goi0 E (rV E (cutS _ _) (x9z_goes (τ 3 0) (σ 1) S (hX) (hT) (hP) (hX.2.2.2.2.1) (RC.zt hX) (⟨by omega, hn6⟩) (rfl) (siS_h0 (⟨by omega, hn6⟩)) (rfl) (siS_el (⟨by omega, hn6⟩)) (by show zP (w38 1) S n = _; rw [hw1])) K_X1_192 (Nat.le_of_ble_eq_true rfl) (Nat.le_of_ble_eq_true rfl) (by show _ ≤ 1000; omega) (by show _ ≤ 6000; omega) (47 + T.length + 0) ((iw_len (k := 0)).trans rfl) rfl rfl rfl (Nat.le_of_ble_eq_true rfl) dX1_mendedSet_82) (fun r82 w82 h82 => ?_)
                  rw [vwB_self] at h82
                  obtain ⟨e82, x82, f82⟩ := h82
                  subst e82
                  have xs82 := XS.go (XS.lik) x82
                  refine iw_drop ?_
                  refine s_ws (ws2 := iw ad ct n τ (offS w38 w82) T) rfl ?_
                  refine s_if_ne E dX1_mendedSet_85 (tgt := 90) rfl (fun c85 => ?_) (fun c85 => ?_)
                  · have c85 := (go_n c85).2
                    refine s_iinc E (L2 := [(3, .int (nI (S + 1))), (0, .ref (ad 0)), (1, .int (nI ((2 ^ n - 1 - FS (vw τ (σ 1)) n)))), (2, .int (nI m))]) dX1_mendedSet_90 (k := 3) rfl (v := nI (S + 1)) (nI_inc _) (Nat.le_of_ble_eq_true rfl) rfl ?_
                    refine s_goto E dX1_mendedSet_93 (tgt := 38) rfl ?_
                    refine s_loc (L2 := [(0, .ref (ad 0)), (1, .int (nI ((2 ^ n - 1 - FS (vw τ (σ 1)) n)))), (2, .int (nI m)), (3, .int (nI (S + 1)))]) [1, 2, 3, 0] rfl ?_
                    refine s_widen (k := 128 * m + 2 * (S + 1)) (n := 768 * m + 12 * (S + 1)) (by omega) (by omega) ?_
                    exact ih38 (S + 1) (offS w38 w82) (by omega) (hw3.tr xs82) (firstN_next hg (by simp [bI, candB, c33, c40, c48, c56, c85])) (by omega)
                  · have hgz := c85
                    have c85 := go_f c85
                    refine s_iload_n E dX1_mendedSet_88 (i := 3) (j := 3) rfl rfl ?_
                    exact Rt (nI S) (offS w38 w82) dX1_mendedSet_89 (by have e := mdF_keep (s := (vw τ (σ 1))) (n := n) (H := (2 ^ n - 1 - FS (vw τ (σ 1)) n)) (m := m) (k := n + 1) (by omega) hf (by rw [firstN_keep (p := S) (by omega) hg (by simp [bI, candB, c33, c40, c48, c56, c85, hgz])]; omega); rw [firstN_keep (p := S) (by omega) hg (by simp [bI, candB, c33, c40, c48, c56, c85, hgz])] at e; exact ⟨by unfold mdN; rw [e]; rfl, hw3.tr xs82, fun _ => by unfold mdN; rw [e]; exact (f82 hgz).2⟩) rfl (by first | exact Nat.le_refl _ | omega) (by first | exact Nat.le_refl _ | omega) rfl E.2.2.2.2.2.1
                · have c56 : subB S (2 ^ n - 1 - FS (vw τ (σ 1)) n) = false := decide_eq_false c56
                  refine s_goto E dX1_mendedSet_59 (tgt := 90) rfl ?_
                  refine s_iinc E (L2 := [(3, .int (nI (S + 1))), (0, .ref (ad 0)), (1, .int (nI ((2 ^ n - 1 - FS (vw τ (σ 1)) n)))), (2, .int (nI m))]) dX1_mendedSet_90 (k := 3) rfl (v := nI (S + 1)) (nI_inc _) (Nat.le_of_ble_eq_true rfl) rfl ?_
                  refine s_goto E dX1_mendedSet_93 (tgt := 38) rfl ?_
                  refine s_loc (L2 := [(0, .ref (ad 0)), (1, .int (nI ((2 ^ n - 1 - FS (vw τ (σ 1)) n)))), (2, .int (nI m)), (3, .int (nI (S + 1)))]) [1, 2, 3, 0] rfl ?_
                  refine s_widen (k := 128 * m + 2 * (S + 1)) (n := 768 * m + 12 * (S + 1)) (by omega) (by omega) ?_
                  exact ih38 (S + 1) w38 (by omega) (hw3) (firstN_next hg (by simp [bI, candB, c33, c40, c48, c56])) (by omega)
        refine s_loc (L2 := [(0, .ref (ad 0)), (1, .int (nI ((2 ^ n - 1 - FS (vw τ (σ 1)) n)))), (2, .int (nI m)), (3, .int (nI 0))]) [1, 2, 3, 0] rfl ?_
        refine s_widen (k := 128 * m + 2 * 0) (n := 768 * m + 12 * 0) (by omega) (by omega) ?_
        exact L38 (_ + 1) 0 w25 (Nat.zero_le _) (hw) (rfl) (Nat.lt_succ_self _)
  refine s_loc (L2 := [(0, .ref (ad 0)), (1, .int (nI ((2 ^ n - 1 - FS (vw τ (σ 1)) n)))), (2, .int (nI 0))]) [2, 1, 0] rfl ?_
  refine s_widen (k := 128 * 0) (n := 768 * 0) (by omega) (by omega) ?_
  exact L25 (_ + 1) 0 σ (Nat.zero_le _) (XS.rf _) (rfl) (Nat.lt_succ_self _)
theorem K_X1_203 : KV RX1 203 RX1 yX1_mendedSet cX1_mendedSet 4 (some .int) 0 := ⟨q954, q956, qs31, q113, q957, by decide +kernel⟩
set_option maxHeartbeats 1000000 in
set_option maxRecDepth 100000 in
theorem x1z_mended {l : Launch} {D : va_G} {gt : Nat → Nat} {ad : Nat → Nat} {ct : Nat → ClassId} {n : Nat} {τ σ : Nat → Nat → Int32} {T : va_W}  (hX : XT τ n) (hT : UT ad n τ T) (hP : PC (σ 1) n) (hbb : BB (σ 1)) : Ct l D gt yX1_mended cX1_mended 1 .int 10 242 1000 6000 [.ref (ad 0)] (iw ad ct n τ σ T) (tysA ct) (fun r σ2 => optI (mdN (vw τ (σ 1)) n) = r ∧ XS σ σ2) (fun σ2 : Nat → Nat → Int32 => iw ad ct n τ σ2 T) (fun _ => tysA ct) := by
  refine Ct.start RX1 (by decide) rfl (Nat.le_of_ble_eq_true rfl) rfl ?_
  intro pP eE sS mM aA bB hM cC QQ AA E Rt
  refine s_aload_n E dX1_mended_0 (i := 0) (j := 0) rfl rfl ?_
  refine c_goi E (rV E (cutS _ _) (x1z_mendedSet (hX) (hT) (hP) (hbb)) K_X1_203 (Nat.le_of_ble_eq_true rfl) (Nat.le_of_ble_eq_true rfl) (by show _ ≤ 1000; omega) (by show _ ≤ 6000; omega) 0 rfl rfl rfl rfl (Nat.le_of_ble_eq_true rfl) dX1_mended_1) (fun r1 w1 h1 => ?_)
  obtain ⟨e1, x1, -⟩ := h1
  subst e1
  exact Rt (optI (mdN (vw τ (σ 1)) n)) (w1) dX1_mended_4 (⟨rfl, x1⟩) rfl (by first | exact Nat.le_refl _ | omega) (by first | exact Nat.le_refl _ | omega) rfl E.2.2.2.2.2.1
theorem K_X1_206 : KI RX1 206 yX9_init_2 cX9_init_2 6 4 := ⟨q967, q844, q130, q845, rfl, by decide +kernel⟩
set_option maxHeartbeats 1000000 in
set_option maxRecDepth 100000 in
theorem x1z_leastBand {l : Launch} {D : va_G} {gt : Nat → Nat} {ad : Nat → Nat} {ct : Nat → ClassId} {n : Nat} {τ σ : Nat → Nat → Int32} {T : va_W}  (hX : XT τ n) (hT : UT ad n τ T) (hP : PC (σ 1) n) (hbb : BB (σ 1)) : Ct l D gt yX1_leastBand cX1_leastBand 2 .int 9 219 120 720 [.ref (ad 0)] (iw ad ct n τ σ T) (tysA ct) (fun r σ2 => optB (firstN (bandB (vw τ (σ 1)) n) 57) = r ∧ XS σ σ2) (fun σ2 : Nat → Nat → Int32 => iw ad ct n τ σ2 T) (fun _ => tysA ct) := by
  refine Ct.start RX1 (by decide) rfl (Nat.le_of_ble_eq_true rfl) rfl ?_
  intro pP eE sS mM aA bB hM cC QQ AA E Rt
  have hn6 := hX.2.1
  have h2p := Nat.two_pow_pos n
  have h2n : 2 ^ n ≤ 64 := Nat.pow_le_pow_right (n := 2) (by decide) (show n ≤ 6 from hn6)
  refine s_iconst E dX1_leastBand_0 (v := nI 4) (by decide) ?_
  refine s_istore_n E (L2 := [(1, .int (nI 4)), (0, .ref (ad 0))]) dX1_leastBand_1 rfl (Nat.le_of_ble_eq_true rfl) rfl ?_
  have L2 : ∀ (fuel : Nat) (i : Nat) (w2 : Nat → Nat → Int32), (i ≤ 57) → (XS σ w2) → (firstN (bandB (vw τ (σ 1)) n) i = 0) → (57 - i) < fuel → Sm pP l eE { frames := 9, cells := 120, slots := 720, locals := 219 } sS mM aA bB hM cC QQ AA D 2 (2 * i) (12 * i) (iw ad ct n τ w2 T) 2 [(0, .ref (ad 0)), (1, .int (nI (i + 4)))] [] := by
    intro fuel
    induction fuel with
    | zero =>
      intro i w2 hi hw hf hf2
      exact absurd hf2 (Nat.not_lt_zero _)
    | succ fuel ih2 =>
      intro i w2 hi hw hf hf2
      have hw1 := hw 1 (by decide) (by decide) (by decide)
      have hin : i < 57 → In (nI (i + 4)) 61 := fun h => In.of (by omega) (by decide)
      refine s_iload_n E dX1_leastBand_2 (i := 1) (j := 1) rfl rfl ?_
      refine s_bipush E dX1_leastBand_3 (v := nI 60) (by decide) ?_
      refine s_icmp_gt E dX1_leastBand_5 (tgt := 53) rfl (fun c5 => ?_) (fun c5 => ?_)
      · have c5 : 60 < i + 4 := (nI_ltI (a := 60) (b := i + 4) (by omega) (by omega)).mp c5
        refine s_bipush E dX1_leastBand_53 (v := (-2)) (by decide) ?_
        exact Rt ((-2)) (w2) dX1_leastBand_55 (⟨by rw [show 57 = i by omega, hf]; rfl, hw⟩) rfl (by first | exact Nat.le_refl _ | omega) (by first | exact Nat.le_refl _ | omega) rfl E.2.2.2.2.2.1
      · have c5 : ¬ 60 < i + 4 := fun h => c5 ((nI_ltI (a := 60) (b := i + 4) (by omega) (by omega)).mpr h)
        refine s_new E in_X9 tyX9 tyX9_ok q834 q835 q130 (ci := 8) (fs := [.null, .int 0, .null, .int 0, .int 0, .null]) rfl df_X9 (by show _ ≤ 120; omega) (by show _ ≤ 720; omega) dX1_leastBand_8 (fun sa => ?_)
        refine s_ws (ws2 := iw ad ct n τ w2 (T ++ [(sa, .inr (8, [.null, .int 0, .null, .int 0, .int 0, .null]))])) iw_snoc ?_
        refine s_dup E dX1_leastBand_11 rfl ?_
        refine s_aload_n E dX1_leastBand_12 (i := 0) (j := 0) rfl rfl ?_
        refine s_aload_n E dX1_leastBand_13 (i := 0) (j := 0) rfl rfl ?_
        refine iwX1_g0_7 E dX1_leastBand_14 ?_
        refine s_aload_n E dX1_leastBand_17 (i := 0) (j := 0) rfl rfl ?_
        refine iwX1_g0_5 E dX1_leastBand_18 ?_
        refine c_gor0 E (rV E (cutS _ _) (x3z_like20 (hn6) (by rw [hw1]; exact hbb)) K_X1_115 (Nat.le_of_ble_eq_true rfl) (Nat.le_of_ble_eq_true rfl) (by show _ ≤ 120; omega) (by show _ ≤ 720; omega) 17 rfl rfl rfl rfl (Nat.le_of_ble_eq_true rfl) dX1_leastBand_21) (fun w21 h21 => ?_)
        subst h21
        refine s_iconst E dX1_leastBand_24 (v := nI 1) (by decide) ?_
        refine s_aload_n E dX1_leastBand_25 (i := 0) (j := 0) rfl rfl ?_
        refine iwX1_g0_4 E dX1_leastBand_26 ?_
        refine iwX1_g2_4 E (v := nI n) (hX.1) dX1_leastBand_29 ?_
        refine s_ishl_ E dX1_leastBand_32 (v := (nI 1) <<< (nI n &&& 31)) (rfl) ?_
        refine s_iconst E dX1_leastBand_33 (v := nI 1) (by decide) ?_
        refine s_isub_ E dX1_leastBand_34 (v := nI (2 ^ n - 1)) (full_int n (by omega)) ?_
        refine s_iload_n E dX1_leastBand_35 (i := 1) (j := 1) rfl rfl ?_
        refine c_gov E (rI E (cutS _ _) (x9z_init_2 (bd := (nI (i + 4))) (S := 2 ^ n - 1) hX (⟨by omega, hn6⟩)) K_X1_206 (Nat.le_of_ble_eq_true rfl) (Nat.le_of_ble_eq_true rfl) (by show _ ≤ 120; omega) (by show _ ≤ 720; omega) rfl rfl (Nat.le_of_ble_eq_true rfl) dX1_leastBand_36) (fun fa _ => ?_)
        refine c_goi0 E (rV E (cutS _ _) (x9z_goes (nI (i + 4)) (σ 1) (2 ^ n - 1) (hX) (hT) (hP) (hin (by omega)) (RC.full hn6 (hin (by omega))) (⟨by omega, hn6⟩) (rfl) (siS_h0 (⟨by omega, hn6⟩)) (rfl) (siS_el (⟨by omega, hn6⟩)) (by show zP (w2 1) _ n = _; rw [hw1])) K_X1_192 (Nat.le_of_ble_eq_true rfl) (Nat.le_of_ble_eq_true rfl) (by show _ ≤ 120; omega) (by show _ ≤ 720; omega) (47 + T.length + 0) ((iw_len (k := 0)).trans rfl) rfl rfl rfl (Nat.le_of_ble_eq_true rfl) dX1_leastBand_39) (fun r39 w39 h39 => ?_)
        obtain ⟨e39, x39, f39⟩ := h39
        subst e39
        have xs39 := XS.go (XS.lik) x39
        refine iw_drop ?_
        refine s_ws (ws2 := iw ad ct n τ (offS w2 w39) T) rfl ?_
        refine s_if_ne E dX1_leastBand_42 (tgt := 47) rfl (fun c42 => ?_) (fun c42 => ?_)
        · have c42 := (go_n c42).2
          refine s_iinc E (L2 := [(1, .int (nI (i + 4 + 1))), (0, .ref (ad 0))]) dX1_leastBand_47 (k := 1) rfl (v := nI (i + 4 + 1)) (nI_inc _) (Nat.le_of_ble_eq_true rfl) rfl ?_
          refine s_goto E dX1_leastBand_50 (tgt := 2) rfl ?_
          refine s_loc (L2 := [(0, .ref (ad 0)), (1, .int (nI (i + 4 + 1)))]) [1, 0] rfl ?_
          refine s_widen (k := 2 * (i + 1)) (n := 12 * (i + 1)) (by omega) (by omega) ?_
          exact ih2 (i + 1) (offS w2 w39) (by omega) (hw.tr xs39) (firstN_next hf (by unfold bandB; simp; exact c42)) (by omega)
        · have c42 := go_f c42
          refine s_iload_n E dX1_leastBand_45 (i := 1) (j := 1) rfl rfl ?_
          exact Rt (nI (i + 4)) (offS w2 w39) dX1_leastBand_46 (⟨by rw [firstN_keep (p := i) (by omega) hf (by unfold bandB; simp; exact Int32.not_lt.mp c42)]; rfl, hw.tr xs39⟩) rfl (by first | exact Nat.le_refl _ | omega) (by first | exact Nat.le_refl _ | omega) rfl E.2.2.2.2.2.1
  refine s_loc (L2 := [(0, .ref (ad 0)), (1, .int (nI 4))]) [1, 0] rfl ?_
  refine s_widen (k := 2 * 0) (n := 12 * 0) (by omega) (by omega) ?_
  exact L2 (_ + 1) 0 σ (Nat.zero_le _) (XS.rf _) (rfl) (Nat.lt_succ_self _)
set_option maxHeartbeats 1000000 in
set_option maxRecDepth 100000 in
theorem x1z_spare {l : Launch} {D : va_G} {gt : Nat → Nat} {ad : Nat → Nat} {ct : Nat → ClassId} {n : Nat} {τ σ : Nat → Nat → Int32} {T : va_W} (u : Int32) (hX : XT τ n) (hT : UT ad n τ T) (hP : PC (σ 1) n) (hbb : BB (σ 1)) : Ct l D gt yX1_spare cX1_spare 4 .int 9 219 120 720 [.ref (ad 0), .int (u)] (iw ad ct n τ σ T) (tysA ct) (fun r σ2 => (if isU n u = true then nI (cntN (spareB (vw τ (σ 1)) n (tN u)) (tN (τ 3 0))) else -1) = r ∧ XS σ σ2) (fun σ2 : Nat → Nat → Int32 => iw ad ct n τ σ2 T) (fun _ => tysA ct) := by
  refine Ct.start RX1 (by decide) rfl (Nat.le_of_ble_eq_true rfl) rfl ?_
  intro pP eE sS mM aA bB hM cC QQ AA E Rt
  have hn6 := hX.2.1
  have hB1 := hX.2.2.2.2.1
  have hB60 : tN (τ 3 0) ≤ 60 := by have := hB1.2; omega
  refine s_aload_n E dX1_spare_0 (i := 0) (j := 0) rfl rfl ?_
  refine s_iload_n E dX1_spare_1 (i := 1) (j := 1) rfl rfl ?_
  refine c_goi0 E (rV E (cutS _ _) (x1z_isUser u (hX)) K_X1_132 (Nat.le_of_ble_eq_true rfl) (Nat.le_of_ble_eq_true rfl) (Nat.zero_le _) (Nat.zero_le _) 0 rfl rfl rfl rfl (Nat.le_of_ble_eq_true rfl) dX1_spare_2) (fun r2 w2 h2 => ?_)
  obtain ⟨rfl, rfl⟩ := h2
  refine s_if_ne E dX1_spare_5 (tgt := 10) rfl (fun c5 => ?_) (fun c5 => ?_)
  · have c5 := bI_n0 c5
    obtain ⟨j, hj, rfl⟩ := us_isU c5 hn6
    refine s_iconst E dX1_spare_10 (v := nI 0) (by decide) ?_
    refine s_istore_n E (L2 := [(2, .int (nI 0)), (0, .ref (ad 0)), (1, .int (nI j))]) dX1_spare_11 rfl (Nat.le_of_ble_eq_true rfl) rfl ?_
    refine s_iconst E dX1_spare_12 (v := nI 1) (by decide) ?_
    refine s_istore_n E (L2 := [(3, .int (nI 1)), (2, .int (nI 0)), (0, .ref (ad 0)), (1, .int (nI j))]) dX1_spare_13 rfl (Nat.le_of_ble_eq_true rfl) rfl ?_
    have L14 : ∀ (fuel : Nat) (i : Nat) (w14 : Nat → Nat → Int32), (i ≤ tN (τ 3 0)) → (XS σ w14) → (tN (τ 3 0) - i) < fuel → Sm pP l eE { frames := 9, cells := 120, slots := 720, locals := 219 } sS mM aA bB hM cC QQ AA D 4 (2 * i) (12 * i) (iw ad ct n τ w14 T) 14 [(0, .ref (ad 0)), (1, .int (nI j)), (2, .int (nI (cntN (spareB (vw τ (σ 1)) n j) i))), (3, .int (nI (i + 1)))] [] := by
      intro fuel
      induction fuel with
      | zero =>
        intro i w14 hi hw hf14
        exact absurd hf14 (Nat.not_lt_zero _)
      | succ fuel ih14 =>
        intro i w14 hi hw hf14
        have hw1 := hw 1 (by decide) (by decide) (by decide)
        refine s_iload_n E dX1_spare_14 (i := 3) (j := 3) rfl rfl ?_
        refine s_aload_n E dX1_spare_15 (i := 0) (j := 0) rfl rfl ?_
        refine iwX1_g0_4 E dX1_spare_16 ?_
        refine iwX1_g2_6 E (v := nI (tN (τ 3 0))) (hX.2.2.2.2.1.1) dX1_spare_19 ?_
        refine s_icmp_gt E dX1_spare_22 (tgt := 77) rfl (fun c22 => ?_) (fun c22 => ?_)
        · have c22 : tN (τ 3 0) < i + 1 := (nI_ltI (a := tN (τ 3 0)) (b := i + 1) (by omega) (by omega)).mp c22
          refine s_iload_n E dX1_spare_77 (i := 2) (j := 2) rfl rfl ?_
          exact Rt (nI (cntN (spareB (vw τ (σ 1)) n j) i)) (w14) dX1_spare_78 (⟨by rw [if_pos c5, tN_nI (by omega), show tN (τ 3 0) = i by omega], hw⟩) rfl (by first | exact Nat.le_refl _ | omega) (by first | exact Nat.le_refl _ | omega) rfl E.2.2.2.2.2.1
        · have c22 : ¬ tN (τ 3 0) < i + 1 := fun h => c22 ((nI_ltI (a := tN (τ 3 0)) (b := i + 1) (by omega) (by omega)).mpr h)
          refine s_aload_n E dX1_spare_25 (i := 0) (j := 0) rfl rfl ?_
          refine s_iload_n E dX1_spare_26 (i := 1) (j := 1) rfl rfl ?_
          refine s_iload_n E dX1_spare_27 (i := 3) (j := 3) rfl rfl ?_
          refine c_goi0 E (rV E (cutS _ _) (x1z_fitsNow j (nI (i + 1)) (hX) (hT) (by rw [hw1]; exact hP) (by rw [hw1]; exact hbb) (hj) (In.of (by omega) (by decide))) K_X1_265 (Nat.le_of_ble_eq_true rfl) (Nat.le_of_ble_eq_true rfl) (by show _ ≤ 120; omega) (by show _ ≤ 720; omega) 0 rfl rfl rfl rfl (Nat.le_of_ble_eq_true rfl) dX1_spare_28) (fun r28 w28 h28 => ?_)
          rw [hw1] at h28
          obtain ⟨e28, x28, h3⟩ := h28
          subst e28
          refine s_if_ne E dX1_spare_31 (tgt := 37) rfl (fun c31 => ?_) (fun c31 => ?_)
          · have c31 := bI_n0 c31
            refine s_iload_n E dX1_spare_37 (i := 2) (j := 2) rfl rfl ?_
            refine s_new E in_X9 tyX9 tyX9_ok q834 q835 q130 (ci := 8) (fs := [.null, .int 0, .null, .int 0, .int 0, .null]) rfl df_X9 (by show _ ≤ 120; omega) (by show _ ≤ 720; omega) dX1_spare_38 (fun sa => ?_)
            refine s_ws (ws2 := iw ad ct n τ w28 (T ++ [(sa, .inr (8, [.null, .int 0, .null, .int 0, .int 0, .null]))])) iw_snoc ?_
            refine s_dup E dX1_spare_41 rfl ?_
            refine s_aload_n E dX1_spare_42 (i := 0) (j := 0) rfl rfl ?_
            refine s_aload_n E dX1_spare_43 (i := 0) (j := 0) rfl rfl ?_
            refine iwX1_g0_7 E dX1_spare_44 ?_
            refine s_aload_n E dX1_spare_47 (i := 0) (j := 0) rfl rfl ?_
            refine s_aload_n E dX1_spare_48 (i := 0) (j := 0) rfl rfl ?_
            refine iwX1_g0_7 E dX1_spare_49 ?_
            refine c_goi0 E (rV E (cutS _ _) (x1z_untuned2 (hX)) K_X1_186 (Nat.le_of_ble_eq_true rfl) (Nat.le_of_ble_eq_true rfl) (by show _ ≤ 120; omega) (by show _ ≤ 720; omega) 0 rfl rfl rfl rfl (Nat.le_of_ble_eq_true rfl) dX1_spare_52) (fun r52 w52 h52 => ?_)
            obtain ⟨rfl, rfl⟩ := h52
            refine s_top (v2 := nI (FS (st1 (vw τ (σ 1)) 25 j (nI (i + 1))) n)) (by rw [h3, vw_upd]) ?_
            refine c_gov E (rI E (cutS _ _) (x9z_init (S := FS (st1 (vw τ (σ 1)) 25 j (nI (i + 1))) n) hX (FS_sub _ hn6)) K_X1_189 (Nat.le_of_ble_eq_true rfl) (Nat.le_of_ble_eq_true rfl) (by show _ ≤ 120; omega) (by show _ ≤ 720; omega) rfl rfl (Nat.le_of_ble_eq_true rfl) dX1_spare_55) (fun fa _ => ?_)
            refine c_goi0 E (rV E (cutS _ _) (x9z_goes (τ 3 0) (upd (σ 1) j (nI (i + 1))) (FS (st1 (vw τ (σ 1)) 25 j (nI (i + 1))) n) (hX) (hT) (PC.put hP (In.of (by omega) (by decide))) (hX.2.2.2.2.1) (RC.zt hX) (FS_sub _ hn6) (rfl) (siS_h0 (FS_sub _ hn6)) (rfl) (siS_el (FS_sub _ hn6)) (by show zP (w28 3) _ n = _; rw [h3])) K_X1_192 (Nat.le_of_ble_eq_true rfl) (Nat.le_of_ble_eq_true rfl) (by show _ ≤ 120; omega) (by show _ ≤ 720; omega) (47 + T.length + 0) ((iw_len (k := 0)).trans rfl) rfl rfl rfl (Nat.le_of_ble_eq_true rfl) dX1_spare_58) (fun r58 w58 h58 => ?_)
            rw [vwB_self, vw_upd] at h58
            obtain ⟨e58, x58, f58⟩ := h58
            subst e58
            have xs58 := XS.go (x28) x58
            refine iw_drop ?_
            refine s_ws (ws2 := iw ad ct n τ (offS w14 w58) T) rfl ?_
            refine s_if_ne E dX1_spare_61 (tgt := 68) rfl (fun c61 => ?_) (fun c61 => ?_)
            · have c61 := (go_n c61).2
              refine s_iconst E dX1_spare_68 (v := nI 0) (by decide) ?_
              refine s_iadd_ E dX1_spare_69 (v := nI (cntN (spareB (vw τ (σ 1)) n j) (i + 1))) (by rw [cntN_f (by unfold spareB; rw [decide_eq_true c61]; simp)]; exact nI_add _ _) ?_
              refine s_istore_n E (L2 := [(2, .int (nI (cntN (spareB (vw τ (σ 1)) n j) (i + 1)))), (0, .ref (ad 0)), (1, .int (nI j)), (3, .int (nI (i + 1)))]) dX1_spare_70 rfl (Nat.le_of_ble_eq_true rfl) rfl ?_
              refine s_iinc E (L2 := [(3, .int (nI (i + 1 + 1))), (2, .int (nI (cntN (spareB (vw τ (σ 1)) n j) (i + 1)))), (0, .ref (ad 0)), (1, .int (nI j))]) dX1_spare_71 (k := 3) rfl (v := nI (i + 1 + 1)) (nI_inc _) (Nat.le_of_ble_eq_true rfl) rfl ?_
              refine s_goto E dX1_spare_74 (tgt := 14) rfl ?_
              refine s_loc (L2 := [(0, .ref (ad 0)), (1, .int (nI j)), (2, .int (nI (cntN (spareB (vw τ (σ 1)) n j) (i + 1)))), (3, .int (nI (i + 1 + 1)))]) [2, 3, 1, 0] rfl ?_
              refine s_widen (k := 2 * (i + 1)) (n := 12 * (i + 1)) (by omega) (by omega) ?_
              exact ih14 (i + 1) (offS w14 w58) (by omega) (hw.tr xs58) (by omega)
            · have c61 := go_f c61
              refine s_iconst E dX1_spare_64 (v := nI 1) (by decide) ?_
              refine s_goto E dX1_spare_65 (tgt := 69) rfl ?_
              refine s_iadd_ E dX1_spare_69 (v := nI (cntN (spareB (vw τ (σ 1)) n j) (i + 1))) (by rw [cntN_t (by unfold spareB; rw [c31, decide_eq_false c61]; rfl)]; exact nI_add _ _) ?_
              refine s_istore_n E (L2 := [(2, .int (nI (cntN (spareB (vw τ (σ 1)) n j) (i + 1)))), (0, .ref (ad 0)), (1, .int (nI j)), (3, .int (nI (i + 1)))]) dX1_spare_70 rfl (Nat.le_of_ble_eq_true rfl) rfl ?_
              refine s_iinc E (L2 := [(3, .int (nI (i + 1 + 1))), (2, .int (nI (cntN (spareB (vw τ (σ 1)) n j) (i + 1)))), (0, .ref (ad 0)), (1, .int (nI j))]) dX1_spare_71 (k := 3) rfl (v := nI (i + 1 + 1)) (nI_inc _) (Nat.le_of_ble_eq_true rfl) rfl ?_
              refine s_goto E dX1_spare_74 (tgt := 14) rfl ?_
              refine s_loc (L2 := [(0, .ref (ad 0)), (1, .int (nI j)), (2, .int (nI (cntN (spareB (vw τ (σ 1)) n j) (i + 1)))), (3, .int (nI (i + 1 + 1)))]) [2, 3, 1, 0] rfl ?_
              refine s_widen (k := 2 * (i + 1)) (n := 12 * (i + 1)) (by omega) (by omega) ?_
              exact ih14 (i + 1) (offS w14 w58) (by omega) (hw.tr xs58) (by omega)
          · have c31 := bI_0 c31
            refine s_goto E dX1_spare_34 (tgt := 71) rfl ?_
            refine s_iinc E (L2 := [(3, .int (nI (i + 1 + 1))), (0, .ref (ad 0)), (1, .int (nI j)), (2, .int (nI (cntN (spareB (vw τ (σ 1)) n j) i)))]) dX1_spare_71 (k := 3) rfl (v := nI (i + 1 + 1)) (nI_inc _) (Nat.le_of_ble_eq_true rfl) rfl ?_
            refine s_goto E dX1_spare_74 (tgt := 14) rfl ?_
            refine s_loc (L2 := [(0, .ref (ad 0)), (1, .int (nI j)), (2, .int (nI (cntN (spareB (vw τ (σ 1)) n j) i))), (3, .int (nI (i + 1 + 1)))]) [1, 2, 3, 0] rfl ?_
            refine s_widen (k := 2 * (i + 1)) (n := 12 * (i + 1)) (by omega) (by omega) ?_
            refine s_L (L2 := [(0, .ref (ad 0)), (1, .int (nI j)), (2, .int (nI (cntN (spareB (vw τ (σ 1)) n j) (i + 1)))), (3, .int (nI ((i + 1) + 1)))]) (by rw [cntN_f (by unfold spareB; simp [c31])]) ?_
            exact ih14 (i + 1) w28 (by omega) (hw.tr x28) (by omega)
    refine s_loc (L2 := [(0, .ref (ad 0)), (1, .int (nI j)), (2, .int (nI 0)), (3, .int (nI 1))]) [2, 3, 1, 0] rfl ?_
    refine s_widen (k := 2 * 0) (n := 12 * 0) (by omega) (by omega) ?_
    exact L14 (_ + 1) 0 σ (Nat.zero_le _) (XS.rf _) (Nat.lt_succ_self _)
  · have c5 := bI_0 c5
    refine s_iconst E dX1_spare_8 (v := (-1)) (by decide) ?_
    exact Rt ((-1)) (σ) dX1_spare_9 (⟨by rw [if_neg c5], XS.rf _⟩) rfl (by first | exact Nat.le_refl _ | omega) (by first | exact Nat.le_refl _ | omega) rfl E.2.2.2.2.2.1
