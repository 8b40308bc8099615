set_option maxRecDepth 100000
theorem K_X4_124 : KV RX4 124 RX4 yX4_isAt cX4_isAt 3 (some .boolean) 2 := ⟨q899, q901, qs25, q116, q902, by decide +kernel⟩
theorem K_X4_127 : KV RX4 127 RX4 yX4_makes cX4_makes 10 none 4 := ⟨q903, q905, qs26, q116, q906, by decide +kernel⟩
set_option maxHeartbeats 4000000 in
set_option maxRecDepth 100000 in
theorem x4z_goes {l : Launch} {D : va_G} {gt : Nat → Nat} {ba ad : Nat → Nat} {ct : Nat → ClassId} {Nw : Nat} {τ σ ξ : Nat → Nat → Int32} (s : Nat → Nat → Int32) (n : Nat) (sg : Int32) (L : List Pr) (at0 k : Nat) (hL : AM s n sg L σ) (hnN : n ≤ Nw) (hN8 : Nw ≤ 8) (hT : TA s τ n) (hB : NB s n) (hk : k < 6) (hlen : (L ++ catN (fA s n at0 k) n).length ≤ 9216) : Cv l D gt yX4_goes cX4_goes 8 3 80 0 0 [.ref (ba 0), .int (nI at0), .int (nI k)] (aw ba ct Nw σ ad τ ξ) (tysA ct) (fun σ2 => AM s n sg (L ++ catN (fA s n at0 k) n) σ2) (fun σ2 : Nat → Nat → Int32 => aw ba ct Nw σ2 ad τ ξ) (fun _ => tysA ct) := by
  refine Cv.start RX4 (by decide) rfl (Nat.le_of_ble_eq_true rfl) rfl ?_
  intro pP eE sS mM aA bB hM cC QQ AA E Rt
  have tt := third_t k hk
  have to := ord_t k hk
  refine s_getsN E E.2.2.2.2.2.2.1.1.1 q897 dX4_goes_0 ?_
  refine s_iconst E dX4_goes_3 (v := nI 3) (by decide) ?_
  refine s_iload_n E dX4_goes_4 (i := 2) (j := 2) rfl rfl ?_
  refine s_imul_ E dX4_goes_5 (v := nI (3 * k)) (pk_mul _ _) ?_
  refine s_iconst E dX4_goes_6 (v := nI 2) (by decide) ?_
  refine s_iadd_ E dX4_goes_7 (v := nI ((3 * k) + 2)) (nI_add _ _) ?_
  refine s_tald E E.2.2.2.2.2.2.1.1.2.1 ((3 * k) + 2) (rfl) (by omega) (by decide) (v := .int (tC k)) (congrArg Value.int ((times_at k hk).2.2)) dX4_goes_8 ?_
  have J17 : Sm pP l eE { frames := 3, cells := 0, slots := 0, locals := 80 } sS mM aA bB hM cC QQ AA D 8 0 0 (aw ba ct Nw σ ad τ ξ) 17 [(0, .ref (ba 0)), (1, .int (nI at0)), (2, .int (nI k))] [.int (bI (third k = true))] := by
    refine s_istore_n E (L2 := [(3, .int (bI (third k = true))), (0, .ref (ba 0)), (1, .int (nI at0)), (2, .int (nI k))]) dX4_goes_17 rfl (Nat.le_of_ble_eq_true rfl) rfl ?_
    refine s_getsN E E.2.2.2.2.2.2.1.1.1 q897 dX4_goes_18 ?_
    refine s_iconst E dX4_goes_21 (v := nI 3) (by decide) ?_
    refine s_iload_n E dX4_goes_22 (i := 2) (j := 3) rfl rfl ?_
    refine s_imul_ E dX4_goes_23 (v := nI (3 * k)) (pk_mul _ _) ?_
    refine s_tald E E.2.2.2.2.2.2.1.1.2.1 (3 * k) (rfl) (by omega) (by decide) (v := .int (tA k)) (congrArg Value.int ((times_at k hk).1)) dX4_goes_24 ?_
    refine s_getsN E E.2.2.2.2.2.2.1.1.1 q897 dX4_goes_25 ?_
    refine s_iconst E dX4_goes_28 (v := nI 3) (by decide) ?_
    refine s_iload_n E dX4_goes_29 (i := 2) (j := 3) rfl rfl ?_
    refine s_imul_ E dX4_goes_30 (v := nI (3 * k)) (pk_mul _ _) ?_
    refine s_iconst E dX4_goes_31 (v := nI 1) (by decide) ?_
    refine s_iadd_ E dX4_goes_32 (v := nI ((3 * k) + 1)) (nI_add _ _) ?_
    refine s_tald E E.2.2.2.2.2.2.1.1.2.1 ((3 * k) + 1) (rfl) (by omega) (by decide) (v := .int (tB k)) (congrArg Value.int ((times_at k hk).2.1)) dX4_goes_33 ?_
    have J42 : Sm pP l eE { frames := 3, cells := 0, slots := 0, locals := 80 } sS mM aA bB hM cC QQ AA D 8 0 0 (aw ba ct Nw σ ad τ ξ) 42 [(3, .int (bI (third k = true))), (0, .ref (ba 0)), (1, .int (nI at0)), (2, .int (nI k))] [.int (bI (ordK k = true))] := by
      refine s_istore E (L2 := [(4, .int (bI (ordK k = true))), (3, .int (bI (third k = true))), (0, .ref (ba 0)), (1, .int (nI at0)), (2, .int (nI k))]) dX4_goes_42 (Nat.le_of_ble_eq_true rfl) rfl ?_
      refine s_iconst E dX4_goes_44 (v := nI 0) (by decide) ?_
      refine s_istore E (L2 := [(5, .int (nI 0)), (4, .int (bI (ordK k = true))), (3, .int (bI (third k = true))), (0, .ref (ba 0)), (1, .int (nI at0)), (2, .int (nI k))]) dX4_goes_45 (Nat.le_of_ble_eq_true rfl) rfl ?_
      have L47 : ∀ (fuel : Nat) (u : Nat) (w47 : Nat → Nat → Int32), (u ≤ n) → (AM s n sg (L ++ catN (fA s n at0 k) u) w47) → (n - u) < fuel → Sm pP l eE { frames := 3, cells := 0, slots := 0, locals := 80 } sS mM aA bB hM cC QQ AA D 8 0 0 (aw ba ct Nw w47 ad τ ξ) 47 [(0, .ref (ba 0)), (1, .int (nI at0)), (2, .int (nI k)), (3, .int (bI (third k = true))), (4, .int (bI (ordK k = true))), (5, .int (nI u))] [] := by
        intro fuel
        induction fuel with
        | zero =>
          intro u w47 hui hL47 hf47
          exact absurd hf47 (Nat.not_lt_zero _)
        | succ fuel ih47 =>
          intro u w47 hui hL47 hf47
          refine s_iload E dX4_goes_47 (i := 5) (j := 5) rfl ?_
          refine s_aload_n E dX4_goes_49 (i := 0) (j := 0) rfl rfl ?_
          refine awX4_g0_9 E (v := nI n) (hL47.1.1.1) dX4_goes_50 ?_
          refine s_icmp_ge E dX4_goes_53 (tgt := 196) rfl (fun c53 => ?_) (fun c53 => ?_)
          · have c53 : ¬ u < n := fun h => absurd c53 (Int32.not_le.mpr ((nI_ltI (a := u) (b := n) (by omega) (by omega)).mpr h))
            exact Rt (w47) dX4_goes_196 (by obtain rfl : u = n := (by omega); exact hL47) rfl (Nat.le_refl _) (Nat.le_refl _) E.2.2.2.2.2.1
          · have c53 : u < n := (nI_ltI (a := u) (b := n) (by omega) (by omega)).mp (Int32.not_le.mp c53)
            refine s_aload_n E dX4_goes_56 (i := 0) (j := 0) rfl rfl ?_
            refine s_iload E dX4_goes_57 (i := 5) (j := 5) rfl ?_
            refine s_iload_n E dX4_goes_59 (i := 1) (j := 1) rfl rfl ?_
            refine c_goi0 E (rV E (cutS _ _) (x4z_isAt s n u at0 (hL47.1.1) (hnN) (hN8) (by omega)) K_X4_124 (Nat.le_of_ble_eq_true rfl) (Nat.le_of_ble_eq_true rfl) (Nat.zero_le _) (Nat.zero_le _) 0 rfl rfl rfl rfl (Nat.le_of_ble_eq_true rfl) dX4_goes_60) (fun r60 w60 h60 => ?_)
            obtain ⟨rfl, rfl⟩ := h60
            refine s_if_ne E dX4_goes_63 (tgt := 69) rfl (fun c63 => ?_) (fun c63 => ?_)
            · have c63 := bI_n0 c63
              refine s_iload E dX4_goes_69 (i := 4) (j := 4) rfl ?_
              have J82 : Sm pP l eE { frames := 3, cells := 0, slots := 0, locals := 80 } sS mM aA bB hM cC QQ AA D 8 0 0 (aw ba ct Nw w47 ad τ ξ) 82 [(0, .ref (ba 0)), (1, .int (nI at0)), (2, .int (nI k)), (3, .int (bI (third k = true))), (4, .int (bI (ordK k = true))), (5, .int (nI u))] [.int (nI (vzF k u))] := by
                refine s_istore E (L2 := [(6, .int (nI (vzF k u))), (0, .ref (ba 0)), (1, .int (nI at0)), (2, .int (nI k)), (3, .int (bI (third k = true))), (4, .int (bI (ordK k = true))), (5, .int (nI u))]) dX4_goes_82 (Nat.le_of_ble_eq_true rfl) rfl ?_
                have L84 : ∀ (fuel : Nat) (v : Nat) (w84 : Nat → Nat → Int32), (v ≤ n) → (vzF k u ≤ v) → (AM s n sg (L ++ catN (fA s n at0 k) u ++ catN (fB s n at0 k u) v) w84) → (n - v) < fuel → Sm pP l eE { frames := 3, cells := 0, slots := 0, locals := 80 } sS mM aA bB hM cC QQ AA D 8 0 0 (aw ba ct Nw w84 ad τ ξ) 84 [(0, .ref (ba 0)), (1, .int (nI at0)), (2, .int (nI k)), (3, .int (bI (third k = true))), (4, .int (bI (ordK k = true))), (5, .int (nI u)), (6, .int (nI v))] [] := by
                  intro fuel
                  induction fuel with
                  | zero =>
                    intro v w84 hvi hvz hL84 hf84
                    exact absurd hf84 (Nat.not_lt_zero _)
                  | succ fuel ih84 =>
                    intro v w84 hvi hvz hL84 hf84
                    refine s_iload E dX4_goes_84 (i := 6) (j := 6) rfl ?_
                    refine s_aload_n E dX4_goes_86 (i := 0) (j := 0) rfl rfl ?_
                    refine awX4_g0_9 E (v := nI n) (hL84.1.1.1) dX4_goes_87 ?_
                    refine s_icmp_ge E dX4_goes_90 (tgt := 190) rfl (fun c90 => ?_) (fun c90 => ?_)
                    · have c90 : ¬ v < n := fun h => absurd c90 (Int32.not_le.mpr ((nI_ltI (a := v) (b := n) (by omega) (by omega)).mpr h))
                      refine s_iinc E (L2 := [(5, .int (nI (u + 1))), (0, .ref (ba 0)), (1, .int (nI at0)), (2, .int (nI k)), (3, .int (bI (third k = true))), (4, .int (bI (ordK k = true))), (6, .int (nI v))]) dX4_goes_190 (k := 5) rfl (v := nI (u + 1)) (nI_inc _) (Nat.le_of_ble_eq_true rfl) rfl ?_
                      refine s_goto E dX4_goes_193 (tgt := 47) rfl ?_
                      refine s_loc (L2 := [(0, .ref (ba 0)), (1, .int (nI at0)), (2, .int (nI k)), (3, .int (bI (third k = true))), (4, .int (bI (ordK k = true))), (5, .int (nI (u + 1)))]) [1, 2, 3, 4, 5, 0] rfl ?_
                      exact ih47 (u + 1) w84 (by omega) (by obtain rfl : v = n := (by omega); rw [catN, ← List.append_assoc]; exact hL84) (by omega)
                    · have c90 : v < n := (nI_ltI (a := v) (b := n) (by omega) (by omega)).mp (Int32.not_le.mp c90)
                      refine s_iload E dX4_goes_93 (i := 6) (j := 6) rfl ?_
                      refine s_iload E dX4_goes_95 (i := 5) (j := 5) rfl ?_
                      refine s_icmp_eq E dX4_goes_97 (tgt := 184) rfl (fun c97 => ?_) (fun c97 => ?_)
                      · have c97 : v = u := (nI_eq (a := v) (b := u) (by omega) (by omega)).mp c97
                        refine s_iinc E (L2 := [(6, .int (nI (v + 1))), (0, .ref (ba 0)), (1, .int (nI at0)), (2, .int (nI k)), (3, .int (bI (third k = true))), (4, .int (bI (ordK k = true))), (5, .int (nI u))]) dX4_goes_184 (k := 6) rfl (v := nI (v + 1)) (nI_inc _) (Nat.le_of_ble_eq_true rfl) rfl ?_
                        refine s_goto E dX4_goes_187 (tgt := 84) rfl ?_
                        refine s_loc (L2 := [(0, .ref (ba 0)), (1, .int (nI at0)), (2, .int (nI k)), (3, .int (bI (third k = true))), (4, .int (bI (ordK k = true))), (5, .int (nI u)), (6, .int (nI (v + 1)))]) [1, 2, 3, 4, 5, 6, 0] rfl ?_
                        exact ih84 (v + 1) w84 (by omega) (by omega) (by rw [catN, fB_un (by first | exact Or.inl c97 | exact Or.inr c107), List.append_nil]; exact hL84) (by omega)
                      · have c97 : ¬ v = u := fun h => c97 ((nI_eq (a := v) (b := u) (by omega) (by omega)).mpr h)
                        refine s_aload_n E dX4_goes_100 (i := 0) (j := 0) rfl rfl ?_
                        refine s_iload E dX4_goes_101 (i := 6) (j := 6) rfl ?_
                        refine s_iload_n E dX4_goes_103 (i := 1) (j := 1) rfl rfl ?_
                        refine c_goi0 E (rV E (cutS _ _) (x4z_isAt s n v at0 (hL84.1.1) (hnN) (hN8) (by omega)) K_X4_124 (Nat.le_of_ble_eq_true rfl) (Nat.le_of_ble_eq_true rfl) (Nat.zero_le _) (Nat.zero_le _) 0 rfl rfl rfl rfl (Nat.le_of_ble_eq_true rfl) dX4_goes_104) (fun r104 w104 h104 => ?_)
                        obtain ⟨rfl, rfl⟩ := h104
                        refine s_if_ne E dX4_goes_107 (tgt := 113) rfl (fun c107 => ?_) (fun c107 => ?_)
                        · have c107 := bI_n0 c107
                          refine s_iload_n E dX4_goes_113 (i := 3) (j := 3) rfl rfl ?_
                          refine s_if_ne E dX4_goes_114 (tgt := 127) rfl (fun c114 => ?_) (fun c114 => ?_)
                          · have c114 := bI_n0 c114
                            refine s_iconst E dX4_goes_127 (v := nI 0) (by decide) ?_
                            refine s_istore E (L2 := [(7, .int (nI 0)), (0, .ref (ba 0)), (1, .int (nI at0)), (2, .int (nI k)), (3, .int (bI (third k = true))), (4, .int (bI (ordK k = true))), (5, .int (nI u)), (6, .int (nI v))]) dX4_goes_128 (Nat.le_of_ble_eq_true rfl) rfl ?_
                            have L130 : ∀ (fuel : Nat) (w : Nat) (w130 : Nat → Nat → Int32), (w ≤ n) → (AM s n sg (L ++ catN (fA s n at0 k) u ++ catN (fB s n at0 k u) v ++ catN (fC s at0 k u v) w) w130) → (n - w) < fuel → Sm pP l eE { frames := 3, cells := 0, slots := 0, locals := 80 } sS mM aA bB hM cC QQ AA D 8 0 0 (aw ba ct Nw w130 ad τ ξ) 130 [(0, .ref (ba 0)), (1, .int (nI at0)), (2, .int (nI k)), (3, .int (bI (third k = true))), (4, .int (bI (ordK k = true))), (5, .int (nI u)), (6, .int (nI v)), (7, .int (nI w))] [] := by
                              intro fuel
                              induction fuel with
                              | zero =>
                                intro w w130 hwi hL130 hf130
                                exact absurd hf130 (Nat.not_lt_zero _)
                              | succ fuel ih130 =>
                                intro w w130 hwi hL130 hf130
                                refine s_iload_n E dX4_goes_130 (i := 3) (j := 3) rfl rfl ?_
                                refine s_if_eq E dX4_goes_131 (tgt := 184) rfl (fun c131 => absurd c114 (bI_0 c131)) (fun c131 => ?_)
                                have c131 := bI_n0 c131
                                refine s_iload E dX4_goes_134 (i := 7) (j := 7) rfl ?_
                                refine s_aload_n E dX4_goes_136 (i := 0) (j := 0) rfl rfl ?_
                                refine awX4_g0_9 E (v := nI n) (hL130.1.1.1) dX4_goes_137 ?_
                                refine s_icmp_ge E dX4_goes_140 (tgt := 184) rfl (fun c140 => ?_) (fun c140 => ?_)
                                · have c140 : ¬ w < n := fun h => absurd c140 (Int32.not_le.mpr ((nI_ltI (a := w) (b := n) (by omega) (by omega)).mpr h))
                                  refine s_iinc E (L2 := [(6, .int (nI (v + 1))), (0, .ref (ba 0)), (1, .int (nI at0)), (2, .int (nI k)), (3, .int (bI (third k = true))), (4, .int (bI (ordK k = true))), (5, .int (nI u)), (7, .int (nI w))]) dX4_goes_184 (k := 6) rfl (v := nI (v + 1)) (nI_inc _) (Nat.le_of_ble_eq_true rfl) rfl ?_
                                  refine s_goto E dX4_goes_187 (tgt := 84) rfl ?_
                                  refine s_loc (L2 := [(0, .ref (ba 0)), (1, .int (nI at0)), (2, .int (nI k)), (3, .int (bI (third k = true))), (4, .int (bI (ordK k = true))), (5, .int (nI u)), (6, .int (nI (v + 1)))]) [1, 2, 3, 4, 5, 6, 0] rfl ?_
                                  exact ih84 (v + 1) w130 (by omega) (by omega) (by obtain rfl : w = n := (by omega); rw [catN, ← List.append_assoc, fB_3 c63 c107 c97 hvz c114]; exact hL130) (by omega)
                                · have c140 : w < n := (nI_ltI (a := w) (b := n) (by omega) (by omega)).mp (Int32.not_le.mp c140)
                                  refine s_iload E dX4_goes_143 (i := 7) (j := 7) rfl ?_
                                  refine s_iload E dX4_goes_145 (i := 5) (j := 5) rfl ?_
                                  refine s_icmp_eq E dX4_goes_147 (tgt := 178) rfl (fun c147 => ?_) (fun c147 => ?_)
                                  · have c147 : w = u := (nI_eq (a := w) (b := u) (by omega) (by omega)).mp c147
                                    refine s_iinc E (L2 := [(7, .int (nI (w + 1))), (0, .ref (ba 0)), (1, .int (nI at0)), (2, .int (nI k)), (3, .int (bI (third k = true))), (4, .int (bI (ordK k = true))), (5, .int (nI u)), (6, .int (nI v))]) dX4_goes_178 (k := 7) rfl (v := nI (w + 1)) (nI_inc _) (Nat.le_of_ble_eq_true rfl) rfl ?_
                                    refine s_goto E dX4_goes_181 (tgt := 130) rfl ?_
                                    refine s_loc (L2 := [(0, .ref (ba 0)), (1, .int (nI at0)), (2, .int (nI k)), (3, .int (bI (third k = true))), (4, .int (bI (ordK k = true))), (5, .int (nI u)), (6, .int (nI v)), (7, .int (nI (w + 1)))]) [1, 2, 3, 4, 5, 6, 7, 0] rfl ?_
                                    exact ih130 (w + 1) w130 (by omega) (by rw [catN, show fC s at0 k u v w = [] from (by unfold fC; rw [if_neg]; first | (simp [c147]; done) | (simp [c154]; done) | (simp [c164]; done)), List.append_nil]; exact hL130) (by omega)
                                  · have c147 : ¬ w = u := fun h => c147 ((nI_eq (a := w) (b := u) (by omega) (by omega)).mpr h)
                                    refine s_iload E dX4_goes_150 (i := 7) (j := 7) rfl ?_
                                    refine s_iload E dX4_goes_152 (i := 6) (j := 6) rfl ?_
                                    refine s_icmp_eq E dX4_goes_154 (tgt := 178) rfl (fun c154 => ?_) (fun c154 => ?_)
                                    · have c154 : w = v := (nI_eq (a := w) (b := v) (by omega) (by omega)).mp c154
                                      refine s_iinc E (L2 := [(7, .int (nI (w + 1))), (0, .ref (ba 0)), (1, .int (nI at0)), (2, .int (nI k)), (3, .int (bI (third k = true))), (4, .int (bI (ordK k = true))), (5, .int (nI u)), (6, .int (nI v))]) dX4_goes_178 (k := 7) rfl (v := nI (w + 1)) (nI_inc _) (Nat.le_of_ble_eq_true rfl) rfl ?_
                                      refine s_goto E dX4_goes_181 (tgt := 130) rfl ?_
                                      refine s_loc (L2 := [(0, .ref (ba 0)), (1, .int (nI at0)), (2, .int (nI k)), (3, .int (bI (third k = true))), (4, .int (bI (ordK k = true))), (5, .int (nI u)), (6, .int (nI v)), (7, .int (nI (w + 1)))]) [1, 2, 3, 4, 5, 6, 7, 0] rfl ?_
                                      exact ih130 (w + 1) w130 (by omega) (by rw [catN, show fC s at0 k u v w = [] from (by unfold fC; rw [if_neg]; first | (simp [c147]; done) | (simp [c154]; done) | (simp [c164]; done)), List.append_nil]; exact hL130) (by omega)
                                    · have c154 : ¬ w = v := fun h => c154 ((nI_eq (a := w) (b := v) (by omega) (by omega)).mpr h)
                                      refine s_aload_n E dX4_goes_157 (i := 0) (j := 0) rfl rfl ?_
                                      refine s_iload E dX4_goes_158 (i := 7) (j := 7) rfl ?_
                                      refine s_iload_n E dX4_goes_160 (i := 1) (j := 1) rfl rfl ?_
                                      refine c_goi0 E (rV E (cutS _ _) (x4z_isAt s n w at0 (hL130.1.1) (hnN) (hN8) (by omega)) K_X4_124 (Nat.le_of_ble_eq_true rfl) (Nat.le_of_ble_eq_true rfl) (Nat.zero_le _) (Nat.zero_le _) 0 rfl rfl rfl rfl (Nat.le_of_ble_eq_true rfl) dX4_goes_161) (fun r161 w161 h161 => ?_)
                                      obtain ⟨rfl, rfl⟩ := h161
                                      refine s_if_eq E dX4_goes_164 (tgt := 178) rfl (fun c164 => ?_) (fun c164 => ?_)
                                      · have c164 := bI_0 c164
                                        refine s_iinc E (L2 := [(7, .int (nI (w + 1))), (0, .ref (ba 0)), (1, .int (nI at0)), (2, .int (nI k)), (3, .int (bI (third k = true))), (4, .int (bI (ordK k = true))), (5, .int (nI u)), (6, .int (nI v))]) dX4_goes_178 (k := 7) rfl (v := nI (w + 1)) (nI_inc _) (Nat.le_of_ble_eq_true rfl) rfl ?_
                                        refine s_goto E dX4_goes_181 (tgt := 130) rfl ?_
                                        refine s_loc (L2 := [(0, .ref (ba 0)), (1, .int (nI at0)), (2, .int (nI k)), (3, .int (bI (third k = true))), (4, .int (bI (ordK k = true))), (5, .int (nI u)), (6, .int (nI v)), (7, .int (nI (w + 1)))]) [1, 2, 3, 4, 5, 6, 7, 0] rfl ?_
                                        exact ih130 (w + 1) w130 (by omega) (by rw [catN, show fC s at0 k u v w = [] from (by unfold fC; rw [if_neg]; first | (simp [c147]; done) | (simp [c154]; done) | (simp [c164]; done)), List.append_nil]; exact hL130) (by omega)
                                      · have c164 := bI_n0 c164
                                        refine s_aload_n E dX4_goes_167 (i := 0) (j := 0) rfl rfl ?_
                                        refine s_iload_n E dX4_goes_168 (i := 2) (j := 2) rfl rfl ?_
                                        refine s_iload E dX4_goes_169 (i := 5) (j := 5) rfl ?_
                                        refine s_iload E dX4_goes_171 (i := 6) (j := 6) rfl ?_
                                        refine s_iload E dX4_goes_173 (i := 7) (j := 7) rfl ?_
                                        refine c_gov0 E (rV E (cutS _ _) (x4z_makes3 s n sg (L ++ catN (fA s n at0 k) u ++ catN (fB s n at0 k u) v ++ catN (fC s at0 k u v) w) k u v w (hL130) (hnN) (hN8) (hT) (hB) (hk) (by omega) (by omega) (by omega) (c147) (c154) (fun e => c97 e.symm) ((by have h1 := catN_mono (fA s n at0 k) (show u + 1 ≤ n by omega); have h2 := catN_mono (fB s n at0 k u) (show v + 1 ≤ n by omega); have h3 := fB_3 (s := s) (n := n) c63 c107 c97 hvz c114; have h4 := catN_mono (fC s at0 k u v) (show w + 1 ≤ n by omega); have h5 : fC s at0 k u v w = okL s (k, u, v, some w) := (by unfold fC; rw [if_pos]; simp [c147, c154, c164]); simp only [catN, fA, h3, h5, List.length_append] at h1 h2 h4 hlen ⊢; omega))) K_X4_127 (Nat.le_of_ble_eq_true rfl) (Nat.le_of_ble_eq_true rfl) (Nat.zero_le _) (Nat.zero_le _) 0 rfl rfl rfl rfl (Nat.le_of_ble_eq_true rfl) dX4_goes_175) (fun w175 h175 => ?_)
                                        refine s_iinc E (L2 := [(7, .int (nI (w + 1))), (0, .ref (ba 0)), (1, .int (nI at0)), (2, .int (nI k)), (3, .int (bI (third k = true))), (4, .int (bI (ordK k = true))), (5, .int (nI u)), (6, .int (nI v))]) dX4_goes_178 (k := 7) rfl (v := nI (w + 1)) (nI_inc _) (Nat.le_of_ble_eq_true rfl) rfl ?_
                                        refine s_goto E dX4_goes_181 (tgt := 130) rfl ?_
                                        refine s_loc (L2 := [(0, .ref (ba 0)), (1, .int (nI at0)), (2, .int (nI k)), (3, .int (bI (third k = true))), (4, .int (bI (ordK k = true))), (5, .int (nI u)), (6, .int (nI v)), (7, .int (nI (w + 1)))]) [1, 2, 3, 4, 5, 6, 7, 0] rfl ?_
                                        exact ih130 (w + 1) w175 (by omega) (by rw [catN, ← List.append_assoc, show fC s at0 k u v w = okL s (k, u, v, some w) from (by unfold fC; rw [if_pos]; simp [c147, c154, c164])]; exact h175) (by omega)
                            refine s_loc (L2 := [(0, .ref (ba 0)), (1, .int (nI at0)), (2, .int (nI k)), (3, .int (bI (third k = true))), (4, .int (bI (ordK k = true))), (5, .int (nI u)), (6, .int (nI v)), (7, .int (nI 0))]) [1, 2, 3, 4, 5, 6, 7, 0] rfl ?_
                            exact L130 (_ + 1) 0 w84 (Nat.zero_le _) (by rw [catN, List.append_nil]; exact hL84) (Nat.lt_succ_self _)
                          · have c114 := bI_0 c114
                            refine s_aload_n E dX4_goes_117 (i := 0) (j := 0) rfl rfl ?_
                            refine s_iload_n E dX4_goes_118 (i := 2) (j := 2) rfl rfl ?_
                            refine s_iload E dX4_goes_119 (i := 5) (j := 5) rfl ?_
                            refine s_iload E dX4_goes_121 (i := 6) (j := 6) rfl ?_
                            refine s_iconst E dX4_goes_123 (v := (-1)) (by decide) ?_
                            refine c_gov0 E (rV E (cutS _ _) (x4z_makes s n sg (L ++ catN (fA s n at0 k) u ++ catN (fB s n at0 k u) v) k u v (hL84) (hnN) (hN8) (hT) (hB) (hk) (by omega) (by omega) (fun e => c97 e.symm) ((by have h1 := catN_mono (fA s n at0 k) (show u + 1 ≤ n by omega); have h2 := catN_mono (fB s n at0 k u) (show v + 1 ≤ n by omega); have h3 : fB s n at0 k u v = okL s (k, u, v, none) := fB_2 c63 c107 c97 hvz c114; simp only [catN, fA, h3, List.length_append] at h1 h2 hlen ⊢; omega))) K_X4_127 (Nat.le_of_ble_eq_true rfl) (Nat.le_of_ble_eq_true rfl) (Nat.zero_le _) (Nat.zero_le _) 0 rfl rfl rfl rfl (Nat.le_of_ble_eq_true rfl) dX4_goes_124) (fun w124 h124 => ?_)
                            refine s_iconst E dX4_goes_127 (v := nI 0) (by decide) ?_
                            refine s_istore E (L2 := [(7, .int (nI 0)), (0, .ref (ba 0)), (1, .int (nI at0)), (2, .int (nI k)), (3, .int (bI (third k = true))), (4, .int (bI (ordK k = true))), (5, .int (nI u)), (6, .int (nI v))]) dX4_goes_128 (Nat.le_of_ble_eq_true rfl) rfl ?_
                            refine s_iload_n E dX4_goes_130 (i := 3) (j := 4) rfl rfl ?_
                            refine s_if_eq E dX4_goes_131 (tgt := 184) rfl (fun c131 => ?_) (fun c131 => absurd (bI_n0 c131) c114)
                            have c131 := bI_0 c131
                            refine s_iinc E (L2 := [(6, .int (nI (v + 1))), (7, .int (nI 0)), (0, .ref (ba 0)), (1, .int (nI at0)), (2, .int (nI k)), (3, .int (bI (third k = true))), (4, .int (bI (ordK k = true))), (5, .int (nI u))]) dX4_goes_184 (k := 7) rfl (v := nI (v + 1)) (nI_inc _) (Nat.le_of_ble_eq_true rfl) rfl ?_
                            refine s_goto E dX4_goes_187 (tgt := 84) rfl ?_
                            refine s_loc (L2 := [(0, .ref (ba 0)), (1, .int (nI at0)), (2, .int (nI k)), (3, .int (bI (third k = true))), (4, .int (bI (ordK k = true))), (5, .int (nI u)), (6, .int (nI (v + 1)))]) [2, 3, 4, 5, 6, 7, 0] rfl ?_
                            exact ih84 (v + 1) w124 (by omega) (by omega) (by rw [catN, ← List.append_assoc, fB_2 c63 c107 c97 hvz c114]; exact h124) (by omega)
                        · have c107 := bI_0 c107
                          refine s_goto E dX4_goes_110 (tgt := 184) rfl ?_
                          refine s_iinc E (L2 := [(6, .int (nI (v + 1))), (0, .ref (ba 0)), (1, .int (nI at0)), (2, .int (nI k)), (3, .int (bI (third k = true))), (4, .int (bI (ordK k = true))), (5, .int (nI u))]) dX4_goes_184 (k := 6) rfl (v := nI (v + 1)) (nI_inc _) (Nat.le_of_ble_eq_true rfl) rfl ?_
                          refine s_goto E dX4_goes_187 (tgt := 84) rfl ?_
                          refine s_loc (L2 := [(0, .ref (ba 0)), (1, .int (nI at0)), (2, .int (nI k)), (3, .int (bI (third k = true))), (4, .int (bI (ordK k = true))), (5, .int (nI u)), (6, .int (nI (v + 1)))]) [1, 2, 3, 4, 5, 6, 0] rfl ?_
                          exact ih84 (v + 1) w84 (by omega) (by omega) (by rw [catN, fB_un (by first | exact Or.inl c97 | exact Or.inr c107), List.append_nil]; exact hL84) (by omega)
                refine s_loc (L2 := [(0, .ref (ba 0)), (1, .int (nI at0)), (2, .int (nI k)), (3, .int (bI (third k = true))), (4, .int (bI (ordK k = true))), (5, .int (nI u)), (6, .int (nI (vzF k u)))]) [1, 2, 3, 4, 5, 6, 0] rfl ?_
                exact L84 (_ + 1) (vzF k u) w47 (by unfold vzF; split <;> omega) (Nat.le_refl _) (by rw [fB_vz, List.append_nil]; exact hL47) (Nat.lt_succ_self _)
              refine s_if_eq E dX4_goes_71 (tgt := 81) rfl (fun c71 => ?_) (fun c71 => ?_)
              · have c71 := bI_0 c71
                refine s_iconst E dX4_goes_81 (v := nI 0) (by decide) ?_
                refine s_top (v2 := nI (vzF k u)) (by unfold vzF; rw [if_neg c71]) ?_
                exact J82
              · have c71 := bI_n0 c71
                refine s_iload E dX4_goes_74 (i := 5) (j := 5) rfl ?_
                refine s_iconst E dX4_goes_76 (v := nI 1) (by decide) ?_
                refine s_iadd_ E dX4_goes_77 (v := nI (u + 1)) (nI_add _ _) ?_
                refine s_goto E dX4_goes_78 (tgt := 82) rfl ?_
                refine s_top (v2 := nI (vzF k u)) (by unfold vzF; rw [if_pos c71]) ?_
                exact J82
            · have c63 := bI_0 c63
              refine s_goto E dX4_goes_66 (tgt := 190) rfl ?_
              refine s_iinc E (L2 := [(5, .int (nI (u + 1))), (0, .ref (ba 0)), (1, .int (nI at0)), (2, .int (nI k)), (3, .int (bI (third k = true))), (4, .int (bI (ordK k = true)))]) dX4_goes_190 (k := 5) rfl (v := nI (u + 1)) (nI_inc _) (Nat.le_of_ble_eq_true rfl) rfl ?_
              refine s_goto E dX4_goes_193 (tgt := 47) rfl ?_
              refine s_loc (L2 := [(0, .ref (ba 0)), (1, .int (nI at0)), (2, .int (nI k)), (3, .int (bI (third k = true))), (4, .int (bI (ordK k = true))), (5, .int (nI (u + 1)))]) [1, 2, 3, 4, 5, 0] rfl ?_
              exact ih47 (u + 1) w47 (by omega) (by rw [catN, fA_nil c63, List.append_nil]; exact hL47) (by omega)
      refine s_loc (L2 := [(0, .ref (ba 0)), (1, .int (nI at0)), (2, .int (nI k)), (3, .int (bI (third k = true))), (4, .int (bI (ordK k = true))), (5, .int (nI 0))]) [3, 4, 5, 2, 1, 0] rfl ?_
      exact L47 (_ + 1) 0 σ (Nat.zero_le _) (by rw [catN, List.append_nil]; exact hL) (Nat.lt_succ_self _)
    refine s_icmp_ne E dX4_goes_34 (tgt := 41) rfl (fun c34 => ?_) (fun c34 => ?_)
    · refine s_iconst E dX4_goes_41 (v := nI 0) (by decide) ?_
      refine s_top (v2 := bI (ordK k = true)) ((bI_f (fun h => c34 (to.mp h))).symm) ?_
      exact J42
    · refine s_iconst E dX4_goes_37 (v := nI 1) (by decide) ?_
      refine s_goto E dX4_goes_38 (tgt := 42) rfl ?_
      refine s_top (v2 := bI (ordK k = true)) ((bI_t (to.mpr c34)).symm) ?_
      exact J42
  refine s_if_eq E dX4_goes_9 (tgt := 16) rfl (fun c9 => ?_) (fun c9 => ?_)
  · refine s_iconst E dX4_goes_16 (v := nI 0) (by decide) ?_
    refine s_top (v2 := bI (third k = true)) ((bI_f (fun h => tt.mp h c9)).symm) ?_
    exact J17
  · refine s_iconst E dX4_goes_12 (v := nI 1) (by decide) ?_
    refine s_goto E dX4_goes_13 (tgt := 17) rfl ?_
    refine s_top (v2 := bI (third k = true)) ((bI_t (tt.mpr c9)).symm) ?_
    exact J17
theorem awX4_p0_18 {p : Program} {l : Launch} {e : Env} {R : Room} {s : State} {m : MethodId} {args : Array Value} {below : List Frame} {meth : Method} {c : Code} {Q : State → Prop} {A : Nat → Prop} {D : va_G} {nL cells slots : Nat} {pc : Nat} {L : List (Nat × Value)} {S : List Value} {cc : ByteArray} {ret : Option FieldType} {gt : Nat → Nat} {ba ad : Nat → Nat} {ct : Nat → ClassId} {Nw : Nat} {τ σ ξ : Nat → Nat → Int32} (E : En p s m args meth c A cc nL RX4 ret D (tysA ct) gt) {v : Int32} (d : decode cc pc = .ok (.putfield 24, 3)) (K : Sm p l e R s m args below meth c Q A D nL cells slots (aw ba ct Nw (st1 σ 0 18 v) ad τ ξ) (pc + 3) L S) : Sm p l e R s m args below meth c Q A D nL cells slots (aw ba ct Nw σ ad τ ξ) pc L (.int v :: .ref (ba 0) :: S) := s_put E in_X4 tyX4 tyX4_ok nmX4 0 rfl rfl 18 (Nat.le_of_ble_eq_true rfl) q302 rfl rfl rfl rfl (Nat.le_of_ble_eq_true rfl) rfl d K
theorem awX4_p0_17 {p : Program} {l : Launch} {e : Env} {R : Room} {s : State} {m : MethodId} {args : Array Value} {below : List Frame} {meth : Method} {c : Code} {Q : State → Prop} {A : Nat → Prop} {D : va_G} {nL cells slots : Nat} {pc : Nat} {L : List (Nat × Value)} {S : List Value} {cc : ByteArray} {ret : Option FieldType} {gt : Nat → Nat} {ba ad : Nat → Nat} {ct : Nat → ClassId} {Nw : Nat} {τ σ ξ : Nat → Nat → Int32} (E : En p s m args meth c A cc nL RX4 ret D (tysA ct) gt) {v : Int32} (d : decode cc pc = .ok (.putfield 114, 3)) (K : Sm p l e R s m args below meth c Q A D nL cells slots (aw ba ct Nw (st1 σ 0 17 v) ad τ ξ) (pc + 3) L S) : Sm p l e R s m args below meth c Q A D nL cells slots (aw ba ct Nw σ ad τ ξ) pc L (.int v :: .ref (ba 0) :: S) := s_put E in_X4 tyX4 tyX4_ok nmX4 0 rfl rfl 17 (Nat.le_of_ble_eq_true rfl) q300 rfl rfl rfl rfl (Nat.le_of_ble_eq_true rfl) rfl d K
theorem K_X4_117 : KV RX4 117 RX4 yX4_areCrowded cX4_areCrowded 3 (some .boolean) 2 := ⟨q932, q933, q934, q116, q935, by decide +kernel⟩
theorem awX4_g0_13 {p : Program} {l : Launch} {e : Env} {R : Room} {s : State} {m : MethodId} {args : Array Value} {below : List Frame} {meth : Method} {c : Code} {Q : State → Prop} {A : Nat → Prop} {D : va_G} {nL cells slots : Nat} {pc : Nat} {L : List (Nat × Value)} {S : List Value} {cc : ByteArray} {ret : Option FieldType} {gt : Nat → Nat} {ba ad : Nat → Nat} {ct : Nat → ClassId} {Nw : Nat} {τ σ ξ : Nat → Nat → Int32} (E : En p s m args meth c A cc nL RX4 ret D (tysA ct) gt) {v : Int32} (hv : σ 0 13 = v) (d : decode cc pc = .ok (.getfield 77, 3)) (K : Sm p l e R s m args below meth c Q A D nL cells slots (aw ba ct Nw σ ad τ ξ) (pc + 3) L (.int v :: S)) : Sm p l e R s m args below meth c Q A D nL cells slots (aw ba ct Nw σ ad τ ξ) pc L (.ref (ba 0) :: S) := s_get E in_X4 0 rfl rfl 13 (Nat.le_of_ble_eq_true rfl) q292 (congrArg (fun z => some (Value.int z)) hv) rfl d K
theorem K_X4_110 : KV RX4 110 RX4 yX4_goes cX4_goes 8 none 2 := ⟨q893, q895, qs24, q116, q896, by decide +kernel⟩
set_option maxHeartbeats 4000000 in
set_option maxRecDepth 100000 in
theorem x4z_counted_2 {l : Launch} {D : va_G} {gt : Nat → Nat} {ba ad : Nat → Nat} {ct : Nat → ClassId} {Nw : Nat} {τ σ ξ : Nat → Nat → Int32} (s : Nat → Nat → Int32) (n : Nat) (pl : Int32) (hA : AI s σ n) (hnN : n ≤ Nw) (hN8 : Nw ≤ 8) (hT : TA s τ n) (hB : NB s n) (ho : In (s 0 33) 8) : Cr l D gt yX4_counted_2 cX4_counted_2 4 (.object RX4) 4 107 0 0 [.ref (ba 0), .int (pl)] (aw ba ct Nw σ ad τ ξ) (tysA ct) (fun σ2 => AM s n pl (prods s n) σ2 ∧ σ2 0 17 = nI (crowdsT s n)) (fun _ => ba 0) (fun σ2 : Nat → Nat → Int32 => aw ba ct Nw σ2 ad τ ξ) (fun _ => tysA ct) := by
  refine Cr.start (Or.inl ⟨_, rfl⟩) RX4 (by decide) rfl (Nat.le_of_ble_eq_true rfl) rfl ?_
  intro pP eE sS mM aA bB hM cC QQ AA E Rt
  refine s_aload_n E dX4_counted_2_0 (i := 0) (j := 0) rfl rfl ?_
  refine s_iload_n E dX4_counted_2_1 (i := 1) (j := 1) rfl rfl ?_
  refine awX4_p0_18 E dX4_counted_2_2 ?_
  refine s_aload_n E dX4_counted_2_5 (i := 0) (j := 0) rfl rfl ?_
  refine s_iconst E dX4_counted_2_6 (v := nI 0) (by decide) ?_
  refine awX4_p0_14 E dX4_counted_2_7 ?_
  refine s_aload_n E dX4_counted_2_10 (i := 0) (j := 0) rfl rfl ?_
  refine s_iconst E dX4_counted_2_11 (v := nI 0) (by decide) ?_
  refine awX4_p0_15 E dX4_counted_2_12 ?_
  refine s_aload_n E dX4_counted_2_15 (i := 0) (j := 0) rfl rfl ?_
  refine s_iconst E dX4_counted_2_16 (v := nI 0) (by decide) ?_
  refine awX4_p0_16 E dX4_counted_2_17 ?_
  refine s_aload_n E dX4_counted_2_20 (i := 0) (j := 0) rfl rfl ?_
  refine s_bipush E dX4_counted_2_21 (v := (-2)) (by decide) ?_
  refine awX4_p0_26 E dX4_counted_2_23 ?_
  refine s_ws (ws2 := aw ba ct Nw (AZ1 pl 0 0 σ) ad τ ξ) (congrArg (fun z => aw ba ct Nw z ad τ ξ) (AZ1_0)) ?_
  refine s_iconst E dX4_counted_2_26 (v := nI 0) (by decide) ?_
  refine s_istore_n E (L2 := [(2, .int (nI 0)), (0, .ref (ba 0)), (1, .int (pl))]) dX4_counted_2_27 rfl (Nat.le_of_ble_eq_true rfl) rfl ?_
  have L28 : ∀ (fuel : Nat) (i : Nat), (i ≤ 18) → (18 - i) < fuel → Sm pP l eE { frames := 4, cells := 0, slots := 0, locals := 107 } sS mM aA bB hM cC QQ AA D 4 0 0 (aw ba ct Nw (AZ1 pl i 0 σ) ad τ ξ) 28 [(0, .ref (ba 0)), (1, .int (pl)), (2, .int (nI i))] [] := by
    intro fuel
    induction fuel with
    | zero =>
      intro i hi hf28
      exact absurd hf28 (Nat.not_lt_zero _)
    | succ fuel ih28 =>
      intro i hi hf28
      refine s_iload_n E dX4_counted_2_28 (i := 2) (j := 2) rfl rfl ?_
      refine s_bipush E dX4_counted_2_29 (v := nI 18) (by decide) ?_
      refine s_icmp_ge E dX4_counted_2_31 (tgt := 47) rfl (fun c31 => ?_) (fun c31 => ?_)
      · have c31 : ¬ i < 18 := fun h => absurd c31 (Int32.not_le.mpr ((nI_ltI (a := i) (b := 18) (by omega) (by omega)).mpr h))
        refine s_iconst E dX4_counted_2_47 (v := nI 0) (by decide) ?_
        refine s_istore_n E (L2 := [(2, .int (nI 0)), (0, .ref (ba 0)), (1, .int (pl))]) dX4_counted_2_48 rfl (Nat.le_of_ble_eq_true rfl) rfl ?_
        have L49 : ∀ (fuel : Nat) (u : Nat), (u ≤ n) → (n - u) < fuel → Sm pP l eE { frames := 4, cells := 0, slots := 0, locals := 107 } sS mM aA bB hM cC QQ AA D 4 0 0 (aw ba ct Nw (AZ1 pl 18 u σ) ad τ ξ) 49 [(0, .ref (ba 0)), (1, .int (pl)), (2, .int (nI u))] [] := by
          intro fuel
          induction fuel with
          | zero =>
            intro u hu hf49
            exact absurd hf49 (Nat.not_lt_zero _)
          | succ fuel ih49 =>
            intro u hu hf49
            refine s_iload_n E dX4_counted_2_49 (i := 2) (j := 2) rfl rfl ?_
            refine s_aload_n E dX4_counted_2_50 (i := 0) (j := 0) rfl rfl ?_
            refine awX4_g0_9 E (v := nI n) (hA.1) dX4_counted_2_51 ?_
            refine s_icmp_ge E dX4_counted_2_54 (tgt := 92) rfl (fun c54 => ?_) (fun c54 => ?_)
            · have c54 : ¬ u < n := fun h => absurd c54 (Int32.not_le.mpr ((nI_ltI (a := u) (b := n) (by omega) (by omega)).mpr h))
              refine s_iconst E dX4_counted_2_92 (v := nI 0) (by decide) ?_
              refine s_istore_n E (L2 := [(2, .int (nI 0)), (0, .ref (ba 0)), (1, .int (pl))]) dX4_counted_2_93 rfl (Nat.le_of_ble_eq_true rfl) rfl ?_
              have L94 : ∀ (fuel : Nat) (t : Nat) (w94 : Nat → Nat → Int32), (t ≤ 3) → (AM s n pl (catN (fS s n) t) w94) → (3 - t) < fuel → Sm pP l eE { frames := 4, cells := 0, slots := 0, locals := 107 } sS mM aA bB hM cC QQ AA D 4 0 0 (aw ba ct Nw w94 ad τ ξ) 94 [(0, .ref (ba 0)), (1, .int (pl)), (2, .int (nI t))] [] := by
                intro fuel
                induction fuel with
                | zero =>
                  intro t w94 hti hL94 hf94
                  exact absurd hf94 (Nat.not_lt_zero _)
                | succ fuel ih94 =>
                  intro t w94 hti hL94 hf94
                  refine s_iload_n E dX4_counted_2_94 (i := 2) (j := 2) rfl rfl ?_
                  refine s_iconst E dX4_counted_2_95 (v := nI 3) (by decide) ?_
                  refine s_icmp_ge E dX4_counted_2_96 (tgt := 141) rfl (fun c96 => ?_) (fun c96 => ?_)
                  · have c96 : ¬ t < 3 := fun h => absurd c96 (Int32.not_le.mpr ((nI_ltI (a := t) (b := 3) (by omega) (by omega)).mpr h))
                    refine s_aload_n E dX4_counted_2_141 (i := 0) (j := 0) rfl rfl ?_
                    refine s_iconst E dX4_counted_2_142 (v := nI 0) (by decide) ?_
                    refine awX4_p0_17 E dX4_counted_2_143 ?_
                    refine s_iconst E dX4_counted_2_146 (v := nI 0) (by decide) ?_
                    refine s_istore_n E (L2 := [(2, .int (nI 0)), (0, .ref (ba 0)), (1, .int (pl))]) dX4_counted_2_147 rfl (Nat.le_of_ble_eq_true rfl) rfl ?_
                    have L148 : ∀ (fuel : Nat) (u : Nat) (w148 : Nat → Nat → Int32), (u ≤ n) → (AM s n pl (prods s n) w148) → (n - u) < fuel → Sm pP l eE { frames := 4, cells := 0, slots := 0, locals := 107 } sS mM aA bB hM cC QQ AA D 4 0 0 (aw ba ct Nw (st1 w148 0 17 (nI (sumN (fun a => cntN (crowdB s a) a) u))) ad τ ξ) 148 [(0, .ref (ba 0)), (1, .int (pl)), (2, .int (nI u))] [] := by
                      intro fuel
                      induction fuel with
                      | zero =>
                        intro u w148 hui h148 hf148
                        exact absurd hf148 (Nat.not_lt_zero _)
                      | succ fuel ih148 =>
                        intro u w148 hui h148 hf148
                        refine s_iload_n E dX4_counted_2_148 (i := 2) (j := 2) rfl rfl ?_
                        refine s_aload_n E dX4_counted_2_149 (i := 0) (j := 0) rfl rfl ?_
                        refine awX4_g0_9 E (v := nI n) (by exact h148.1.1.1) dX4_counted_2_150 ?_
                        refine s_icmp_ge E dX4_counted_2_153 (tgt := 198) rfl (fun c153 => ?_) (fun c153 => ?_)
                        · have c153 : ¬ u < n := fun h => absurd c153 (Int32.not_le.mpr ((nI_ltI (a := u) (b := n) (by omega) (by omega)).mpr h))
                          refine s_aload_n E dX4_counted_2_198 (i := 0) (j := 0) rfl rfl ?_
                          exact Rt (ba 0) (st1 w148 0 17 (nI (sumN (fun a => cntN (crowdB s a) a) u))) dX4_counted_2_199 (⟨h148.cr, by rw [st1_eq, show u = n by omega]; exact congrArg nI (crowdsT_p hB (by omega))⟩) rfl rfl (Nat.le_refl _) (Nat.le_refl _) E.2.2.2.2.2.1
                        · have c153 : u < n := (nI_ltI (a := u) (b := n) (by omega) (by omega)).mp (Int32.not_le.mp c153)
                          refine s_iconst E dX4_counted_2_156 (v := nI 0) (by decide) ?_
                          refine s_istore_n E (L2 := [(3, .int (nI 0)), (0, .ref (ba 0)), (1, .int (pl)), (2, .int (nI u))]) dX4_counted_2_157 rfl (Nat.le_of_ble_eq_true rfl) rfl ?_
                          have L158 : ∀ (fuel : Nat) (v : Nat), (v ≤ u) → (u - v) < fuel → Sm pP l eE { frames := 4, cells := 0, slots := 0, locals := 107 } sS mM aA bB hM cC QQ AA D 4 0 0 (aw ba ct Nw (st1 w148 0 17 (nI (sumN (fun a => cntN (crowdB s a) a) u + cntN (crowdB s u) v))) ad τ ξ) 158 [(0, .ref (ba 0)), (1, .int (pl)), (2, .int (nI u)), (3, .int (nI v))] [] := by
                            intro fuel
                            induction fuel with
                            | zero =>
                              intro v hvi hf158
                              exact absurd hf158 (Nat.not_lt_zero _)
                            | succ fuel ih158 =>
                              intro v hvi hf158
                              refine s_iload_n E dX4_counted_2_158 (i := 3) (j := 3) rfl rfl ?_
                              refine s_iload_n E dX4_counted_2_159 (i := 2) (j := 2) rfl rfl ?_
                              refine s_icmp_ge E dX4_counted_2_160 (tgt := 192) rfl (fun c160 => ?_) (fun c160 => ?_)
                              · have c160 : ¬ v < u := fun h => absurd c160 (Int32.not_le.mpr ((nI_ltI (a := v) (b := u) (by omega) (by omega)).mpr h))
                                refine s_iinc E (L2 := [(2, .int (nI (u + 1))), (0, .ref (ba 0)), (1, .int (pl)), (3, .int (nI v))]) dX4_counted_2_192 (k := 2) rfl (v := nI (u + 1)) (nI_inc _) (Nat.le_of_ble_eq_true rfl) rfl ?_
                                refine s_goto E dX4_counted_2_195 (tgt := 148) rfl ?_
                                obtain rfl : u = v := by omega
                                refine s_loc (L2 := [(0, .ref (ba 0)), (1, .int (pl)), (2, .int (nI (u + 1)))]) [1, 2, 0] rfl ?_
                                exact ih148 (u + 1) w148 (by omega) (h148) (by omega)
                              · have c160 : v < u := (nI_ltI (a := v) (b := u) (by omega) (by omega)).mp (Int32.not_le.mp c160)
                                refine s_aload_n E dX4_counted_2_163 (i := 0) (j := 0) rfl rfl ?_
                                refine s_dup E dX4_counted_2_164 rfl ?_
                                refine awX4_g0_17 E (v := nI (sumN (fun a => cntN (crowdB s a) a) u + cntN (crowdB s u) v)) (rfl) dX4_counted_2_165 ?_
                                refine s_aload_n E dX4_counted_2_168 (i := 0) (j := 0) rfl rfl ?_
                                refine s_iload_n E dX4_counted_2_169 (i := 2) (j := 2) rfl rfl ?_
                                refine s_iload_n E dX4_counted_2_170 (i := 3) (j := 3) rfl rfl ?_
                                refine c_goi0 E (rV E (cutS _ _) (x4z_areCrowded s n u v ((h148.cr (v := nI (sumN (fun a => cntN (crowdB s a) a) u + cntN (crowdB s u) v))).1.1) (hnN) (hN8) (by omega) (by omega)) K_X4_117 (Nat.le_of_ble_eq_true rfl) (Nat.le_of_ble_eq_true rfl) (Nat.zero_le _) (Nat.zero_le _) 0 rfl rfl rfl rfl (Nat.le_of_ble_eq_true rfl) dX4_counted_2_171) (fun r171 w171 h171 => ?_)
                                obtain ⟨rfl, rfl⟩ := h171
                                have J182 : Sm pP l eE { frames := 4, cells := 0, slots := 0, locals := 107 } sS mM aA bB hM cC QQ AA D 4 0 0 (aw ba ct Nw (st1 w148 0 17 (nI (sumN (fun a => cntN (crowdB s a) a) u + cntN (crowdB s u) v))) ad τ ξ) 182 [(0, .ref (ba 0)), (1, .int (pl)), (2, .int (nI u)), (3, .int (nI v))] [.int (nI (cntF (crowdB s u) v)), .int (nI (sumN (fun a => cntN (crowdB s a) a) u + cntN (crowdB s u) v)), .ref (ba 0)] := by
                                  refine s_iadd_ E dX4_counted_2_182 (v := nI (sumN (fun a => cntN (crowdB s a) a) u + cntN (crowdB s u) (v + 1))) (by rw [nI_add, Nat.add_assoc]; rfl) ?_
                                  refine awX4_p0_17 E dX4_counted_2_183 ?_
                                  refine s_ws (ws2 := aw ba ct Nw (st1 w148 0 17 (nI (sumN (fun a => cntN (crowdB s a) a) u + cntN (crowdB s u) (v + 1)))) ad τ ξ) (congrArg (fun z => aw ba ct Nw z ad τ ξ) (st1_2)) ?_
                                  refine s_iinc E (L2 := [(3, .int (nI (v + 1))), (0, .ref (ba 0)), (1, .int (pl)), (2, .int (nI u))]) dX4_counted_2_186 (k := 3) rfl (v := nI (v + 1)) (nI_inc _) (Nat.le_of_ble_eq_true rfl) rfl ?_
                                  refine s_goto E dX4_counted_2_189 (tgt := 158) rfl ?_
                                  refine s_loc (L2 := [(0, .ref (ba 0)), (1, .int (pl)), (2, .int (nI u)), (3, .int (nI (v + 1)))]) [1, 2, 3, 0] rfl ?_
                                  exact ih158 (v + 1) (by omega) (by omega)
                                refine s_if_eq E dX4_counted_2_174 (tgt := 181) rfl (fun c174 => ?_) (fun c174 => ?_)
                                · have c174 := bI_0 c174
                                  refine s_iconst E dX4_counted_2_181 (v := nI 0) (by decide) ?_
                                  refine s_top (v2 := nI (cntF (crowdB s u) v)) (by unfold cntF; rw [if_neg c174]) ?_
                                  exact J182
                                · have c174 := bI_n0 c174
                                  refine s_iconst E dX4_counted_2_177 (v := nI 1) (by decide) ?_
                                  refine s_goto E dX4_counted_2_178 (tgt := 182) rfl ?_
                                  refine s_top (v2 := nI (cntF (crowdB s u) v)) (by unfold cntF; rw [if_pos c174]) ?_
                                  exact J182
                          refine s_loc (L2 := [(0, .ref (ba 0)), (1, .int (pl)), (2, .int (nI u)), (3, .int (nI 0))]) [1, 2, 3, 0] rfl ?_
                          exact L158 (_ + 1) 0 (Nat.zero_le _) (Nat.lt_succ_self _)
                    refine s_loc (L2 := [(0, .ref (ba 0)), (1, .int (pl)), (2, .int (nI 0))]) [1, 2, 0] rfl ?_
                    exact L148 (_ + 1) 0 w94 (Nat.zero_le _) (by obtain rfl : t = 3 := (by omega); exact hL94) (Nat.lt_succ_self _)
                  · have c96 : t < 3 := (nI_ltI (a := t) (b := 3) (by omega) (by omega)).mp (Int32.not_le.mp c96)
                    refine s_iconst E dX4_counted_2_99 (v := nI 0) (by decide) ?_
                    refine s_istore_n E (L2 := [(3, .int (nI 0)), (0, .ref (ba 0)), (1, .int (pl)), (2, .int (nI t))]) dX4_counted_2_100 rfl (Nat.le_of_ble_eq_true rfl) rfl ?_
                    have L101 : ∀ (fuel : Nat) (k : Nat) (w101 : Nat → Nat → Int32), (k ≤ 6) → (AM s n pl (catN (fS s n) t ++ catN (fK s n t) k) w101) → (6 - k) < fuel → Sm pP l eE { frames := 4, cells := 0, slots := 0, locals := 107 } sS mM aA bB hM cC QQ AA D 4 0 0 (aw ba ct Nw w101 ad τ ξ) 101 [(0, .ref (ba 0)), (1, .int (pl)), (2, .int (nI t)), (3, .int (nI k))] [] := by
                      intro fuel
                      induction fuel with
                      | zero =>
                        intro k w101 hki hL101 hf101
                        exact absurd hf101 (Nat.not_lt_zero _)
                      | succ fuel ih101 =>
                        intro k w101 hki hL101 hf101
                        refine s_iload_n E dX4_counted_2_101 (i := 3) (j := 3) rfl rfl ?_
                        refine s_bipush E dX4_counted_2_102 (v := nI 6) (by decide) ?_
                        refine s_icmp_ge E dX4_counted_2_104 (tgt := 135) rfl (fun c104 => ?_) (fun c104 => ?_)
                        · have c104 : ¬ k < 6 := fun h => absurd c104 (Int32.not_le.mpr ((nI_ltI (a := k) (b := 6) (by omega) (by omega)).mpr h))
                          refine s_iinc E (L2 := [(2, .int (nI (t + 1))), (0, .ref (ba 0)), (1, .int (pl)), (3, .int (nI k))]) dX4_counted_2_135 (k := 2) rfl (v := nI (t + 1)) (nI_inc _) (Nat.le_of_ble_eq_true rfl) rfl ?_
                          refine s_goto E dX4_counted_2_138 (tgt := 94) rfl ?_
                          refine s_loc (L2 := [(0, .ref (ba 0)), (1, .int (pl)), (2, .int (nI (t + 1)))]) [1, 2, 0] rfl ?_
                          exact ih94 (t + 1) w101 (by omega) (by obtain rfl : k = 6 := (by omega); rw [catN]; exact hL101) (by omega)
                        · have c104 : k < 6 := (nI_ltI (a := k) (b := 6) (by omega) (by omega)).mp (Int32.not_le.mp c104)
                          refine s_aload_n E dX4_counted_2_107 (i := 0) (j := 0) rfl rfl ?_
                          refine awX4_g0_13 E (v := s 0 33) (hL101.1.1.2.2.2.2.1) dX4_counted_2_108 ?_
                          refine s_getsN E E.2.2.2.2.2.2.1.1.2.2.1 q891 dX4_counted_2_111 ?_
                          refine s_iload_n E dX4_counted_2_114 (i := 3) (j := 3) rfl rfl ?_
                          refine s_tald E E.2.2.2.2.2.2.1.1.2.2.2.1 (k) (rfl) (by omega) (by decide) (v := .int (nI (k / 2))) (congrArg Value.int (order_at k (by omega))) dX4_counted_2_115 ?_
                          refine s_ishr_ E dX4_counted_2_116 (v := s 0 33 >>> (nI (k / 2) &&& 31)) (rfl) ?_
                          refine s_iconst E dX4_counted_2_117 (v := nI 1) (by decide) ?_
                          refine s_iand_ E dX4_counted_2_118 (v := (s 0 33 >>> (nI (k / 2) &&& 31)) &&& nI 1) (rfl) ?_
                          refine s_iconst E dX4_counted_2_119 (v := nI 1) (by decide) ?_
                          refine s_icmp_ne E dX4_counted_2_120 (tgt := 129) rfl (fun c120 => ?_) (fun c120 => ?_)
                          · have hob : (s 0 33 >>> (nI (k / 2) &&& 31)) &&& nI 1 = nI 1 ↔ ¬ s 0 33 &&& bO k = 0 := by rw [ho.1]; exact ord_bit _ ho.2 k (by omega)
                            have hfk : fK s n t k = [] := by unfold fK; rw [if_pos (Classical.not_not.mp (fun h => c120 (hob.mpr h)))]
                            refine s_iinc E (L2 := [(3, .int (nI (k + 1))), (0, .ref (ba 0)), (1, .int (pl)), (2, .int (nI t))]) dX4_counted_2_129 (k := 3) rfl (v := nI (k + 1)) (nI_inc _) (Nat.le_of_ble_eq_true rfl) rfl ?_
                            refine s_goto E dX4_counted_2_132 (tgt := 101) rfl ?_
                            refine s_loc (L2 := [(0, .ref (ba 0)), (1, .int (pl)), (2, .int (nI t)), (3, .int (nI (k + 1)))]) [1, 2, 3, 0] rfl ?_
                            exact ih101 (k + 1) w101 (by omega) (by rw [catN, hfk, List.append_nil]; exact hL101) (by omega)
                          · have hob : (s 0 33 >>> (nI (k / 2) &&& 31)) &&& nI 1 = nI 1 ↔ ¬ s 0 33 &&& bO k = 0 := by rw [ho.1]; exact ord_bit _ ho.2 k (by omega)
                            have hfk : fK s n t k = catN (fA s n t k) n := by unfold fK; rw [if_neg (hob.mp c120)]
                            refine s_aload_n E dX4_counted_2_123 (i := 0) (j := 0) rfl rfl ?_
                            refine s_iload_n E dX4_counted_2_124 (i := 2) (j := 2) rfl rfl ?_
                            refine s_iload_n E dX4_counted_2_125 (i := 3) (j := 3) rfl rfl ?_
                            refine c_gov0 E (rV E (cutS _ _) (x4z_goes s n pl (catN (fS s n) t ++ catN (fK s n t) k) t k (hL101) (hnN) (hN8) (hT) (hB) (by omega) (by have h1 := catN_mono (fS s n) (show t + 1 ≤ 3 by omega); have h2 := catN_mono (fK s n t) (show k + 1 ≤ 6 by omega); have h4 := prods_len8 s (n := n) (by omega); unfold prods at h4; simp only [catN, fS, hfk, List.length_append] at h1 h2 h4 ⊢; omega)) K_X4_110 (Nat.le_of_ble_eq_true rfl) (Nat.le_of_ble_eq_true rfl) (Nat.zero_le _) (Nat.zero_le _) 0 rfl rfl rfl rfl (Nat.le_of_ble_eq_true rfl) dX4_counted_2_126) (fun w126 h126 => ?_)
                            refine s_iinc E (L2 := [(3, .int (nI (k + 1))), (0, .ref (ba 0)), (1, .int (pl)), (2, .int (nI t))]) dX4_counted_2_129 (k := 3) rfl (v := nI (k + 1)) (nI_inc _) (Nat.le_of_ble_eq_true rfl) rfl ?_
                            refine s_goto E dX4_counted_2_132 (tgt := 101) rfl ?_
                            refine s_loc (L2 := [(0, .ref (ba 0)), (1, .int (pl)), (2, .int (nI t)), (3, .int (nI (k + 1)))]) [1, 2, 3, 0] rfl ?_
                            exact ih101 (k + 1) w126 (by omega) (by rw [catN, ← List.append_assoc, hfk]; exact h126) (by omega)
                    refine s_loc (L2 := [(0, .ref (ba 0)), (1, .int (pl)), (2, .int (nI t)), (3, .int (nI 0))]) [1, 2, 3, 0] rfl ?_
                    exact L101 (_ + 1) 0 w94 (Nat.zero_le _) (by rw [catN, List.append_nil]; exact hL94) (Nat.lt_succ_self _)
              refine s_loc (L2 := [(0, .ref (ba 0)), (1, .int (pl)), (2, .int (nI 0))]) [1, 2, 0] rfl ?_
              exact L94 (_ + 1) 0 (AZ1 pl 18 u σ) (Nat.zero_le _) (by obtain rfl : u = n := (by omega); exact AM.zero hA) (Nat.lt_succ_self _)
            · have c54 : u < n := (nI_ltI (a := u) (b := n) (by omega) (by omega)).mp (Int32.not_le.mp c54)
              refine s_aload_n E dX4_counted_2_57 (i := 0) (j := 0) rfl rfl ?_
              refine awX4_g0_3 E dX4_counted_2_58 ?_
              refine s_iload_n E dX4_counted_2_61 (i := 2) (j := 2) rfl rfl ?_
              refine s_iconst E dX4_counted_2_62 (v := nI 0) (by decide) ?_
              refine aw_s4 E (u) (rfl) (by omega) hN8 dX4_counted_2_63 ?_
              refine s_aload_n E dX4_counted_2_64 (i := 0) (j := 0) rfl rfl ?_
              refine awX4_g0_4 E dX4_counted_2_65 ?_
              refine s_iload_n E dX4_counted_2_68 (i := 2) (j := 2) rfl rfl ?_
              refine s_iconst E dX4_counted_2_69 (v := nI 0) (by decide) ?_
              refine aw_s5 E (u) (rfl) (by omega) hN8 dX4_counted_2_70 ?_
              refine s_aload_n E dX4_counted_2_71 (i := 0) (j := 0) rfl rfl ?_
              refine awX4_g0_6 E dX4_counted_2_72 ?_
              refine s_iload_n E dX4_counted_2_75 (i := 2) (j := 2) rfl rfl ?_
              refine s_iconst E dX4_counted_2_76 (v := nI 0) (by decide) ?_
              refine aw_s7 E (u) (rfl) (by omega) hN8 dX4_counted_2_77 ?_
              refine s_aload_n E dX4_counted_2_78 (i := 0) (j := 0) rfl rfl ?_
              refine awX4_g0_7 E dX4_counted_2_79 ?_
              refine s_iload_n E dX4_counted_2_82 (i := 2) (j := 2) rfl rfl ?_
              refine s_bipush E dX4_counted_2_83 (v := (-2)) (by decide) ?_
              refine aw_s8 E (u) (rfl) (by omega) hN8 dX4_counted_2_85 ?_
              refine s_ws (ws2 := aw ba ct Nw (AZ1 pl 18 (u + 1) σ) ad τ ξ) (congrArg (fun z => aw ba ct Nw z ad τ ξ) (AZ1_u)) ?_
              refine s_iinc E (L2 := [(2, .int (nI (u + 1))), (0, .ref (ba 0)), (1, .int (pl))]) dX4_counted_2_86 (k := 2) rfl (v := nI (u + 1)) (nI_inc _) (Nat.le_of_ble_eq_true rfl) rfl ?_
              refine s_goto E dX4_counted_2_89 (tgt := 49) rfl ?_
              refine s_loc (L2 := [(0, .ref (ba 0)), (1, .int (pl)), (2, .int (nI (u + 1)))]) [1, 2, 0] rfl ?_
              exact ih49 (u + 1) (by omega) (by omega)
        obtain rfl : i = 18 := by omega
        refine s_loc (L2 := [(0, .ref (ba 0)), (1, .int (pl)), (2, .int (nI 0))]) [1, 2, 0] rfl ?_
        exact L49 (_ + 1) 0 (Nat.zero_le _) (Nat.lt_succ_self _)
      · have c31 : i < 18 := (nI_ltI (a := i) (b := 18) (by omega) (by omega)).mp (Int32.not_le.mp c31)
        refine s_aload_n E dX4_counted_2_34 (i := 0) (j := 0) rfl rfl ?_
        refine awX4_g0_8 E dX4_counted_2_35 ?_
        refine s_iload_n E dX4_counted_2_38 (i := 2) (j := 2) rfl rfl ?_
        refine s_iconst E dX4_counted_2_39 (v := nI 0) (by decide) ?_
        refine aw_s9 E (i) (rfl) (by omega) dX4_counted_2_40 ?_
        refine s_ws (ws2 := aw ba ct Nw (AZ1 pl (i + 1) 0 σ) ad τ ξ) (congrArg (fun z => aw ba ct Nw z ad τ ξ) (AZ1_i)) ?_
        refine s_iinc E (L2 := [(2, .int (nI (i + 1))), (0, .ref (ba 0)), (1, .int (pl))]) dX4_counted_2_41 (k := 2) rfl (v := nI (i + 1)) (nI_inc _) (Nat.le_of_ble_eq_true rfl) rfl ?_
        refine s_goto E dX4_counted_2_44 (tgt := 28) rfl ?_
        refine s_loc (L2 := [(0, .ref (ba 0)), (1, .int (pl)), (2, .int (nI (i + 1)))]) [1, 2, 0] rfl ?_
        exact ih28 (i + 1) (by omega) (by omega)
  refine s_loc (L2 := [(0, .ref (ba 0)), (1, .int (pl)), (2, .int (nI 0))]) [1, 2, 0] rfl ?_
  exact L28 (_ + 1) 0 (Nat.zero_le _) (Nat.lt_succ_self _)
theorem K_X4_91 : KV RX4 91 RX4 yX4_counted_2 cX4_counted_2 4 (some (.object RX4)) 1 := ⟨q887, q888, q889, q116, q890, by decide +kernel⟩
set_option maxHeartbeats 1000000 in
set_option maxRecDepth 100000 in
theorem x4z_counted {l : Launch} {D : va_G} {gt : Nat → Nat} {ba ad : Nat → Nat} {ct : Nat → ClassId} {Nw : Nat} {τ σ ξ : Nat → Nat → Int32} (s : Nat → Nat → Int32) (n : Nat) (hA : AI s σ n) (hnN : n ≤ Nw) (hN8 : Nw ≤ 8) (hT : TA s τ n) (hB : NB s n) (ho : In (s 0 33) 8) : Cr l D gt yX4_counted cX4_counted 1 (.object RX4) 5 130 0 0 [.ref (ba 0)] (aw ba ct Nw σ ad τ ξ) (tysA ct) (fun σ2 => AM s n (-1) (prods s n) σ2 ∧ σ2 0 17 = nI (crowdsT s n)) (fun _ => ba 0) (fun σ2 : Nat → Nat → Int32 => aw ba ct Nw σ2 ad τ ξ) (fun _ => tysA ct) := by
  refine Cr.start (Or.inl ⟨_, rfl⟩) RX4 (by decide) rfl (Nat.le_of_ble_eq_true rfl) rfl ?_
  intro pP eE sS mM aA bB hM cC QQ AA E Rt
  refine s_aload_n E dX4_counted_0 (i := 0) (j := 0) rfl rfl ?_
  refine s_iconst E dX4_counted_1 (v := (-1)) (by decide) ?_
  refine c_gor0 E (rV E (cutS _ _) (x4z_counted_2 s n (-1) (hA) (hnN) (hN8) (hT) (hB) (ho)) K_X4_91 (Nat.le_of_ble_eq_true rfl) (Nat.le_of_ble_eq_true rfl) (Nat.zero_le _) (Nat.zero_le _) 0 rfl rfl rfl rfl (Nat.le_of_ble_eq_true rfl) dX4_counted_2) (fun w2 h2 => ?_)
  exact Rt (ba 0) (w2) dX4_counted_5 (h2) rfl rfl (Nat.le_refl _) (Nat.le_refl _) E.2.2.2.2.2.1
