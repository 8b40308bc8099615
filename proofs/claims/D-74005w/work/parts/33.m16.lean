set_option maxRecDepth 100000
section
variable {l : Launch} {D : va_G} {gt ad : Nat → Nat} {ct : Nat → ClassId}
set_option maxHeartbeats 1000000 in
set_option maxRecDepth 100000 in
theorem mz_chance {σ : Nat → Nat → Int32} (n B : Nat) (a b q : Int32) (hC : CM σ n) (hl : LH σ n) (ht : TO σ) (hb : σ 0 30 = nI B) (hB1 : 0 < B) (hB2 : B ≤ 60) (hsd : In (σ 3 9) 100000) : Ct l D gt yX5_chance cX5_chance 8 .int 7 163 0 0 [.ref (ad 0), .int (a), .int (b), .int (q)] (wm ad ct σ) (tysA ct) (fun r σ2 => chF (zt σ) n B a b q = r ∧ HQ (zt σ) σ2) (fun σ2 => wm ad ct σ2) (fun _ => tysA ct) := by
  refine Ct.start RX5 (by decide) rfl (Nat.le_of_ble_eq_true rfl) rfl ?_
  intro pP eE sS mM aA bB hM cC QQ AA E Rt
  have hn := hC.1
  have hn6 := hC.2.1
  refine s_aload_n E dX5_chance_0 (i := 0) (j := 0) rfl rfl ?_
  refine s_iconst E dX5_chance_1 (v := nI 0) (by decide) ?_
  refine mp0 E dX5_chance_2 ?_
  refine s_ws (ws2 := wm ad ct (zt σ)) (congrArg (wm ad ct) (rfl)) ?_
  refine s_iload_n E dX5_chance_5 (i := 1) (j := 1) rfl rfl ?_
  refine s_iconst E dX5_chance_6 (v := (-1)) (by decide) ?_
  refine s_icmp_lt E dX5_chance_7 (tgt := 30) rfl (fun c7 => ?_) (fun c7 => ?_)
  · refine s_iconst E dX5_chance_30 (v := (-1)) (by decide) ?_
    exact Rt ((-1)) (zt σ) dX5_chance_31 (⟨by unfold chF; rw [if_neg (by simp [bI, chOk, c7])], HQ.rf _⟩) rfl (Nat.le_refl _) (Nat.le_refl _) rfl E.2.2.2.2.2.1
  · refine s_iload_n E dX5_chance_10 (i := 2) (j := 2) rfl rfl ?_
    refine s_iconst E dX5_chance_11 (v := nI 1) (by decide) ?_
    refine s_icmp_lt E dX5_chance_12 (tgt := 30) rfl (fun c12 => ?_) (fun c12 => ?_)
    · refine s_iconst E dX5_chance_30 (v := (-1)) (by decide) ?_
      exact Rt ((-1)) (zt σ) dX5_chance_31 (⟨by unfold chF; rw [if_neg (by simp [bI, chOk, c7, c12])], HQ.rf _⟩) rfl (Nat.le_refl _) (Nat.le_refl _) rfl E.2.2.2.2.2.1
    · refine s_iload_n E dX5_chance_15 (i := 2) (j := 2) rfl rfl ?_
      refine s_bipush E dX5_chance_16 (v := nI 20) (by decide) ?_
      refine s_icmp_gt E dX5_chance_18 (tgt := 30) rfl (fun c18 => ?_) (fun c18 => ?_)
      · refine s_iconst E dX5_chance_30 (v := (-1)) (by decide) ?_
        exact Rt ((-1)) (zt σ) dX5_chance_31 (⟨by unfold chF; rw [if_neg (by simp [bI, chOk, c7, c12, c18])], HQ.rf _⟩) rfl (Nat.le_refl _) (Nat.le_refl _) rfl E.2.2.2.2.2.1
      · refine s_iload_n E dX5_chance_21 (i := 3) (j := 3) rfl rfl ?_
        refine s_if_lt E dX5_chance_22 (tgt := 30) rfl (fun c22 => ?_) (fun c22 => ?_)
        · refine s_iconst E dX5_chance_30 (v := (-1)) (by decide) ?_
          exact Rt ((-1)) (zt σ) dX5_chance_31 (⟨by unfold chF; rw [if_neg (by simp [bI, chOk, c7, c12, c18, c22])], HQ.rf _⟩) rfl (Nat.le_refl _) (Nat.le_refl _) rfl E.2.2.2.2.2.1
        · refine s_iload_n E dX5_chance_25 (i := 3) (j := 3) rfl rfl ?_
          refine s_iconst E dX5_chance_26 (v := nI 2) (by decide) ?_
          refine s_icmp_le E dX5_chance_27 (tgt := 32) rfl (fun c27 => ?_) (fun c27 => ?_)
          · have c27 := Int32.not_lt.mpr c27
            have hok : chOk a b q = true := (by simp [bI, chOk, c7, c12, c18, c22, c27])
            obtain ⟨kb, hkb1, hkb2, rfl⟩ := ch_of (B := 20) (b := nI 20) ⟨c12, c18⟩ rfl (by omega)
            have hd0 : (seedN (zt σ) a) < 2147483648 := by unfold seedN; split <;> exact tN_lt _
            refine s_aload_n E dX5_chance_32 (i := 0) (j := 0) rfl rfl ?_
            refine s_iload_n E dX5_chance_33 (i := 1) (j := 1) rfl rfl ?_
            refine s_iconst E dX5_chance_34 (v := (-1)) (by decide) ?_
            have J49 : Sm pP l eE { frames := 7, cells := 0, slots := 0, locals := 163 } sS mM aA bB hM cC QQ AA D 8 0 0 (wm ad ct (zt σ)) 49 [(0, .ref (ad 0)), (1, .int (a)), (2, .int (nI kb)), (3, .int (q))] [.int (nI ((seedN (zt σ) a))), .ref (ad 0)] := by
              refine mp44 E dX5_chance_49 ?_
              refine s_iconst E dX5_chance_52 (v := nI 0) (by decide) ?_
              refine s_istore E (L2 := [(4, .int (nI 0)), (0, .ref (ad 0)), (1, .int (a)), (2, .int (nI kb)), (3, .int (q))]) dX5_chance_53 (Nat.le_of_ble_eq_true rfl) rfl ?_
              have L55 : ∀ (fuel : Nat) (i : Nat), (i ≤ 79) → (79 - i) < fuel → Sm pP l eE { frames := 7, cells := 0, slots := 0, locals := 163 } sS mM aA bB hM cC QQ AA D 8 0 0 (wm ad ct (upR (st1 (zt σ) 0 44 (nI (seedN (zt σ) a))) 45 (va_cpy (zt σ 25) (zt σ 45) 0 0 i))) 55 [(0, .ref (ad 0)), (1, .int (a)), (2, .int (nI kb)), (3, .int (q)), (4, .int (nI i))] [] := by
                intro fuel
                induction fuel with
                | zero =>
                  intro i hi hf55
                  exact absurd hf55 (Nat.not_lt_zero _)
                | succ fuel ih55 =>
                  intro i hi hf55
                  refine s_iload E dX5_chance_55 (i := 4) (j := 4) rfl ?_
                  refine s_bipush E dX5_chance_57 (v := nI 79) (by decide) ?_
                  refine s_icmp_ge E dX5_chance_59 (tgt := 82) rfl (fun c59 => ?_) (fun c59 => ?_)
                  · have c59 : ¬ i < 79 := fun h => absurd c59 (Int32.not_le.mpr ((nI_ltI (a := i) (b := 79) (by omega) (by omega)).mpr h))
                    refine s_iconst E dX5_chance_82 (v := nI 0) (by decide) ?_
                    refine s_istore E (L2 := [(4, .int (nI 0)), (0, .ref (ad 0)), (1, .int (a)), (2, .int (nI kb)), (3, .int (q))]) dX5_chance_83 (Nat.le_of_ble_eq_true rfl) rfl ?_
                    refine s_iconst E dX5_chance_85 (v := nI 0) (by decide) ?_
                    refine s_istore E (L2 := [(5, .int (nI 0)), (4, .int (nI 0)), (0, .ref (ad 0)), (1, .int (a)), (2, .int (nI kb)), (3, .int (q))]) dX5_chance_86 (Nat.le_of_ble_eq_true rfl) rfl ?_
                    have L88 : ∀ (fuel : Nat) (k : Nat) (w1 : Nat → Nat → Int32), (k ≤ kb) → (CW (zt σ) (chK (zt σ) n B (seedN (zt σ) a) k).1 w1 n) → (w1 0 44 = nI (chK (zt σ) n B (seedN (zt σ) a) k).2.2) → ((chK (zt σ) n B (seedN (zt σ) a) k).2.2 < 2147483648) → (kb - k) < fuel → Sm pP l eE { frames := 7, cells := 0, slots := 0, locals := 163 } sS mM aA bB hM cC QQ AA D 8 0 0 (wm ad ct w1) 88 [(0, .ref (ad 0)), (1, .int (a)), (2, .int (nI kb)), (3, .int (q)), (4, .int (nI ((chK (zt σ) n B (seedN (zt σ) a) k).2.1))), (5, .int (nI k))] [] := by
                      intro fuel
                      induction fuel with
                      | zero =>
                        intro k w1 hk hcw1 hd1 hd2 hf88
                        exact absurd hf88 (Nat.not_lt_zero _)
                      | succ fuel ih88 =>
                        intro k w1 hk hcw1 hd1 hd2 hf88
                        have hdr : drawN B (chK (zt σ) n B (seedN (zt σ) a) k).2.2 < B := Nat.mod_lt _ hB1
                        refine s_iload E dX5_chance_88 (i := 5) (j := 5) rfl ?_
                        refine s_iload_n E dX5_chance_90 (i := 2) (j := 2) rfl rfl ?_
                        refine s_icmp_ge E dX5_chance_91 (tgt := 182) rfl (fun c91 => ?_) (fun c91 => ?_)
                        · have c91 : ¬ k < kb := fun h => absurd c91 (Int32.not_le.mpr ((nI_ltI (a := k) (b := kb) (by omega) (by omega)).mpr h))
                          refine s_iload_n E dX5_chance_182 (i := 3) (j := 3) rfl rfl ?_
                          refine s_if_ne E dX5_chance_183 (tgt := 193) rfl (fun c183 => ?_) (fun c183 => ?_)
                          · refine s_iload_n E dX5_chance_193 (i := 3) (j := 3) rfl rfl ?_
                            refine s_iconst E dX5_chance_194 (v := nI 1) (by decide) ?_
                            refine s_icmp_ne E dX5_chance_195 (tgt := 203) rfl (fun c195 => ?_) (fun c195 => ?_)
                            · refine s_aload_n E dX5_chance_203 (i := 0) (j := 0) rfl rfl ?_
                              refine m_calli E (mz_isClean n (hcw1.cm hC)) K5_332 (Nat.le_of_ble_eq_true rfl) (Nat.le_of_ble_eq_true rfl) (Nat.zero_le _) (Nat.zero_le _) rfl rfl (Nat.le_of_ble_eq_true rfl) dX5_chance_204 (fun r204 w204 h204 => ?_)
                              obtain ⟨rfl, h204⟩ := h204
                              refine s_top (v2 := bI (cleanB (chK (zt σ) n B (seedN (zt σ) a) k).1 n = true)) (by rw [cleanB_ce hcw1.1]) ?_
                              refine s_if_eq E dX5_chance_207 (tgt := 214) rfl (fun c207 => ?_) (fun c207 => ?_)
                              · have c207 := bI_0 c207
                                refine s_iconst E dX5_chance_214 (v := nI 0) (by decide) ?_
                                refine s_istore E (L2 := [(5, .int (nI 0)), (0, .ref (ad 0)), (1, .int (a)), (2, .int (nI kb)), (3, .int (q)), (4, .int (nI ((chK (zt σ) n B (seedN (zt σ) a) k).2.1)))]) dX5_chance_215 (Nat.le_of_ble_eq_true rfl) rfl ?_
                                refine s_iconst E dX5_chance_217 (v := nI 0) (by decide) ?_
                                refine s_istore E (L2 := [(6, .int (nI 0)), (5, .int (nI 0)), (0, .ref (ad 0)), (1, .int (a)), (2, .int (nI kb)), (3, .int (q)), (4, .int (nI ((chK (zt σ) n B (seedN (zt σ) a) k).2.1)))]) dX5_chance_218 (Nat.le_of_ble_eq_true rfl) rfl ?_
                                have L220 : ∀ (fuel : Nat) (i : Nat) (w9 : Nat → Nat → Int32), (i ≤ 79) → (∃ s9, CW (zt σ) s9 w9 n) → (79 - i) < fuel → Sm pP l eE { frames := 7, cells := 0, slots := 0, locals := 163 } sS mM aA bB hM cC QQ AA D 8 0 0 (wm ad ct (upR w9 25 (va_cpy (w9 45) (w9 25) 0 0 i))) 220 [(0, .ref (ad 0)), (5, .int (nI 0)), (6, .int (nI i))] [] := by
                                  intro fuel
                                  induction fuel with
                                  | zero =>
                                    intro i w9 hi9 hcw9 hf220
                                    exact absurd hf220 (Nat.not_lt_zero _)
                                  | succ fuel ih220 =>
                                    intro i w9 hi9 hcw9 hf220
                                    refine s_iload E dX5_chance_220 (i := 6) (j := 2) rfl ?_
                                    refine s_bipush E dX5_chance_222 (v := nI 79) (by decide) ?_
                                    refine s_icmp_ge E dX5_chance_224 (tgt := 247) rfl (fun c224 => ?_) (fun c224 => ?_)
                                    · have c224 : ¬ i < 79 := fun h => absurd c224 (Int32.not_le.mpr ((nI_ltI (a := i) (b := 79) (by omega) (by omega)).mpr h))
                                      refine s_iload E dX5_chance_247 (i := 5) (j := 1) rfl ?_
                                      exact Rt (nI 0) (upR w9 25 (va_cpy (w9 45) (w9 25) 0 0 i)) dX5_chance_249 (⟨by unfold chF; rw [if_pos hok, tN_nI (by omega), show kb = k by omega, if_neg c183, if_neg c195]; simp [bI, c7, c12, c18, c22, c27, c59, c91, c183, c195, c207, c224], by rw [show i = 79 by omega]; obtain ⟨s9, h9⟩ := hcw9; exact h9.back⟩) rfl (Nat.le_refl _) (Nat.le_refl _) rfl E.2.2.2.2.2.1
                                    · have c224 : i < 79 := (nI_ltI (a := i) (b := 79) (by omega) (by omega)).mp (Int32.not_le.mp c224)
                                      refine s_aload_n E dX5_chance_227 (i := 0) (j := 0) rfl rfl ?_
                                      refine mg25 E dX5_chance_228 ?_
                                      refine s_iload E dX5_chance_231 (i := 6) (j := 2) rfl ?_
                                      refine s_aload_n E dX5_chance_233 (i := 0) (j := 0) rfl rfl ?_
                                      refine mg45 E dX5_chance_234 ?_
                                      refine s_iload E dX5_chance_237 (i := 6) (j := 2) rfl ?_
                                      refine ml45 E (v := w9 45 i) (i) (rfl) (by omega) (rfl) dX5_chance_239 ?_
                                      refine ms25 E (i) (rfl) (by omega) dX5_chance_240 ?_
                                      refine s_ws (ws2 := wm ad ct (upR w9 25 (va_cpy (w9 45) (w9 25) 0 0 (i + 1)))) (congrArg (wm ad ct) (cp_st (by omega) (by rw [Nat.zero_add]))) ?_
                                      refine s_iinc E (L2 := [(6, .int (nI (i + 1))), (0, .ref (ad 0)), (5, .int (nI 0))]) dX5_chance_241 (k := 2) rfl (v := nI (i + 1)) (nI_inc _) (Nat.le_of_ble_eq_true rfl) rfl ?_
                                      refine s_goto E dX5_chance_244 (tgt := 220) rfl ?_
                                      refine s_loc (L2 := [(0, .ref (ad 0)), (5, .int (nI 0)), (6, .int (nI (i + 1)))]) [1, 2, 0] rfl ?_
                                      exact ih220 (i + 1) w9 (by omega) (hcw9) (by omega)
                                refine s_ws (ws2 := wm ad ct (upR w204 25 (va_cpy (w204 45) (w204 25) 0 0 0))) (congrArg (wm ad ct) cp_0.symm) ?_
                                refine s_loc (L2 := [(0, .ref (ad 0)), (5, .int (nI 0)), (6, .int (nI 0))]) [2, 1, 0] rfl ?_
                                exact L220 (_ + 1) 0 w204 (Nat.zero_le _) (⟨_, hcw1.hr h204⟩) (Nat.lt_succ_self _)
                              · have c207 := bI_n0 c207
                                refine s_iconst E dX5_chance_210 (v := nI 1) (by decide) ?_
                                refine s_goto E dX5_chance_211 (tgt := 215) rfl ?_
                                refine s_istore E (L2 := [(5, .int (nI 1)), (0, .ref (ad 0)), (1, .int (a)), (2, .int (nI kb)), (3, .int (q)), (4, .int (nI ((chK (zt σ) n B (seedN (zt σ) a) k).2.1)))]) dX5_chance_215 (Nat.le_of_ble_eq_true rfl) rfl ?_
                                refine s_iconst E dX5_chance_217 (v := nI 0) (by decide) ?_
                                refine s_istore E (L2 := [(6, .int (nI 0)), (5, .int (nI 1)), (0, .ref (ad 0)), (1, .int (a)), (2, .int (nI kb)), (3, .int (q)), (4, .int (nI ((chK (zt σ) n B (seedN (zt σ) a) k).2.1)))]) dX5_chance_218 (Nat.le_of_ble_eq_true rfl) rfl ?_
                                have L220 : ∀ (fuel : Nat) (i : Nat) (w9 : Nat → Nat → Int32), (i ≤ 79) → (∃ s9, CW (zt σ) s9 w9 n) → (79 - i) < fuel → Sm pP l eE { frames := 7, cells := 0, slots := 0, locals := 163 } sS mM aA bB hM cC QQ AA D 8 0 0 (wm ad ct (upR w9 25 (va_cpy (w9 45) (w9 25) 0 0 i))) 220 [(0, .ref (ad 0)), (5, .int (nI 1)), (6, .int (nI i))] [] := by
                                  intro fuel
                                  induction fuel with
                                  | zero =>
                                    intro i w9 hi9 hcw9 hf220
                                    exact absurd hf220 (Nat.not_lt_zero _)
                                  | succ fuel ih220 =>
                                    intro i w9 hi9 hcw9 hf220
                                    refine s_iload E dX5_chance_220 (i := 6) (j := 2) rfl ?_
                                    refine s_bipush E dX5_chance_222 (v := nI 79) (by decide) ?_
                                    refine s_icmp_ge E dX5_chance_224 (tgt := 247) rfl (fun c224 => ?_) (fun c224 => ?_)
                                    · have c224 : ¬ i < 79 := fun h => absurd c224 (Int32.not_le.mpr ((nI_ltI (a := i) (b := 79) (by omega) (by omega)).mpr h))
                                      refine s_iload E dX5_chance_247 (i := 5) (j := 1) rfl ?_
                                      exact Rt (nI 1) (upR w9 25 (va_cpy (w9 45) (w9 25) 0 0 i)) dX5_chance_249 (⟨by unfold chF; rw [if_pos hok, tN_nI (by omega), show kb = k by omega, if_neg c183, if_neg c195]; simp [bI, c7, c12, c18, c22, c27, c59, c91, c183, c195, c207, c224], by rw [show i = 79 by omega]; obtain ⟨s9, h9⟩ := hcw9; exact h9.back⟩) rfl (Nat.le_refl _) (Nat.le_refl _) rfl E.2.2.2.2.2.1
                                    · have c224 : i < 79 := (nI_ltI (a := i) (b := 79) (by omega) (by omega)).mp (Int32.not_le.mp c224)
                                      refine s_aload_n E dX5_chance_227 (i := 0) (j := 0) rfl rfl ?_
                                      refine mg25 E dX5_chance_228 ?_
                                      refine s_iload E dX5_chance_231 (i := 6) (j := 2) rfl ?_
                                      refine s_aload_n E dX5_chance_233 (i := 0) (j := 0) rfl rfl ?_
                                      refine mg45 E dX5_chance_234 ?_
                                      refine s_iload E dX5_chance_237 (i := 6) (j := 2) rfl ?_
                                      refine ml45 E (v := w9 45 i) (i) (rfl) (by omega) (rfl) dX5_chance_239 ?_
                                      refine ms25 E (i) (rfl) (by omega) dX5_chance_240 ?_
                                      refine s_ws (ws2 := wm ad ct (upR w9 25 (va_cpy (w9 45) (w9 25) 0 0 (i + 1)))) (congrArg (wm ad ct) (cp_st (by omega) (by rw [Nat.zero_add]))) ?_
                                      refine s_iinc E (L2 := [(6, .int (nI (i + 1))), (0, .ref (ad 0)), (5, .int (nI 1))]) dX5_chance_241 (k := 2) rfl (v := nI (i + 1)) (nI_inc _) (Nat.le_of_ble_eq_true rfl) rfl ?_
                                      refine s_goto E dX5_chance_244 (tgt := 220) rfl ?_
                                      refine s_loc (L2 := [(0, .ref (ad 0)), (5, .int (nI 1)), (6, .int (nI (i + 1)))]) [1, 2, 0] rfl ?_
                                      exact ih220 (i + 1) w9 (by omega) (hcw9) (by omega)
                                refine s_ws (ws2 := wm ad ct (upR w204 25 (va_cpy (w204 45) (w204 25) 0 0 0))) (congrArg (wm ad ct) cp_0.symm) ?_
                                refine s_loc (L2 := [(0, .ref (ad 0)), (5, .int (nI 1)), (6, .int (nI 0))]) [2, 1, 0] rfl ?_
                                exact L220 (_ + 1) 0 w204 (Nat.zero_le _) (⟨_, hcw1.hr h204⟩) (Nat.lt_succ_self _)
                            · refine s_iload E dX5_chance_198 (i := 4) (j := 4) rfl ?_
                              refine s_goto E dX5_chance_200 (tgt := 215) rfl ?_
                              refine s_istore E (L2 := [(5, .int (nI ((chK (zt σ) n B (seedN (zt σ) a) k).2.1))), (0, .ref (ad 0)), (1, .int (a)), (2, .int (nI kb)), (3, .int (q)), (4, .int (nI ((chK (zt σ) n B (seedN (zt σ) a) k).2.1)))]) dX5_chance_215 (Nat.le_of_ble_eq_true rfl) rfl ?_
                              refine s_iconst E dX5_chance_217 (v := nI 0) (by decide) ?_
                              refine s_istore E (L2 := [(6, .int (nI 0)), (5, .int (nI ((chK (zt σ) n B (seedN (zt σ) a) k).2.1))), (0, .ref (ad 0)), (1, .int (a)), (2, .int (nI kb)), (3, .int (q)), (4, .int (nI ((chK (zt σ) n B (seedN (zt σ) a) k).2.1)))]) dX5_chance_218 (Nat.le_of_ble_eq_true rfl) rfl ?_
                              have L220 : ∀ (fuel : Nat) (i : Nat) (w9 : Nat → Nat → Int32), (i ≤ 79) → (∃ s9, CW (zt σ) s9 w9 n) → (79 - i) < fuel → Sm pP l eE { frames := 7, cells := 0, slots := 0, locals := 163 } sS mM aA bB hM cC QQ AA D 8 0 0 (wm ad ct (upR w9 25 (va_cpy (w9 45) (w9 25) 0 0 i))) 220 [(0, .ref (ad 0)), (5, .int (nI ((chK (zt σ) n B (seedN (zt σ) a) k).2.1))), (6, .int (nI i))] [] := by
                                intro fuel
                                induction fuel with
                                | zero =>
                                  intro i w9 hi9 hcw9 hf220
                                  exact absurd hf220 (Nat.not_lt_zero _)
                                | succ fuel ih220 =>
                                  intro i w9 hi9 hcw9 hf220
                                  refine s_iload E dX5_chance_220 (i := 6) (j := 2) rfl ?_
                                  refine s_bipush E dX5_chance_222 (v := nI 79) (by decide) ?_
                                  refine s_icmp_ge E dX5_chance_224 (tgt := 247) rfl (fun c224 => ?_) (fun c224 => ?_)
                                  · have c224 : ¬ i < 79 := fun h => absurd c224 (Int32.not_le.mpr ((nI_ltI (a := i) (b := 79) (by omega) (by omega)).mpr h))
                                    refine s_iload E dX5_chance_247 (i := 5) (j := 1) rfl ?_
                                    exact Rt (nI ((chK (zt σ) n B (seedN (zt σ) a) k).2.1)) (upR w9 25 (va_cpy (w9 45) (w9 25) 0 0 i)) dX5_chance_249 (⟨by unfold chF; rw [if_pos hok, tN_nI (by omega), show kb = k by omega, if_neg c183, if_pos c195], by rw [show i = 79 by omega]; obtain ⟨s9, h9⟩ := hcw9; exact h9.back⟩) rfl (Nat.le_refl _) (Nat.le_refl _) rfl E.2.2.2.2.2.1
                                  · have c224 : i < 79 := (nI_ltI (a := i) (b := 79) (by omega) (by omega)).mp (Int32.not_le.mp c224)
                                    refine s_aload_n E dX5_chance_227 (i := 0) (j := 0) rfl rfl ?_
                                    refine mg25 E dX5_chance_228 ?_
                                    refine s_iload E dX5_chance_231 (i := 6) (j := 2) rfl ?_
                                    refine s_aload_n E dX5_chance_233 (i := 0) (j := 0) rfl rfl ?_
                                    refine mg45 E dX5_chance_234 ?_
                                    refine s_iload E dX5_chance_237 (i := 6) (j := 2) rfl ?_
                                    refine ml45 E (v := w9 45 i) (i) (rfl) (by omega) (rfl) dX5_chance_239 ?_
                                    refine ms25 E (i) (rfl) (by omega) dX5_chance_240 ?_
                                    refine s_ws (ws2 := wm ad ct (upR w9 25 (va_cpy (w9 45) (w9 25) 0 0 (i + 1)))) (congrArg (wm ad ct) (cp_st (by omega) (by rw [Nat.zero_add]))) ?_
                                    refine s_iinc E (L2 := [(6, .int (nI (i + 1))), (0, .ref (ad 0)), (5, .int (nI ((chK (zt σ) n B (seedN (zt σ) a) k).2.1)))]) dX5_chance_241 (k := 2) rfl (v := nI (i + 1)) (nI_inc _) (Nat.le_of_ble_eq_true rfl) rfl ?_
                                    refine s_goto E dX5_chance_244 (tgt := 220) rfl ?_
                                    refine s_loc (L2 := [(0, .ref (ad 0)), (5, .int (nI ((chK (zt σ) n B (seedN (zt σ) a) k).2.1))), (6, .int (nI (i + 1)))]) [1, 2, 0] rfl ?_
                                    exact ih220 (i + 1) w9 (by omega) (hcw9) (by omega)
                              refine s_ws (ws2 := wm ad ct (upR w1 25 (va_cpy (w1 45) (w1 25) 0 0 0))) (congrArg (wm ad ct) cp_0.symm) ?_
                              refine s_loc (L2 := [(0, .ref (ad 0)), (5, .int (nI ((chK (zt σ) n B (seedN (zt σ) a) k).2.1))), (6, .int (nI 0))]) [2, 1, 0] rfl ?_
                              exact L220 (_ + 1) 0 w1 (Nat.zero_le _) (⟨_, hcw1⟩) (Nat.lt_succ_self _)
                          · refine s_aload_n E dX5_chance_186 (i := 0) (j := 0) rfl rfl ?_
                            refine m_calli E (mz_tuned n ((hcw1.cm hC).1) (hn6)) K5_256 (Nat.le_of_ble_eq_true rfl) (Nat.le_of_ble_eq_true rfl) (Nat.zero_le _) (Nat.zero_le _) rfl rfl (Nat.le_of_ble_eq_true rfl) dX5_chance_187 (fun r187 w187 h187 => ?_)
                            obtain ⟨rfl, rfl⟩ := h187
                            refine s_top (v2 := nI (tunedN (chK (zt σ) n B (seedN (zt σ) a) k).1 n)) (by rw [tunedN_ce hcw1.1]) ?_
                            refine s_goto E dX5_chance_190 (tgt := 215) rfl ?_
                            refine s_istore E (L2 := [(5, .int (nI (tunedN (chK (zt σ) n B (seedN (zt σ) a) k).1 n))), (0, .ref (ad 0)), (1, .int (a)), (2, .int (nI kb)), (3, .int (q)), (4, .int (nI ((chK (zt σ) n B (seedN (zt σ) a) k).2.1)))]) dX5_chance_215 (Nat.le_of_ble_eq_true rfl) rfl ?_
                            refine s_iconst E dX5_chance_217 (v := nI 0) (by decide) ?_
                            refine s_istore E (L2 := [(6, .int (nI 0)), (5, .int (nI (tunedN (chK (zt σ) n B (seedN (zt σ) a) k).1 n))), (0, .ref (ad 0)), (1, .int (a)), (2, .int (nI kb)), (3, .int (q)), (4, .int (nI ((chK (zt σ) n B (seedN (zt σ) a) k).2.1)))]) dX5_chance_218 (Nat.le_of_ble_eq_true rfl) rfl ?_
                            have L220 : ∀ (fuel : Nat) (i : Nat) (w9 : Nat → Nat → Int32), (i ≤ 79) → (∃ s9, CW (zt σ) s9 w9 n) → (79 - i) < fuel → Sm pP l eE { frames := 7, cells := 0, slots := 0, locals := 163 } sS mM aA bB hM cC QQ AA D 8 0 0 (wm ad ct (upR w9 25 (va_cpy (w9 45) (w9 25) 0 0 i))) 220 [(0, .ref (ad 0)), (5, .int (nI (tunedN (chK (zt σ) n B (seedN (zt σ) a) k).1 n))), (6, .int (nI i))] [] := by
                              intro fuel
                              induction fuel with
                              | zero =>
                                intro i w9 hi9 hcw9 hf220
                                exact absurd hf220 (Nat.not_lt_zero _)
                              | succ fuel ih220 =>
                                intro i w9 hi9 hcw9 hf220
                                refine s_iload E dX5_chance_220 (i := 6) (j := 2) rfl ?_
                                refine s_bipush E dX5_chance_222 (v := nI 79) (by decide) ?_
                                refine s_icmp_ge E dX5_chance_224 (tgt := 247) rfl (fun c224 => ?_) (fun c224 => ?_)
                                · have c224 : ¬ i < 79 := fun h => absurd c224 (Int32.not_le.mpr ((nI_ltI (a := i) (b := 79) (by omega) (by omega)).mpr h))
                                  refine s_iload E dX5_chance_247 (i := 5) (j := 1) rfl ?_
                                  exact Rt (nI (tunedN (chK (zt σ) n B (seedN (zt σ) a) k).1 n)) (upR w9 25 (va_cpy (w9 45) (w9 25) 0 0 i)) dX5_chance_249 (⟨by unfold chF; rw [if_pos hok, tN_nI (by omega), show kb = k by omega, if_pos c183], by rw [show i = 79 by omega]; obtain ⟨s9, h9⟩ := hcw9; exact h9.back⟩) rfl (Nat.le_refl _) (Nat.le_refl _) rfl E.2.2.2.2.2.1
                                · have c224 : i < 79 := (nI_ltI (a := i) (b := 79) (by omega) (by omega)).mp (Int32.not_le.mp c224)
                                  refine s_aload_n E dX5_chance_227 (i := 0) (j := 0) rfl rfl ?_
                                  refine mg25 E dX5_chance_228 ?_
                                  refine s_iload E dX5_chance_231 (i := 6) (j := 2) rfl ?_
                                  refine s_aload_n E dX5_chance_233 (i := 0) (j := 0) rfl rfl ?_
                                  refine mg45 E dX5_chance_234 ?_
                                  refine s_iload E dX5_chance_237 (i := 6) (j := 2) rfl ?_
                                  refine ml45 E (v := w9 45 i) (i) (rfl) (by omega) (rfl) dX5_chance_239 ?_
                                  refine ms25 E (i) (rfl) (by omega) dX5_chance_240 ?_
                                  refine s_ws (ws2 := wm ad ct (upR w9 25 (va_cpy (w9 45) (w9 25) 0 0 (i + 1)))) (congrArg (wm ad ct) (cp_st (by omega) (by rw [Nat.zero_add]))) ?_
                                  refine s_iinc E (L2 := [(6, .int (nI (i + 1))), (0, .ref (ad 0)), (5, .int (nI (tunedN (chK (zt σ) n B (seedN (zt σ) a) k).1 n)))]) dX5_chance_241 (k := 2) rfl (v := nI (i + 1)) (nI_inc _) (Nat.le_of_ble_eq_true rfl) rfl ?_
                                  refine s_goto E dX5_chance_244 (tgt := 220) rfl ?_
                                  refine s_loc (L2 := [(0, .ref (ad 0)), (5, .int (nI (tunedN (chK (zt σ) n B (seedN (zt σ) a) k).1 n))), (6, .int (nI (i + 1)))]) [1, 2, 0] rfl ?_
                                  exact ih220 (i + 1) w9 (by omega) (hcw9) (by omega)
                            refine s_ws (ws2 := wm ad ct (upR w1 25 (va_cpy (w1 45) (w1 25) 0 0 0))) (congrArg (wm ad ct) cp_0.symm) ?_
                            refine s_loc (L2 := [(0, .ref (ad 0)), (5, .int (nI (tunedN (chK (zt σ) n B (seedN (zt σ) a) k).1 n))), (6, .int (nI 0))]) [2, 1, 0] rfl ?_
                            exact L220 (_ + 1) 0 w1 (Nat.zero_le _) (⟨_, hcw1⟩) (Nat.lt_succ_self _)
                        · have c91 : k < kb := (nI_ltI (a := k) (b := kb) (by omega) (by omega)).mp (Int32.not_le.mp c91)
                          refine s_aload_n E dX5_chance_94 (i := 0) (j := 0) rfl rfl ?_
                          refine s_aload_n E dX5_chance_95 (i := 0) (j := 0) rfl rfl ?_
                          refine mg30 E (v := nI B) (by rw [hcw1.2.2.2.2.1 30 (by decide) (by decide) (by decide) (by decide)]; exact hb) dX5_chance_96 ?_
                          refine m_calli E (mz_draw ((chK (zt σ) n B (seedN (zt σ) a) k).2.2) B (hd1) (hd2) (hB1) (hB2)) K5_413 (Nat.le_of_ble_eq_true rfl) (Nat.le_of_ble_eq_true rfl) (Nat.zero_le _) (Nat.zero_le _) rfl rfl (Nat.le_of_ble_eq_true rfl) dX5_chance_99 (fun r99 w99 h99 => ?_)
                          obtain ⟨rfl, rfl⟩ := h99
                          refine s_iconst E dX5_chance_102 (v := nI 1) (by decide) ?_
                          refine s_iadd_ E dX5_chance_103 (v := nI ((drawN B ((chK (zt σ) n B (seedN (zt σ) a) k).2.2)) + 1)) (nI_add _ _) ?_
                          refine s_istore E (L2 := [(6, .int (nI ((drawN B ((chK (zt σ) n B (seedN (zt σ) a) k).2.2)) + 1))), (0, .ref (ad 0)), (1, .int (a)), (2, .int (nI kb)), (3, .int (q)), (4, .int (nI ((chK (zt σ) n B (seedN (zt σ) a) k).2.1))), (5, .int (nI k))]) dX5_chance_104 (Nat.le_of_ble_eq_true rfl) rfl ?_
                          refine s_aload_n E dX5_chance_106 (i := 0) (j := 1) rfl rfl ?_
                          refine mg25 E dX5_chance_107 ?_
                          refine s_bipush E dX5_chance_110 (v := nI 12) (by decide) ?_
                          refine s_iload E dX5_chance_112 (i := 6) (j := 0) rfl ?_
                          refine s_iadd_ E dX5_chance_114 (v := nI (12 + ((drawN B ((chK (zt σ) n B (seedN (zt σ) a) k).2.2)) + 1))) (nI_add _ _) ?_
                          refine s_iconst E dX5_chance_115 (v := nI 1) (by decide) ?_
                          refine ms25 E (12 + ((drawN B ((chK (zt σ) n B (seedN (zt σ) a) k).2.2)) + 1)) (rfl) (by omega) dX5_chance_116 ?_
                          refine s_iconst E dX5_chance_117 (v := nI 0) (by decide) ?_
                          refine s_istore E (L2 := [(7, .int (nI 0)), (6, .int (nI ((drawN B ((chK (zt σ) n B (seedN (zt σ) a) k).2.2)) + 1))), (0, .ref (ad 0)), (1, .int (a)), (2, .int (nI kb)), (3, .int (q)), (4, .int (nI ((chK (zt σ) n B (seedN (zt σ) a) k).2.1))), (5, .int (nI k))]) dX5_chance_118 (Nat.le_of_ble_eq_true rfl) rfl ?_
                          have L120 : ∀ (fuel : Nat) (u : Nat) (w2 : Nat → Nat → Int32), (u ≤ n) → (CW (zt σ) (chU n (drawN B (chK (zt σ) n B (seedN (zt σ) a) k).2.2 + 1) u (st1 (chK (zt σ) n B (seedN (zt σ) a) k).1 25 (12 + (drawN B (chK (zt σ) n B (seedN (zt σ) a) k).2.2 + 1)) (nI 1), (chK (zt σ) n B (seedN (zt σ) a) k).2.1)).1 w2 n) → (w2 0 44 = nI (dwN (chK (zt σ) n B (seedN (zt σ) a) k).2.2)) → (n - u) < fuel → Sm pP l eE { frames := 7, cells := 0, slots := 0, locals := 163 } sS mM aA bB hM cC QQ AA D 8 0 0 (wm ad ct w2) 120 [(0, .ref (ad 0)), (1, .int (a)), (2, .int (nI kb)), (3, .int (q)), (5, .int (nI k)), (6, .int (nI ((drawN B ((chK (zt σ) n B (seedN (zt σ) a) k).2.2)) + 1))), (4, .int (nI ((chU n (drawN B (chK (zt σ) n B (seedN (zt σ) a) k).2.2 + 1) u (st1 (chK (zt σ) n B (seedN (zt σ) a) k).1 25 (12 + (drawN B (chK (zt σ) n B (seedN (zt σ) a) k).2.2 + 1)) (nI 1), (chK (zt σ) n B (seedN (zt σ) a) k).2.1)).2))), (7, .int (nI u))] [] := by
                            intro fuel
                            induction fuel with
                            | zero =>
                              intro u w2 hu hcw hd hf120
                              exact absurd hf120 (Nat.not_lt_zero _)
                            | succ fuel ih120 =>
                              intro u w2 hu hcw hd hf120
                              refine s_iload E dX5_chance_120 (i := 7) (j := 7) rfl ?_
                              refine s_aload_n E dX5_chance_122 (i := 0) (j := 0) rfl rfl ?_
                              refine m_calli E (mz_users n (by rw [hcw.2.2.2.1 3 (by decide) (by decide) (by decide) (by decide) (by decide)]; exact hn)) K5_232 (Nat.le_of_ble_eq_true rfl) (Nat.le_of_ble_eq_true rfl) (Nat.zero_le _) (Nat.zero_le _) rfl rfl (Nat.le_of_ble_eq_true rfl) dX5_chance_123 (fun r123 w123 h123 => ?_)
                              obtain ⟨rfl, rfl⟩ := h123
                              refine s_icmp_ge E dX5_chance_126 (tgt := 176) rfl (fun c126 => ?_) (fun c126 => ?_)
                              · have c126 : ¬ u < n := fun h => absurd c126 (Int32.not_le.mpr ((nI_ltI (a := u) (b := n) (by omega) (by omega)).mpr h))
                                refine s_iinc E (L2 := [(5, .int (nI (k + 1))), (0, .ref (ad 0)), (1, .int (a)), (2, .int (nI kb)), (3, .int (q)), (6, .int (nI ((drawN B ((chK (zt σ) n B (seedN (zt σ) a) k).2.2)) + 1))), (4, .int (nI ((chU n (drawN B (chK (zt σ) n B (seedN (zt σ) a) k).2.2 + 1) u (st1 (chK (zt σ) n B (seedN (zt σ) a) k).1 25 (12 + (drawN B (chK (zt σ) n B (seedN (zt σ) a) k).2.2 + 1)) (nI 1), (chK (zt σ) n B (seedN (zt σ) a) k).2.1)).2))), (7, .int (nI u))]) dX5_chance_176 (k := 4) rfl (v := nI (k + 1)) (nI_inc _) (Nat.le_of_ble_eq_true rfl) rfl ?_
                                refine s_goto E dX5_chance_179 (tgt := 88) rfl ?_
                                refine s_loc (L2 := [(0, .ref (ad 0)), (1, .int (a)), (2, .int (nI kb)), (3, .int (q)), (4, .int (nI ((chU n (drawN B (chK (zt σ) n B (seedN (zt σ) a) k).2.2 + 1) u (st1 (chK (zt σ) n B (seedN (zt σ) a) k).1 25 (12 + (drawN B (chK (zt σ) n B (seedN (zt σ) a) k).2.2 + 1)) (nI 1), (chK (zt σ) n B (seedN (zt σ) a) k).2.1)).2))), (5, .int (nI (k + 1)))]) [1, 2, 3, 4, 6, 0] rfl ?_
                                refine s_L (L2 := [(0, .ref (ad 0)), (1, .int (a)), (2, .int (nI kb)), (3, .int (q)), (4, .int (nI ((chK (zt σ) n B (seedN (zt σ) a) (k + 1)).2.1))), (5, .int (nI (k + 1)))]) (by rw [chK, show u = n by omega]) ?_
                                exact ih88 (k + 1) w2 (by omega) (by rw [chK]; rw [show u = n by omega] at hcw; exact hcw) (by rw [chK]; exact hd) (by rw [chK]; exact dwN_lt _) (by omega)
                              · have c126 : u < n := (nI_ltI (a := u) (b := n) (by omega) (by omega)).mp (Int32.not_le.mp c126)
                                refine s_aload_n E dX5_chance_129 (i := 0) (j := 0) rfl rfl ?_
                                refine mg25 E dX5_chance_130 ?_
                                refine s_iconst E dX5_chance_133 (v := nI 0) (by decide) ?_
                                refine s_iload E dX5_chance_134 (i := 7) (j := 7) rfl ?_
                                refine s_iadd_ E dX5_chance_136 (v := nI u) (nI_z _) ?_
                                refine ml25 E (v := (chU n (drawN B (chK (zt σ) n B (seedN (zt σ) a) k).2.2 + 1) u (st1 (chK (zt σ) n B (seedN (zt σ) a) k).1 25 (12 + (drawN B (chK (zt σ) n B (seedN (zt σ) a) k).2.2 + 1)) (nI 1), (chK (zt σ) n B (seedN (zt σ) a) k).2.1)).1 25 u) (u) (rfl) (by omega) (by rw [hcw.1.1]) dX5_chance_137 ?_
                                refine s_iload E dX5_chance_138 (i := 6) (j := 5) rfl ?_
                                refine s_icmp_eq E dX5_chance_140 (tgt := 146) rfl (fun c140 => ?_) (fun c140 => ?_)
                                · refine s_iinc E (L2 := [(4, .int (nI ((chU n (drawN B (chK (zt σ) n B (seedN (zt σ) a) k).2.2 + 1) u (st1 (chK (zt σ) n B (seedN (zt σ) a) k).1 25 (12 + (drawN B (chK (zt σ) n B (seedN (zt σ) a) k).2.2 + 1)) (nI 1), (chK (zt σ) n B (seedN (zt σ) a) k).2.1)).2 + 1))), (0, .ref (ad 0)), (1, .int (a)), (2, .int (nI kb)), (3, .int (q)), (5, .int (nI k)), (6, .int (nI ((drawN B ((chK (zt σ) n B (seedN (zt σ) a) k).2.2)) + 1))), (7, .int (nI u))]) dX5_chance_146 (k := 6) rfl (v := nI ((chU n (drawN B (chK (zt σ) n B (seedN (zt σ) a) k).2.2 + 1) u (st1 (chK (zt σ) n B (seedN (zt σ) a) k).1 25 (12 + (drawN B (chK (zt σ) n B (seedN (zt σ) a) k).2.2 + 1)) (nI 1), (chK (zt σ) n B (seedN (zt σ) a) k).2.1)).2 + 1)) (nI_inc _) (Nat.le_of_ble_eq_true rfl) rfl ?_
                                  refine s_aload_n E dX5_chance_149 (i := 0) (j := 1) rfl rfl ?_
                                  refine s_iconst E dX5_chance_150 (v := nI 1) (by decide) ?_
                                  refine s_iload E dX5_chance_151 (i := 7) (j := 7) rfl ?_
                                  refine s_ishl_ E dX5_chance_153 (v := nI (2 ^ u)) (one_int u (by omega)) ?_
                                  refine m_calli E (mz_searchesL ((chU n (drawN B (chK (zt σ) n B (seedN (zt σ) a) k).2.2 + 1) u (st1 (chK (zt σ) n B (seedN (zt σ) a) k).1 25 (12 + (drawN B (chK (zt σ) n B (seedN (zt σ) a) k).2.2 + 1)) (nI 1), (chK (zt σ) n B (seedN (zt σ) a) k).2.1)).1) n (2 ^ u) (hcw.1) ((hcw.cm hC).ce hcw.1.sy) ((hcw.lh hl).ce hcw.1.sy) (⟨Nat.pow_lt_pow_right (by decide) (by omega), hn6⟩)) K5_354 (Nat.le_of_ble_eq_true rfl) (Nat.le_of_ble_eq_true rfl) (Nat.zero_le _) (Nat.zero_le _) rfl rfl (Nat.le_of_ble_eq_true rfl) dX5_chance_154 (fun r154 w154 h154 => ?_)
                                  obtain ⟨hr, h1, h2, h3⟩ := h154
                                  subst hr
                                  refine s_if_ge E dX5_chance_157 (tgt := 170) rfl (fun c157 => ?_) (fun c157 => ?_)
                                  · have c157 := Int32.not_lt.mpr c157
                                    refine s_iinc E (L2 := [(7, .int (nI (u + 1))), (4, .int (nI ((chU n (drawN B (chK (zt σ) n B (seedN (zt σ) a) k).2.2 + 1) u (st1 (chK (zt σ) n B (seedN (zt σ) a) k).1 25 (12 + (drawN B (chK (zt σ) n B (seedN (zt σ) a) k).2.2 + 1)) (nI 1), (chK (zt σ) n B (seedN (zt σ) a) k).2.1)).2 + 1))), (0, .ref (ad 0)), (1, .int (a)), (2, .int (nI kb)), (3, .int (q)), (5, .int (nI k)), (6, .int (nI ((drawN B ((chK (zt σ) n B (seedN (zt σ) a) k).2.2)) + 1)))]) dX5_chance_170 (k := 7) rfl (v := nI (u + 1)) (nI_inc _) (Nat.le_of_ble_eq_true rfl) rfl ?_
                                    refine s_goto E dX5_chance_173 (tgt := 120) rfl ?_
                                    refine s_loc (L2 := [(0, .ref (ad 0)), (1, .int (a)), (2, .int (nI kb)), (3, .int (q)), (5, .int (nI k)), (6, .int (nI ((drawN B ((chK (zt σ) n B (seedN (zt σ) a) k).2.2)) + 1))), (4, .int (nI ((chU n (drawN B (chK (zt σ) n B (seedN (zt σ) a) k).2.2 + 1) u (st1 (chK (zt σ) n B (seedN (zt σ) a) k).1 25 (12 + (drawN B (chK (zt σ) n B (seedN (zt σ) a) k).2.2 + 1)) (nI 1), (chK (zt σ) n B (seedN (zt σ) a) k).2.1)).2 + 1))), (7, .int (nI (u + 1)))]) [2, 3, 4, 5, 6, 7, 1, 0] rfl ?_
                                    refine s_L (L2 := [(0, .ref (ad 0)), (1, .int (a)), (2, .int (nI kb)), (3, .int (q)), (5, .int (nI k)), (6, .int (nI ((drawN B ((chK (zt σ) n B (seedN (zt σ) a) k).2.2)) + 1))), (4, .int (nI ((chU n (drawN B (chK (zt σ) n B (seedN (zt σ) a) k).2.2 + 1) (u + 1) (st1 (chK (zt σ) n B (seedN (zt σ) a) k).1 25 (12 + (drawN B (chK (zt σ) n B (seedN (zt σ) a) k).2.2 + 1)) (nI 1), (chK (zt σ) n B (seedN (zt σ) a) k).2.1)).2))), (7, .int (nI (u + 1)))]) (by rw [chU, if_pos c140]) ?_
                                    exact ih120 (u + 1) w154 (by omega) (by rw [chU, if_pos c140, if_neg c157]; exact hcw.fit hn6 h1 h2 (h3 c157)) (by rw [h1.2.1 44 (by decide) (by decide)]; exact hd) (by omega)
                                  · have c157 := Int32.not_le.mp c157
                                    refine s_aload_n E dX5_chance_160 (i := 0) (j := 1) rfl rfl ?_
                                    refine mg25 E dX5_chance_161 ?_
                                    refine s_iconst E dX5_chance_164 (v := nI 0) (by decide) ?_
                                    refine s_iload E dX5_chance_165 (i := 7) (j := 7) rfl ?_
                                    refine s_iadd_ E dX5_chance_167 (v := nI u) (nI_z _) ?_
                                    refine s_iconst E dX5_chance_168 (v := nI 0) (by decide) ?_
                                    refine ms25 E (u) (rfl) (by omega) dX5_chance_169 ?_
                                    refine s_iinc E (L2 := [(7, .int (nI (u + 1))), (4, .int (nI ((chU n (drawN B (chK (zt σ) n B (seedN (zt σ) a) k).2.2 + 1) u (st1 (chK (zt σ) n B (seedN (zt σ) a) k).1 25 (12 + (drawN B (chK (zt σ) n B (seedN (zt σ) a) k).2.2 + 1)) (nI 1), (chK (zt σ) n B (seedN (zt σ) a) k).2.1)).2 + 1))), (0, .ref (ad 0)), (1, .int (a)), (2, .int (nI kb)), (3, .int (q)), (5, .int (nI k)), (6, .int (nI ((drawN B ((chK (zt σ) n B (seedN (zt σ) a) k).2.2)) + 1)))]) dX5_chance_170 (k := 7) rfl (v := nI (u + 1)) (nI_inc _) (Nat.le_of_ble_eq_true rfl) rfl ?_
                                    refine s_goto E dX5_chance_173 (tgt := 120) rfl ?_
                                    refine s_loc (L2 := [(0, .ref (ad 0)), (1, .int (a)), (2, .int (nI kb)), (3, .int (q)), (5, .int (nI k)), (6, .int (nI ((drawN B ((chK (zt σ) n B (seedN (zt σ) a) k).2.2)) + 1))), (4, .int (nI ((chU n (drawN B (chK (zt σ) n B (seedN (zt σ) a) k).2.2 + 1) u (st1 (chK (zt σ) n B (seedN (zt σ) a) k).1 25 (12 + (drawN B (chK (zt σ) n B (seedN (zt σ) a) k).2.2 + 1)) (nI 1), (chK (zt σ) n B (seedN (zt σ) a) k).2.1)).2 + 1))), (7, .int (nI (u + 1)))]) [2, 3, 4, 5, 6, 7, 1, 0] rfl ?_
                                    refine s_L (L2 := [(0, .ref (ad 0)), (1, .int (a)), (2, .int (nI kb)), (3, .int (q)), (5, .int (nI k)), (6, .int (nI ((drawN B ((chK (zt σ) n B (seedN (zt σ) a) k).2.2)) + 1))), (4, .int (nI ((chU n (drawN B (chK (zt σ) n B (seedN (zt σ) a) k).2.2 + 1) (u + 1) (st1 (chK (zt σ) n B (seedN (zt σ) a) k).1 25 (12 + (drawN B (chK (zt σ) n B (seedN (zt σ) a) k).2.2 + 1)) (nI 1), (chK (zt σ) n B (seedN (zt σ) a) k).2.1)).2))), (7, .int (nI (u + 1)))]) (by rw [chU, if_pos c140]) ?_
                                    exact ih120 (u + 1) (st1 w154 25 u (nI 0)) (by omega) (by rw [chU, if_pos c140, if_pos c157]; exact hcw.lost hn6 (by omega) h1 h2) (by rw [st1_ne (by decide), h1.2.1 44 (by decide) (by decide)]; exact hd) (by omega)
                                · refine s_goto E dX5_chance_143 (tgt := 170) rfl ?_
                                  refine s_iinc E (L2 := [(7, .int (nI (u + 1))), (0, .ref (ad 0)), (1, .int (a)), (2, .int (nI kb)), (3, .int (q)), (5, .int (nI k)), (6, .int (nI ((drawN B ((chK (zt σ) n B (seedN (zt σ) a) k).2.2)) + 1))), (4, .int (nI ((chU n (drawN B (chK (zt σ) n B (seedN (zt σ) a) k).2.2 + 1) u (st1 (chK (zt σ) n B (seedN (zt σ) a) k).1 25 (12 + (drawN B (chK (zt σ) n B (seedN (zt σ) a) k).2.2 + 1)) (nI 1), (chK (zt σ) n B (seedN (zt σ) a) k).2.1)).2)))]) dX5_chance_170 (k := 7) rfl (v := nI (u + 1)) (nI_inc _) (Nat.le_of_ble_eq_true rfl) rfl ?_
                                  refine s_goto E dX5_chance_173 (tgt := 120) rfl ?_
                                  refine s_loc (L2 := [(0, .ref (ad 0)), (1, .int (a)), (2, .int (nI kb)), (3, .int (q)), (5, .int (nI k)), (6, .int (nI ((drawN B ((chK (zt σ) n B (seedN (zt σ) a) k).2.2)) + 1))), (4, .int (nI ((chU n (drawN B (chK (zt σ) n B (seedN (zt σ) a) k).2.2 + 1) u (st1 (chK (zt σ) n B (seedN (zt σ) a) k).1 25 (12 + (drawN B (chK (zt σ) n B (seedN (zt σ) a) k).2.2 + 1)) (nI 1), (chK (zt σ) n B (seedN (zt σ) a) k).2.1)).2))), (7, .int (nI (u + 1)))]) [1, 2, 3, 4, 5, 6, 7, 0] rfl ?_
                                  refine s_L (L2 := [(0, .ref (ad 0)), (1, .int (a)), (2, .int (nI kb)), (3, .int (q)), (5, .int (nI k)), (6, .int (nI ((drawN B ((chK (zt σ) n B (seedN (zt σ) a) k).2.2)) + 1))), (4, .int (nI ((chU n (drawN B (chK (zt σ) n B (seedN (zt σ) a) k).2.2 + 1) (u + 1) (st1 (chK (zt σ) n B (seedN (zt σ) a) k).1 25 (12 + (drawN B (chK (zt σ) n B (seedN (zt σ) a) k).2.2 + 1)) (nI 1), (chK (zt σ) n B (seedN (zt σ) a) k).2.1)).2))), (7, .int (nI (u + 1)))]) (by rw [chU, if_neg c140]) ?_
                                  exact ih120 (u + 1) w2 (by omega) (by rw [chU, if_neg c140]; exact hcw) (hd) (by omega)
                          refine s_loc (L2 := [(0, .ref (ad 0)), (1, .int (a)), (2, .int (nI kb)), (3, .int (q)), (5, .int (nI k)), (6, .int (nI ((drawN B ((chK (zt σ) n B (seedN (zt σ) a) k).2.2)) + 1))), (4, .int (nI ((chK (zt σ) n B (seedN (zt σ) a) k).2.1))), (7, .int (nI 0))]) [2, 3, 4, 5, 7, 1, 6, 0] rfl ?_
                          exact L120 (_ + 1) 0 (st1 (st1 w1 0 44 (nI (dwN (chK (zt σ) n B (seedN (zt σ) a) k).2.2))) 25 (12 + (drawN B (chK (zt σ) n B (seedN (zt σ) a) k).2.2 + 1)) (nI 1)) (Nat.zero_le _) ((hcw1.drawn).put (by omega) (fun h9 => by omega) hn6) (by rw [st1_ne (by decide), st1_eq]) (Nat.lt_succ_self _)
                    rw [show i = 79 by omega]
                    refine s_loc (L2 := [(0, .ref (ad 0)), (1, .int (a)), (2, .int (nI kb)), (3, .int (q)), (4, .int (nI 0)), (5, .int (nI 0))]) [2, 3, 4, 5, 1, 0] rfl ?_
                    exact L88 (_ + 1) 0 (upR (st1 (zt σ) 0 44 (nI (seedN (zt σ) a))) 45 (va_cpy (zt σ 25) (zt σ 45) 0 0 79)) (Nat.zero_le _) (CW.of hC.2.2.2) (rfl) (hd0) (Nat.lt_succ_self _)
                  · have c59 : i < 79 := (nI_ltI (a := i) (b := 79) (by omega) (by omega)).mp (Int32.not_le.mp c59)
                    refine s_aload_n E dX5_chance_62 (i := 0) (j := 0) rfl rfl ?_
                    refine mg45 E dX5_chance_63 ?_
                    refine s_iload E dX5_chance_66 (i := 4) (j := 4) rfl ?_
                    refine s_aload_n E dX5_chance_68 (i := 0) (j := 0) rfl rfl ?_
                    refine mg25 E dX5_chance_69 ?_
                    refine s_iload E dX5_chance_72 (i := 4) (j := 4) rfl ?_
                    refine ml25 E (v := zt σ 25 i) (i) (rfl) (by omega) (rfl) dX5_chance_74 ?_
                    refine ms45 E (i) (rfl) (by omega) dX5_chance_75 ?_
                    refine s_ws (ws2 := wm ad ct (upR (st1 (zt σ) 0 44 (nI (seedN (zt σ) a))) 45 (va_cpy (zt σ 25) (zt σ 45) 0 0 (i + 1)))) (congrArg (wm ad ct) (cp_st (by omega) (by rw [Nat.zero_add]))) ?_
                    refine s_iinc E (L2 := [(4, .int (nI (i + 1))), (0, .ref (ad 0)), (1, .int (a)), (2, .int (nI kb)), (3, .int (q))]) dX5_chance_76 (k := 4) rfl (v := nI (i + 1)) (nI_inc _) (Nat.le_of_ble_eq_true rfl) rfl ?_
                    refine s_goto E dX5_chance_79 (tgt := 55) rfl ?_
                    refine s_loc (L2 := [(0, .ref (ad 0)), (1, .int (a)), (2, .int (nI kb)), (3, .int (q)), (4, .int (nI (i + 1)))]) [1, 2, 3, 4, 0] rfl ?_
                    exact ih55 (i + 1) (by omega) (by omega)
              refine s_ws (ws2 := wm ad ct (upR (st1 (zt σ) 0 44 (nI (seedN (zt σ) a))) 45 (va_cpy (zt σ 25) (zt σ 45) 0 0 0))) (congrArg (wm ad ct) (by rw [cpy_0, upR_self]; rfl)) ?_
              refine s_loc (L2 := [(0, .ref (ad 0)), (1, .int (a)), (2, .int (nI kb)), (3, .int (q)), (4, .int (nI 0))]) [1, 2, 3, 4, 0] rfl ?_
              exact L55 (_ + 1) 0 (Nat.zero_le _) (Nat.lt_succ_self _)
            refine s_icmp_ne E dX5_chance_35 (tgt := 48) rfl (fun c35 => ?_) (fun c35 => ?_)
            · refine s_iload_n E dX5_chance_48 (i := 1) (j := 1) rfl rfl ?_
              refine s_top (v2 := nI ((seedN (zt σ) a))) (by unfold seedN; rw [if_neg c35]; exact m1_ge c7 c35) ?_
              exact J49
            · refine s_aload_n E dX5_chance_38 (i := 0) (j := 0) rfl rfl ?_
              refine mg3 E dX5_chance_39 ?_
              refine s_bipush E dX5_chance_42 (v := nI 9) (by decide) ?_
              refine ml3 E (v := zt σ 3 9) (9) (rfl) (by omega) (rfl) dX5_chance_44 ?_
              refine s_goto E dX5_chance_45 (tgt := 49) rfl ?_
              refine s_top (v2 := nI ((seedN (zt σ) a))) (by unfold seedN; rw [if_pos c35]; exact hsd.1) ?_
              exact J49
          · have c27 := Int32.not_le.mp c27
            refine s_iconst E dX5_chance_30 (v := (-1)) (by decide) ?_
            exact Rt ((-1)) (zt σ) dX5_chance_31 (⟨by unfold chF; rw [if_neg (by simp [bI, chOk, c7, c12, c18, c22, c27])], HQ.rf _⟩) rfl (Nat.le_refl _) (Nat.le_refl _) rfl E.2.2.2.2.2.1
end
