set_option maxRecDepth 100000
section
variable {l : Launch} {D : va_G} {gt ad : Nat → Nat} {ct : Nat → ClassId}
set_option maxHeartbeats 1000000 in
set_option maxRecDepth 100000 in
theorem mz_searches {σ : Nat → Nat → Int32} (n S : Nat) (hC : CM σ n) (hl : LH σ n) (hS : Sub S n) : Ct l D gt yX5_searches cX5_searches 4 .int 6 140 0 0 [.ref (ad 0), .int (nI S)] (wm ad ct σ) (tysA ct) (fun r σ2 => srV σ n S = r ∧ ∃ s2 k2, HR (st1 s2 0 42 (nI k2)) σ2 ∧ PL σ s2 n S ∧ In25 s2 n ∧ (S ≠ 0 → (srR σ n S).1 = 0 → s2 = (srR σ n S).2.1)) (fun σ2 => wm ad ct σ2) (fun _ => tysA ct) := by
  refine Ct.start RX5 (by decide) rfl (Nat.le_of_ble_eq_true rfl) rfl ?_
  intro pP eE sS mM aA bB hM cC QQ AA E Rt
  have hn := hC.1
  have hn6 := hC.2.1
  have hs64 := hS.s64
  refine s_aload_n E dX5_searches_0 (i := 0) (j := 0) rfl rfl ?_
  refine s_iconst E dX5_searches_1 (v := nI 0) (by decide) ?_
  refine mp42 E dX5_searches_2 ?_
  refine s_iload_n E dX5_searches_5 (i := 1) (j := 1) rfl rfl ?_
  refine s_if_ne E dX5_searches_6 (tgt := 23) rfl (fun c6 => ?_) (fun c6 => ?_)
  · have c6 : ¬ S = 0 := fun h => c6 ((nI_eq (a := S) (b := 0) (by omega) (by omega)).mpr h)
    have hS0 : S ≠ 0 := c6
    refine s_aload_n E dX5_searches_23 (i := 0) (j := 0) rfl rfl ?_
    refine s_iload_n E dX5_searches_24 (i := 1) (j := 1) rfl rfl ?_
    refine s_iconst E dX5_searches_25 (v := (-1)) (by decide) ?_
    refine m_calli E (mz_nextOf S 0 (-1) (hs64) (m1_add) (by omega)) K5_336 (Nat.le_of_ble_eq_true rfl) (Nat.le_of_ble_eq_true rfl) (Nat.zero_le _) (Nat.zero_le _) rfl rfl (Nat.le_of_ble_eq_true rfl) dX5_searches_26 (fun r26 w26 h26 => ?_)
    obtain ⟨rfl, rfl⟩ := h26
    refine s_istore_n E (L2 := [(2, .int (nI (nxF S 7 0))), (0, .ref (ad 0)), (1, .int (nI S))]) dX5_searches_29 rfl (Nat.le_of_ble_eq_true rfl) rfl ?_
    refine s_iconst E dX5_searches_30 (v := nI 0) (by decide) ?_
    refine s_istore_n E (L2 := [(3, .int (nI 0)), (2, .int (nI (nxF S 7 0))), (0, .ref (ad 0)), (1, .int (nI S))]) dX5_searches_31 rfl (Nat.le_of_ble_eq_true rfl) rfl ?_
    have L32 : ∀ (fuel : Nat) (k : Nat), (k ≤ n) → (n - k) < fuel → Sm pP l eE { frames := 6, cells := 0, slots := 0, locals := 140 } sS mM aA bB hM cC QQ AA D 4 0 0 (wm ad ct (st1 (zF σ S k) 0 42 (nI 0))) 32 [(0, .ref (ad 0)), (1, .int (nI S)), (2, .int (nI (nxF S 7 0))), (3, .int (nI k))] [] := by
      intro fuel
      induction fuel with
      | zero =>
        intro k hk hf32
        exact absurd hf32 (Nat.not_lt_zero _)
      | succ fuel ih32 =>
        intro k hk hf32
        have hbt := bit_01 S k
        refine s_iload_n E dX5_searches_32 (i := 3) (j := 3) rfl rfl ?_
        refine s_aload_n E dX5_searches_33 (i := 0) (j := 0) rfl rfl ?_
        refine m_calli E (mz_users n (by show zF σ S k 3 7 = nI n; rw [(zF_pl σ S n k hk).1 3 (by decide)]; exact hn)) K5_232 (Nat.le_of_ble_eq_true rfl) (Nat.le_of_ble_eq_true rfl) (Nat.zero_le _) (Nat.zero_le _) rfl rfl (Nat.le_of_ble_eq_true rfl) dX5_searches_34 (fun r34 w34 h34 => ?_)
        obtain ⟨rfl, rfl⟩ := h34
        refine s_icmp_ge E dX5_searches_37 (tgt := 64) rfl (fun c37 => ?_) (fun c37 => ?_)
        · have c37 : ¬ k < n := fun h => absurd c37 (Int32.not_le.mpr ((nI_ltI (a := k) (b := n) (by omega) (by omega)).mpr h))
          have L64 : ∀ (fuel : Nat) (p : Nat) (q : Nat) (f : Nat) (s : Nat → Nat → Int32) (w2 : Nat → Nat → Int32), (HR (st1 s 0 42 (nI q)) w2) → (p ≤ 7) → (p ≠ 0 → p ≠ 7 → bit S (p - 1) = 1) → (q ≤ 600) → (PL σ s n S) → (In25 s n) → (srF n S (f + 1) p s q = srR σ n S) → (8 * (601 - q) + p ≤ f) → f < fuel → Sm pP l eE { frames := 6, cells := 0, slots := 0, locals := 140 } sS mM aA bB hM cC QQ AA D 4 0 0 (wm ad ct w2) 64 [(0, .ref (ad 0)), (1, .int (nI S)), (2, .int (m1I p))] [] := by
            intro fuel
            induction fuel with
            | zero =>
              intro p q f s w2 hw hp hb hq hPL hI hR hf hf64
              exact absurd hf64 (Nat.not_lt_zero _)
            | succ fuel ih64 =>
              intro p q f s w2 hw hp hb hq hPL hI hR hf hf64
              refine s_iload_n E dX5_searches_64 (i := 2) (j := 2) rfl rfl ?_
              refine s_iconst E dX5_searches_65 (v := (-1)) (by decide) ?_
              refine s_icmp_eq E dX5_searches_66 (tgt := 127) rfl (fun c66 => ?_) (fun c66 => ?_)
              · have hz0 := m1I_eq (by omega) c66
                have hR0 : srR σ n S = (2, s, q) := by rw [← hR, srF, if_pos hz0]
                refine s_iload_n E dX5_searches_127 (i := 2) (j := 2) rfl rfl ?_
                refine s_iconst E dX5_searches_128 (v := (-1)) (by decide) ?_
                refine s_icmp_ne E dX5_searches_129 (tgt := 137) rfl (fun c129 => ?_) (fun c129 => ?_)
                · refine s_aload_n E dX5_searches_137 (i := 0) (j := 0) rfl rfl ?_
                  refine mg42 E (v := nI q) (by rw [hw.2 42 (by omega), st1_eq]) dX5_searches_138 ?_
                  exact Rt (nI q) (w2) dX5_searches_141 (absurd c66 c129) rfl (Nat.le_refl _) (Nat.le_refl _) rfl E.2.2.2.2.2.1
                · refine s_bipush E dX5_searches_132 (v := (-2)) (by decide) ?_
                  refine s_goto E dX5_searches_134 (tgt := 141) rfl ?_
                  exact Rt ((-2)) (w2) dX5_searches_141 (⟨by unfold srV; rw [if_neg hS0, hR0, if_neg (by show ¬ (2 : Nat) = 0; decide), if_pos rfl], s, q, hw, hPL, hI, fun _ h9 => by rw [hR0] at h9; cases h9⟩) rfl (Nat.le_refl _) (Nat.le_refl _) rfl E.2.2.2.2.2.1
              · have hz := m1I_ne c66
                refine s_iload_n E dX5_searches_69 (i := 2) (j := 2) rfl rfl ?_
                refine s_bipush E dX5_searches_70 (v := nI 6) (by decide) ?_
                refine s_icmp_ge E dX5_searches_72 (tgt := 127) rfl (fun c72 => ?_) (fun c72 => ?_)
                · have hp7 : p = 7 := by have h9 := Int32.not_lt.mpr c72; rw [hz.2, nI_ltI (by omega) (by omega)] at h9; omega
                  have hR0 : srR σ n S = (0, s, q) := by rw [← hR, srF, if_neg hz.1, if_pos hp7]
                  refine s_iload_n E dX5_searches_127 (i := 2) (j := 2) rfl rfl ?_
                  refine s_iconst E dX5_searches_128 (v := (-1)) (by decide) ?_
                  refine s_icmp_ne E dX5_searches_129 (tgt := 137) rfl (fun c129 => ?_) (fun c129 => ?_)
                  · refine s_aload_n E dX5_searches_137 (i := 0) (j := 0) rfl rfl ?_
                    refine mg42 E (v := nI q) (by rw [hw.2 42 (by omega), st1_eq]) dX5_searches_138 ?_
                    exact Rt (nI q) (w2) dX5_searches_141 (⟨by unfold srV; rw [if_neg hS0, hR0, if_pos rfl], s, q, hw, hPL, hI, fun _ _ => by rw [hR0]⟩) rfl (Nat.le_refl _) (Nat.le_refl _) rfl E.2.2.2.2.2.1
                  · refine s_bipush E dX5_searches_132 (v := (-2)) (by decide) ?_
                    refine s_goto E dX5_searches_134 (tgt := 141) rfl ?_
                    exact Rt ((-2)) (w2) dX5_searches_141 (absurd (m1I_eq (by omega) c129) (by omega)) rfl (Nat.le_refl _) (Nat.le_refl _) rfl E.2.2.2.2.2.1
                · have hp7 : p < 7 := by have h9 := Int32.not_le.mp c72; rw [hz.2, nI_ltI (by omega) (by omega)] at h9; omega
                  have hb1 := hb hz.1 (by omega)
                  have hun := hS.lt hb1
                  have hce : CE s w2 := CE.lk.tr hw.ce
                  have hq7 := nfR_q (s := s) (n := n) (u := p - 1) hq
                  have h1r := fun h9 => nfR_1 (s := s) (n := n) (u := p - 1) hq (hl.pl hPL) hun h9
                  rw [show (m1I p : Int32) = nI (p - 1) from hz.2]
                  refine s_aload_n E dX5_searches_75 (i := 0) (j := 0) rfl rfl ?_
                  refine s_iload_n E dX5_searches_76 (i := 2) (j := 2) rfl rfl ?_
                  refine m_calli E (mz_nextFit n (p - 1) q ((CM.pl hC hPL hI).ce hce) ((hl.pl hPL).ce hce) (hun) (by rw [hw.2 42 (by omega), st1_eq]) (hq)) K5_339 (Nat.le_of_ble_eq_true rfl) (Nat.le_of_ble_eq_true rfl) (Nat.zero_le _) (Nat.zero_le _) rfl rfl (Nat.le_of_ble_eq_true rfl) dX5_searches_77 (fun r77 w77 h77 => ?_)
                  obtain ⟨hr77, v, hv, h77⟩ := h77
                  rw [nfR_ce hce] at hr77 h77
                  replace h77 := hw.fit h77
                  subst hr77
                  refine s_istore_n E (L2 := [(3, .int (nfV (nfR s n (p - 1) q))), (0, .ref (ad 0)), (1, .int (nI S)), (2, .int (nI (p - 1)))]) dX5_searches_80 rfl (Nat.le_of_ble_eq_true rfl) rfl ?_
                  refine s_iload_n E dX5_searches_81 (i := 3) (j := 0) rfl rfl ?_
                  refine s_bipush E dX5_searches_82 (v := (-3)) (by decide) ?_
                  refine s_icmp_ne E dX5_searches_84 (tgt := 95) rfl (fun c84 => ?_) (fun c84 => ?_)
                  · have hr3 := nfV_n3 c84
                    refine s_aload_n E dX5_searches_95 (i := 0) (j := 1) rfl rfl ?_
                    refine mg25 E dX5_searches_96 ?_
                    refine s_iconst E dX5_searches_99 (v := nI 0) (by decide) ?_
                    refine s_iload_n E dX5_searches_100 (i := 2) (j := 3) rfl rfl ?_
                    refine s_iadd_ E dX5_searches_101 (v := nI (p - 1)) (nI_z _) ?_
                    refine s_iload_n E dX5_searches_102 (i := 3) (j := 0) rfl rfl ?_
                    refine ms25 E (p - 1) (rfl) (by omega) dX5_searches_103 ?_
                    refine s_iload_n E dX5_searches_104 (i := 3) (j := 0) rfl rfl ?_
                    refine s_if_ne E dX5_searches_105 (tgt := 117) rfl (fun c105 => ?_) (fun c105 => ?_)
                    · have hn1 := nfV_n0 hr3 c105
                      refine s_aload_n E dX5_searches_117 (i := 0) (j := 1) rfl rfl ?_
                      refine s_iload_n E dX5_searches_118 (i := 1) (j := 2) rfl rfl ?_
                      refine s_iload_n E dX5_searches_119 (i := 2) (j := 3) rfl rfl ?_
                      refine m_calli E (mz_nextOf S p (nI (p - 1)) (hs64) (by rw [nI_add, Nat.sub_add_cancel (show 1 ≤ p by omega)]) (by omega)) K5_336 (Nat.le_of_ble_eq_true rfl) (Nat.le_of_ble_eq_true rfl) (Nat.zero_le _) (Nat.zero_le _) rfl rfl (Nat.le_of_ble_eq_true rfl) dX5_searches_120 (fun r120 w120 h120 => ?_)
                      obtain ⟨rfl, rfl⟩ := h120
                      refine s_istore_n E (L2 := [(2, .int (nI (nxF S 7 p))), (3, .int (nfV (nfR s n (p - 1) q))), (0, .ref (ad 0)), (1, .int (nI S))]) dX5_searches_123 rfl (Nat.le_of_ble_eq_true rfl) rfl ?_
                      refine s_goto E dX5_searches_124 (tgt := 64) rfl ?_
                      refine s_loc (L2 := [(0, .ref (ad 0)), (1, .int (nI S)), (2, .int (nI (nxF S 7 p)))]) [2, 3, 0] rfl ?_
                      refine s_L (L2 := [(0, .ref (ad 0)), (1, .int (nI S)), (2, .int (m1I (nxF S 7 p + 1)))]) (by rw [m1I_s]) ?_
                      exact ih64 (nxF S 7 p + 1) ((nfR s n (p - 1) q).2.2) (f - 1) (st1 s 25 (p - 1) (nI (nfR s n (p - 1) q).2.1)) (st1 w77 25 (p - 1) (nfV (nfR s n (p - 1) q))) (by rw [hn1.2]; exact h77.set) (by have := (nxF_p S 7 p (by omega) (by omega)).2.1; omega) (fun _ h9 => by rw [Nat.add_sub_cancel]; exact (nxF_p S 7 p (by omega) (by omega)).2.2 (by have := (nxF_p S 7 p (by omega) (by omega)).2.1; omega)) (hq7.2) (hPL.put hun hb1) (hI.put (In.of (h1r hn1.1).2.1 (by decide))) (by rw [← hR, srF_found hz.1 (show ¬ p = 7 by omega) hr3 hn1.1, Nat.sub_add_cancel (show 1 ≤ f by omega)]) (by have := (nxF_p S 7 p (by omega) (by omega)).2.1; have := (h1r hn1.1).2.2; omega) (by omega)
                    · have hn0 := nfV_0 hr3 c105 (fun h9 => ⟨(h1r h9).1, (h1r h9).2.1⟩)
                      refine s_aload_n E dX5_searches_108 (i := 0) (j := 1) rfl rfl ?_
                      refine s_iload_n E dX5_searches_109 (i := 1) (j := 2) rfl rfl ?_
                      refine s_iload_n E dX5_searches_110 (i := 2) (j := 3) rfl rfl ?_
                      refine m_calli E (mz_aheadOf S (p - 1) (hs64) (by omega)) K5_345 (Nat.le_of_ble_eq_true rfl) (Nat.le_of_ble_eq_true rfl) (Nat.zero_le _) (Nat.zero_le _) rfl rfl (Nat.le_of_ble_eq_true rfl) dX5_searches_111 (fun r111 w111 h111 => ?_)
                      obtain ⟨rfl, rfl⟩ := h111
                      refine s_goto E dX5_searches_114 (tgt := 123) rfl ?_
                      refine s_istore_n E (L2 := [(2, .int (m1I (avF S (p - 1)))), (3, .int (nfV (nfR s n (p - 1) q))), (0, .ref (ad 0)), (1, .int (nI S))]) dX5_searches_123 rfl (Nat.le_of_ble_eq_true rfl) rfl ?_
                      refine s_goto E dX5_searches_124 (tgt := 64) rfl ?_
                      refine s_loc (L2 := [(0, .ref (ad 0)), (1, .int (nI S)), (2, .int (m1I (avF S (p - 1))))]) [2, 3, 0] rfl ?_
                      exact ih64 (avF S (p - 1)) ((nfR s n (p - 1) q).2.2) (f - 1) (st1 s 25 (p - 1) (nI 0)) (st1 w77 25 (p - 1) (nfV (nfR s n (p - 1) q))) (by rw [hn0.2]; exact h77.set) (by have := (avF_p S (p - 1)).1; omega) (fun h9 _ => (avF_p S (p - 1)).2 h9) (hq7.2) (hPL.put hun hb1) (hI.put (In.of (by decide) (by decide))) (by rw [← hR, srF_none hz.1 (show ¬ p = 7 by omega) hr3 hn0.1, Nat.sub_add_cancel (show 1 ≤ f by omega)]) (by have := (avF_p S (p - 1)).1; omega) (by omega)
                  · have hr3 := nfV_is3 c84 (fun h9 => (h1r h9).2.1)
                    have hR0 : srR σ n S = (3, s, (nfR s n (p - 1) q).2.2) := by rw [← hR, srF, if_neg hz.1, if_neg (show ¬ p = 7 by omega), if_pos hr3]
                    refine s_aload_n E dX5_searches_87 (i := 0) (j := 1) rfl rfl ?_
                    refine s_iload_n E dX5_searches_88 (i := 1) (j := 2) rfl rfl ?_
                    refine m_callv E (mz_clears n S (by rw [h77.1 3 (by omega) (by omega), st1_ne (by decide), st1_ne (by decide), hPL.1 3 (by decide)]; exact hn) (hn6) (hs64)) K5_342 (Nat.le_of_ble_eq_true rfl) (Nat.le_of_ble_eq_true rfl) (Nat.zero_le _) (Nat.zero_le _) rfl rfl (Nat.le_of_ble_eq_true rfl) dX5_searches_89 (fun w89 h89 => ?_)
                    subst h89
                    refine s_bipush E dX5_searches_92 (v := (-3)) (by decide) ?_
                    exact Rt ((-3)) (zF w77 S n) dX5_searches_94 (⟨by unfold srV; rw [if_neg hS0, hR0, if_neg (by show ¬ (3 : Nat) = 0; decide), if_neg (by show ¬ (3 : Nat) = 2; decide)], zF (st1 s 25 (p - 1) v) S n, (nfR s n (p - 1) q).2.2, zF_hr h77, (hPL.put hun hb1).tr (zF_pl _ S n n (Nat.le_refl _)), zF_in (hI.put hv) n, fun _ h9 => by rw [hR0] at h9; cases h9⟩) rfl (Nat.le_refl _) (Nat.le_refl _) rfl E.2.2.2.2.2.1
          rw [show k = n by omega]
          refine s_loc (L2 := [(0, .ref (ad 0)), (1, .int (nI S)), (2, .int (nI (nxF S 7 0)))]) [0, 1, 2] rfl ?_
          refine s_L (L2 := [(0, .ref (ad 0)), (1, .int (nI S)), (2, .int (m1I (nxF S 7 0 + 1)))]) (by rw [m1I_s]) ?_
          exact L64 (_ + 1) (nxF S 7 0 + 1) 0 4999 (zF σ S n) (st1 (zF σ S n) 0 42 (nI 0)) (HR.rf _) (by have := (nxF_p S 7 0 (by omega) (by omega)).2.1; omega) (fun _ h9 => by rw [Nat.add_sub_cancel]; exact (nxF_p S 7 0 (by omega) (by omega)).2.2 (by have := (nxF_p S 7 0 (by omega) (by omega)).2.1; omega)) (by omega) (zF_pl σ S n n (Nat.le_refl _)) (zF_in hC.2.2.2 n) (rfl) (by have := (nxF_p S 7 0 (by omega) (by omega)).2.1; omega) (Nat.lt_succ_self _)
        · have c37 : k < n := (nI_ltI (a := k) (b := n) (by omega) (by omega)).mp (Int32.not_le.mp c37)
          refine s_iload_n E dX5_searches_40 (i := 1) (j := 1) rfl rfl ?_
          refine s_iload_n E dX5_searches_41 (i := 3) (j := 3) rfl rfl ?_
          refine s_ishr E dX5_searches_42 ?_
          refine s_iconst E dX5_searches_43 (v := nI 1) (by decide) ?_
          refine s_iand_ E dX5_searches_44 (v := nI (bit S k)) (bit_at _ (by omega) _ (by omega)) ?_
          refine s_iconst E dX5_searches_45 (v := nI 1) (by decide) ?_
          refine s_icmp_ne E dX5_searches_46 (tgt := 58) rfl (fun c46 => ?_) (fun c46 => ?_)
          · have c46 : ¬ bit S k = 1 := fun h => c46 ((nI_eq (a := bit S k) (b := 1) (by omega) (by omega)).mpr h)
            refine s_iinc E (L2 := [(3, .int (nI (k + 1))), (0, .ref (ad 0)), (1, .int (nI S)), (2, .int (nI (nxF S 7 0)))]) dX5_searches_58 (k := 3) rfl (v := nI (k + 1)) (nI_inc _) (Nat.le_of_ble_eq_true rfl) rfl ?_
            refine s_goto E dX5_searches_61 (tgt := 32) rfl ?_
            refine s_ws (ws2 := wm ad ct (st1 (zF σ S (k + 1)) 0 42 (nI 0))) (congrArg (wm ad ct) (by rw [zF, if_neg c46])) ?_
            refine s_loc (L2 := [(0, .ref (ad 0)), (1, .int (nI S)), (2, .int (nI (nxF S 7 0))), (3, .int (nI (k + 1)))]) [1, 2, 3, 0] rfl ?_
            exact ih32 (k + 1) (by omega) (by omega)
          · have c46 : bit S k = 1 := (nI_eq (a := bit S k) (b := 1) (by omega) (by omega)).mp c46
            refine s_aload_n E dX5_searches_49 (i := 0) (j := 0) rfl rfl ?_
            refine mg25 E dX5_searches_50 ?_
            refine s_iconst E dX5_searches_53 (v := nI 0) (by decide) ?_
            refine s_iload_n E dX5_searches_54 (i := 3) (j := 3) rfl rfl ?_
            refine s_iadd_ E dX5_searches_55 (v := nI k) (nI_z _) ?_
            refine s_iconst E dX5_searches_56 (v := nI 0) (by decide) ?_
            refine ms25 E (k) (rfl) (by omega) dX5_searches_57 ?_
            refine s_iinc E (L2 := [(3, .int (nI (k + 1))), (0, .ref (ad 0)), (1, .int (nI S)), (2, .int (nI (nxF S 7 0)))]) dX5_searches_58 (k := 3) rfl (v := nI (k + 1)) (nI_inc _) (Nat.le_of_ble_eq_true rfl) rfl ?_
            refine s_goto E dX5_searches_61 (tgt := 32) rfl ?_
            refine s_ws (ws2 := wm ad ct (st1 (zF σ S (k + 1)) 0 42 (nI 0))) (congrArg (wm ad ct) (by rw [zF, if_pos c46, st1_cm (by decide)])) ?_
            refine s_loc (L2 := [(0, .ref (ad 0)), (1, .int (nI S)), (2, .int (nI (nxF S 7 0))), (3, .int (nI (k + 1)))]) [1, 2, 3, 0] rfl ?_
            exact ih32 (k + 1) (by omega) (by omega)
    refine s_loc (L2 := [(0, .ref (ad 0)), (1, .int (nI S)), (2, .int (nI (nxF S 7 0))), (3, .int (nI 0))]) [2, 3, 1, 0] rfl ?_
    exact L32 (_ + 1) 0 (Nat.zero_le _) (Nat.lt_succ_self _)
  · have c6 : S = 0 := (nI_eq (a := S) (b := 0) (by omega) (by omega)).mp c6
    refine s_aload_n E dX5_searches_9 (i := 0) (j := 0) rfl rfl ?_
    refine m_calli E (mz_isClean n (hC.ce CE.lk)) K5_332 (Nat.le_of_ble_eq_true rfl) (Nat.le_of_ble_eq_true rfl) (Nat.zero_le _) (Nat.zero_le _) rfl rfl (Nat.le_of_ble_eq_true rfl) dX5_searches_10 (fun r10 w10 h10 => ?_)
    obtain ⟨rfl, h10⟩ := h10
    refine s_top (v2 := bI (cleanB σ n = true)) (by rw [cleanB_ce CE.lk]) ?_
    refine s_if_eq E dX5_searches_13 (tgt := 20) rfl (fun c13 => ?_) (fun c13 => ?_)
    · have c13 := bI_0 c13
      refine s_bipush E dX5_searches_20 (v := (-2)) (by decide) ?_
      exact Rt ((-2)) (w10) dX5_searches_22 (⟨by unfold srV; rw [if_pos c6, if_neg c13]; try rfl, σ, 0, h10, PL.rf _ _ _, hC.2.2.2, fun h9 => absurd c6 h9⟩) rfl (Nat.le_refl _) (Nat.le_refl _) rfl E.2.2.2.2.2.1
    · have c13 := bI_n0 c13
      refine s_iconst E dX5_searches_16 (v := nI 0) (by decide) ?_
      refine s_goto E dX5_searches_17 (tgt := 22) rfl ?_
      exact Rt (nI 0) (w10) dX5_searches_22 (⟨by unfold srV; rw [if_pos c6, if_pos c13]; try rfl, σ, 0, h10, PL.rf _ _ _, hC.2.2.2, fun h9 => absurd c6 h9⟩) rfl (Nat.le_refl _) (Nat.le_refl _) rfl E.2.2.2.2.2.1
end
