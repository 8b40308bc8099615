set_option maxRecDepth 100000
section
variable {l : Launch} {D : va_G} {gt ad : Nat → Nat} {ct : Nat → ClassId}
set_option maxHeartbeats 1000000 in
set_option maxRecDepth 100000 in
theorem mz_bySort {σ : Nat → Nat → Int32} (n : Nat) (k v : Int32) (hn : σ 3 7 = nI n) (hn6 : n ≤ 6) (hs : ∀ v, v < n → In (σ 6 v) 3) : Ct l D gt yX5_bySort cX5_bySort 5 .int 4 96 0 0 [.ref (ad 0), .int (k), .int (v)] (wm ad ct σ) (tysA ct) (fun r σ2 => bySortF (zt σ) n k v = r ∧ HR (zt σ) σ2) (fun σ2 => wm ad ct σ2) (fun _ => tysA ct) := by
  refine Ct.start RX5 (by decide) rfl (Nat.le_of_ble_eq_true rfl) rfl ?_
  intro pP eE sS mM aA bB hM cC QQ AA E Rt
  refine s_aload_n E dX5_bySort_0 (i := 0) (j := 0) rfl rfl ?_
  refine s_iconst E dX5_bySort_1 (v := nI 0) (by decide) ?_
  refine mp0 E dX5_bySort_2 ?_
  refine s_ws (ws2 := wm ad ct (zt σ)) (congrArg (wm ad ct) (rfl)) ?_
  refine s_iload_n E dX5_bySort_5 (i := 1) (j := 1) rfl rfl ?_
  refine s_if_lt E dX5_bySort_6 (tgt := 24) rfl (fun c6 => ?_) (fun c6 => ?_)
  · refine s_iconst E dX5_bySort_24 (v := (-1)) (by decide) ?_
    exact Rt ((-1)) (zt σ) dX5_bySort_25 (⟨by rw [bySortF, if_neg (by simp [bI, c6])], HR.rf _⟩) rfl (Nat.le_refl _) (Nat.le_refl _) rfl E.2.2.2.2.2.1
  · refine s_iload_n E dX5_bySort_9 (i := 1) (j := 1) rfl rfl ?_
    refine s_bipush E dX5_bySort_10 (v := nI 6) (by decide) ?_
    refine s_icmp_ge E dX5_bySort_12 (tgt := 24) rfl (fun c12 => ?_) (fun c12 => ?_)
    · have c12 := Int32.not_lt.mpr c12
      refine s_iconst E dX5_bySort_24 (v := (-1)) (by decide) ?_
      exact Rt ((-1)) (zt σ) dX5_bySort_25 (⟨by rw [bySortF, if_neg (by simp [bI, c6, c12])], HR.rf _⟩) rfl (Nat.le_refl _) (Nat.le_refl _) rfl E.2.2.2.2.2.1
    · have c12 := Int32.not_le.mp c12
      refine s_iload_n E dX5_bySort_15 (i := 2) (j := 2) rfl rfl ?_
      refine s_if_lt E dX5_bySort_16 (tgt := 24) rfl (fun c16 => ?_) (fun c16 => ?_)
      · refine s_iconst E dX5_bySort_24 (v := (-1)) (by decide) ?_
        exact Rt ((-1)) (zt σ) dX5_bySort_25 (⟨by rw [bySortF, if_neg (by simp [bI, c6, c12, c16])], HR.rf _⟩) rfl (Nat.le_refl _) (Nat.le_refl _) rfl E.2.2.2.2.2.1
      · refine s_iload_n E dX5_bySort_19 (i := 2) (j := 2) rfl rfl ?_
        refine s_iconst E dX5_bySort_20 (v := nI 2) (by decide) ?_
        refine s_icmp_le E dX5_bySort_21 (tgt := 26) rfl (fun c21 => ?_) (fun c21 => ?_)
        · have c21 := Int32.not_lt.mpr c21
          obtain ⟨i, hi, rfl⟩ := us_of6 c6 c12
          obtain ⟨w, hw, rfl⟩ := us_of2 c16 c21
          refine s_aload_n E dX5_bySort_26 (i := 0) (j := 0) rfl rfl ?_
          refine m_callv E (mz_laysProducts n (hn) (hn6)) K5_326 (Nat.le_of_ble_eq_true rfl) (Nat.le_of_ble_eq_true rfl) (Nat.zero_le _) (Nat.zero_le _) rfl rfl (Nat.le_of_ble_eq_true rfl) dX5_bySort_27 (fun w27 h27 => ?_)
          have h := HW.of (s0 := zt σ) h27 hn hn6 hs
          have hl := h.2.2.1
          refine s_iconst E dX5_bySort_30 (v := nI 0) (by decide) ?_
          refine s_istore_n E (L2 := [(3, .int (nI 0)), (0, .ref (ad 0)), (1, .int (nI i)), (2, .int (nI w))]) dX5_bySort_31 rfl (Nat.le_of_ble_eq_true rfl) rfl ?_
          refine s_iconst E dX5_bySort_32 (v := nI 0) (by decide) ?_
          refine s_istore E (L2 := [(4, .int (nI 0)), (3, .int (nI 0)), (0, .ref (ad 0)), (1, .int (nI i)), (2, .int (nI w))]) dX5_bySort_33 (Nat.le_of_ble_eq_true rfl) rfl ?_
          have L35 : ∀ (fuel : Nat) (p : Nat), p ≤ (prods (zt σ) n).length → ((prods (zt σ) n).length - p) < fuel → Sm pP l eE { frames := 4, cells := 0, slots := 0, locals := 96 } sS mM aA bB hM cC QQ AA D 5 0 0 (wm ad ct w27) 35 [(0, .ref (ad 0)), (1, .int (nI i)), (2, .int (nI w)), (3, .int (nI (sumN (sortF (zt σ) n (prods (zt σ) n) i w) p))), (4, .int (nI p))] [] := by
            intro fuel
            induction fuel with
            | zero =>
              intro p hp hf35
              exact absurd hf35 (Nat.not_lt_zero _)
            | succ fuel ih35 =>
              intro p hp hf35
              refine s_iload E dX5_bySort_35 (i := 4) (j := 4) rfl ?_
              refine s_aload_n E dX5_bySort_37 (i := 0) (j := 0) rfl rfl ?_
              refine mg41 E (v := nI ((prods (zt σ) n).length)) (h.1.2.1) dX5_bySort_38 ?_
              refine s_icmp_ge E dX5_bySort_41 (tgt := 107) rfl (fun c41 => ?_) (fun c41 => ?_)
              · have c41 : ¬ p < (prods (zt σ) n).length := fun h => absurd c41 (Int32.not_le.mpr ((nI_ltI (a := p) (b := (prods (zt σ) n).length) (by omega) (by omega)).mpr h))
                refine s_iload_n E dX5_bySort_107 (i := 3) (j := 3) rfl rfl ?_
                exact Rt (nI (sumN (sortF (zt σ) n (prods (zt σ) n) i w) p)) (w27) dX5_bySort_108 (⟨by rw [bySortF, if_pos (by simp [bI, c6, c12, c16, c21, c41]), tN_nI (by omega), tN_nI (by omega), show (prods (zt σ) n).length = p by omega], h.1.1⟩) rfl (Nat.le_refl _) (Nat.le_refl _) rfl E.2.2.2.2.2.1
              · have c41 : p < (prods (zt σ) n).length := (nI_ltI (a := p) (b := (prods (zt σ) n).length) (by omega) (by omega)).mp (Int32.not_le.mp c41)
                refine s_aload_n E dX5_bySort_44 (i := 0) (j := 0) rfl rfl ?_
                refine mg34 E dX5_bySort_45 ?_
                refine s_iload E dX5_bySort_48 (i := 4) (j := 4) rfl ?_
                refine ml34 E (v := nI ((qAt (prods (zt σ) n) p).1)) (p) (rfl) (by omega) ((h.row (p := p) (by omega)).1.1) dX5_bySort_50 ?_
                refine s_iload_n E dX5_bySort_51 (i := 1) (j := 1) rfl rfl ?_
                refine s_icmp_eq E dX5_bySort_52 (tgt := 58) rfl (fun c52 => ?_) (fun c52 => ?_)
                · have hq6 := (h.row (p := p) (by omega)).2.1
                  have c52 : (qAt (prods (zt σ) n) p).1 = i := (nI_eq (a := (qAt (prods (zt σ) n) p).1) (b := i) (by omega) (by omega)).mp c52
                  refine s_iload_n E dX5_bySort_58 (i := 3) (j := 3) rfl rfl ?_
                  have J99 : Sm pP l eE { frames := 4, cells := 0, slots := 0, locals := 96 } sS mM aA bB hM cC QQ AA D 5 0 0 (wm ad ct w27) 99 [(0, .ref (ad 0)), (1, .int (nI i)), (2, .int (nI w)), (3, .int (nI (sumN (sortF (zt σ) n (prods (zt σ) n) i w) p))), (4, .int (nI p))] [.int (nI (sortF (zt σ) n (prods (zt σ) n) i w p)), .int (nI (sumN (sortF (zt σ) n (prods (zt σ) n) i w) p))] := by
                    refine s_iadd_ E dX5_bySort_99 (v := nI (sumN (sortF (zt σ) n (prods (zt σ) n) i w) (p + 1))) (nI_add _ _) ?_
                    refine s_istore_n E (L2 := [(3, .int (nI (sumN (sortF (zt σ) n (prods (zt σ) n) i w) (p + 1)))), (0, .ref (ad 0)), (1, .int (nI i)), (2, .int (nI w)), (4, .int (nI p))]) dX5_bySort_100 rfl (Nat.le_of_ble_eq_true rfl) rfl ?_
                    refine s_iinc E (L2 := [(4, .int (nI (p + 1))), (3, .int (nI (sumN (sortF (zt σ) n (prods (zt σ) n) i w) (p + 1)))), (0, .ref (ad 0)), (1, .int (nI i)), (2, .int (nI w))]) dX5_bySort_101 (k := 4) rfl (v := nI (p + 1)) (nI_inc _) (Nat.le_of_ble_eq_true rfl) rfl ?_
                    refine s_goto E dX5_bySort_104 (tgt := 35) rfl ?_
                    refine s_loc (L2 := [(0, .ref (ad 0)), (1, .int (nI i)), (2, .int (nI w)), (3, .int (nI (sumN (sortF (zt σ) n (prods (zt σ) n) i w) (p + 1)))), (4, .int (nI (p + 1)))]) [2, 3, 4, 1, 0] rfl ?_
                    exact ih35 (p + 1) (by omega) (by omega)
                  refine s_iload_n E dX5_bySort_59 (i := 2) (j := 2) rfl rfl ?_
                  refine s_if_ne E dX5_bySort_60 (tgt := 67) rfl (fun c60 => ?_) (fun c60 => ?_)
                  · have c60 : ¬ w = 0 := fun h => c60 ((nI_eq (a := w) (b := 0) (by omega) (by omega)).mpr h)
                    refine s_iload_n E dX5_bySort_67 (i := 2) (j := 2) rfl rfl ?_
                    refine s_iconst E dX5_bySort_68 (v := nI 1) (by decide) ?_
                    refine s_icmp_ne E dX5_bySort_69 (tgt := 90) rfl (fun c69 => ?_) (fun c69 => ?_)
                    · have c69 : ¬ w = 1 := fun h => c69 ((nI_eq (a := w) (b := 1) (by omega) (by omega)).mpr h)
                      refine s_aload_n E dX5_bySort_90 (i := 0) (j := 0) rfl rfl ?_
                      refine s_iload E dX5_bySort_91 (i := 4) (j := 4) rfl ?_
                      refine m_calli E (mz_hitsOfL (zt σ) (prods (zt σ) n) n p (h) (by omega)) K5_308 (Nat.le_of_ble_eq_true rfl) (Nat.le_of_ble_eq_true rfl) (Nat.zero_le _) (Nat.zero_le _) rfl rfl (Nat.le_of_ble_eq_true rfl) dX5_bySort_93 (fun r93 w93 h93 => ?_)
                      obtain ⟨rfl, rfl⟩ := h93
                      refine m_calls E (mz_bits (hsQ (zt σ) n (qAt (prods (zt σ) n) p)) (by have := hsQ_64 (zt σ) (n := n) (qAt (prods (zt σ) n) p) hn6; omega)) K5_311 (Nat.le_of_ble_eq_true rfl) (Nat.le_of_ble_eq_true rfl) (Nat.zero_le _) (Nat.zero_le _) rfl rfl (Nat.le_of_ble_eq_true rfl) dX5_bySort_96 (fun r96 h96 => ?_)
                      subst h96
                      refine s_top (v2 := nI (sortF (zt σ) n (prods (zt σ) n) i w p)) (by simp [bI, sortF, c6, c12, c16, c21, c41, c52, hq6, c60, c69]) ?_
                      exact J99
                    · have c69 : w = 1 := (nI_eq (a := w) (b := 1) (by omega) (by omega)).mp c69
                      refine s_aload_n E dX5_bySort_72 (i := 0) (j := 0) rfl rfl ?_
                      refine mg39 E dX5_bySort_73 ?_
                      refine s_iload E dX5_bySort_76 (i := 4) (j := 4) rfl ?_
                      refine ml39 E (v := plF (zt σ) (qAt (prods (zt σ) n) p)) (p) (rfl) (by omega) ((h.row (p := p) (by omega)).1.2.2.2.2.2.1) dX5_bySort_78 ?_
                      refine s_if_lt E dX5_bySort_79 (tgt := 86) rfl (fun c79 => ?_) (fun c79 => ?_)
                      · refine s_iconst E dX5_bySort_86 (v := nI 0) (by decide) ?_
                        refine s_goto E dX5_bySort_87 (tgt := 99) rfl ?_
                        refine s_top (v2 := nI (sortF (zt σ) n (prods (zt σ) n) i w p)) (by simp [bI, sortF, c6, c12, c16, c21, c41, c52, hq6, c60, c69, c79]) ?_
                        exact J99
                      · refine s_iconst E dX5_bySort_82 (v := nI 1) (by decide) ?_
                        refine s_goto E dX5_bySort_83 (tgt := 99) rfl ?_
                        refine s_top (v2 := nI (sortF (zt σ) n (prods (zt σ) n) i w p)) (by simp [bI, sortF, c6, c12, c16, c21, c41, c52, hq6, c60, c69, c79]) ?_
                        exact J99
                  · have c60 : w = 0 := (nI_eq (a := w) (b := 0) (by omega) (by omega)).mp c60
                    refine s_iconst E dX5_bySort_63 (v := nI 1) (by decide) ?_
                    refine s_goto E dX5_bySort_64 (tgt := 99) rfl ?_
                    refine s_top (v2 := nI (sortF (zt σ) n (prods (zt σ) n) i w p)) (by simp [bI, sortF, c6, c12, c16, c21, c41, c52, hq6, c60]) ?_
                    exact J99
                · have hq6 := (h.row (p := p) (by omega)).2.1
                  have c52 : ¬ (qAt (prods (zt σ) n) p).1 = i := fun h => c52 ((nI_eq (a := (qAt (prods (zt σ) n) p).1) (b := i) (by omega) (by omega)).mpr h)
                  refine s_goto E dX5_bySort_55 (tgt := 101) rfl ?_
                  refine s_iinc E (L2 := [(4, .int (nI (p + 1))), (0, .ref (ad 0)), (1, .int (nI i)), (2, .int (nI w)), (3, .int (nI (sumN (sortF (zt σ) n (prods (zt σ) n) i w) p)))]) dX5_bySort_101 (k := 4) rfl (v := nI (p + 1)) (nI_inc _) (Nat.le_of_ble_eq_true rfl) rfl ?_
                  refine s_goto E dX5_bySort_104 (tgt := 35) rfl ?_
                  refine s_loc (L2 := [(0, .ref (ad 0)), (1, .int (nI i)), (2, .int (nI w)), (3, .int (nI (sumN (sortF (zt σ) n (prods (zt σ) n) i w) p))), (4, .int (nI (p + 1)))]) [1, 2, 3, 4, 0] rfl ?_
                  refine s_L (L2 := [(0, .ref (ad 0)), (1, .int (nI i)), (2, .int (nI w)), (3, .int (nI (sumN (sortF (zt σ) n (prods (zt σ) n) i w) (p + 1)))), (4, .int (nI (p + 1)))]) (by rw [show sumN (sortF (zt σ) n (prods (zt σ) n) i w) (p + 1) = sumN (sortF (zt σ) n (prods (zt σ) n) i w) p from by rw [sumN, show sortF (zt σ) n (prods (zt σ) n) i w p = 0 from by simp [bI, sortF, c6, c12, c16, c21, c41, c52, hq6]]; rfl]) ?_
                  exact ih35 (p + 1) (by omega) (by omega)
          refine s_loc (L2 := [(0, .ref (ad 0)), (1, .int (nI i)), (2, .int (nI w)), (3, .int (nI 0)), (4, .int (nI 0))]) [2, 3, 4, 1, 0] rfl ?_
          exact L35 (_ + 1) 0 (Nat.zero_le _) (Nat.lt_succ_self _)
        · have c21 := Int32.not_le.mp c21
          refine s_iconst E dX5_bySort_24 (v := (-1)) (by decide) ?_
          exact Rt ((-1)) (zt σ) dX5_bySort_25 (⟨by rw [bySortF, if_neg (by simp [bI, c6, c12, c16, c21])], HR.rf _⟩) rfl (Nat.le_refl _) (Nat.le_refl _) rfl E.2.2.2.2.2.1
set_option maxHeartbeats 1000000 in
set_option maxRecDepth 100000 in
theorem mz_loudest {σ : Nat → Nat → Int32} (n : Nat) (hn : σ 3 7 = nI n) (hn6 : n ≤ 6) (hs : ∀ v, v < n → In (σ 6 v) 3) : Ct l D gt yX5_loudest cX5_loudest 3 .int 4 96 0 0 [.ref (ad 0)] (wm ad ct σ) (tysA ct) (fun r σ2 => optI (loudF (zt σ) n (prods (zt σ) n) (prods (zt σ) n).length) = r ∧ HR (zt σ) σ2) (fun σ2 => wm ad ct σ2) (fun _ => tysA ct) := by
  refine Ct.start RX5 (by decide) rfl (Nat.le_of_ble_eq_true rfl) rfl ?_
  intro pP eE sS mM aA bB hM cC QQ AA E Rt
  refine s_aload_n E dX5_loudest_0 (i := 0) (j := 0) rfl rfl ?_
  refine s_iconst E dX5_loudest_1 (v := nI 0) (by decide) ?_
  refine mp0 E dX5_loudest_2 ?_
  refine s_ws (ws2 := wm ad ct (zt σ)) (congrArg (wm ad ct) (rfl)) ?_
  refine s_aload_n E dX5_loudest_5 (i := 0) (j := 0) rfl rfl ?_
  refine m_callv E (mz_laysProducts n (hn) (hn6)) K5_326 (Nat.le_of_ble_eq_true rfl) (Nat.le_of_ble_eq_true rfl) (Nat.zero_le _) (Nat.zero_le _) rfl rfl (Nat.le_of_ble_eq_true rfl) dX5_loudest_6 (fun w6 h6 => ?_)
  have h := HW.of (s0 := zt σ) h6 hn hn6 hs
  have hl := h.2.2.1
  refine s_bipush E dX5_loudest_9 (v := (-2)) (by decide) ?_
  refine s_istore_n E (L2 := [(1, .int ((-2))), (0, .ref (ad 0))]) dX5_loudest_11 rfl (Nat.le_of_ble_eq_true rfl) rfl ?_
  refine s_iconst E dX5_loudest_12 (v := nI 0) (by decide) ?_
  refine s_istore_n E (L2 := [(2, .int (nI 0)), (1, .int ((-2))), (0, .ref (ad 0))]) dX5_loudest_13 rfl (Nat.le_of_ble_eq_true rfl) rfl ?_
  have L14 : ∀ (fuel : Nat) (p : Nat), p ≤ (prods (zt σ) n).length → ((prods (zt σ) n).length - p) < fuel → Sm pP l eE { frames := 4, cells := 0, slots := 0, locals := 96 } sS mM aA bB hM cC QQ AA D 3 0 0 (wm ad ct w6) 14 [(0, .ref (ad 0)), (1, .int (optI (loudF (zt σ) n (prods (zt σ) n) p))), (2, .int (nI p))] [] := by
    intro fuel
    induction fuel with
    | zero =>
      intro p hp hf14
      exact absurd hf14 (Nat.not_lt_zero _)
    | succ fuel ih14 =>
      intro p hp hf14
      have hle := loudF_le (zt σ) n (prods (zt σ) n) p
      refine s_iload_n E dX5_loudest_14 (i := 2) (j := 2) rfl rfl ?_
      refine s_aload_n E dX5_loudest_15 (i := 0) (j := 0) rfl rfl ?_
      refine mg41 E (v := nI ((prods (zt σ) n).length)) (h.1.2.1) dX5_loudest_16 ?_
      refine s_icmp_ge E dX5_loudest_19 (tgt := 59) rfl (fun c19 => ?_) (fun c19 => ?_)
      · have c19 : ¬ p < (prods (zt σ) n).length := fun h => absurd c19 (Int32.not_le.mpr ((nI_ltI (a := p) (b := (prods (zt σ) n).length) (by omega) (by omega)).mpr h))
        refine s_iload_n E dX5_loudest_59 (i := 1) (j := 1) rfl rfl ?_
        exact Rt (optI (loudF (zt σ) n (prods (zt σ) n) p)) (w6) dX5_loudest_60 (⟨by rw [show (prods (zt σ) n).length = p by omega], h.1.1⟩) rfl (Nat.le_refl _) (Nat.le_refl _) rfl E.2.2.2.2.2.1
      · have c19 : p < (prods (zt σ) n).length := (nI_ltI (a := p) (b := (prods (zt σ) n).length) (by omega) (by omega)).mp (Int32.not_le.mp c19)
        refine s_aload_n E dX5_loudest_22 (i := 0) (j := 0) rfl rfl ?_
        refine s_iload_n E dX5_loudest_23 (i := 2) (j := 2) rfl rfl ?_
        refine m_calli E (mz_hitsOfL (zt σ) (prods (zt σ) n) n p (h) (by omega)) K5_308 (Nat.le_of_ble_eq_true rfl) (Nat.le_of_ble_eq_true rfl) (Nat.zero_le _) (Nat.zero_le _) rfl rfl (Nat.le_of_ble_eq_true rfl) dX5_loudest_24 (fun r24 w24 h24 => ?_)
        obtain ⟨rfl, rfl⟩ := h24
        have hb24 := hsQ_64 (zt σ) (n := n) (qAt (prods (zt σ) n) p) hn6
        refine s_if_eq E dX5_loudest_27 (tgt := 53) rfl (fun c27 => ?_) (fun c27 => ?_)
        · have c27 : hsQ (zt σ) n (qAt (prods (zt σ) n) p) = 0 := (nI_eq (a := hsQ (zt σ) n (qAt (prods (zt σ) n) p)) (b := 0) (by omega) (by omega)).mp c27
          refine s_iinc E (L2 := [(2, .int (nI (p + 1))), (0, .ref (ad 0)), (1, .int (optI (loudF (zt σ) n (prods (zt σ) n) p)))]) dX5_loudest_53 (k := 2) rfl (v := nI (p + 1)) (nI_inc _) (Nat.le_of_ble_eq_true rfl) rfl ?_
          refine s_goto E dX5_loudest_56 (tgt := 14) rfl ?_
          refine s_loc (L2 := [(0, .ref (ad 0)), (1, .int (optI (loudF (zt σ) n (prods (zt σ) n) p))), (2, .int (nI (p + 1)))]) [1, 2, 0] rfl ?_
          refine s_L (L2 := [(0, .ref (ad 0)), (1, .int (optI (loudF (zt σ) n (prods (zt σ) n) (p + 1)))), (2, .int (nI (p + 1)))]) (by rw [loudF, if_neg (by rintro ⟨h1, -⟩; exact h1 c27)]) ?_
          exact ih14 (p + 1) (by omega) (by omega)
        · have c27 : ¬ hsQ (zt σ) n (qAt (prods (zt σ) n) p) = 0 := fun h => c27 ((nI_eq (a := hsQ (zt σ) n (qAt (prods (zt σ) n) p)) (b := 0) (by omega) (by omega)).mpr h)
          refine s_iload_n E dX5_loudest_30 (i := 1) (j := 1) rfl rfl ?_
          refine s_bipush E dX5_loudest_31 (v := (-2)) (by decide) ?_
          refine s_icmp_eq E dX5_loudest_33 (tgt := 51) rfl (fun c33 => ?_) (fun c33 => ?_)
          · have hz := optI_0 c33 (by omega)
            refine s_iload_n E dX5_loudest_51 (i := 2) (j := 2) rfl rfl ?_
            refine s_istore_n E (L2 := [(1, .int (nI p)), (0, .ref (ad 0)), (2, .int (nI p))]) dX5_loudest_52 rfl (Nat.le_of_ble_eq_true rfl) rfl ?_
            refine s_iinc E (L2 := [(2, .int (nI (p + 1))), (1, .int (nI p)), (0, .ref (ad 0))]) dX5_loudest_53 (k := 2) rfl (v := nI (p + 1)) (nI_inc _) (Nat.le_of_ble_eq_true rfl) rfl ?_
            refine s_goto E dX5_loudest_56 (tgt := 14) rfl ?_
            refine s_loc (L2 := [(0, .ref (ad 0)), (1, .int (nI p)), (2, .int (nI (p + 1)))]) [2, 1, 0] rfl ?_
            refine s_L (L2 := [(0, .ref (ad 0)), (1, .int (optI (loudF (zt σ) n (prods (zt σ) n) (p + 1)))), (2, .int (nI (p + 1)))]) (by rw [loudF, if_pos ⟨c27, Or.inl hz⟩]; rfl) ?_
            exact ih14 (p + 1) (by omega) (by omega)
          · have hz := optI_s c33
            refine s_aload_n E dX5_loudest_36 (i := 0) (j := 0) rfl rfl ?_
            refine mg39 E dX5_loudest_37 ?_
            refine s_iload_n E dX5_loudest_40 (i := 2) (j := 2) rfl rfl ?_
            refine ml39 E (v := plF (zt σ) (qAt (prods (zt σ) n) p)) (p) (rfl) (by omega) ((h.row (p := p) (by omega)).1.2.2.2.2.2.1) dX5_loudest_41 ?_
            refine s_aload_n E dX5_loudest_42 (i := 0) (j := 0) rfl rfl ?_
            refine mg39 E dX5_loudest_43 ?_
            refine s_iload_n E dX5_loudest_46 (i := 1) (j := 1) rfl rfl ?_
            refine ml39 E (v := plF (zt σ) (qAt (prods (zt σ) n) (loudF (zt σ) n (prods (zt σ) n) p - 1))) ((loudF (zt σ) n (prods (zt σ) n) p - 1)) (hz.2) (by omega) ((h.row (p := loudF (zt σ) n (prods (zt σ) n) p - 1) (by omega)).1.2.2.2.2.2.1) dX5_loudest_47 ?_
            refine s_icmp_le E dX5_loudest_48 (tgt := 53) rfl (fun c48 => ?_) (fun c48 => ?_)
            · have c48 := Int32.not_lt.mpr c48
              refine s_iinc E (L2 := [(2, .int (nI (p + 1))), (0, .ref (ad 0)), (1, .int (optI (loudF (zt σ) n (prods (zt σ) n) p)))]) dX5_loudest_53 (k := 2) rfl (v := nI (p + 1)) (nI_inc _) (Nat.le_of_ble_eq_true rfl) rfl ?_
              refine s_goto E dX5_loudest_56 (tgt := 14) rfl ?_
              refine s_loc (L2 := [(0, .ref (ad 0)), (1, .int (optI (loudF (zt σ) n (prods (zt σ) n) p))), (2, .int (nI (p + 1)))]) [1, 2, 0] rfl ?_
              refine s_L (L2 := [(0, .ref (ad 0)), (1, .int (optI (loudF (zt σ) n (prods (zt σ) n) (p + 1)))), (2, .int (nI (p + 1)))]) (by rw [loudF, if_neg (by rintro ⟨h1, h2 | h2⟩; have := hz.1; omega; exact c48 h2)]) ?_
              exact ih14 (p + 1) (by omega) (by omega)
            · have c48 := Int32.not_le.mp c48
              refine s_iload_n E dX5_loudest_51 (i := 2) (j := 2) rfl rfl ?_
              refine s_istore_n E (L2 := [(1, .int (nI p)), (0, .ref (ad 0)), (2, .int (nI p))]) dX5_loudest_52 rfl (Nat.le_of_ble_eq_true rfl) rfl ?_
              refine s_iinc E (L2 := [(2, .int (nI (p + 1))), (1, .int (nI p)), (0, .ref (ad 0))]) dX5_loudest_53 (k := 2) rfl (v := nI (p + 1)) (nI_inc _) (Nat.le_of_ble_eq_true rfl) rfl ?_
              refine s_goto E dX5_loudest_56 (tgt := 14) rfl ?_
              refine s_loc (L2 := [(0, .ref (ad 0)), (1, .int (nI p)), (2, .int (nI (p + 1)))]) [2, 1, 0] rfl ?_
              refine s_L (L2 := [(0, .ref (ad 0)), (1, .int (optI (loudF (zt σ) n (prods (zt σ) n) (p + 1)))), (2, .int (nI (p + 1)))]) (by rw [loudF, if_pos ⟨c27, Or.inr c48⟩]; rfl) ?_
              exact ih14 (p + 1) (by omega) (by omega)
  refine s_loc (L2 := [(0, .ref (ad 0)), (1, .int ((-2))), (2, .int (nI 0))]) [2, 1, 0] rfl ?_
  exact L14 (_ + 1) 0 (Nat.zero_le _) (Nat.lt_succ_self _)
set_option maxHeartbeats 1000000 in
set_option maxRecDepth 100000 in
theorem mz_when {σ : Nat → Nat → Int32} (n : Nat) (u : Int32) (hn : σ 3 7 = nI n) (hn6 : n ≤ 6) (hs : ∀ v, v < n → In (σ 6 v) 3) : Ct l D gt yX5_when cX5_when 4 .int 4 96 0 0 [.ref (ad 0), .int (u)] (wm ad ct σ) (tysA ct) (fun r σ2 => (if isU n u = true then whenF (zt σ) (prods (zt σ) n) (tN u) (prods (zt σ) n).length else -1) = r ∧ HR (zt σ) σ2) (fun σ2 => wm ad ct σ2) (fun _ => tysA ct) := by
  refine Ct.start RX5 (by decide) rfl (Nat.le_of_ble_eq_true rfl) rfl ?_
  intro pP eE sS mM aA bB hM cC QQ AA E Rt
  refine s_aload_n E dX5_when_0 (i := 0) (j := 0) rfl rfl ?_
  refine s_iconst E dX5_when_1 (v := nI 0) (by decide) ?_
  refine mp0 E dX5_when_2 ?_
  refine s_ws (ws2 := wm ad ct (zt σ)) (congrArg (wm ad ct) (rfl)) ?_
  refine s_aload_n E dX5_when_5 (i := 0) (j := 0) rfl rfl ?_
  refine s_iload_n E dX5_when_6 (i := 1) (j := 1) rfl rfl ?_
  refine m_calli E (mz_isUser n u (hn)) K5_259 (Nat.le_of_ble_eq_true rfl) (Nat.le_of_ble_eq_true rfl) (Nat.zero_le _) (Nat.zero_le _) rfl rfl (Nat.le_of_ble_eq_true rfl) dX5_when_7 (fun r7 w7 h7 => ?_)
  obtain ⟨rfl, rfl⟩ := h7
  refine s_if_ne E dX5_when_10 (tgt := 15) rfl (fun c10 => ?_) (fun c10 => ?_)
  · have c10 := bI_n0 c10
    have hU := isU_t c10
    obtain ⟨j, hj, rfl⟩ := us_of c10 hn6
    refine s_aload_n E dX5_when_15 (i := 0) (j := 0) rfl rfl ?_
    refine m_callv E (mz_laysProducts n (hn) (hn6)) K5_326 (Nat.le_of_ble_eq_true rfl) (Nat.le_of_ble_eq_true rfl) (Nat.zero_le _) (Nat.zero_le _) rfl rfl (Nat.le_of_ble_eq_true rfl) dX5_when_16 (fun w16 h16 => ?_)
    have h := HW.of (s0 := zt σ) h16 hn hn6 hs
    have hl := h.2.2.1
    refine s_iconst E dX5_when_19 (v := nI 0) (by decide) ?_
    refine s_istore_n E (L2 := [(2, .int (nI 0)), (0, .ref (ad 0)), (1, .int (nI j))]) dX5_when_20 rfl (Nat.le_of_ble_eq_true rfl) rfl ?_
    refine s_iconst E dX5_when_21 (v := nI 0) (by decide) ?_
    refine s_istore_n E (L2 := [(3, .int (nI 0)), (2, .int (nI 0)), (0, .ref (ad 0)), (1, .int (nI j))]) dX5_when_22 rfl (Nat.le_of_ble_eq_true rfl) rfl ?_
    have L23 : ∀ (fuel : Nat) (p : Nat), p ≤ (prods (zt σ) n).length → ((prods (zt σ) n).length - p) < fuel → Sm pP l eE { frames := 4, cells := 0, slots := 0, locals := 96 } sS mM aA bB hM cC QQ AA D 4 0 0 (wm ad ct w16) 23 [(0, .ref (ad 0)), (1, .int (nI j)), (2, .int (whenF (zt σ) (prods (zt σ) n) j p)), (3, .int (nI p))] [] := by
      intro fuel
      induction fuel with
      | zero =>
        intro p hp hf23
        exact absurd hf23 (Nat.not_lt_zero _)
      | succ fuel ih23 =>
        intro p hp hf23
        refine s_iload_n E dX5_when_23 (i := 3) (j := 3) rfl rfl ?_
        refine s_aload_n E dX5_when_24 (i := 0) (j := 0) rfl rfl ?_
        refine mg41 E (v := nI ((prods (zt σ) n).length)) (h.1.2.1) dX5_when_25 ?_
        refine s_icmp_ge E dX5_when_28 (tgt := 65) rfl (fun c28 => ?_) (fun c28 => ?_)
        · have c28 : ¬ p < (prods (zt σ) n).length := fun h => absurd c28 (Int32.not_le.mpr ((nI_ltI (a := p) (b := (prods (zt σ) n).length) (by omega) (by omega)).mpr h))
          refine s_iload_n E dX5_when_65 (i := 2) (j := 2) rfl rfl ?_
          exact Rt (whenF (zt σ) (prods (zt σ) n) j p) (w16) dX5_when_66 (⟨by rw [if_pos hU, tN_nI (by omega), show (prods (zt σ) n).length = p by omega], h.1.1⟩) rfl (Nat.le_refl _) (Nat.le_refl _) rfl E.2.2.2.2.2.1
        · have c28 : p < (prods (zt σ) n).length := (nI_ltI (a := p) (b := (prods (zt σ) n).length) (by omega) (by omega)).mp (Int32.not_le.mp c28)
          refine s_aload_n E dX5_when_31 (i := 0) (j := 0) rfl rfl ?_
          refine s_iload_n E dX5_when_32 (i := 3) (j := 3) rfl rfl ?_
          refine s_iload_n E dX5_when_33 (i := 1) (j := 1) rfl rfl ?_
          refine m_calli E (mz_hitsL (zt σ) (prods (zt σ) n) n p j (h) (by omega) (by omega)) K5_305 (Nat.le_of_ble_eq_true rfl) (Nat.le_of_ble_eq_true rfl) (Nat.zero_le _) (Nat.zero_le _) rfl rfl (Nat.le_of_ble_eq_true rfl) dX5_when_34 (fun r34 w34 h34 => ?_)
          obtain ⟨rfl, rfl⟩ := h34
          refine s_if_eq E dX5_when_37 (tgt := 59) rfl (fun c37 => ?_) (fun c37 => ?_)
          · have c37 := bI_0 c37
            refine s_iinc E (L2 := [(3, .int (nI (p + 1))), (0, .ref (ad 0)), (1, .int (nI j)), (2, .int (whenF (zt σ) (prods (zt σ) n) j p))]) dX5_when_59 (k := 3) rfl (v := nI (p + 1)) (nI_inc _) (Nat.le_of_ble_eq_true rfl) rfl ?_
            refine s_goto E dX5_when_62 (tgt := 23) rfl ?_
            refine s_loc (L2 := [(0, .ref (ad 0)), (1, .int (nI j)), (2, .int (whenF (zt σ) (prods (zt σ) n) j p)), (3, .int (nI (p + 1)))]) [1, 2, 3, 0] rfl ?_
            refine s_L (L2 := [(0, .ref (ad 0)), (1, .int (nI j)), (2, .int (whenF (zt σ) (prods (zt σ) n) j (p + 1))), (3, .int (nI (p + 1)))]) (by rw [whenF, if_neg (by simp [bI, c10, hU, c28, c37])]) ?_
            exact ih23 (p + 1) (by omega) (by omega)
          · have c37 := bI_n0 c37
            refine s_iload_n E dX5_when_40 (i := 2) (j := 2) rfl rfl ?_
            refine s_aload_n E dX5_when_41 (i := 0) (j := 0) rfl rfl ?_
            refine mg40 E dX5_when_42 ?_
            refine s_iload_n E dX5_when_45 (i := 3) (j := 3) rfl rfl ?_
            refine ml40 E (v := pcF (zt σ) (qAt (prods (zt σ) n) p)) (p) (rfl) (by omega) ((h.row (p := p) (by omega)).1.2.2.2.2.2.2) dX5_when_46 ?_
            refine s_aload_n E dX5_when_47 (i := 0) (j := 0) rfl rfl ?_
            refine mg25 E dX5_when_48 ?_
            refine s_bipush E dX5_when_51 (v := nI 73) (by decide) ?_
            refine s_iload_n E dX5_when_53 (i := 1) (j := 1) rfl rfl ?_
            refine s_iadd_ E dX5_when_54 (v := nI (73 + j)) (nI_add _ _) ?_
            refine ml25 E (v := (zt σ) 25 (73 + j)) (73 + j) (rfl) (by omega) (by rw [h.1.1.ce.1]) dX5_when_55 ?_
            refine s_iand E dX5_when_56 ?_
            refine s_ior E dX5_when_57 ?_
            refine s_istore_n E (L2 := [(2, .int ((whenF (zt σ) (prods (zt σ) n) j p) ||| ((pcF (zt σ) (qAt (prods (zt σ) n) p)) &&& ((zt σ) 25 (73 + j))))), (0, .ref (ad 0)), (1, .int (nI j)), (3, .int (nI p))]) dX5_when_58 rfl (Nat.le_of_ble_eq_true rfl) rfl ?_
            refine s_iinc E (L2 := [(3, .int (nI (p + 1))), (2, .int ((whenF (zt σ) (prods (zt σ) n) j p) ||| ((pcF (zt σ) (qAt (prods (zt σ) n) p)) &&& ((zt σ) 25 (73 + j))))), (0, .ref (ad 0)), (1, .int (nI j))]) dX5_when_59 (k := 3) rfl (v := nI (p + 1)) (nI_inc _) (Nat.le_of_ble_eq_true rfl) rfl ?_
            refine s_goto E dX5_when_62 (tgt := 23) rfl ?_
            refine s_loc (L2 := [(0, .ref (ad 0)), (1, .int (nI j)), (2, .int ((whenF (zt σ) (prods (zt σ) n) j p) ||| ((pcF (zt σ) (qAt (prods (zt σ) n) p)) &&& ((zt σ) 25 (73 + j))))), (3, .int (nI (p + 1)))]) [2, 3, 1, 0] rfl ?_
            refine s_L (L2 := [(0, .ref (ad 0)), (1, .int (nI j)), (2, .int (whenF (zt σ) (prods (zt σ) n) j (p + 1))), (3, .int (nI (p + 1)))]) (by rw [whenF, if_pos (by simp [bI, c10, hU, c28, c37])]) ?_
            exact ih23 (p + 1) (by omega) (by omega)
    refine s_loc (L2 := [(0, .ref (ad 0)), (1, .int (nI j)), (2, .int (nI 0)), (3, .int (nI 0))]) [2, 3, 1, 0] rfl ?_
    exact L23 (_ + 1) 0 (Nat.zero_le _) (Nat.lt_succ_self _)
  · have c10 := bI_0 c10
    have hU := isU_f c10
    refine s_iconst E dX5_when_13 (v := (-1)) (by decide) ?_
    exact Rt ((-1)) (zt σ) dX5_when_14 (⟨by rw [if_neg (by simp [hU])], HR.rf _⟩) rfl (Nat.le_refl _) (Nat.le_refl _) rfl E.2.2.2.2.2.1
set_option maxHeartbeats 1000000 in
set_option maxRecDepth 100000 in
theorem mz_clearance {σ : Nat → Nat → Int32} (n : Nat) (u : Int32) (hn : σ 3 7 = nI n) (hn6 : n ≤ 6) (hs : ∀ v, v < n → In (σ 6 v) 3) : Ct l D gt yX5_clearance cX5_clearance 5 .int 4 96 0 0 [.ref (ad 0), .int (u)] (wm ad ct σ) (tysA ct) (fun r σ2 => (if isU n u = true then clearF (zt σ) (prods (zt σ) n) (tN u) (prods (zt σ) n).length else -1) = r ∧ HR (zt σ) σ2) (fun σ2 => wm ad ct σ2) (fun _ => tysA ct) := by
  refine Ct.start RX5 (by decide) rfl (Nat.le_of_ble_eq_true rfl) rfl ?_
  intro pP eE sS mM aA bB hM cC QQ AA E Rt
  refine s_aload_n E dX5_clearance_0 (i := 0) (j := 0) rfl rfl ?_
  refine s_iconst E dX5_clearance_1 (v := nI 0) (by decide) ?_
  refine mp0 E dX5_clearance_2 ?_
  refine s_ws (ws2 := wm ad ct (zt σ)) (congrArg (wm ad ct) (rfl)) ?_
  refine s_aload_n E dX5_clearance_5 (i := 0) (j := 0) rfl rfl ?_
  refine s_iload_n E dX5_clearance_6 (i := 1) (j := 1) rfl rfl ?_
  refine m_calli E (mz_isUser n u (hn)) K5_259 (Nat.le_of_ble_eq_true rfl) (Nat.le_of_ble_eq_true rfl) (Nat.zero_le _) (Nat.zero_le _) rfl rfl (Nat.le_of_ble_eq_true rfl) dX5_clearance_7 (fun r7 w7 h7 => ?_)
  obtain ⟨rfl, rfl⟩ := h7
  refine s_if_ne E dX5_clearance_10 (tgt := 15) rfl (fun c10 => ?_) (fun c10 => ?_)
  · have c10 := bI_n0 c10
    have hU := isU_t c10
    obtain ⟨j, hj, rfl⟩ := us_of c10 hn6
    refine s_aload_n E dX5_clearance_15 (i := 0) (j := 0) rfl rfl ?_
    refine m_callv E (mz_laysProducts n (hn) (hn6)) K5_326 (Nat.le_of_ble_eq_true rfl) (Nat.le_of_ble_eq_true rfl) (Nat.zero_le _) (Nat.zero_le _) rfl rfl (Nat.le_of_ble_eq_true rfl) dX5_clearance_16 (fun w16 h16 => ?_)
    have h := HW.of (s0 := zt σ) h16 hn hn6 hs
    have hl := h.2.2.1
    refine s_bipush E dX5_clearance_19 (v := (-2)) (by decide) ?_
    refine s_istore_n E (L2 := [(2, .int ((-2))), (0, .ref (ad 0)), (1, .int (nI j))]) dX5_clearance_21 rfl (Nat.le_of_ble_eq_true rfl) rfl ?_
    refine s_iconst E dX5_clearance_22 (v := nI 0) (by decide) ?_
    refine s_istore_n E (L2 := [(3, .int (nI 0)), (2, .int ((-2))), (0, .ref (ad 0)), (1, .int (nI j))]) dX5_clearance_23 rfl (Nat.le_of_ble_eq_true rfl) rfl ?_
    have L24 : ∀ (fuel : Nat) (p : Nat), p ≤ (prods (zt σ) n).length → ((prods (zt σ) n).length - p) < fuel → Sm pP l eE { frames := 4, cells := 0, slots := 0, locals := 96 } sS mM aA bB hM cC QQ AA D 5 0 0 (wm ad ct w16) 24 [(0, .ref (ad 0)), (1, .int (nI j)), (2, .int (clearF (zt σ) (prods (zt σ) n) j p)), (3, .int (nI p))] [] := by
      intro fuel
      induction fuel with
      | zero =>
        intro p hp hf24
        exact absurd hf24 (Nat.not_lt_zero _)
      | succ fuel ih24 =>
        intro p hp hf24
        refine s_iload_n E dX5_clearance_24 (i := 3) (j := 3) rfl rfl ?_
        refine s_aload_n E dX5_clearance_25 (i := 0) (j := 0) rfl rfl ?_
        refine mg41 E (v := nI ((prods (zt σ) n).length)) (h.1.2.1) dX5_clearance_26 ?_
        refine s_icmp_ge E dX5_clearance_29 (tgt := 89) rfl (fun c29 => ?_) (fun c29 => ?_)
        · have c29 : ¬ p < (prods (zt σ) n).length := fun h => absurd c29 (Int32.not_le.mpr ((nI_ltI (a := p) (b := (prods (zt σ) n).length) (by omega) (by omega)).mpr h))
          refine s_iload_n E dX5_clearance_89 (i := 2) (j := 2) rfl rfl ?_
          exact Rt (clearF (zt σ) (prods (zt σ) n) j p) (w16) dX5_clearance_90 (⟨by rw [if_pos hU, tN_nI (by omega), show (prods (zt σ) n).length = p by omega], h.1.1⟩) rfl (Nat.le_refl _) (Nat.le_refl _) rfl E.2.2.2.2.2.1
        · have c29 : p < (prods (zt σ) n).length := (nI_ltI (a := p) (b := (prods (zt σ) n).length) (by omega) (by omega)).mp (Int32.not_le.mp c29)
          refine s_aload_n E dX5_clearance_32 (i := 0) (j := 0) rfl rfl ?_
          refine s_iload_n E dX5_clearance_33 (i := 3) (j := 3) rfl rfl ?_
          refine s_iload_n E dX5_clearance_34 (i := 1) (j := 1) rfl rfl ?_
          refine m_calli E (mz_mayHitL (zt σ) (prods (zt σ) n) n p j (h) (by omega) (by omega)) K5_299 (Nat.le_of_ble_eq_true rfl) (Nat.le_of_ble_eq_true rfl) (Nat.zero_le _) (Nat.zero_le _) rfl rfl (Nat.le_of_ble_eq_true rfl) dX5_clearance_35 (fun r35 w35 h35 => ?_)
          obtain ⟨rfl, rfl⟩ := h35
          refine s_if_ne E dX5_clearance_38 (tgt := 44) rfl (fun c38 => ?_) (fun c38 => ?_)
          · have c38 := bI_n0 c38
            refine s_aload_n E dX5_clearance_44 (i := 0) (j := 0) rfl rfl ?_
            refine mg25 E dX5_clearance_45 ?_
            refine s_iconst E dX5_clearance_48 (v := nI 0) (by decide) ?_
            refine s_iload_n E dX5_clearance_49 (i := 1) (j := 1) rfl rfl ?_
            refine s_iadd_ E dX5_clearance_50 (v := nI j) (nI_z _) ?_
            refine ml25 E (v := (zt σ) 25 j) (j) (rfl) (by omega) (by rw [h.1.1.ce.1]) dX5_clearance_51 ?_
            refine s_aload_n E dX5_clearance_52 (i := 0) (j := 0) rfl rfl ?_
            refine mg38 E dX5_clearance_53 ?_
            refine s_iload_n E dX5_clearance_56 (i := 3) (j := 3) rfl rfl ?_
            refine ml38 E (v := pvF (zt σ) (qAt (prods (zt σ) n) p)) (p) (rfl) (by omega) ((h.row (p := p) (by omega)).1.2.2.2.2.1) dX5_clearance_57 ?_
            refine s_isub E dX5_clearance_58 ?_
            refine m_calls E (mz_without (((zt σ) 25 j) - (pvF (zt σ) (qAt (prods (zt σ) n) p)))) K5_274 (Nat.le_of_ble_eq_true rfl) (Nat.le_of_ble_eq_true rfl) (Nat.zero_le _) (Nat.zero_le _) rfl rfl (Nat.le_of_ble_eq_true rfl) dX5_clearance_59 (fun r59 h59 => ?_)
            subst h59
            refine s_top (v2 := farF (zt σ) (prods (zt σ) n) j p) (rfl) ?_
            refine s_istore E (L2 := [(4, .int (farF (zt σ) (prods (zt σ) n) j p)), (0, .ref (ad 0)), (1, .int (nI j)), (2, .int (clearF (zt σ) (prods (zt σ) n) j p)), (3, .int (nI p))]) dX5_clearance_62 (Nat.le_of_ble_eq_true rfl) rfl ?_
            refine s_iload_n E dX5_clearance_64 (i := 2) (j := 3) rfl rfl ?_
            refine s_bipush E dX5_clearance_65 (v := (-2)) (by decide) ?_
            refine s_icmp_eq E dX5_clearance_67 (tgt := 76) rfl (fun c67 => ?_) (fun c67 => ?_)
            · refine s_iload E dX5_clearance_76 (i := 4) (j := 0) rfl ?_
              refine s_goto E dX5_clearance_78 (tgt := 82) rfl ?_
              refine s_istore_n E (L2 := [(2, .int (farF (zt σ) (prods (zt σ) n) j p)), (4, .int (farF (zt σ) (prods (zt σ) n) j p)), (0, .ref (ad 0)), (1, .int (nI j)), (3, .int (nI p))]) dX5_clearance_82 rfl (Nat.le_of_ble_eq_true rfl) rfl ?_
              refine s_iinc E (L2 := [(3, .int (nI (p + 1))), (2, .int (farF (zt σ) (prods (zt σ) n) j p)), (4, .int (farF (zt σ) (prods (zt σ) n) j p)), (0, .ref (ad 0)), (1, .int (nI j))]) dX5_clearance_83 (k := 4) rfl (v := nI (p + 1)) (nI_inc _) (Nat.le_of_ble_eq_true rfl) rfl ?_
              refine s_goto E dX5_clearance_86 (tgt := 24) rfl ?_
              refine s_loc (L2 := [(0, .ref (ad 0)), (1, .int (nI j)), (2, .int (farF (zt σ) (prods (zt σ) n) j p)), (3, .int (nI (p + 1)))]) [3, 4, 1, 0] rfl ?_
              refine s_L (L2 := [(0, .ref (ad 0)), (1, .int (nI j)), (2, .int (clearF (zt σ) (prods (zt σ) n) j (p + 1))), (3, .int (nI (p + 1)))]) (by rw [clearF, if_pos c38, if_pos (by simp [bI, c10, hU, c29, c38, c67])]) ?_
              exact ih24 (p + 1) (by omega) (by omega)
            · refine s_iload E dX5_clearance_70 (i := 4) (j := 0) rfl ?_
              refine s_iload_n E dX5_clearance_72 (i := 2) (j := 3) rfl rfl ?_
              refine s_icmp_ge E dX5_clearance_73 (tgt := 81) rfl (fun c73 => ?_) (fun c73 => ?_)
              · have c73 := Int32.not_lt.mpr c73
                refine s_iload_n E dX5_clearance_81 (i := 2) (j := 3) rfl rfl ?_
                refine s_istore_n E (L2 := [(2, .int (clearF (zt σ) (prods (zt σ) n) j p)), (4, .int (farF (zt σ) (prods (zt σ) n) j p)), (0, .ref (ad 0)), (1, .int (nI j)), (3, .int (nI p))]) dX5_clearance_82 rfl (Nat.le_of_ble_eq_true rfl) rfl ?_
                refine s_iinc E (L2 := [(3, .int (nI (p + 1))), (2, .int (clearF (zt σ) (prods (zt σ) n) j p)), (4, .int (farF (zt σ) (prods (zt σ) n) j p)), (0, .ref (ad 0)), (1, .int (nI j))]) dX5_clearance_83 (k := 4) rfl (v := nI (p + 1)) (nI_inc _) (Nat.le_of_ble_eq_true rfl) rfl ?_
                refine s_goto E dX5_clearance_86 (tgt := 24) rfl ?_
                refine s_loc (L2 := [(0, .ref (ad 0)), (1, .int (nI j)), (2, .int (clearF (zt σ) (prods (zt σ) n) j p)), (3, .int (nI (p + 1)))]) [3, 4, 1, 0] rfl ?_
                refine s_L (L2 := [(0, .ref (ad 0)), (1, .int (nI j)), (2, .int (clearF (zt σ) (prods (zt σ) n) j (p + 1))), (3, .int (nI (p + 1)))]) (by rw [clearF, if_pos c38, if_neg (by simp [bI, c10, hU, c29, c38, c67, c73])]) ?_
                exact ih24 (p + 1) (by omega) (by omega)
              · have c73 := Int32.not_le.mp c73
                refine s_iload E dX5_clearance_76 (i := 4) (j := 0) rfl ?_
                refine s_goto E dX5_clearance_78 (tgt := 82) rfl ?_
                refine s_istore_n E (L2 := [(2, .int (farF (zt σ) (prods (zt σ) n) j p)), (4, .int (farF (zt σ) (prods (zt σ) n) j p)), (0, .ref (ad 0)), (1, .int (nI j)), (3, .int (nI p))]) dX5_clearance_82 rfl (Nat.le_of_ble_eq_true rfl) rfl ?_
                refine s_iinc E (L2 := [(3, .int (nI (p + 1))), (2, .int (farF (zt σ) (prods (zt σ) n) j p)), (4, .int (farF (zt σ) (prods (zt σ) n) j p)), (0, .ref (ad 0)), (1, .int (nI j))]) dX5_clearance_83 (k := 4) rfl (v := nI (p + 1)) (nI_inc _) (Nat.le_of_ble_eq_true rfl) rfl ?_
                refine s_goto E dX5_clearance_86 (tgt := 24) rfl ?_
                refine s_loc (L2 := [(0, .ref (ad 0)), (1, .int (nI j)), (2, .int (farF (zt σ) (prods (zt σ) n) j p)), (3, .int (nI (p + 1)))]) [3, 4, 1, 0] rfl ?_
                refine s_L (L2 := [(0, .ref (ad 0)), (1, .int (nI j)), (2, .int (clearF (zt σ) (prods (zt σ) n) j (p + 1))), (3, .int (nI (p + 1)))]) (by rw [clearF, if_pos c38, if_pos (by simp [bI, c10, hU, c29, c38, c67, c73])]) ?_
                exact ih24 (p + 1) (by omega) (by omega)
          · have c38 := bI_0 c38
            refine s_goto E dX5_clearance_41 (tgt := 83) rfl ?_
            refine s_iinc E (L2 := [(3, .int (nI (p + 1))), (0, .ref (ad 0)), (1, .int (nI j)), (2, .int (clearF (zt σ) (prods (zt σ) n) j p))]) dX5_clearance_83 (k := 3) rfl (v := nI (p + 1)) (nI_inc _) (Nat.le_of_ble_eq_true rfl) rfl ?_
            refine s_goto E dX5_clearance_86 (tgt := 24) rfl ?_
            refine s_loc (L2 := [(0, .ref (ad 0)), (1, .int (nI j)), (2, .int (clearF (zt σ) (prods (zt σ) n) j p)), (3, .int (nI (p + 1)))]) [1, 2, 3, 0] rfl ?_
            refine s_L (L2 := [(0, .ref (ad 0)), (1, .int (nI j)), (2, .int (clearF (zt σ) (prods (zt σ) n) j (p + 1))), (3, .int (nI (p + 1)))]) (by rw [clearF, if_neg c38]) ?_
            exact ih24 (p + 1) (by omega) (by omega)
    refine s_loc (L2 := [(0, .ref (ad 0)), (1, .int (nI j)), (2, .int ((-2))), (3, .int (nI 0))]) [2, 3, 1, 0] rfl ?_
    exact L24 (_ + 1) 0 (Nat.zero_le _) (Nat.lt_succ_self _)
  · have c10 := bI_0 c10
    have hU := isU_f c10
    refine s_iconst E dX5_clearance_13 (v := (-1)) (by decide) ?_
    exact Rt ((-1)) (zt σ) dX5_clearance_14 (⟨by rw [if_neg (by simp [hU])], HR.rf _⟩) rfl (Nat.le_refl _) (Nat.le_refl _) rfl E.2.2.2.2.2.1
set_option maxHeartbeats 1000000 in
set_option maxRecDepth 100000 in
theorem mz_products {σ : Nat → Nat → Int32} (n : Nat) (v : Int32) (hn : σ 3 7 = nI n) (hn6 : n ≤ 6) (hs : ∀ v, v < n → In (σ 6 v) 3) : Ct l D gt yX5_products cX5_products 2 .int 5 113 0 0 [.ref (ad 0), .int (v)] (wm ad ct σ) (tysA ct) (fun r σ2 => prodsF (zt σ) n v = r ∧ HR (zt σ) σ2) (fun σ2 => wm ad ct σ2) (fun _ => tysA ct) := by
  refine Ct.start RX5 (by decide) rfl (Nat.le_of_ble_eq_true rfl) rfl ?_
  intro pP eE sS mM aA bB hM cC QQ AA E Rt
  refine s_aload_n E dX5_products_0 (i := 0) (j := 0) rfl rfl ?_
  refine s_iconst E dX5_products_1 (v := nI 0) (by decide) ?_
  refine mp0 E dX5_products_2 ?_
  refine s_ws (ws2 := wm ad ct (zt σ)) (congrArg (wm ad ct) (rfl)) ?_
  refine s_aload_n E dX5_products_5 (i := 0) (j := 0) rfl rfl ?_
  refine m_callv E (mz_laysProducts n (hn) (hn6)) K5_326 (Nat.le_of_ble_eq_true rfl) (Nat.le_of_ble_eq_true rfl) (Nat.zero_le _) (Nat.zero_le _) rfl rfl (Nat.le_of_ble_eq_true rfl) dX5_products_6 (fun w6 h6 => ?_)
  have h := HW.of (s0 := zt σ) h6 hn hn6 hs
  have hl := h.2.2.1
  refine s_iload_n E dX5_products_9 (i := 1) (j := 1) rfl rfl ?_
  rcases sw_c (v) 4 (by decide) with ⟨j10, k10, rfl⟩ | c10
  · obtain rfl | rfl | rfl | rfl : j10 = 0 ∨ j10 = 1 ∨ j10 = 2 ∨ j10 = 3 := by omega
    · refine s_tableIn E dX5_products_10 (off := 30) (tgt := 40) (by decide) (by decide) rfl rfl ?_
      refine s_aload_n E dX5_products_40 (i := 0) (j := 0) rfl rfl ?_
      refine mg41 E (v := nI ((prods (zt σ) n).length)) (h.1.2.1) dX5_products_41 ?_
      exact Rt (nI ((prods (zt σ) n).length)) (w6) dX5_products_44 (⟨rfl, h.1.1⟩) rfl (Nat.le_refl _) (Nat.le_refl _) rfl E.2.2.2.2.2.1
    · refine s_tableIn E dX5_products_10 (off := 35) (tgt := 45) (by decide) (by decide) rfl rfl ?_
      refine s_aload_n E dX5_products_45 (i := 0) (j := 0) rfl rfl ?_
      refine m_calli E (mz_heard (zt σ) (prods (zt σ) n) n (h)) K5_378 (Nat.le_of_ble_eq_true rfl) (Nat.le_of_ble_eq_true rfl) (Nat.zero_le _) (Nat.zero_le _) rfl rfl (Nat.le_of_ble_eq_true rfl) dX5_products_46 (fun r46 w46 h46 => ?_)
      obtain ⟨rfl, rfl⟩ := h46
      exact Rt (nI (heardN (zt σ) (prods (zt σ) n))) (w6) dX5_products_49 (⟨rfl, h.1.1⟩) rfl (Nat.le_refl _) (Nat.le_refl _) rfl E.2.2.2.2.2.1
    · refine s_tableIn E dX5_products_10 (off := 40) (tgt := 50) (by decide) (by decide) rfl rfl ?_
      refine s_aload_n E dX5_products_50 (i := 0) (j := 0) rfl rfl ?_
      refine m_calli E (mz_allHits (zt σ) (prods (zt σ) n) n (h)) K5_381 (Nat.le_of_ble_eq_true rfl) (Nat.le_of_ble_eq_true rfl) (Nat.zero_le _) (Nat.zero_le _) rfl rfl (Nat.le_of_ble_eq_true rfl) dX5_products_51 (fun r51 w51 h51 => ?_)
      obtain ⟨rfl, rfl⟩ := h51
      exact Rt (nI (hitsT (zt σ) n (prods (zt σ) n))) (w6) dX5_products_54 (⟨rfl, h.1.1⟩) rfl (Nat.le_refl _) (Nat.le_refl _) rfl E.2.2.2.2.2.1
    · refine s_tableIn E dX5_products_10 (off := 45) (tgt := 55) (by decide) (by decide) rfl rfl ?_
      refine s_aload_n E dX5_products_55 (i := 0) (j := 0) rfl rfl ?_
      refine m_calli E (mz_allCrowds n (h.users) (hn6)) K5_384 (Nat.le_of_ble_eq_true rfl) (Nat.le_of_ble_eq_true rfl) (Nat.zero_le _) (Nat.zero_le _) rfl rfl (Nat.le_of_ble_eq_true rfl) dX5_products_56 (fun r56 w56 h56 => ?_)
      obtain ⟨rfl, rfl⟩ := h56
      exact Rt (nI (crowdsT w6 n)) (w6) dX5_products_59 (⟨by rw [crowdsT_ce h.1.1.ce]; rfl, h.1.1⟩) rfl (Nat.le_refl _) (Nat.le_refl _) rfl E.2.2.2.2.2.1
  · refine s_tableOut E dX5_products_10 c10 (tgt := 60) rfl ?_
    refine s_iconst E dX5_products_60 (v := (-1)) (by decide) ?_
    exact Rt ((-1)) (w6) dX5_products_61 (⟨by rw [prodsF, swt_out c10]; rfl, h.1.1⟩) rfl (Nat.le_refl _) (Nat.le_refl _) rfl E.2.2.2.2.2.1
set_option maxHeartbeats 1000000 in
set_option maxRecDepth 100000 in
theorem mz_product {σ : Nat → Nat → Int32} (n : Nat) (k v : Int32) (hn : σ 3 7 = nI n) (hn6 : n ≤ 6) (hs : ∀ v, v < n → In (σ 6 v) 3) : Ct l D gt yX5_product cX5_product 3 .int 4 96 0 0 [.ref (ad 0), .int (k), .int (v)] (wm ad ct σ) (tysA ct) (fun r σ2 => prodF (zt σ) n k v = r ∧ HR (zt σ) σ2) (fun σ2 => wm ad ct σ2) (fun _ => tysA ct) := by
  refine Ct.start RX5 (by decide) rfl (Nat.le_of_ble_eq_true rfl) rfl ?_
  intro pP eE sS mM aA bB hM cC QQ AA E Rt
  refine s_aload_n E dX5_product_0 (i := 0) (j := 0) rfl rfl ?_
  refine s_iconst E dX5_product_1 (v := nI 0) (by decide) ?_
  refine mp0 E dX5_product_2 ?_
  refine s_ws (ws2 := wm ad ct (zt σ)) (congrArg (wm ad ct) (rfl)) ?_
  refine s_aload_n E dX5_product_5 (i := 0) (j := 0) rfl rfl ?_
  refine m_callv E (mz_laysProducts n (hn) (hn6)) K5_326 (Nat.le_of_ble_eq_true rfl) (Nat.le_of_ble_eq_true rfl) (Nat.zero_le _) (Nat.zero_le _) rfl rfl (Nat.le_of_ble_eq_true rfl) dX5_product_6 (fun w6 h6 => ?_)
  have h := HW.of (s0 := zt σ) h6 hn hn6 hs
  have hl := h.2.2.1
  refine s_iload_n E dX5_product_9 (i := 1) (j := 1) rfl rfl ?_
  refine s_if_lt E dX5_product_10 (tgt := 21) rfl (fun c10 => ?_) (fun c10 => ?_)
  · refine s_sipush E dX5_product_21 (v := (-1000)) (by decide) ?_
    exact Rt ((-1000)) (w6) dX5_product_24 (⟨by rw [prodF, if_neg (by simp [bI, c10])], h.1.1⟩) rfl (Nat.le_refl _) (Nat.le_refl _) rfl E.2.2.2.2.2.1
  · refine s_iload_n E dX5_product_13 (i := 1) (j := 1) rfl rfl ?_
    refine s_aload_n E dX5_product_14 (i := 0) (j := 0) rfl rfl ?_
    refine mg41 E (v := nI ((prods (zt σ) n).length)) (h.1.2.1) dX5_product_15 ?_
    refine s_icmp_lt E dX5_product_18 (tgt := 25) rfl (fun c18 => ?_) (fun c18 => ?_)
    · obtain ⟨p, hp, rfl⟩ := us_ofL c10 c18 (by omega)
      refine s_iload_n E dX5_product_25 (i := 2) (j := 2) rfl rfl ?_
      rcases sw_c (v) 7 (by decide) with ⟨j26, k26, rfl⟩ | c26
      · obtain rfl | rfl | rfl | rfl | rfl | rfl | rfl : j26 = 0 ∨ j26 = 1 ∨ j26 = 2 ∨ j26 = 3 ∨ j26 = 4 ∨ j26 = 5 ∨ j26 = 6 := by omega
        · refine s_tableIn E dX5_product_26 (off := 42) (tgt := 68) (by decide) (by decide) rfl rfl ?_
          refine s_aload_n E dX5_product_68 (i := 0) (j := 0) rfl rfl ?_
          refine mg34 E dX5_product_69 ?_
          refine s_iload_n E dX5_product_72 (i := 1) (j := 1) rfl rfl ?_
          refine ml34 E (v := nI ((qAt (prods (zt σ) n) p).1)) (p) (rfl) (by omega) ((h.row (p := p) (by omega)).1.1) dX5_product_73 ?_
          exact Rt (nI ((qAt (prods (zt σ) n) p).1)) (w6) dX5_product_74 (⟨by rw [prodF, if_pos (by simp [bI, c10, c18]), tN_nI (by omega)]; rfl, h.1.1⟩) rfl (Nat.le_refl _) (Nat.le_refl _) rfl E.2.2.2.2.2.1
        · refine s_tableIn E dX5_product_26 (off := 49) (tgt := 75) (by decide) (by decide) rfl rfl ?_
          refine s_aload_n E dX5_product_75 (i := 0) (j := 0) rfl rfl ?_
          refine mg35 E dX5_product_76 ?_
          refine s_iload_n E dX5_product_79 (i := 1) (j := 1) rfl rfl ?_
          refine ml35 E (v := nI ((qAt (prods (zt σ) n) p).2.1)) (p) (rfl) (by omega) ((h.row (p := p) (by omega)).1.2.1) dX5_product_80 ?_
          exact Rt (nI ((qAt (prods (zt σ) n) p).2.1)) (w6) dX5_product_81 (⟨by rw [prodF, if_pos (by simp [bI, c10, c18]), tN_nI (by omega)]; rfl, h.1.1⟩) rfl (Nat.le_refl _) (Nat.le_refl _) rfl E.2.2.2.2.2.1
        · refine s_tableIn E dX5_product_26 (off := 56) (tgt := 82) (by decide) (by decide) rfl rfl ?_
          refine s_aload_n E dX5_product_82 (i := 0) (j := 0) rfl rfl ?_
          refine mg36 E dX5_product_83 ?_
          refine s_iload_n E dX5_product_86 (i := 1) (j := 1) rfl rfl ?_
          refine ml36 E (v := nI ((qAt (prods (zt σ) n) p).2.2.1)) (p) (rfl) (by omega) ((h.row (p := p) (by omega)).1.2.2.1) dX5_product_87 ?_
          exact Rt (nI ((qAt (prods (zt σ) n) p).2.2.1)) (w6) dX5_product_88 (⟨by rw [prodF, if_pos (by simp [bI, c10, c18]), tN_nI (by omega)]; rfl, h.1.1⟩) rfl (Nat.le_refl _) (Nat.le_refl _) rfl E.2.2.2.2.2.1
        · refine s_tableIn E dX5_product_26 (off := 63) (tgt := 89) (by decide) (by decide) rfl rfl ?_
          refine s_aload_n E dX5_product_89 (i := 0) (j := 0) rfl rfl ?_
          refine mg37 E dX5_product_90 ?_
          refine s_iload_n E dX5_product_93 (i := 1) (j := 1) rfl rfl ?_
          refine ml37 E (v := cI (qAt (prods (zt σ) n) p).2.2.2) (p) (rfl) (by omega) ((h.row (p := p) (by omega)).1.2.2.2.1) dX5_product_94 ?_
          exact Rt (cI (qAt (prods (zt σ) n) p).2.2.2) (w6) dX5_product_95 (⟨by rw [prodF, if_pos (by simp [bI, c10, c18]), tN_nI (by omega)]; rfl, h.1.1⟩) rfl (Nat.le_refl _) (Nat.le_refl _) rfl E.2.2.2.2.2.1
        · refine s_tableIn E dX5_product_26 (off := 70) (tgt := 96) (by decide) (by decide) rfl rfl ?_
          refine s_aload_n E dX5_product_96 (i := 0) (j := 0) rfl rfl ?_
          refine mg38 E dX5_product_97 ?_
          refine s_iload_n E dX5_product_100 (i := 1) (j := 1) rfl rfl ?_
          refine ml38 E (v := pvF (zt σ) (qAt (prods (zt σ) n) p)) (p) (rfl) (by omega) ((h.row (p := p) (by omega)).1.2.2.2.2.1) dX5_product_101 ?_
          exact Rt (pvF (zt σ) (qAt (prods (zt σ) n) p)) (w6) dX5_product_102 (⟨by rw [prodF, if_pos (by simp [bI, c10, c18]), tN_nI (by omega)]; rfl, h.1.1⟩) rfl (Nat.le_refl _) (Nat.le_refl _) rfl E.2.2.2.2.2.1
        · refine s_tableIn E dX5_product_26 (off := 77) (tgt := 103) (by decide) (by decide) rfl rfl ?_
          refine s_aload_n E dX5_product_103 (i := 0) (j := 0) rfl rfl ?_
          refine mg39 E dX5_product_104 ?_
          refine s_iload_n E dX5_product_107 (i := 1) (j := 1) rfl rfl ?_
          refine ml39 E (v := plF (zt σ) (qAt (prods (zt σ) n) p)) (p) (rfl) (by omega) ((h.row (p := p) (by omega)).1.2.2.2.2.2.1) dX5_product_108 ?_
          exact Rt (plF (zt σ) (qAt (prods (zt σ) n) p)) (w6) dX5_product_109 (⟨by rw [prodF, if_pos (by simp [bI, c10, c18]), tN_nI (by omega)]; rfl, h.1.1⟩) rfl (Nat.le_refl _) (Nat.le_refl _) rfl E.2.2.2.2.2.1
        · refine s_tableIn E dX5_product_26 (off := 84) (tgt := 110) (by decide) (by decide) rfl rfl ?_
          refine s_aload_n E dX5_product_110 (i := 0) (j := 0) rfl rfl ?_
          refine s_iload_n E dX5_product_111 (i := 1) (j := 1) rfl rfl ?_
          refine m_calli E (mz_hitsOfL (zt σ) (prods (zt σ) n) n p (h) (by omega)) K5_308 (Nat.le_of_ble_eq_true rfl) (Nat.le_of_ble_eq_true rfl) (Nat.zero_le _) (Nat.zero_le _) rfl rfl (Nat.le_of_ble_eq_true rfl) dX5_product_112 (fun r112 w112 h112 => ?_)
          obtain ⟨rfl, rfl⟩ := h112
          exact Rt (nI (hsQ (zt σ) n (qAt (prods (zt σ) n) p))) (w6) dX5_product_115 (⟨by rw [prodF, if_pos (by simp [bI, c10, c18]), tN_nI (by omega)]; rfl, h.1.1⟩) rfl (Nat.le_refl _) (Nat.le_refl _) rfl E.2.2.2.2.2.1
      · refine s_tableOut E dX5_product_26 c26 (tgt := 116) rfl ?_
        refine s_sipush E dX5_product_116 (v := (-1000)) (by decide) ?_
        exact Rt ((-1000)) (w6) dX5_product_119 (⟨by rw [prodF, if_pos (by simp [bI, c10, c18]), swt_out c26]; rfl, h.1.1⟩) rfl (Nat.le_refl _) (Nat.le_refl _) rfl E.2.2.2.2.2.1
    · refine s_sipush E dX5_product_21 (v := (-1000)) (by decide) ?_
      exact Rt ((-1000)) (w6) dX5_product_24 (⟨by rw [prodF, if_neg (by simp [bI, c10, c18])], h.1.1⟩) rfl (Nat.le_refl _) (Nat.le_refl _) rfl E.2.2.2.2.2.1
set_option maxHeartbeats 1000000 in
set_option maxRecDepth 100000 in
theorem mz_nearest {σ : Nat → Nat → Int32} (n : Nat) (u : Int32) (hn : σ 3 7 = nI n) (hn6 : n ≤ 6) : Ct l D gt yX5_nearest cX5_nearest 4 .int 2 41 0 0 [.ref (ad 0), .int (u)] (wm ad ct σ) (tysA ct) (fun r σ2 => (if isU n u = true then optI (nearF (zt σ) (tN u) n) else -1) = r ∧ zt σ = σ2) (fun σ2 => wm ad ct σ2) (fun _ => tysA ct) := by
  refine Ct.start RX5 (by decide) rfl (Nat.le_of_ble_eq_true rfl) rfl ?_
  intro pP eE sS mM aA bB hM cC QQ AA E Rt
  refine s_aload_n E dX5_nearest_0 (i := 0) (j := 0) rfl rfl ?_
  refine s_iconst E dX5_nearest_1 (v := nI 0) (by decide) ?_
  refine mp0 E dX5_nearest_2 ?_
  refine s_ws (ws2 := wm ad ct (zt σ)) (congrArg (wm ad ct) (rfl)) ?_
  refine s_aload_n E dX5_nearest_5 (i := 0) (j := 0) rfl rfl ?_
  refine s_iload_n E dX5_nearest_6 (i := 1) (j := 1) rfl rfl ?_
  refine m_calli E (mz_isUser n u (hn)) K5_259 (Nat.le_of_ble_eq_true rfl) (Nat.le_of_ble_eq_true rfl) (Nat.zero_le _) (Nat.zero_le _) rfl rfl (Nat.le_of_ble_eq_true rfl) dX5_nearest_7 (fun r7 w7 h7 => ?_)
  obtain ⟨rfl, rfl⟩ := h7
  refine s_if_ne E dX5_nearest_10 (tgt := 15) rfl (fun c10 => ?_) (fun c10 => ?_)
  · have c10 := bI_n0 c10
    have hU := isU_t c10
    obtain ⟨j, hj, rfl⟩ := us_of c10 hn6
    refine s_bipush E dX5_nearest_15 (v := (-2)) (by decide) ?_
    refine s_istore_n E (L2 := [(2, .int ((-2))), (0, .ref (ad 0)), (1, .int (nI j))]) dX5_nearest_17 rfl (Nat.le_of_ble_eq_true rfl) rfl ?_
    refine s_iconst E dX5_nearest_18 (v := nI 0) (by decide) ?_
    refine s_istore_n E (L2 := [(3, .int (nI 0)), (2, .int ((-2))), (0, .ref (ad 0)), (1, .int (nI j))]) dX5_nearest_19 rfl (Nat.le_of_ble_eq_true rfl) rfl ?_
    have L20 : ∀ (fuel : Nat) (o : Nat), o ≤ n → (n - o) < fuel → Sm pP l eE { frames := 2, cells := 0, slots := 0, locals := 41 } sS mM aA bB hM cC QQ AA D 4 0 0 (wm ad ct (zt σ)) 20 [(0, .ref (ad 0)), (1, .int (nI j)), (2, .int (optI (nearF (zt σ) j o))), (3, .int (nI o))] [] := by
      intro fuel
      induction fuel with
      | zero =>
        intro o ho hf20
        exact absurd hf20 (Nat.not_lt_zero _)
      | succ fuel ih20 =>
        intro o ho hf20
        have hle := nearF_le (zt σ) j o
        refine s_iload_n E dX5_nearest_20 (i := 3) (j := 3) rfl rfl ?_
        refine s_aload_n E dX5_nearest_21 (i := 0) (j := 0) rfl rfl ?_
        refine m_calli E (mz_users n (hn)) K5_232 (Nat.le_of_ble_eq_true rfl) (Nat.le_of_ble_eq_true rfl) (Nat.zero_le _) (Nat.zero_le _) rfl rfl (Nat.le_of_ble_eq_true rfl) dX5_nearest_22 (fun r22 w22 h22 => ?_)
        obtain ⟨rfl, rfl⟩ := h22
        refine s_icmp_ge E dX5_nearest_25 (tgt := 130) rfl (fun c25 => ?_) (fun c25 => ?_)
        · have c25 : ¬ o < n := fun h => absurd c25 (Int32.not_le.mpr ((nI_ltI (a := o) (b := n) (by omega) (by omega)).mpr h))
          refine s_iload_n E dX5_nearest_130 (i := 2) (j := 2) rfl rfl ?_
          exact Rt (optI (nearF (zt σ) j o)) (zt σ) dX5_nearest_131 (⟨by rw [if_pos hU, tN_nI (by omega), show n = o by omega], rfl⟩) rfl (Nat.le_refl _) (Nat.le_refl _) rfl E.2.2.2.2.2.1
        · have c25 : o < n := (nI_ltI (a := o) (b := n) (by omega) (by omega)).mp (Int32.not_le.mp c25)
          refine s_iload_n E dX5_nearest_28 (i := 3) (j := 3) rfl rfl ?_
          refine s_iload_n E dX5_nearest_29 (i := 1) (j := 1) rfl rfl ?_
          refine s_icmp_eq E dX5_nearest_30 (tgt := 124) rfl (fun c30 => ?_) (fun c30 => ?_)
          · have c30 : o = j := (nI_eq (a := o) (b := j) (by omega) (by omega)).mp c30
            refine s_iinc E (L2 := [(3, .int (nI (o + 1))), (0, .ref (ad 0)), (1, .int (nI j)), (2, .int (optI (nearF (zt σ) j o)))]) dX5_nearest_124 (k := 3) rfl (v := nI (o + 1)) (nI_inc _) (Nat.le_of_ble_eq_true rfl) rfl ?_
            refine s_goto E dX5_nearest_127 (tgt := 20) rfl ?_
            refine s_loc (L2 := [(0, .ref (ad 0)), (1, .int (nI j)), (2, .int (optI (nearF (zt σ) j o))), (3, .int (nI (o + 1)))]) [1, 2, 3, 0] rfl ?_
            refine s_L (L2 := [(0, .ref (ad 0)), (1, .int (nI j)), (2, .int (optI (nearF (zt σ) j (o + 1)))), (3, .int (nI (o + 1)))]) (by rw [nearF, if_neg (by simp [bI, nearK, c10, hU, c25, c30])]) ?_
            exact ih20 (o + 1) (by omega) (by omega)
          · have c30 : ¬ o = j := fun h => c30 ((nI_eq (a := o) (b := j) (by omega) (by omega)).mpr h)
            refine s_aload_n E dX5_nearest_33 (i := 0) (j := 0) rfl rfl ?_
            refine mg6 E dX5_nearest_34 ?_
            refine s_iload_n E dX5_nearest_37 (i := 3) (j := 3) rfl rfl ?_
            refine ml6 E (v := (zt σ) 6 o) (o) (rfl) (by omega) (rfl) dX5_nearest_38 ?_
            refine s_aload_n E dX5_nearest_39 (i := 0) (j := 0) rfl rfl ?_
            refine mg6 E dX5_nearest_40 ?_
            refine s_iload_n E dX5_nearest_43 (i := 1) (j := 1) rfl rfl ?_
            refine ml6 E (v := (zt σ) 6 j) (j) (rfl) (by omega) (rfl) dX5_nearest_44 ?_
            refine s_icmp_ne E dX5_nearest_45 (tgt := 124) rfl (fun c45 => ?_) (fun c45 => ?_)
            · refine s_iinc E (L2 := [(3, .int (nI (o + 1))), (0, .ref (ad 0)), (1, .int (nI j)), (2, .int (optI (nearF (zt σ) j o)))]) dX5_nearest_124 (k := 3) rfl (v := nI (o + 1)) (nI_inc _) (Nat.le_of_ble_eq_true rfl) rfl ?_
              refine s_goto E dX5_nearest_127 (tgt := 20) rfl ?_
              refine s_loc (L2 := [(0, .ref (ad 0)), (1, .int (nI j)), (2, .int (optI (nearF (zt σ) j o))), (3, .int (nI (o + 1)))]) [1, 2, 3, 0] rfl ?_
              refine s_L (L2 := [(0, .ref (ad 0)), (1, .int (nI j)), (2, .int (optI (nearF (zt σ) j (o + 1)))), (3, .int (nI (o + 1)))]) (by rw [nearF, if_neg (by simp [bI, nearK, c10, hU, c25, c30, c45])]) ?_
              exact ih20 (o + 1) (by omega) (by omega)
            · refine s_aload_n E dX5_nearest_48 (i := 0) (j := 0) rfl rfl ?_
              refine mg25 E dX5_nearest_49 ?_
              refine s_iconst E dX5_nearest_52 (v := nI 0) (by decide) ?_
              refine s_iload_n E dX5_nearest_53 (i := 3) (j := 3) rfl rfl ?_
              refine s_iadd_ E dX5_nearest_54 (v := nI o) (nI_z _) ?_
              refine ml25 E (v := (zt σ) 25 o) (o) (rfl) (by omega) (rfl) dX5_nearest_55 ?_
              refine s_if_eq E dX5_nearest_56 (tgt := 124) rfl (fun c56 => ?_) (fun c56 => ?_)
              · refine s_iinc E (L2 := [(3, .int (nI (o + 1))), (0, .ref (ad 0)), (1, .int (nI j)), (2, .int (optI (nearF (zt σ) j o)))]) dX5_nearest_124 (k := 3) rfl (v := nI (o + 1)) (nI_inc _) (Nat.le_of_ble_eq_true rfl) rfl ?_
                refine s_goto E dX5_nearest_127 (tgt := 20) rfl ?_
                refine s_loc (L2 := [(0, .ref (ad 0)), (1, .int (nI j)), (2, .int (optI (nearF (zt σ) j o))), (3, .int (nI (o + 1)))]) [1, 2, 3, 0] rfl ?_
                refine s_L (L2 := [(0, .ref (ad 0)), (1, .int (nI j)), (2, .int (optI (nearF (zt σ) j (o + 1)))), (3, .int (nI (o + 1)))]) (by rw [nearF, if_neg (by simp [bI, nearK, c10, hU, c25, c30, c45, c56])]) ?_
                exact ih20 (o + 1) (by omega) (by omega)
              · refine s_aload_n E dX5_nearest_59 (i := 0) (j := 0) rfl rfl ?_
                refine mg25 E dX5_nearest_60 ?_
                refine s_iconst E dX5_nearest_63 (v := nI 0) (by decide) ?_
                refine s_iload_n E dX5_nearest_64 (i := 1) (j := 1) rfl rfl ?_
                refine s_iadd_ E dX5_nearest_65 (v := nI j) (nI_z _) ?_
                refine ml25 E (v := (zt σ) 25 j) (j) (rfl) (by omega) (rfl) dX5_nearest_66 ?_
                refine s_if_ne E dX5_nearest_67 (tgt := 73) rfl (fun c67 => ?_) (fun c67 => ?_)
                · refine s_iload_n E dX5_nearest_73 (i := 2) (j := 2) rfl rfl ?_
                  refine s_bipush E dX5_nearest_74 (v := (-2)) (by decide) ?_
                  refine s_icmp_eq E dX5_nearest_76 (tgt := 122) rfl (fun c76 => ?_) (fun c76 => ?_)
                  · have hz := optI_0 c76 (by omega)
                    refine s_iload_n E dX5_nearest_122 (i := 3) (j := 3) rfl rfl ?_
                    refine s_istore_n E (L2 := [(2, .int (nI o)), (0, .ref (ad 0)), (1, .int (nI j)), (3, .int (nI o))]) dX5_nearest_123 rfl (Nat.le_of_ble_eq_true rfl) rfl ?_
                    refine s_iinc E (L2 := [(3, .int (nI (o + 1))), (2, .int (nI o)), (0, .ref (ad 0)), (1, .int (nI j))]) dX5_nearest_124 (k := 3) rfl (v := nI (o + 1)) (nI_inc _) (Nat.le_of_ble_eq_true rfl) rfl ?_
                    refine s_goto E dX5_nearest_127 (tgt := 20) rfl ?_
                    refine s_loc (L2 := [(0, .ref (ad 0)), (1, .int (nI j)), (2, .int (nI o)), (3, .int (nI (o + 1)))]) [2, 3, 1, 0] rfl ?_
                    refine s_L (L2 := [(0, .ref (ad 0)), (1, .int (nI j)), (2, .int (optI (nearF (zt σ) j (o + 1)))), (3, .int (nI (o + 1)))]) (by rw [nearF, if_pos (by simp [bI, nearK, c10, hU, c25, c30, c45, c56, c67, c76, hz]), if_pos hz]; rfl) ?_
                    exact ih20 (o + 1) (by omega) (by omega)
                  · have hz := optI_s c76
                    refine s_aload_n E dX5_nearest_79 (i := 0) (j := 0) rfl rfl ?_
                    refine mg25 E dX5_nearest_80 ?_
                    refine s_iconst E dX5_nearest_83 (v := nI 0) (by decide) ?_
                    refine s_iload_n E dX5_nearest_84 (i := 3) (j := 3) rfl rfl ?_
                    refine s_iadd_ E dX5_nearest_85 (v := nI o) (nI_z _) ?_
                    refine ml25 E (v := (zt σ) 25 o) (o) (rfl) (by omega) (rfl) dX5_nearest_86 ?_
                    refine s_aload_n E dX5_nearest_87 (i := 0) (j := 0) rfl rfl ?_
                    refine mg25 E dX5_nearest_88 ?_
                    refine s_iconst E dX5_nearest_91 (v := nI 0) (by decide) ?_
                    refine s_iload_n E dX5_nearest_92 (i := 1) (j := 1) rfl rfl ?_
                    refine s_iadd_ E dX5_nearest_93 (v := nI j) (nI_z _) ?_
                    refine ml25 E (v := (zt σ) 25 j) (j) (rfl) (by omega) (rfl) dX5_nearest_94 ?_
                    refine s_isub E dX5_nearest_95 ?_
                    refine m_calls E (mz_without (((zt σ) 25 o) - ((zt σ) 25 j))) K5_274 (Nat.le_of_ble_eq_true rfl) (Nat.le_of_ble_eq_true rfl) (Nat.zero_le _) (Nat.zero_le _) rfl rfl (Nat.le_of_ble_eq_true rfl) dX5_nearest_96 (fun r96 h96 => ?_)
                    subst h96
                    refine s_aload_n E dX5_nearest_99 (i := 0) (j := 0) rfl rfl ?_
                    refine mg25 E dX5_nearest_100 ?_
                    refine s_iconst E dX5_nearest_103 (v := nI 0) (by decide) ?_
                    refine s_iload_n E dX5_nearest_104 (i := 2) (j := 2) rfl rfl ?_
                    refine s_iadd_ E dX5_nearest_105 (v := nI (nearF (zt σ) j o - 1)) (by rw [hz.2]; exact nI_z _) ?_
                    refine ml25 E (v := (zt σ) 25 (nearF (zt σ) j o - 1)) (nearF (zt σ) j o - 1) (rfl) (by have := hz.1; omega) (rfl) dX5_nearest_106 ?_
                    refine s_aload_n E dX5_nearest_107 (i := 0) (j := 0) rfl rfl ?_
                    refine mg25 E dX5_nearest_108 ?_
                    refine s_iconst E dX5_nearest_111 (v := nI 0) (by decide) ?_
                    refine s_iload_n E dX5_nearest_112 (i := 1) (j := 1) rfl rfl ?_
                    refine s_iadd_ E dX5_nearest_113 (v := nI j) (nI_z _) ?_
                    refine ml25 E (v := (zt σ) 25 j) (j) (rfl) (by omega) (rfl) dX5_nearest_114 ?_
                    refine s_isub E dX5_nearest_115 ?_
                    refine m_calls E (mz_without (((zt σ) 25 (nearF (zt σ) j o - 1)) - ((zt σ) 25 j))) K5_274 (Nat.le_of_ble_eq_true rfl) (Nat.le_of_ble_eq_true rfl) (Nat.zero_le _) (Nat.zero_le _) rfl rfl (Nat.le_of_ble_eq_true rfl) dX5_nearest_116 (fun r116 h116 => ?_)
                    subst h116
                    refine s_icmp_ge E dX5_nearest_119 (tgt := 124) rfl (fun c119 => ?_) (fun c119 => ?_)
                    · have c119 := Int32.not_lt.mpr c119
                      refine s_iinc E (L2 := [(3, .int (nI (o + 1))), (0, .ref (ad 0)), (1, .int (nI j)), (2, .int (optI (nearF (zt σ) j o)))]) dX5_nearest_124 (k := 3) rfl (v := nI (o + 1)) (nI_inc _) (Nat.le_of_ble_eq_true rfl) rfl ?_
                      refine s_goto E dX5_nearest_127 (tgt := 20) rfl ?_
                      refine s_loc (L2 := [(0, .ref (ad 0)), (1, .int (nI j)), (2, .int (optI (nearF (zt σ) j o))), (3, .int (nI (o + 1)))]) [1, 2, 3, 0] rfl ?_
                      refine s_L (L2 := [(0, .ref (ad 0)), (1, .int (nI j)), (2, .int (optI (nearF (zt σ) j (o + 1)))), (3, .int (nI (o + 1)))]) (by rw [nearF, if_pos (by simp [bI, nearK, c10, hU, c25, c30, c45, c56, c67, c76, hz, c119]), if_neg (by have := hz.1; omega), if_neg c119]) ?_
                      exact ih20 (o + 1) (by omega) (by omega)
                    · have c119 := Int32.not_le.mp c119
                      refine s_iload_n E dX5_nearest_122 (i := 3) (j := 3) rfl rfl ?_
                      refine s_istore_n E (L2 := [(2, .int (nI o)), (0, .ref (ad 0)), (1, .int (nI j)), (3, .int (nI o))]) dX5_nearest_123 rfl (Nat.le_of_ble_eq_true rfl) rfl ?_
                      refine s_iinc E (L2 := [(3, .int (nI (o + 1))), (2, .int (nI o)), (0, .ref (ad 0)), (1, .int (nI j))]) dX5_nearest_124 (k := 3) rfl (v := nI (o + 1)) (nI_inc _) (Nat.le_of_ble_eq_true rfl) rfl ?_
                      refine s_goto E dX5_nearest_127 (tgt := 20) rfl ?_
                      refine s_loc (L2 := [(0, .ref (ad 0)), (1, .int (nI j)), (2, .int (nI o)), (3, .int (nI (o + 1)))]) [2, 3, 1, 0] rfl ?_
                      refine s_L (L2 := [(0, .ref (ad 0)), (1, .int (nI j)), (2, .int (optI (nearF (zt σ) j (o + 1)))), (3, .int (nI (o + 1)))]) (by rw [nearF, if_pos (by simp [bI, nearK, c10, hU, c25, c30, c45, c56, c67, c76, hz, c119]), if_neg (by have := hz.1; omega), if_pos c119]; rfl) ?_
                      exact ih20 (o + 1) (by omega) (by omega)
                · refine s_goto E dX5_nearest_70 (tgt := 124) rfl ?_
                  refine s_iinc E (L2 := [(3, .int (nI (o + 1))), (0, .ref (ad 0)), (1, .int (nI j)), (2, .int (optI (nearF (zt σ) j o)))]) dX5_nearest_124 (k := 3) rfl (v := nI (o + 1)) (nI_inc _) (Nat.le_of_ble_eq_true rfl) rfl ?_
                  refine s_goto E dX5_nearest_127 (tgt := 20) rfl ?_
                  refine s_loc (L2 := [(0, .ref (ad 0)), (1, .int (nI j)), (2, .int (optI (nearF (zt σ) j o))), (3, .int (nI (o + 1)))]) [1, 2, 3, 0] rfl ?_
                  refine s_L (L2 := [(0, .ref (ad 0)), (1, .int (nI j)), (2, .int (optI (nearF (zt σ) j (o + 1)))), (3, .int (nI (o + 1)))]) (by rw [nearF, if_neg (by simp [bI, nearK, c10, hU, c25, c30, c45, c56, c67])]) ?_
                  exact ih20 (o + 1) (by omega) (by omega)
    refine s_loc (L2 := [(0, .ref (ad 0)), (1, .int (nI j)), (2, .int ((-2))), (3, .int (nI 0))]) [2, 3, 1, 0] rfl ?_
    exact L20 (_ + 1) 0 (Nat.zero_le _) (Nat.lt_succ_self _)
  · have c10 := bI_0 c10
    have hU := isU_f c10
    refine s_iconst E dX5_nearest_13 (v := (-1)) (by decide) ?_
    exact Rt ((-1)) (zt σ) dX5_nearest_14 (⟨by rw [if_neg (by simp [hU])], rfl⟩) rfl (Nat.le_refl _) (Nat.le_refl _) rfl E.2.2.2.2.2.1
end
