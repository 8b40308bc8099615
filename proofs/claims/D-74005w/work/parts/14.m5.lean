set_option maxRecDepth 100000
section
variable {l : Launch} {D : va_G} {gt ad : Nat → Nat} {ct : Nat → ClassId}
set_option maxHeartbeats 1000000 in
set_option maxRecDepth 100000 in
theorem mz_lays {σ : Nat → Nat → Int32} (k : Nat) (hk : k < 21) : Cv l D gt yX5_lays cX5_lays 3 0 0 0 0 [.ref (ad 0), .int (nI k)] (wm ad ct σ) (tysA ct) (fun σ2 => layF σ k = σ2) (fun σ2 => wm ad ct σ2) (fun _ => tysA ct) := by
  refine Cv.start RX5 (by decide) rfl (Nat.le_of_ble_eq_true rfl) rfl ?_
  intro pP eE sS mM aA bB hM cC QQ AA E Rt
  refine s_iconst E dX5_lays_0 (v := nI 0) (by decide) ?_
  refine s_istore_n E (L2 := [(2, .int (nI 0)), (0, .ref (ad 0)), (1, .int (nI k))]) dX5_lays_1 rfl (Nat.le_of_ble_eq_true rfl) rfl ?_
  have L2 : ∀ (fuel : Nat) (i : Nat), i ≤ 79 → (79 - i) < fuel → Sm pP l eE { frames := 0, cells := 0, slots := 0, locals := 0 } sS mM aA bB hM cC QQ AA D 3 0 0 (wm ad ct (upR σ 26 (va_cpy (σ 25) (σ 26) 0 (79 * k) i))) 2 [(0, .ref (ad 0)), (1, .int (nI k)), (2, .int (nI i))] [] := by
    intro fuel
    induction fuel with
    | zero =>
      intro i hi hf2
      exact absurd hf2 (Nat.not_lt_zero _)
    | succ fuel ih2 =>
      intro i hi hf2
      refine s_iload_n E dX5_lays_2 (i := 2) (j := 2) rfl rfl ?_
      refine s_bipush E dX5_lays_3 (v := nI 79) (by decide) ?_
      refine s_icmp_ge E dX5_lays_5 (tgt := 31) rfl (fun c5 => ?_) (fun c5 => ?_)
      · have c5 : ¬ i < 79 := fun h => absurd c5 (Int32.not_le.mpr ((nI_ltI (a := i) (b := 79) (by omega) (by omega)).mpr h))
        exact Rt (upR σ 26 (va_cpy (σ 25) (σ 26) 0 (79 * k) i)) dX5_lays_31 (by rw [show i = 79 by omega]; rfl) rfl (Nat.le_refl _) (Nat.le_refl _) E.2.2.2.2.2.1
      · have c5 : i < 79 := (nI_ltI (a := i) (b := 79) (by omega) (by omega)).mp (Int32.not_le.mp c5)
        refine s_aload_n E dX5_lays_8 (i := 0) (j := 0) rfl rfl ?_
        refine mg26 E dX5_lays_9 ?_
        refine s_bipush E dX5_lays_12 (v := nI 79) (by decide) ?_
        refine s_iload_n E dX5_lays_14 (i := 1) (j := 1) rfl rfl ?_
        refine s_imul_ E dX5_lays_15 (v := nI (79 * k)) (pk_mul _ _) ?_
        refine s_iload_n E dX5_lays_16 (i := 2) (j := 2) rfl rfl ?_
        refine s_iadd_ E dX5_lays_17 (v := nI ((79 * k) + i)) (nI_add _ _) ?_
        refine s_aload_n E dX5_lays_18 (i := 0) (j := 0) rfl rfl ?_
        refine mg25 E dX5_lays_19 ?_
        refine s_iload_n E dX5_lays_22 (i := 2) (j := 2) rfl rfl ?_
        refine ml25 E (v := σ 25 i) (i) (rfl) (by omega) (rfl) dX5_lays_23 ?_
        refine ms26 E ((79 * k) + i) (rfl) (by omega) dX5_lays_24 ?_
        refine s_ws (ws2 := wm ad ct (upR σ 26 (va_cpy (σ 25) (σ 26) 0 (79 * k) (i + 1)))) (congrArg (wm ad ct) (cp_st (by omega) (by first | rfl | (congr 1; omega) | (show _ = _; rw [Nat.zero_add])))) ?_
        refine s_iinc E (L2 := [(2, .int (nI (i + 1))), (0, .ref (ad 0)), (1, .int (nI k))]) dX5_lays_25 (k := 2) rfl (v := nI (i + 1)) (nI_inc _) (Nat.le_of_ble_eq_true rfl) rfl ?_
        refine s_goto E dX5_lays_28 (tgt := 2) rfl ?_
        refine s_loc (L2 := [(0, .ref (ad 0)), (1, .int (nI k)), (2, .int (nI (i + 1)))]) [1, 2, 0] rfl ?_
        exact ih2 (i + 1) (by omega) (by omega)
  refine s_ws (ws2 := wm ad ct (upR σ 26 (va_cpy (σ 25) (σ 26) 0 (79 * k) 0))) (congrArg (wm ad ct) cp_0.symm) ?_
  refine s_loc (L2 := [(0, .ref (ad 0)), (1, .int (nI k)), (2, .int (nI 0))]) [1, 2, 0] rfl ?_
  exact L2 (_ + 1) 0 (Nat.zero_le _) (Nat.lt_succ_self _)
set_option maxHeartbeats 1000000 in
set_option maxRecDepth 100000 in
theorem mz_laysBack {σ : Nat → Nat → Int32} (k : Nat) (hk : k < 21) : Cv l D gt yX5_laysBack cX5_laysBack 3 0 0 0 0 [.ref (ad 0), .int (nI k)] (wm ad ct σ) (tysA ct) (fun σ2 => backF σ k = σ2) (fun σ2 => wm ad ct σ2) (fun _ => tysA ct) := by
  refine Cv.start RX5 (by decide) rfl (Nat.le_of_ble_eq_true rfl) rfl ?_
  intro pP eE sS mM aA bB hM cC QQ AA E Rt
  refine s_iconst E dX5_laysBack_0 (v := nI 0) (by decide) ?_
  refine s_istore_n E (L2 := [(2, .int (nI 0)), (0, .ref (ad 0)), (1, .int (nI k))]) dX5_laysBack_1 rfl (Nat.le_of_ble_eq_true rfl) rfl ?_
  have L2 : ∀ (fuel : Nat) (i : Nat), i ≤ 79 → (79 - i) < fuel → Sm pP l eE { frames := 0, cells := 0, slots := 0, locals := 0 } sS mM aA bB hM cC QQ AA D 3 0 0 (wm ad ct (upR σ 25 (va_cpy (σ 26) (σ 25) (79 * k) 0 i))) 2 [(0, .ref (ad 0)), (1, .int (nI k)), (2, .int (nI i))] [] := by
    intro fuel
    induction fuel with
    | zero =>
      intro i hi hf2
      exact absurd hf2 (Nat.not_lt_zero _)
    | succ fuel ih2 =>
      intro i hi hf2
      refine s_iload_n E dX5_laysBack_2 (i := 2) (j := 2) rfl rfl ?_
      refine s_bipush E dX5_laysBack_3 (v := nI 79) (by decide) ?_
      refine s_icmp_ge E dX5_laysBack_5 (tgt := 31) rfl (fun c5 => ?_) (fun c5 => ?_)
      · have c5 : ¬ i < 79 := fun h => absurd c5 (Int32.not_le.mpr ((nI_ltI (a := i) (b := 79) (by omega) (by omega)).mpr h))
        exact Rt (upR σ 25 (va_cpy (σ 26) (σ 25) (79 * k) 0 i)) dX5_laysBack_31 (by rw [show i = 79 by omega]; rfl) rfl (Nat.le_refl _) (Nat.le_refl _) E.2.2.2.2.2.1
      · have c5 : i < 79 := (nI_ltI (a := i) (b := 79) (by omega) (by omega)).mp (Int32.not_le.mp c5)
        refine s_aload_n E dX5_laysBack_8 (i := 0) (j := 0) rfl rfl ?_
        refine mg25 E dX5_laysBack_9 ?_
        refine s_iload_n E dX5_laysBack_12 (i := 2) (j := 2) rfl rfl ?_
        refine s_aload_n E dX5_laysBack_13 (i := 0) (j := 0) rfl rfl ?_
        refine mg26 E dX5_laysBack_14 ?_
        refine s_bipush E dX5_laysBack_17 (v := nI 79) (by decide) ?_
        refine s_iload_n E dX5_laysBack_19 (i := 1) (j := 1) rfl rfl ?_
        refine s_imul_ E dX5_laysBack_20 (v := nI (79 * k)) (pk_mul _ _) ?_
        refine s_iload_n E dX5_laysBack_21 (i := 2) (j := 2) rfl rfl ?_
        refine s_iadd_ E dX5_laysBack_22 (v := nI ((79 * k) + i)) (nI_add _ _) ?_
        refine ml26 E (v := σ 26 (79 * k + i)) ((79 * k) + i) (rfl) (by omega) (rfl) dX5_laysBack_23 ?_
        refine ms25 E (i) (rfl) (by omega) dX5_laysBack_24 ?_
        refine s_ws (ws2 := wm ad ct (upR σ 25 (va_cpy (σ 26) (σ 25) (79 * k) 0 (i + 1)))) (congrArg (wm ad ct) (cp_st (by omega) (by first | rfl | (congr 1; omega) | (show _ = _; rw [Nat.zero_add])))) ?_
        refine s_iinc E (L2 := [(2, .int (nI (i + 1))), (0, .ref (ad 0)), (1, .int (nI k))]) dX5_laysBack_25 (k := 2) rfl (v := nI (i + 1)) (nI_inc _) (Nat.le_of_ble_eq_true rfl) rfl ?_
        refine s_goto E dX5_laysBack_28 (tgt := 2) rfl ?_
        refine s_loc (L2 := [(0, .ref (ad 0)), (1, .int (nI k)), (2, .int (nI (i + 1)))]) [1, 2, 0] rfl ?_
        exact ih2 (i + 1) (by omega) (by omega)
  refine s_ws (ws2 := wm ad ct (upR σ 25 (va_cpy (σ 26) (σ 25) (79 * k) 0 0))) (congrArg (wm ad ct) cp_0.symm) ?_
  refine s_loc (L2 := [(0, .ref (ad 0)), (1, .int (nI k)), (2, .int (nI 0))]) [1, 2, 0] rfl ?_
  exact L2 (_ + 1) 0 (Nat.zero_le _) (Nat.lt_succ_self _)
set_option maxHeartbeats 1000000 in
set_option maxRecDepth 100000 in
theorem mz_goesAside {σ : Nat → Nat → Int32}  : Cv l D gt yX5_goesAside cX5_goesAside 2 0 0 0 0 [.ref (ad 0)] (wm ad ct σ) (tysA ct) (fun σ2 => asideF σ = σ2) (fun σ2 => wm ad ct σ2) (fun _ => tysA ct) := by
  refine Cv.start RX5 (by decide) rfl (Nat.le_of_ble_eq_true rfl) rfl ?_
  intro pP eE sS mM aA bB hM cC QQ AA E Rt
  refine s_iconst E dX5_goesAside_0 (v := nI 0) (by decide) ?_
  refine s_istore_n E (L2 := [(1, .int (nI 0)), (0, .ref (ad 0))]) dX5_goesAside_1 rfl (Nat.le_of_ble_eq_true rfl) rfl ?_
  have L2 : ∀ (fuel : Nat) (i : Nat), i ≤ 79 → (79 - i) < fuel → Sm pP l eE { frames := 0, cells := 0, slots := 0, locals := 0 } sS mM aA bB hM cC QQ AA D 2 0 0 (wm ad ct (upR σ 27 (va_cpy (σ 25) (σ 27) 0 0 i))) 2 [(0, .ref (ad 0)), (1, .int (nI i))] [] := by
    intro fuel
    induction fuel with
    | zero =>
      intro i hi hf2
      exact absurd hf2 (Nat.not_lt_zero _)
    | succ fuel ih2 =>
      intro i hi hf2
      refine s_iload_n E dX5_goesAside_2 (i := 1) (j := 1) rfl rfl ?_
      refine s_bipush E dX5_goesAside_3 (v := nI 79) (by decide) ?_
      refine s_icmp_ge E dX5_goesAside_5 (tgt := 26) rfl (fun c5 => ?_) (fun c5 => ?_)
      · have c5 : ¬ i < 79 := fun h => absurd c5 (Int32.not_le.mpr ((nI_ltI (a := i) (b := 79) (by omega) (by omega)).mpr h))
        exact Rt (upR σ 27 (va_cpy (σ 25) (σ 27) 0 0 i)) dX5_goesAside_26 (by rw [show i = 79 by omega]; rfl) rfl (Nat.le_refl _) (Nat.le_refl _) E.2.2.2.2.2.1
      · have c5 : i < 79 := (nI_ltI (a := i) (b := 79) (by omega) (by omega)).mp (Int32.not_le.mp c5)
        refine s_aload_n E dX5_goesAside_8 (i := 0) (j := 0) rfl rfl ?_
        refine mg27 E dX5_goesAside_9 ?_
        refine s_iload_n E dX5_goesAside_12 (i := 1) (j := 1) rfl rfl ?_
        refine s_aload_n E dX5_goesAside_13 (i := 0) (j := 0) rfl rfl ?_
        refine mg25 E dX5_goesAside_14 ?_
        refine s_iload_n E dX5_goesAside_17 (i := 1) (j := 1) rfl rfl ?_
        refine ml25 E (v := σ 25 i) (i) (rfl) (by omega) (rfl) dX5_goesAside_18 ?_
        refine ms27 E (i) (rfl) (by omega) dX5_goesAside_19 ?_
        refine s_ws (ws2 := wm ad ct (upR σ 27 (va_cpy (σ 25) (σ 27) 0 0 (i + 1)))) (congrArg (wm ad ct) (cp_st (by omega) (by first | rfl | (congr 1; omega) | (show _ = _; rw [Nat.zero_add])))) ?_
        refine s_iinc E (L2 := [(1, .int (nI (i + 1))), (0, .ref (ad 0))]) dX5_goesAside_20 (k := 1) rfl (v := nI (i + 1)) (nI_inc _) (Nat.le_of_ble_eq_true rfl) rfl ?_
        refine s_goto E dX5_goesAside_23 (tgt := 2) rfl ?_
        refine s_loc (L2 := [(0, .ref (ad 0)), (1, .int (nI (i + 1)))]) [1, 0] rfl ?_
        exact ih2 (i + 1) (by omega) (by omega)
  refine s_ws (ws2 := wm ad ct (upR σ 27 (va_cpy (σ 25) (σ 27) 0 0 0))) (congrArg (wm ad ct) cp_0.symm) ?_
  refine s_loc (L2 := [(0, .ref (ad 0)), (1, .int (nI 0))]) [1, 0] rfl ?_
  exact L2 (_ + 1) 0 (Nat.zero_le _) (Nat.lt_succ_self _)
set_option maxHeartbeats 1000000 in
set_option maxRecDepth 100000 in
theorem mz_asTold {σ : Nat → Nat → Int32}  : Cv l D gt yX5_asTold cX5_asTold 1 0 0 0 0 [.ref (ad 0)] (wm ad ct σ) (tysA ct) (fun σ2 => toldF σ = σ2) (fun σ2 => wm ad ct σ2) (fun _ => tysA ct) := by
  refine Cv.start RX5 (by decide) rfl (Nat.le_of_ble_eq_true rfl) rfl ?_
  intro pP eE sS mM aA bB hM cC QQ AA E Rt
  refine s_aload_n E dX5_asTold_0 (i := 0) (j := 0) rfl rfl ?_
  refine s_aload_n E dX5_asTold_1 (i := 0) (j := 0) rfl rfl ?_
  refine mg3 E dX5_asTold_2 ?_
  refine s_iconst E dX5_asTold_5 (v := nI 0) (by decide) ?_
  refine ml3 E (v := σ 3 0) (0) (rfl) (by omega) (rfl) dX5_asTold_6 ?_
  refine mp30 E dX5_asTold_7 ?_
  refine s_aload_n E dX5_asTold_10 (i := 0) (j := 0) rfl rfl ?_
  refine s_aload_n E dX5_asTold_11 (i := 0) (j := 0) rfl rfl ?_
  refine mg3 E dX5_asTold_12 ?_
  refine s_iconst E dX5_asTold_15 (v := nI 1) (by decide) ?_
  refine ml3 E (v := σ 3 1) (1) (rfl) (by omega) (rfl) dX5_asTold_16 ?_
  refine mp31 E dX5_asTold_17 ?_
  refine s_aload_n E dX5_asTold_20 (i := 0) (j := 0) rfl rfl ?_
  refine s_aload_n E dX5_asTold_21 (i := 0) (j := 0) rfl rfl ?_
  refine mg3 E dX5_asTold_22 ?_
  refine s_iconst E dX5_asTold_25 (v := nI 2) (by decide) ?_
  refine ml3 E (v := σ 3 2) (2) (rfl) (by omega) (rfl) dX5_asTold_26 ?_
  refine mp32 E dX5_asTold_27 ?_
  refine s_aload_n E dX5_asTold_30 (i := 0) (j := 0) rfl rfl ?_
  refine s_aload_n E dX5_asTold_31 (i := 0) (j := 0) rfl rfl ?_
  refine mg3 E dX5_asTold_32 ?_
  refine s_iconst E dX5_asTold_35 (v := nI 3) (by decide) ?_
  refine ml3 E (v := σ 3 3) (3) (rfl) (by omega) (rfl) dX5_asTold_36 ?_
  refine mp33 E dX5_asTold_37 ?_
  exact Rt (st1 (st1 (st1 (st1 σ 0 30 (σ 3 0)) 0 31 (σ 3 1)) 0 32 (σ 3 2)) 0 33 (σ 3 3)) dX5_asTold_40 (rfl) rfl (Nat.le_refl _) (Nat.le_refl _) E.2.2.2.2.2.1
set_option maxHeartbeats 1000000 in
set_option maxRecDepth 100000 in
theorem mz_comesBack {σ : Nat → Nat → Int32}  : Cv l D gt yX5_comesBack cX5_comesBack 2 1 20 0 0 [.ref (ad 0)] (wm ad ct σ) (tysA ct) (fun σ2 => comeF σ = σ2) (fun σ2 => wm ad ct σ2) (fun _ => tysA ct) := by
  refine Cv.start RX5 (by decide) rfl (Nat.le_of_ble_eq_true rfl) rfl ?_
  intro pP eE sS mM aA bB hM cC QQ AA E Rt
  refine s_iconst E dX5_comesBack_0 (v := nI 0) (by decide) ?_
  refine s_istore_n E (L2 := [(1, .int (nI 0)), (0, .ref (ad 0))]) dX5_comesBack_1 rfl (Nat.le_of_ble_eq_true rfl) rfl ?_
  have L2 : ∀ (fuel : Nat) (i : Nat), i ≤ 79 → (79 - i) < fuel → Sm pP l eE { frames := 1, cells := 0, slots := 0, locals := 20 } sS mM aA bB hM cC QQ AA D 2 0 0 (wm ad ct (upR σ 25 (va_cpy (σ 27) (σ 25) 0 0 i))) 2 [(0, .ref (ad 0)), (1, .int (nI i))] [] := by
    intro fuel
    induction fuel with
    | zero =>
      intro i hi hf2
      exact absurd hf2 (Nat.not_lt_zero _)
    | succ fuel ih2 =>
      intro i hi hf2
      refine s_iload_n E dX5_comesBack_2 (i := 1) (j := 1) rfl rfl ?_
      refine s_bipush E dX5_comesBack_3 (v := nI 79) (by decide) ?_
      refine s_icmp_ge E dX5_comesBack_5 (tgt := 26) rfl (fun c5 => ?_) (fun c5 => ?_)
      · have c5 : ¬ i < 79 := fun h => absurd c5 (Int32.not_le.mpr ((nI_ltI (a := i) (b := 79) (by omega) (by omega)).mpr h))
        refine s_aload_n E dX5_comesBack_26 (i := 0) (j := 0) rfl rfl ?_
        refine m_callv E (mz_asTold ) K5_235 (Nat.le_of_ble_eq_true rfl) (Nat.le_of_ble_eq_true rfl) (Nat.zero_le _) (Nat.zero_le _) rfl rfl (Nat.le_of_ble_eq_true rfl) dX5_comesBack_27 (fun w27 h27 => ?_)
        subst h27
        exact Rt (toldF (upR σ 25 (va_cpy (σ 27) (σ 25) 0 0 i))) dX5_comesBack_30 (by rw [show i = 79 by omega]; rfl) rfl (Nat.le_refl _) (Nat.le_refl _) E.2.2.2.2.2.1
      · have c5 : i < 79 := (nI_ltI (a := i) (b := 79) (by omega) (by omega)).mp (Int32.not_le.mp c5)
        refine s_aload_n E dX5_comesBack_8 (i := 0) (j := 0) rfl rfl ?_
        refine mg25 E dX5_comesBack_9 ?_
        refine s_iload_n E dX5_comesBack_12 (i := 1) (j := 1) rfl rfl ?_
        refine s_aload_n E dX5_comesBack_13 (i := 0) (j := 0) rfl rfl ?_
        refine mg27 E dX5_comesBack_14 ?_
        refine s_iload_n E dX5_comesBack_17 (i := 1) (j := 1) rfl rfl ?_
        refine ml27 E (v := σ 27 i) (i) (rfl) (by omega) (rfl) dX5_comesBack_18 ?_
        refine ms25 E (i) (rfl) (by omega) dX5_comesBack_19 ?_
        refine s_ws (ws2 := wm ad ct (upR σ 25 (va_cpy (σ 27) (σ 25) 0 0 (i + 1)))) (congrArg (wm ad ct) (cp_st (by omega) (by first | rfl | (congr 1; omega) | (show _ = _; rw [Nat.zero_add])))) ?_
        refine s_iinc E (L2 := [(1, .int (nI (i + 1))), (0, .ref (ad 0))]) dX5_comesBack_20 (k := 1) rfl (v := nI (i + 1)) (nI_inc _) (Nat.le_of_ble_eq_true rfl) rfl ?_
        refine s_goto E dX5_comesBack_23 (tgt := 2) rfl ?_
        refine s_loc (L2 := [(0, .ref (ad 0)), (1, .int (nI (i + 1)))]) [1, 0] rfl ?_
        exact ih2 (i + 1) (by omega) (by omega)
  refine s_ws (ws2 := wm ad ct (upR σ 25 (va_cpy (σ 27) (σ 25) 0 0 0))) (congrArg (wm ad ct) cp_0.symm) ?_
  refine s_loc (L2 := [(0, .ref (ad 0)), (1, .int (nI 0))]) [1, 0] rfl ?_
  exact L2 (_ + 1) 0 (Nat.zero_le _) (Nat.lt_succ_self _)
set_option maxHeartbeats 1000000 in
set_option maxRecDepth 100000 in
theorem mz_remembers {σ : Nat → Nat → Int32} (K : Nat) (hK : σ 0 28 = nI K) (hK2 : K ≤ 20) : Cv l D gt yX5_remembers cX5_remembers 2 1 22 0 0 [.ref (ad 0)] (wm ad ct σ) (tysA ct) (fun σ2 => remF σ K = σ2) (fun σ2 => wm ad ct σ2) (fun _ => tysA ct) := by
  refine Cv.start RX5 (by decide) rfl (Nat.le_of_ble_eq_true rfl) rfl ?_
  intro pP eE sS mM aA bB hM cC QQ AA E Rt
  refine s_aload_n E dX5_remembers_0 (i := 0) (j := 0) rfl rfl ?_
  refine mg28 E (v := nI K) (hK) dX5_remembers_1 ?_
  refine s_bipush E dX5_remembers_4 (v := nI 20) (by decide) ?_
  refine s_icmp_ne E dX5_remembers_6 (tgt := 49) rfl (fun c6 => ?_) (fun c6 => ?_)
  · have c6 : ¬ K = 20 := fun h => c6 ((nI_eq (a := K) (b := 20) (by omega) (by omega)).mpr h)
    refine s_aload_n E dX5_remembers_49 (i := 0) (j := 0) rfl rfl ?_
    refine s_aload_n E dX5_remembers_50 (i := 0) (j := 0) rfl rfl ?_
    refine mg28 E (v := nI K) (hK) dX5_remembers_51 ?_
    refine m_callv E (mz_lays K (by omega)) K5_250 (Nat.le_of_ble_eq_true rfl) (Nat.le_of_ble_eq_true rfl) (Nat.zero_le _) (Nat.zero_le _) rfl rfl (Nat.le_of_ble_eq_true rfl) dX5_remembers_54 (fun w54 h54 => ?_)
    subst h54
    refine s_aload_n E dX5_remembers_57 (i := 0) (j := 0) rfl rfl ?_
    refine s_dup E dX5_remembers_58 rfl ?_
    refine mg28 E (v := nI K) (hK) dX5_remembers_59 ?_
    refine s_iconst E dX5_remembers_62 (v := nI 1) (by decide) ?_
    refine s_iadd_ E dX5_remembers_63 (v := nI (K + 1)) (nI_add _ _) ?_
    refine mp28 E dX5_remembers_64 ?_
    exact Rt (st1 (layF σ K) 0 28 (nI (K + 1))) dX5_remembers_67 (by unfold remF; rw [if_neg c6]) rfl (Nat.le_refl _) (Nat.le_refl _) E.2.2.2.2.2.1
  · have c6 : K = 20 := (nI_eq (a := K) (b := 20) (by omega) (by omega)).mp c6
    refine s_iconst E dX5_remembers_9 (v := nI 0) (by decide) ?_
    refine s_istore_n E (L2 := [(1, .int (nI 0)), (0, .ref (ad 0))]) dX5_remembers_10 rfl (Nat.le_of_ble_eq_true rfl) rfl ?_
    have L11 : ∀ (fuel : Nat) (j : Nat), j ≤ 1501 → (1501 - j) < fuel → Sm pP l eE { frames := 1, cells := 0, slots := 0, locals := 22 } sS mM aA bB hM cC QQ AA D 2 0 0 (wm ad ct (upR σ 26 (va_cpy (σ 26) (σ 26) 79 0 j))) 11 [(0, .ref (ad 0)), (1, .int (nI j))] [] := by
      intro fuel
      induction fuel with
      | zero =>
        intro j hi hf11
        exact absurd hf11 (Nat.not_lt_zero _)
      | succ fuel ih11 =>
        intro j hi hf11
        refine s_iload_n E dX5_remembers_11 (i := 1) (j := 1) rfl rfl ?_
        refine s_sipush E dX5_remembers_12 (v := nI 1501) (by decide) ?_
        refine s_icmp_ge E dX5_remembers_15 (tgt := 39) rfl (fun c15 => ?_) (fun c15 => ?_)
        · have c15 : ¬ j < 1501 := fun h => absurd c15 (Int32.not_le.mpr ((nI_ltI (a := j) (b := 1501) (by omega) (by omega)).mpr h))
          refine s_aload_n E dX5_remembers_39 (i := 0) (j := 0) rfl rfl ?_
          refine s_dup E dX5_remembers_40 rfl ?_
          refine mg28 E (v := nI K) (hK) dX5_remembers_41 ?_
          refine s_iconst E dX5_remembers_44 (v := nI 1) (by decide) ?_
          refine s_isub_ E dX5_remembers_45 (v := nI 19) (by rw [c6]; decide) ?_
          refine mp28 E dX5_remembers_46 ?_
          refine s_aload_n E dX5_remembers_49 (i := 0) (j := 0) rfl rfl ?_
          refine s_aload_n E dX5_remembers_50 (i := 0) (j := 0) rfl rfl ?_
          refine mg28 E (v := nI 19) (rfl) dX5_remembers_51 ?_
          refine m_callv E (mz_lays 19 (by omega)) K5_250 (Nat.le_of_ble_eq_true rfl) (Nat.le_of_ble_eq_true rfl) (Nat.zero_le _) (Nat.zero_le _) rfl rfl (Nat.le_of_ble_eq_true rfl) dX5_remembers_54 (fun w54 h54 => ?_)
          subst h54
          refine s_aload_n E dX5_remembers_57 (i := 0) (j := 0) rfl rfl ?_
          refine s_dup E dX5_remembers_58 rfl ?_
          refine mg28 E (v := nI 19) (rfl) dX5_remembers_59 ?_
          refine s_iconst E dX5_remembers_62 (v := nI 1) (by decide) ?_
          refine s_iadd_ E dX5_remembers_63 (v := nI 20) (rfl) ?_
          refine mp28 E dX5_remembers_64 ?_
          exact Rt (st1 (layF (st1 (upR σ 26 (va_cpy (σ 26) (σ 26) 79 0 j)) 0 28 (nI 19)) 19) 0 28 (nI 20)) dX5_remembers_67 (by unfold remF shiftF; rw [if_pos c6, show j = 1501 by omega]) rfl (Nat.le_refl _) (Nat.le_refl _) E.2.2.2.2.2.1
        · have c15 : j < 1501 := (nI_ltI (a := j) (b := 1501) (by omega) (by omega)).mp (Int32.not_le.mp c15)
          refine s_aload_n E dX5_remembers_18 (i := 0) (j := 0) rfl rfl ?_
          refine mg26 E dX5_remembers_19 ?_
          refine s_iload_n E dX5_remembers_22 (i := 1) (j := 1) rfl rfl ?_
          refine s_aload_n E dX5_remembers_23 (i := 0) (j := 0) rfl rfl ?_
          refine mg26 E dX5_remembers_24 ?_
          refine s_bipush E dX5_remembers_27 (v := nI 79) (by decide) ?_
          refine s_iload_n E dX5_remembers_29 (i := 1) (j := 1) rfl rfl ?_
          refine s_iadd_ E dX5_remembers_30 (v := nI (79 + j)) (nI_add _ _) ?_
          refine ml26 E (v := σ 26 (79 + j)) (79 + j) (rfl) (by omega) (pk_cpy_out (by omega)) dX5_remembers_31 ?_
          refine ms26 E (j) (rfl) (by omega) dX5_remembers_32 ?_
          refine s_ws (ws2 := wm ad ct (upR σ 26 (va_cpy (σ 26) (σ 26) 79 0 (j + 1)))) (congrArg (wm ad ct) (cp_st (by omega) (by first | rfl | (congr 1; omega) | (show _ = _; rw [Nat.zero_add])))) ?_
          refine s_iinc E (L2 := [(1, .int (nI (j + 1))), (0, .ref (ad 0))]) dX5_remembers_33 (k := 1) rfl (v := nI (j + 1)) (nI_inc _) (Nat.le_of_ble_eq_true rfl) rfl ?_
          refine s_goto E dX5_remembers_36 (tgt := 11) rfl ?_
          refine s_loc (L2 := [(0, .ref (ad 0)), (1, .int (nI (j + 1)))]) [1, 0] rfl ?_
          exact ih11 (j + 1) (by omega) (by omega)
    refine s_ws (ws2 := wm ad ct (upR σ 26 (va_cpy (σ 26) (σ 26) 79 0 0))) (congrArg (wm ad ct) cp_0.symm) ?_
    refine s_loc (L2 := [(0, .ref (ad 0)), (1, .int (nI 0))]) [1, 0] rfl ?_
    exact L11 (_ + 1) 0 (Nat.zero_le _) (Nat.lt_succ_self _)
set_option maxHeartbeats 1000000 in
set_option maxRecDepth 100000 in
theorem mz_tuned {σ : Nat → Nat → Int32} (n : Nat) (hn : σ 3 7 = nI n) (hn6 : n ≤ 6) : Ct l D gt yX5_tuned cX5_tuned 3 .int 1 20 0 0 [.ref (ad 0)] (wm ad ct σ) (tysA ct) (fun r σ2 => nI (tunedN σ n) = r ∧ σ = σ2) (fun σ2 => wm ad ct σ2) (fun _ => tysA ct) := by
  refine Ct.start RX5 (by decide) rfl (Nat.le_of_ble_eq_true rfl) rfl ?_
  intro pP eE sS mM aA bB hM cC QQ AA E Rt
  refine s_iconst E dX5_tuned_0 (v := nI 0) (by decide) ?_
  refine s_istore_n E (L2 := [(1, .int (nI 0)), (0, .ref (ad 0))]) dX5_tuned_1 rfl (Nat.le_of_ble_eq_true rfl) rfl ?_
  refine s_iconst E dX5_tuned_2 (v := nI 0) (by decide) ?_
  refine s_istore_n E (L2 := [(2, .int (nI 0)), (1, .int (nI 0)), (0, .ref (ad 0))]) dX5_tuned_3 rfl (Nat.le_of_ble_eq_true rfl) rfl ?_
  have L4 : ∀ (fuel : Nat) (i : Nat), i ≤ n → (n - i) < fuel → Sm pP l eE { frames := 1, cells := 0, slots := 0, locals := 20 } sS mM aA bB hM cC QQ AA D 3 0 0 (wm ad ct σ) 4 [(0, .ref (ad 0)), (1, .int (nI (sumN (tunedF σ) i))), (2, .int (nI i))] [] := by
    intro fuel
    induction fuel with
    | zero =>
      intro i hi hf4
      exact absurd hf4 (Nat.not_lt_zero _)
    | succ fuel ih4 =>
      intro i hi hf4
      refine s_iload_n E dX5_tuned_4 (i := 2) (j := 2) rfl rfl ?_
      refine s_aload_n E dX5_tuned_5 (i := 0) (j := 0) rfl rfl ?_
      refine m_calli E (mz_users n (hn)) K5_232 (Nat.le_of_ble_eq_true rfl) (Nat.le_of_ble_eq_true rfl) (Nat.zero_le _) (Nat.zero_le _) rfl rfl (Nat.le_of_ble_eq_true rfl) dX5_tuned_6 (fun r6 w6 h6 => ?_)
      obtain ⟨rfl, rfl⟩ := h6
      refine s_icmp_ge E dX5_tuned_9 (tgt := 37) rfl (fun c9 => ?_) (fun c9 => ?_)
      · have c9 : ¬ i < n := fun h => absurd c9 (Int32.not_le.mpr ((nI_ltI (a := i) (b := n) (by omega) (by omega)).mpr h))
        refine s_iload_n E dX5_tuned_37 (i := 1) (j := 1) rfl rfl ?_
        exact Rt (nI (sumN (tunedF σ) i)) (σ) dX5_tuned_38 (by obtain rfl : i = n := (by omega); exact ⟨rfl, rfl⟩) rfl (Nat.le_refl _) (Nat.le_refl _) rfl E.2.2.2.2.2.1
      · have c9 : i < n := (nI_ltI (a := i) (b := n) (by omega) (by omega)).mp (Int32.not_le.mp c9)
        refine s_iload_n E dX5_tuned_12 (i := 1) (j := 1) rfl rfl ?_
        refine s_aload_n E dX5_tuned_13 (i := 0) (j := 0) rfl rfl ?_
        refine mg25 E dX5_tuned_14 ?_
        refine s_iconst E dX5_tuned_17 (v := nI 0) (by decide) ?_
        refine s_iload_n E dX5_tuned_18 (i := 2) (j := 2) rfl rfl ?_
        refine s_iadd_ E dX5_tuned_19 (v := nI i) (nI_z _) ?_
        refine ml25 E (v := σ 25 i) (i) (rfl) (by omega) (rfl) dX5_tuned_20 ?_
        have J29 : Sm pP l eE { frames := 1, cells := 0, slots := 0, locals := 20 } sS mM aA bB hM cC QQ AA D 3 0 0 (wm ad ct σ) 29 [(0, .ref (ad 0)), (1, .int (nI (sumN (tunedF σ) i))), (2, .int (nI i))] [.int (nI (tunedF σ i)), .int (nI (sumN (tunedF σ) i))] := by
          refine s_iadd_ E dX5_tuned_29 (v := nI (sumN (tunedF σ) (i + 1))) (nI_add _ _) ?_
          refine s_istore_n E (L2 := [(1, .int (nI (sumN (tunedF σ) (i + 1)))), (0, .ref (ad 0)), (2, .int (nI i))]) dX5_tuned_30 rfl (Nat.le_of_ble_eq_true rfl) rfl ?_
          refine s_iinc E (L2 := [(2, .int (nI (i + 1))), (1, .int (nI (sumN (tunedF σ) (i + 1)))), (0, .ref (ad 0))]) dX5_tuned_31 (k := 2) rfl (v := nI (i + 1)) (nI_inc _) (Nat.le_of_ble_eq_true rfl) rfl ?_
          refine s_goto E dX5_tuned_34 (tgt := 4) rfl ?_
          refine s_loc (L2 := [(0, .ref (ad 0)), (1, .int (nI (sumN (tunedF σ) (i + 1)))), (2, .int (nI (i + 1)))]) [2, 1, 0] rfl ?_
          exact ih4 (i + 1) (by omega) (by omega)
        refine s_if_le E dX5_tuned_21 (tgt := 28) rfl (fun c21 => ?_) (fun c21 => ?_)
        · have c21 := Int32.not_lt.mpr c21
          refine s_iconst E dX5_tuned_28 (v := nI 0) (by decide) ?_
          refine s_top (v2 := nI (tunedF σ i)) (by simp [bI, tunedF, c9, c21]) ?_
          exact J29
        · have c21 := Int32.not_le.mp c21
          refine s_iconst E dX5_tuned_24 (v := nI 1) (by decide) ?_
          refine s_goto E dX5_tuned_25 (tgt := 29) rfl ?_
          refine s_top (v2 := nI (tunedF σ i)) (by simp [bI, tunedF, c9, c21]) ?_
          exact J29
  refine s_loc (L2 := [(0, .ref (ad 0)), (1, .int (nI 0)), (2, .int (nI 0))]) [2, 1, 0] rfl ?_
  exact L4 (_ + 1) 0 (Nat.zero_le _) (Nat.lt_succ_self _)
set_option maxHeartbeats 1000000 in
set_option maxRecDepth 100000 in
theorem mz_isClean {σ : Nat → Nat → Int32} (n : Nat) (hC : CM σ n) : Ct l D gt yX5_isClean cX5_isClean 2 .boolean 4 96 0 0 [.ref (ad 0)] (wm ad ct σ) (tysA ct) (fun r σ2 => bI (cleanB σ n = true) = r ∧ HR σ σ2) (fun σ2 => wm ad ct σ2) (fun _ => tysA ct) := by
  refine Ct.start RX5 (by decide) rfl (Nat.le_of_ble_eq_true rfl) rfl ?_
  intro pP eE sS mM aA bB hM cC QQ AA E Rt
  have hn := hC.1
  have hn6 := hC.2.1
  refine s_iconst E dX5_isClean_0 (v := nI 0) (by decide) ?_
  refine s_istore_n E (L2 := [(1, .int (nI 0)), (0, .ref (ad 0))]) dX5_isClean_1 rfl (Nat.le_of_ble_eq_true rfl) rfl ?_
  have L2 : ∀ (fuel : Nat) (u : Nat), u ≤ n → allB (calmB σ n) u = true → (n - u) < fuel → Sm pP l eE { frames := 4, cells := 0, slots := 0, locals := 96 } sS mM aA bB hM cC QQ AA D 2 0 0 (wm ad ct σ) 2 [(0, .ref (ad 0)), (1, .int (nI u))] [] := by
    intro fuel
    induction fuel with
    | zero =>
      intro u hu ha hf2
      exact absurd hf2 (Nat.not_lt_zero _)
    | succ fuel ih2 =>
      intro u hu ha hf2
      refine s_iload_n E dX5_isClean_2 (i := 1) (j := 1) rfl rfl ?_
      refine s_aload_n E dX5_isClean_3 (i := 0) (j := 0) rfl rfl ?_
      refine m_calli E (mz_users n (hn)) K5_232 (Nat.le_of_ble_eq_true rfl) (Nat.le_of_ble_eq_true rfl) (Nat.zero_le _) (Nat.zero_le _) rfl rfl (Nat.le_of_ble_eq_true rfl) dX5_isClean_4 (fun r4 w4 h4 => ?_)
      obtain ⟨rfl, rfl⟩ := h4
      refine s_icmp_ge E dX5_isClean_7 (tgt := 45) rfl (fun c7 => ?_) (fun c7 => ?_)
      · have c7 : ¬ u < n := fun h => absurd c7 (Int32.not_le.mpr ((nI_ltI (a := u) (b := n) (by omega) (by omega)).mpr h))
        refine s_aload_n E dX5_isClean_45 (i := 0) (j := 0) rfl rfl ?_
        have ha : allB (calmB σ n) n = true := by have e : u = n := (by omega); rw [e] at ha; exact ha
        refine m_callv E (mz_laysProducts n (hn) (hn6)) K5_326 (Nat.le_of_ble_eq_true rfl) (Nat.le_of_ble_eq_true rfl) (Nat.zero_le _) (Nat.zero_le _) rfl rfl (Nat.le_of_ble_eq_true rfl) dX5_isClean_46 (fun w46 h46 => ?_)
        have h := HW.of h46 hn hn6 hC.2.2.1
        have hl := h.2.2.1
        refine s_iconst E dX5_isClean_49 (v := nI 0) (by decide) ?_
        refine s_istore_n E (L2 := [(1, .int (nI 0)), (0, .ref (ad 0))]) dX5_isClean_50 rfl (Nat.le_of_ble_eq_true rfl) rfl ?_
        have L51 : ∀ (fuel : Nat) (p : Nat), p ≤ (prods σ n).length → allB (cleanF σ n (prods σ n)) p = true → ((prods σ n).length - p) < fuel → Sm pP l eE { frames := 4, cells := 0, slots := 0, locals := 96 } sS mM aA bB hM cC QQ AA D 2 0 0 (wm ad ct w46) 51 [(0, .ref (ad 0)), (1, .int (nI p))] [] := by
          intro fuel
          induction fuel with
          | zero =>
            intro p hp hb hf51
            exact absurd hf51 (Nat.not_lt_zero _)
          | succ fuel ih51 =>
            intro p hp hb hf51
            refine s_iload_n E dX5_isClean_51 (i := 1) (j := 1) rfl rfl ?_
            refine s_aload_n E dX5_isClean_52 (i := 0) (j := 0) rfl rfl ?_
            refine mg41 E (v := nI ((prods σ n).length)) (h.1.2.1) dX5_isClean_53 ?_
            refine s_icmp_ge E dX5_isClean_56 (tgt := 75) rfl (fun c56 => ?_) (fun c56 => ?_)
            · have c56 : ¬ p < (prods σ n).length := fun h => absurd c56 (Int32.not_le.mpr ((nI_ltI (a := p) (b := (prods σ n).length) (by omega) (by omega)).mpr h))
              refine s_iconst E dX5_isClean_75 (v := nI 1) (by decide) ?_
              exact Rt (nI 1) (w46) dX5_isClean_76 (⟨by rw [bI_t]; unfold cleanB; rw [ha, ← show p = (prods σ n).length by omega, hb]; rfl, h.1.1⟩) rfl (Nat.le_refl _) (Nat.le_refl _) rfl E.2.2.2.2.2.1
            · have c56 : p < (prods σ n).length := (nI_ltI (a := p) (b := (prods σ n).length) (by omega) (by omega)).mp (Int32.not_le.mp c56)
              refine s_aload_n E dX5_isClean_59 (i := 0) (j := 0) rfl rfl ?_
              refine s_iload_n E dX5_isClean_60 (i := 1) (j := 1) rfl rfl ?_
              refine m_calli E (mz_hitsOfL σ (prods σ n) n p (h) (by omega)) K5_308 (Nat.le_of_ble_eq_true rfl) (Nat.le_of_ble_eq_true rfl) (Nat.zero_le _) (Nat.zero_le _) rfl rfl (Nat.le_of_ble_eq_true rfl) dX5_isClean_61 (fun r61 w61 h61 => ?_)
              obtain ⟨rfl, rfl⟩ := h61
              have hb61 := hsQ_64 σ (n := n) (qAt (prods σ n) p) hn6
              refine s_if_eq E dX5_isClean_64 (tgt := 69) rfl (fun c64 => ?_) (fun c64 => ?_)
              · have c64 : hsQ σ n (qAt (prods σ n) p) = 0 := (nI_eq (a := hsQ σ n (qAt (prods σ n) p)) (b := 0) (by omega) (by omega)).mp c64
                refine s_iinc E (L2 := [(1, .int (nI (p + 1))), (0, .ref (ad 0))]) dX5_isClean_69 (k := 1) rfl (v := nI (p + 1)) (nI_inc _) (Nat.le_of_ble_eq_true rfl) rfl ?_
                refine s_goto E dX5_isClean_72 (tgt := 51) rfl ?_
                refine s_loc (L2 := [(0, .ref (ad 0)), (1, .int (nI (p + 1)))]) [1, 0] rfl ?_
                exact ih51 (p + 1) (by omega) (allB_s hb (by simp [bI, cleanF, c56, c64])) (by omega)
              · have c64 : ¬ hsQ σ n (qAt (prods σ n) p) = 0 := fun h => c64 ((nI_eq (a := hsQ σ n (qAt (prods σ n) p)) (b := 0) (by omega) (by omega)).mpr h)
                refine s_iconst E dX5_isClean_67 (v := nI 0) (by decide) ?_
                exact Rt (nI 0) (w46) dX5_isClean_68 (⟨by rw [bI_f]; intro hc; exact allB_f (f := cleanF σ n (prods σ n)) (i := p) (n := (prods σ n).length) (by omega) (by simp [bI, cleanF, c56, c64]) (by unfold cleanB at hc; exact (Bool.and_eq_true _ _ ▸ hc).2), h.1.1⟩) rfl (Nat.le_refl _) (Nat.le_refl _) rfl E.2.2.2.2.2.1
        refine s_loc (L2 := [(0, .ref (ad 0)), (1, .int (nI 0))]) [1, 0] rfl ?_
        exact L51 (_ + 1) 0 (Nat.zero_le _) (rfl) (Nat.lt_succ_self _)
      · have c7 : u < n := (nI_ltI (a := u) (b := n) (by omega) (by omega)).mp (Int32.not_le.mp c7)
        refine s_aload_n E dX5_isClean_10 (i := 0) (j := 0) rfl rfl ?_
        refine mg25 E dX5_isClean_11 ?_
        refine s_iconst E dX5_isClean_14 (v := nI 0) (by decide) ?_
        refine s_iload_n E dX5_isClean_15 (i := 1) (j := 1) rfl rfl ?_
        refine s_iadd_ E dX5_isClean_16 (v := nI u) (nI_z _) ?_
        refine ml25 E (v := σ 25 u) (u) (rfl) (by omega) (rfl) dX5_isClean_17 ?_
        refine s_if_le E dX5_isClean_18 (tgt := 39) rfl (fun c18 => ?_) (fun c18 => ?_)
        · have c18 := Int32.not_lt.mpr c18
          refine s_iinc E (L2 := [(1, .int (nI (u + 1))), (0, .ref (ad 0))]) dX5_isClean_39 (k := 1) rfl (v := nI (u + 1)) (nI_inc _) (Nat.le_of_ble_eq_true rfl) rfl ?_
          refine s_goto E dX5_isClean_42 (tgt := 2) rfl ?_
          refine s_loc (L2 := [(0, .ref (ad 0)), (1, .int (nI (u + 1)))]) [1, 0] rfl ?_
          exact ih2 (u + 1) (by omega) (allB_s ha (by simp [bI, calmB, c7, c18])) (by omega)
        · have c18 := Int32.not_le.mp c18
          refine s_aload_n E dX5_isClean_21 (i := 0) (j := 0) rfl rfl ?_
          refine s_iload_n E dX5_isClean_22 (i := 1) (j := 1) rfl rfl ?_
          refine m_calli E (mz_isRight u (by omega) (hC.2.2.2 u (by omega))) K5_323 (Nat.le_of_ble_eq_true rfl) (Nat.le_of_ble_eq_true rfl) (Nat.zero_le _) (Nat.zero_le _) rfl rfl (Nat.le_of_ble_eq_true rfl) dX5_isClean_23 (fun r23 w23 h23 => ?_)
          obtain ⟨rfl, rfl⟩ := h23
          refine s_if_eq E dX5_isClean_26 (tgt := 37) rfl (fun c26 => ?_) (fun c26 => ?_)
          · have c26 := bI_0 c26
            refine s_iconst E dX5_isClean_37 (v := nI 0) (by decide) ?_
            exact Rt (nI 0) (σ) dX5_isClean_38 (⟨by rw [bI_f]; intro hc; exact allB_f (f := calmB σ n) (i := u) (n := n) (by omega) (by simp [bI, calmB, c7, c18, c26]) (by unfold cleanB at hc; exact (Bool.and_eq_true _ _ ▸ hc).1), HR.rf σ⟩) rfl (Nat.le_refl _) (Nat.le_refl _) rfl E.2.2.2.2.2.1
          · have c26 := bI_n0 c26
            refine s_aload_n E dX5_isClean_29 (i := 0) (j := 0) rfl rfl ?_
            refine s_iload_n E dX5_isClean_30 (i := 1) (j := 1) rfl rfl ?_
            refine m_calli E (mz_crowdsOf n u (hn) (hn6) (by omega)) K5_317 (Nat.le_of_ble_eq_true rfl) (Nat.le_of_ble_eq_true rfl) (Nat.zero_le _) (Nat.zero_le _) rfl rfl (Nat.le_of_ble_eq_true rfl) dX5_isClean_31 (fun r31 w31 h31 => ?_)
            obtain ⟨rfl, rfl⟩ := h31
            have hb31 := setN_64 (crowdB σ u) hn6
            refine s_if_eq E dX5_isClean_34 (tgt := 39) rfl (fun c34 => ?_) (fun c34 => ?_)
            · have c34 : setN (crowdB σ u) n = 0 := (nI_eq (a := setN (crowdB σ u) n) (b := 0) (by omega) (by omega)).mp c34
              refine s_iinc E (L2 := [(1, .int (nI (u + 1))), (0, .ref (ad 0))]) dX5_isClean_39 (k := 1) rfl (v := nI (u + 1)) (nI_inc _) (Nat.le_of_ble_eq_true rfl) rfl ?_
              refine s_goto E dX5_isClean_42 (tgt := 2) rfl ?_
              refine s_loc (L2 := [(0, .ref (ad 0)), (1, .int (nI (u + 1)))]) [1, 0] rfl ?_
              exact ih2 (u + 1) (by omega) (allB_s ha (by simp [bI, calmB, c7, c18, c26, c34])) (by omega)
            · have c34 : ¬ setN (crowdB σ u) n = 0 := fun h => c34 ((nI_eq (a := setN (crowdB σ u) n) (b := 0) (by omega) (by omega)).mpr h)
              refine s_iconst E dX5_isClean_37 (v := nI 0) (by decide) ?_
              exact Rt (nI 0) (σ) dX5_isClean_38 (⟨by rw [bI_f]; intro hc; exact allB_f (f := calmB σ n) (i := u) (n := n) (by omega) (by simp [bI, calmB, c7, c18, c26, c34]) (by unfold cleanB at hc; exact (Bool.and_eq_true _ _ ▸ hc).1), HR.rf σ⟩) rfl (Nat.le_refl _) (Nat.le_refl _) rfl E.2.2.2.2.2.1
  refine s_loc (L2 := [(0, .ref (ad 0)), (1, .int (nI 0))]) [1, 0] rfl ?_
  exact L2 (_ + 1) 0 (Nat.zero_le _) (rfl) (Nat.lt_succ_self _)
end
