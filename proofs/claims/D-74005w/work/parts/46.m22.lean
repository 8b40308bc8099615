set_option maxRecDepth 100000
section
variable {l : Launch} {D : va_G} {gt ad : Nat → Nat} {ct : Nat → ClassId}
set_option maxHeartbeats 1000000 in
set_option maxRecDepth 100000 in
theorem mz_readBlock {σ : Nat → Nat → Int32}  (hB : In (σ 3 10) 61) (hB1 : 1 ≤ tN (σ 3 10)) (hR : RI σ) : Cv l D gt yX5_readBlock cX5_readBlock 4 8 172 0 0 [.ref (ad 0)] (wm ad ct σ) (tysA ct) (fun σ2 => readBlockS σ = σ2) (fun σ2 => wm ad ct σ2) (fun _ => tysA ct) := by
  refine Cv.start RX5 (by decide) rfl (Nat.le_of_ble_eq_true rfl) rfl ?_
  intro pP eE sS mM aA bB hM cC QQ AA E Rt
  refine s_aload_n E dX5_readBlock_0 (i := 0) (j := 0) rfl rfl ?_
  refine s_iconst E dX5_readBlock_1 (v := nI 1) (by decide) ?_
  refine mp14 E rfl rfl dX5_readBlock_2 ?_
  refine s_aload_n E dX5_readBlock_5 (i := 0) (j := 0) rfl rfl ?_
  refine s_bipush E dX5_readBlock_6 (v := nI 8) (by decide) ?_
  have hA := blA_of hB hB1
  have hC := blB_of hB hB1
  have hB60 := hB.2
  refine m_calli E (mz_reading 8 (by decide)) K5_181 (Nat.le_of_ble_eq_true rfl) (Nat.le_of_ble_eq_true rfl) (Nat.zero_le _) (Nat.zero_le _) rfl rfl (Nat.le_of_ble_eq_true rfl) dX5_readBlock_8 (fun r8 w8 h8 => ?_)
  obtain ⟨rfl, rfl⟩ := h8
  refine s_top (v2 := σ 3 18) (rfl) ?_
  refine s_bipush E dX5_readBlock_11 (v := nI 6) (by decide) ?_
  have J25 : Sm pP l eE { frames := 8, cells := 0, slots := 0, locals := 172 } sS mM aA bB hM cC QQ AA D 4 0 0 (wm ad ct (bl1 σ)) 25 [(0, .ref (ad 0))] [] := by
    refine s_aload_n E dX5_readBlock_25 (i := 0) (j := 0) rfl rfl ?_
    refine s_iconst E dX5_readBlock_26 (v := nI 1) (by decide) ?_
    refine s_aload_n E dX5_readBlock_27 (i := 0) (j := 0) rfl rfl ?_
    refine s_iconst E dX5_readBlock_28 (v := nI 0) (by decide) ?_
    refine m_calli E (mz_reading 0 (by decide)) K5_181 (Nat.le_of_ble_eq_true rfl) (Nat.le_of_ble_eq_true rfl) (Nat.zero_le _) (Nat.zero_le _) rfl rfl (Nat.le_of_ble_eq_true rfl) dX5_readBlock_29 (fun r29 w29 h29 => ?_)
    obtain ⟨rfl, rfl⟩ := h29
    refine s_top (v2 := bl1 σ 3 10) (rfl) ?_
    refine m_calli E (mz_numeral (nI 1) (bl1 σ 3 10) (hR.rbl1)) K5_165 (Nat.le_of_ble_eq_true rfl) (Nat.le_of_ble_eq_true rfl) (Nat.zero_le _) (Nat.zero_le _) rfl rfl (Nat.le_of_ble_eq_true rfl) dX5_readBlock_32 (fun r32 w32 h32 => ?_)
    obtain ⟨rfl, rfl⟩ := h32
    refine s_top (v2 := nI (blA σ)) (hA.1) ?_
    refine s_ws (ws2 := wm ad ct (bl2 σ)) (rfl) ?_
    refine s_istore_n E (L2 := [(1, .int (nI (blA σ))), (0, .ref (ad 0))]) dX5_readBlock_35 rfl (Nat.le_of_ble_eq_true rfl) rfl ?_
    refine s_aload_n E dX5_readBlock_36 (i := 0) (j := 1) rfl rfl ?_
    refine s_iload_n E dX5_readBlock_37 (i := 1) (j := 0) rfl rfl ?_
    refine s_aload_n E dX5_readBlock_38 (i := 0) (j := 1) rfl rfl ?_
    refine s_iconst E dX5_readBlock_39 (v := nI 0) (by decide) ?_
    refine m_calli E (mz_reading 0 (by decide)) K5_181 (Nat.le_of_ble_eq_true rfl) (Nat.le_of_ble_eq_true rfl) (Nat.zero_le _) (Nat.zero_le _) rfl rfl (Nat.le_of_ble_eq_true rfl) dX5_readBlock_40 (fun r40 w40 h40 => ?_)
    obtain ⟨rfl, rfl⟩ := h40
    refine s_top (v2 := bl2 σ 3 10) (rfl) ?_
    refine m_calli E (mz_numeral (nI (blA σ)) (bl2 σ 3 10) (hR.rbl2)) K5_165 (Nat.le_of_ble_eq_true rfl) (Nat.le_of_ble_eq_true rfl) (Nat.zero_le _) (Nat.zero_le _) rfl rfl (Nat.le_of_ble_eq_true rfl) dX5_readBlock_43 (fun r43 w43 h43 => ?_)
    obtain ⟨rfl, rfl⟩ := h43
    refine s_top (v2 := nI (blB σ)) (hC.1) ?_
    refine s_ws (ws2 := wm ad ct (bl3 σ)) (rfl) ?_
    refine s_istore_n E (L2 := [(2, .int (nI (blB σ))), (1, .int (nI (blA σ))), (0, .ref (ad 0))]) dX5_readBlock_46 rfl (Nat.le_of_ble_eq_true rfl) rfl ?_
    refine s_aload_n E dX5_readBlock_47 (i := 0) (j := 2) rfl rfl ?_
    refine mg21 E (v := (bl3 σ) 0 21) (rfl) dX5_readBlock_48 ?_
    refine s_if_eq E dX5_readBlock_51 (tgt := 55) rfl (fun c51 => ?_) (fun c51 => ?_)
    · refine s_iload_n E dX5_readBlock_55 (i := 1) (j := 1) rfl rfl ?_
      refine s_istore_n E (L2 := [(3, .int (nI (blA σ))), (2, .int (nI (blB σ))), (1, .int (nI (blA σ))), (0, .ref (ad 0))]) dX5_readBlock_56 rfl (Nat.le_of_ble_eq_true rfl) rfl ?_
      have L57 : ∀ (fuel : Nat) (k : Nat) (w57 : Nat → Nat → Int32), upR (bl3 σ) 13 (blkF (bl3 σ 13) (blA σ) k) = w57 → (blA σ ≤ k) → (k ≤ blB σ + 1) → (blB σ + 1 - k) < fuel → Sm pP l eE { frames := 8, cells := 0, slots := 0, locals := 172 } sS mM aA bB hM cC QQ AA D 4 0 0 (wm ad ct w57) 57 [(0, .ref (ad 0)), (1, .int (nI (blA σ))), (2, .int (nI (blB σ))), (3, .int (nI k))] [] := by
        intro fuel
        induction fuel with
        | zero =>
          intro k w57 ew57 hk1 hk2 hf57
          exact absurd hf57 (Nat.not_lt_zero _)
        | succ fuel ih57 =>
          intro k w57 ew57 hk1 hk2 hf57
          subst ew57
          refine s_iload_n E dX5_readBlock_57 (i := 3) (j := 3) rfl rfl ?_
          refine s_iload_n E dX5_readBlock_58 (i := 2) (j := 2) rfl rfl ?_
          refine s_icmp_gt E dX5_readBlock_59 (tgt := 78) rfl (fun c59 => ?_) (fun c59 => ?_)
          · have c59 : blB σ < k := (nI_ltI (a := blB σ) (b := k) (by omega) (by omega)).mp c59
            refine s_ws (ws2 := wm ad ct (upR (bl3 σ) 13 (blkF (bl3 σ 13) (blA σ) (blB σ + 1)))) (by rw [show k = blB σ + 1 by omega]) ?_
            refine s_aload_n E dX5_readBlock_78 (i := 0) (j := 0) rfl rfl ?_
            refine s_bipush E dX5_readBlock_79 (v := nI 8) (by decide) ?_
            refine s_aload_n E dX5_readBlock_81 (i := 0) (j := 0) rfl rfl ?_
            refine s_bipush E dX5_readBlock_82 (v := nI 8) (by decide) ?_
            refine m_calli E (mz_reading 8 (by decide)) K5_181 (Nat.le_of_ble_eq_true rfl) (Nat.le_of_ble_eq_true rfl) (Nat.zero_le _) (Nat.zero_le _) rfl rfl (Nat.le_of_ble_eq_true rfl) dX5_readBlock_84 (fun r84 w84 h84 => ?_)
            obtain ⟨rfl, rfl⟩ := h84
            refine s_top (v2 := bl3 σ 3 18) (rfl) ?_
            refine s_iconst E dX5_readBlock_87 (v := nI 1) (by decide) ?_
            refine s_iadd E dX5_readBlock_88 ?_
            refine m_callv E (mz_reads 8 ((bl3 σ 3 18) + (nI 1)) (by decide)) K5_169 (Nat.le_of_ble_eq_true rfl) (Nat.le_of_ble_eq_true rfl) (Nat.zero_le _) (Nat.zero_le _) rfl rfl (Nat.le_of_ble_eq_true rfl) dX5_readBlock_89 (fun w89 h89 => ?_)
            subst h89
            exact Rt (upR (upR (bl3 σ) 13 (blkF (bl3 σ 13) (blA σ) (blB σ + 1))) 3 (upd ((upR (bl3 σ) 13 (blkF (bl3 σ 13) (blA σ) (blB σ + 1))) 3) (10 + 8) ((bl3 σ 3 18) + (nI 1)))) dX5_readBlock_92 (by unfold readBlockS; rw [if_pos c51]; rfl) rfl (Nat.le_refl _) (Nat.le_refl _) E.2.2.2.2.2.1
          · have c59 : ¬ blB σ < k := fun h => c59 ((nI_ltI (a := blB σ) (b := k) (by omega) (by omega)).mpr h)
            refine s_aload_n E dX5_readBlock_62 (i := 0) (j := 0) rfl rfl ?_
            refine mg13 E dX5_readBlock_63 ?_
            refine s_bipush E dX5_readBlock_66 (v := nI 61) (by decide) ?_
            refine s_iload_n E dX5_readBlock_68 (i := 3) (j := 3) rfl rfl ?_
            refine s_iadd_ E dX5_readBlock_69 (v := nI (61 + k)) (nI_add _ _) ?_
            refine s_iconst E dX5_readBlock_70 (v := nI 1) (by decide) ?_
            refine ms13 E rfl (61 + k) (rfl) (by omega) dX5_readBlock_71 ?_
            refine s_ws (ws2 := wm ad ct (upR (bl3 σ) 13 (blkF (bl3 σ 13) (blA σ) (k + 1)))) (congrArg (wm ad ct) (blk_s hk1)) ?_
            refine s_iinc E (L2 := [(3, .int (nI (k + 1))), (0, .ref (ad 0)), (1, .int (nI (blA σ))), (2, .int (nI (blB σ)))]) dX5_readBlock_72 (k := 3) rfl (v := nI (k + 1)) (nI_inc _) (Nat.le_of_ble_eq_true rfl) rfl ?_
            refine s_goto E dX5_readBlock_75 (tgt := 57) rfl ?_
            refine s_loc (L2 := [(0, .ref (ad 0)), (1, .int (nI (blA σ))), (2, .int (nI (blB σ))), (3, .int (nI (k + 1)))]) [1, 2, 3, 0] rfl ?_
            exact ih57 (k + 1) _ (rfl) (by omega) (by omega) (by omega)
      refine s_loc (L2 := [(0, .ref (ad 0)), (1, .int (nI (blA σ))), (2, .int (nI (blB σ))), (3, .int (nI (blA σ)))]) [3, 2, 1, 0] rfl ?_
      exact L57 (_ + 1) (blA σ) _ (blk_0) (Nat.le_refl _) (by omega) (Nat.lt_succ_self _)
    · exact Rt (bl3 σ) dX5_readBlock_54 (by unfold readBlockS; rw [if_neg c51]) rfl (Nat.le_refl _) (Nat.le_refl _) E.2.2.2.2.2.1
  refine s_icmp_ne E dX5_readBlock_13 (tgt := 21) rfl (fun c13 => ?_) (fun c13 => ?_)
  · refine s_aload_n E dX5_readBlock_21 (i := 0) (j := 0) rfl rfl ?_
    refine m_callv E (mz_goOn (by first | exact hR.st (by decide) (by decide) | exact (hR.st (by decide) (by decide)).wrong _)) K5_159 (Nat.le_of_ble_eq_true rfl) (Nat.le_of_ble_eq_true rfl) (Nat.zero_le _) (Nat.zero_le _) rfl rfl (Nat.le_of_ble_eq_true rfl) dX5_readBlock_22 (fun w22 h22 => ?_)
    subst h22
    refine s_ws (ws2 := wm ad ct (bl1 σ)) (by simp [bI, bl1, c13]) ?_
    exact J25
  · refine s_aload_n E dX5_readBlock_16 (i := 0) (j := 0) rfl rfl ?_
    refine s_iconst E dX5_readBlock_17 (v := nI 2) (by decide) ?_
    refine m_callv E (mz_wrong (nI 2)) K5_155 (Nat.le_of_ble_eq_true rfl) (Nat.le_of_ble_eq_true rfl) (Nat.zero_le _) (Nat.zero_le _) rfl rfl (Nat.le_of_ble_eq_true rfl) dX5_readBlock_18 (fun w18 h18 => ?_)
    subst h18
    refine s_aload_n E dX5_readBlock_21 (i := 0) (j := 0) rfl rfl ?_
    refine m_callv E (mz_goOn (by first | exact hR.st (by decide) (by decide) | exact (hR.st (by decide) (by decide)).wrong _)) K5_159 (Nat.le_of_ble_eq_true rfl) (Nat.le_of_ble_eq_true rfl) (Nat.zero_le _) (Nat.zero_le _) rfl rfl (Nat.le_of_ble_eq_true rfl) dX5_readBlock_22 (fun w22 h22 => ?_)
    subst h22
    refine s_ws (ws2 := wm ad ct (bl1 σ)) (by simp [bI, bl1, c13]) ?_
    exact J25
set_option maxHeartbeats 1000000 in
set_option maxRecDepth 100000 in
theorem mz_freshText {σ : Nat → Nat → Int32}  : Cv l D gt yX5_freshText cX5_freshText 2 1 22 0 0 [.ref (ad 0)] (wm ad ct σ) (tysA ct) (fun σ2 => frS σ = σ2) (fun σ2 => wm ad ct σ2) (fun _ => tysA ct) := by
  refine Cv.start RX5 (by decide) rfl (Nat.le_of_ble_eq_true rfl) rfl ?_
  intro pP eE sS mM aA bB hM cC QQ AA E Rt
  refine s_iconst E dX5_freshText_0 (v := nI 0) (by decide) ?_
  refine s_istore_n E (L2 := [(1, .int (nI 0)), (0, .ref (ad 0))]) dX5_freshText_1 rfl (Nat.le_of_ble_eq_true rfl) rfl ?_
  have L2 : ∀ (fuel : Nat) (k : Nat) (w2 : Nat → Nat → Int32), upR σ 3 (frR (nI 0) 10 (σ 3) k) = w2 → (k ≤ 10) → (10 - k) < fuel → Sm pP l eE { frames := 1, cells := 0, slots := 0, locals := 22 } sS mM aA bB hM cC QQ AA D 2 0 0 (wm ad ct w2) 2 [(0, .ref (ad 0)), (1, .int (nI k))] [] := by
    intro fuel
    induction fuel with
    | zero =>
      intro k w2 ew2 hk hf2
      exact absurd hf2 (Nat.not_lt_zero _)
    | succ fuel ih2 =>
      intro k w2 ew2 hk hf2
      subst ew2
      refine s_iload_n E dX5_freshText_2 (i := 1) (j := 1) rfl rfl ?_
      refine s_bipush E dX5_freshText_3 (v := nI 10) (by decide) ?_
      refine s_icmp_ge E dX5_freshText_5 (tgt := 20) rfl (fun c5 => ?_) (fun c5 => ?_)
      · have c5 : ¬ k < 10 := fun h => absurd c5 (Int32.not_le.mpr ((nI_ltI (a := k) (b := 10) (by omega) (by omega)).mpr h))
        refine s_ws (ws2 := wm ad ct (upR σ 3 (frR (nI 0) 10 (σ 3) 10))) (by rw [show k = 10 by omega]) ?_
        refine s_aload_n E dX5_freshText_20 (i := 0) (j := 0) rfl rfl ?_
        refine s_iconst E dX5_freshText_21 (v := nI 0) (by decide) ?_
        refine s_bipush E dX5_freshText_22 (v := nI 30) (by decide) ?_
        refine m_callv E (mz_reads 0 (nI 30) (by decide)) K5_169 (Nat.le_of_ble_eq_true rfl) (Nat.le_of_ble_eq_true rfl) (Nat.zero_le _) (Nat.zero_le _) rfl rfl (Nat.le_of_ble_eq_true rfl) dX5_freshText_24 (fun w24 h24 => ?_)
        subst h24
        refine s_ws (ws2 := wm ad ct (upR σ 3 (upd (frR (nI 0) 10 (σ 3) 10) (10 + 0) (nI 30)))) (congrArg (wm ad ct) (st1_upR)) ?_
        refine s_aload_n E dX5_freshText_27 (i := 0) (j := 0) rfl rfl ?_
        refine s_iconst E dX5_freshText_28 (v := nI 2) (by decide) ?_
        refine s_iconst E dX5_freshText_29 (v := nI 1) (by decide) ?_
        refine m_callv E (mz_reads 2 (nI 1) (by decide)) K5_169 (Nat.le_of_ble_eq_true rfl) (Nat.le_of_ble_eq_true rfl) (Nat.zero_le _) (Nat.zero_le _) rfl rfl (Nat.le_of_ble_eq_true rfl) dX5_freshText_30 (fun w30 h30 => ?_)
        subst h30
        refine s_ws (ws2 := wm ad ct (upR σ 3 (upd (upd (frR (nI 0) 10 (σ 3) 10) (10 + 0) (nI 30)) (10 + 2) (nI 1)))) (congrArg (wm ad ct) (st1_upR)) ?_
        refine s_aload_n E dX5_freshText_33 (i := 0) (j := 0) rfl rfl ?_
        refine s_iconst E dX5_freshText_34 (v := nI 3) (by decide) ?_
        refine s_iconst E dX5_freshText_35 (v := nI 2) (by decide) ?_
        refine m_callv E (mz_reads 3 (nI 2) (by decide)) K5_169 (Nat.le_of_ble_eq_true rfl) (Nat.le_of_ble_eq_true rfl) (Nat.zero_le _) (Nat.zero_le _) rfl rfl (Nat.le_of_ble_eq_true rfl) dX5_freshText_36 (fun w36 h36 => ?_)
        subst h36
        refine s_ws (ws2 := wm ad ct (upR σ 3 (upd (upd (upd (frR (nI 0) 10 (σ 3) 10) (10 + 0) (nI 30)) (10 + 2) (nI 1)) (10 + 3) (nI 2)))) (congrArg (wm ad ct) (st1_upR)) ?_
        refine s_aload_n E dX5_freshText_39 (i := 0) (j := 0) rfl rfl ?_
        refine s_iconst E dX5_freshText_40 (v := nI 4) (by decide) ?_
        refine s_iconst E dX5_freshText_41 (v := nI 5) (by decide) ?_
        refine m_callv E (mz_reads 4 (nI 5) (by decide)) K5_169 (Nat.le_of_ble_eq_true rfl) (Nat.le_of_ble_eq_true rfl) (Nat.zero_le _) (Nat.zero_le _) rfl rfl (Nat.le_of_ble_eq_true rfl) dX5_freshText_42 (fun w42 h42 => ?_)
        subst h42
        refine s_ws (ws2 := wm ad ct (upR σ 3 (upd (upd (upd (upd (frR (nI 0) 10 (σ 3) 10) (10 + 0) (nI 30)) (10 + 2) (nI 1)) (10 + 3) (nI 2)) (10 + 4) (nI 5)))) (congrArg (wm ad ct) (st1_upR)) ?_
        refine s_aload_n E dX5_freshText_45 (i := 0) (j := 0) rfl rfl ?_
        refine s_iconst E dX5_freshText_46 (v := nI 5) (by decide) ?_
        refine s_bipush E dX5_freshText_47 (v := nI 10) (by decide) ?_
        refine m_callv E (mz_reads 5 (nI 10) (by decide)) K5_169 (Nat.le_of_ble_eq_true rfl) (Nat.le_of_ble_eq_true rfl) (Nat.zero_le _) (Nat.zero_le _) rfl rfl (Nat.le_of_ble_eq_true rfl) dX5_freshText_49 (fun w49 h49 => ?_)
        subst h49
        refine s_ws (ws2 := wm ad ct (upR σ 3 (upd (upd (upd (upd (upd (frR (nI 0) 10 (σ 3) 10) (10 + 0) (nI 30)) (10 + 2) (nI 1)) (10 + 3) (nI 2)) (10 + 4) (nI 5)) (10 + 5) (nI 10)))) (congrArg (wm ad ct) (st1_upR)) ?_
        refine s_aload_n E dX5_freshText_52 (i := 0) (j := 0) rfl rfl ?_
        refine s_bipush E dX5_freshText_53 (v := nI 6) (by decide) ?_
        refine s_bipush E dX5_freshText_55 (v := nI 20) (by decide) ?_
        refine m_callv E (mz_reads 6 (nI 20) (by decide)) K5_169 (Nat.le_of_ble_eq_true rfl) (Nat.le_of_ble_eq_true rfl) (Nat.zero_le _) (Nat.zero_le _) rfl rfl (Nat.le_of_ble_eq_true rfl) dX5_freshText_57 (fun w57 h57 => ?_)
        subst h57
        refine s_ws (ws2 := wm ad ct (F1 σ)) (congrArg (wm ad ct) (st1_upR)) ?_
        refine s_iconst E dX5_freshText_60 (v := nI 0) (by decide) ?_
        refine s_istore_n E (L2 := [(1, .int (nI 0)), (0, .ref (ad 0))]) dX5_freshText_61 rfl (Nat.le_of_ble_eq_true rfl) rfl ?_
        have L62 : ∀ (fuel : Nat) (k : Nat) (w62 : Nat → Nat → Int32), upR (F1 σ) 12 (frR (-2) 9 (F1 σ 12) k) = w62 → (k ≤ 9) → (9 - k) < fuel → Sm pP l eE { frames := 1, cells := 0, slots := 0, locals := 22 } sS mM aA bB hM cC QQ AA D 2 0 0 (wm ad ct w62) 62 [(0, .ref (ad 0)), (1, .int (nI k))] [] := by
          intro fuel
          induction fuel with
          | zero =>
            intro k w62 ew62 hk hf62
            exact absurd hf62 (Nat.not_lt_zero _)
          | succ fuel ih62 =>
            intro k w62 ew62 hk hf62
            subst ew62
            refine s_iload_n E dX5_freshText_62 (i := 1) (j := 1) rfl rfl ?_
            refine s_bipush E dX5_freshText_63 (v := nI 9) (by decide) ?_
            refine s_icmp_ge E dX5_freshText_65 (tgt := 85) rfl (fun c65 => ?_) (fun c65 => ?_)
            · have c65 : ¬ k < 9 := fun h => absurd c65 (Int32.not_le.mpr ((nI_ltI (a := k) (b := 9) (by omega) (by omega)).mpr h))
              obtain rfl : k = 9 := by omega
              refine s_ws (ws2 := wm ad ct (F2 σ)) (rfl) ?_
              refine s_iconst E dX5_freshText_85 (v := nI 0) (by decide) ?_
              refine s_istore_n E (L2 := [(1, .int (nI 0)), (0, .ref (ad 0))]) dX5_freshText_86 rfl (Nat.le_of_ble_eq_true rfl) rfl ?_
              have L87 : ∀ (fuel : Nat) (k : Nat) (w87 : Nat → Nat → Int32), upR (F2 σ) 4 (frR (nI 0) 0 (F2 σ 4) k) = w87 → (k ≤ 11) → (11 - k) < fuel → Sm pP l eE { frames := 1, cells := 0, slots := 0, locals := 22 } sS mM aA bB hM cC QQ AA D 2 0 0 (wm ad ct w87) 87 [(0, .ref (ad 0)), (1, .int (nI k))] [] := by
                intro fuel
                induction fuel with
                | zero =>
                  intro k w87 ew87 hk hf87
                  exact absurd hf87 (Nat.not_lt_zero _)
                | succ fuel ih87 =>
                  intro k w87 ew87 hk hf87
                  subst ew87
                  refine s_iload_n E dX5_freshText_87 (i := 1) (j := 1) rfl rfl ?_
                  refine s_bipush E dX5_freshText_88 (v := nI 11) (by decide) ?_
                  refine s_icmp_ge E dX5_freshText_90 (tgt := 106) rfl (fun c90 => ?_) (fun c90 => ?_)
                  · have c90 : ¬ k < 11 := fun h => absurd c90 (Int32.not_le.mpr ((nI_ltI (a := k) (b := 11) (by omega) (by omega)).mpr h))
                    obtain rfl : k = 11 := by omega
                    refine s_ws (ws2 := wm ad ct (F3 σ)) (rfl) ?_
                    refine s_iconst E dX5_freshText_106 (v := nI 0) (by decide) ?_
                    refine s_istore_n E (L2 := [(1, .int (nI 0)), (0, .ref (ad 0))]) dX5_freshText_107 rfl (Nat.le_of_ble_eq_true rfl) rfl ?_
                    have L108 : ∀ (fuel : Nat) (k : Nat) (w108 : Nat → Nat → Int32), upR (F3 σ) 13 (frR (nI 0) 61 (F3 σ 13) k) = w108 → (k ≤ 61) → (61 - k) < fuel → Sm pP l eE { frames := 1, cells := 0, slots := 0, locals := 22 } sS mM aA bB hM cC QQ AA D 2 0 0 (wm ad ct w108) 108 [(0, .ref (ad 0)), (1, .int (nI k))] [] := by
                      intro fuel
                      induction fuel with
                      | zero =>
                        intro k w108 ew108 hk hf108
                        exact absurd hf108 (Nat.not_lt_zero _)
                      | succ fuel ih108 =>
                        intro k w108 ew108 hk hf108
                        subst ew108
                        refine s_iload_n E dX5_freshText_108 (i := 1) (j := 1) rfl rfl ?_
                        refine s_bipush E dX5_freshText_109 (v := nI 61) (by decide) ?_
                        refine s_icmp_ge E dX5_freshText_111 (tgt := 130) rfl (fun c111 => ?_) (fun c111 => ?_)
                        · have c111 : ¬ k < 61 := fun h => absurd c111 (Int32.not_le.mpr ((nI_ltI (a := k) (b := 61) (by omega) (by omega)).mpr h))
                          obtain rfl : k = 61 := by omega
                          refine s_ws (ws2 := wm ad ct (F4 σ)) (rfl) ?_
                          refine s_aload_n E dX5_freshText_130 (i := 0) (j := 0) rfl rfl ?_
                          refine s_iconst E dX5_freshText_131 (v := nI 0) (by decide) ?_
                          refine mp14 E rfl rfl dX5_freshText_132 ?_
                          exact Rt (st1 (F4 σ) 0 14 (nI 0)) dX5_freshText_135 (rfl) rfl (Nat.le_refl _) (Nat.le_refl _) E.2.2.2.2.2.1
                        · have c111 : k < 61 := (nI_ltI (a := k) (b := 61) (by omega) (by omega)).mp (Int32.not_le.mp c111)
                          refine s_aload_n E dX5_freshText_114 (i := 0) (j := 0) rfl rfl ?_
                          refine mg13 E dX5_freshText_115 ?_
                          refine s_bipush E dX5_freshText_118 (v := nI 61) (by decide) ?_
                          refine s_iload_n E dX5_freshText_120 (i := 1) (j := 1) rfl rfl ?_
                          refine s_iadd_ E dX5_freshText_121 (v := nI (61 + k)) (nI_add _ _) ?_
                          refine s_iconst E dX5_freshText_122 (v := nI 0) (by decide) ?_
                          refine ms13 E rfl (61 + k) (rfl) (by omega) dX5_freshText_123 ?_
                          refine s_ws (ws2 := wm ad ct (upR (F3 σ) 13 (frR (nI 0) 61 (F3 σ 13) (k + 1)))) (congrArg (wm ad ct) (frR_s (by omega))) ?_
                          refine s_iinc E (L2 := [(1, .int (nI (k + 1))), (0, .ref (ad 0))]) dX5_freshText_124 (k := 1) rfl (v := nI (k + 1)) (nI_inc _) (Nat.le_of_ble_eq_true rfl) rfl ?_
                          refine s_goto E dX5_freshText_127 (tgt := 108) rfl ?_
                          refine s_loc (L2 := [(0, .ref (ad 0)), (1, .int (nI (k + 1)))]) [1, 0] rfl ?_
                          exact ih108 (k + 1) _ (rfl) (by omega) (by omega)
                    refine s_loc (L2 := [(0, .ref (ad 0)), (1, .int (nI 0))]) [1, 0] rfl ?_
                    exact L108 (_ + 1) 0 _ (frR_0) (Nat.zero_le _) (Nat.lt_succ_self _)
                  · have c90 : k < 11 := (nI_ltI (a := k) (b := 11) (by omega) (by omega)).mp (Int32.not_le.mp c90)
                    refine s_aload_n E dX5_freshText_93 (i := 0) (j := 0) rfl rfl ?_
                    refine mg4 E dX5_freshText_94 ?_
                    refine s_iload_n E dX5_freshText_97 (i := 1) (j := 1) rfl rfl ?_
                    refine s_iconst E dX5_freshText_98 (v := nI 0) (by decide) ?_
                    refine ms4 E rfl (k) (rfl) (by omega) dX5_freshText_99 ?_
                    refine s_ws (ws2 := wm ad ct (upR (F2 σ) 4 (frR (nI 0) 0 (F2 σ 4) (k + 1)))) (congrArg (wm ad ct) (frR_s (by omega))) ?_
                    refine s_iinc E (L2 := [(1, .int (nI (k + 1))), (0, .ref (ad 0))]) dX5_freshText_100 (k := 1) rfl (v := nI (k + 1)) (nI_inc _) (Nat.le_of_ble_eq_true rfl) rfl ?_
                    refine s_goto E dX5_freshText_103 (tgt := 87) rfl ?_
                    refine s_loc (L2 := [(0, .ref (ad 0)), (1, .int (nI (k + 1)))]) [1, 0] rfl ?_
                    exact ih87 (k + 1) _ (rfl) (by omega) (by omega)
              refine s_loc (L2 := [(0, .ref (ad 0)), (1, .int (nI 0))]) [1, 0] rfl ?_
              exact L87 (_ + 1) 0 _ (frR_0) (Nat.zero_le _) (Nat.lt_succ_self _)
            · have c65 : k < 9 := (nI_ltI (a := k) (b := 9) (by omega) (by omega)).mp (Int32.not_le.mp c65)
              refine s_aload_n E dX5_freshText_68 (i := 0) (j := 0) rfl rfl ?_
              refine mg12 E dX5_freshText_69 ?_
              refine s_bipush E dX5_freshText_72 (v := nI 9) (by decide) ?_
              refine s_iload_n E dX5_freshText_74 (i := 1) (j := 1) rfl rfl ?_
              refine s_iadd_ E dX5_freshText_75 (v := nI (9 + k)) (nI_add _ _) ?_
              refine s_bipush E dX5_freshText_76 (v := (-2)) (by decide) ?_
              refine ms12 E (9 + k) (rfl) (by omega) dX5_freshText_78 ?_
              refine s_ws (ws2 := wm ad ct (upR (F1 σ) 12 (frR (-2) 9 (F1 σ 12) (k + 1)))) (congrArg (wm ad ct) (frR_s (by omega))) ?_
              refine s_iinc E (L2 := [(1, .int (nI (k + 1))), (0, .ref (ad 0))]) dX5_freshText_79 (k := 1) rfl (v := nI (k + 1)) (nI_inc _) (Nat.le_of_ble_eq_true rfl) rfl ?_
              refine s_goto E dX5_freshText_82 (tgt := 62) rfl ?_
              refine s_loc (L2 := [(0, .ref (ad 0)), (1, .int (nI (k + 1)))]) [1, 0] rfl ?_
              exact ih62 (k + 1) _ (rfl) (by omega) (by omega)
        refine s_loc (L2 := [(0, .ref (ad 0)), (1, .int (nI 0))]) [1, 0] rfl ?_
        exact L62 (_ + 1) 0 _ (frR_0) (Nat.zero_le _) (Nat.lt_succ_self _)
      · have c5 : k < 10 := (nI_ltI (a := k) (b := 10) (by omega) (by omega)).mp (Int32.not_le.mp c5)
        refine s_aload_n E dX5_freshText_8 (i := 0) (j := 0) rfl rfl ?_
        refine s_iload_n E dX5_freshText_9 (i := 1) (j := 1) rfl rfl ?_
        refine s_iconst E dX5_freshText_10 (v := nI 0) (by decide) ?_
        refine m_callv E (mz_reads k (nI 0) (by omega)) K5_169 (Nat.le_of_ble_eq_true rfl) (Nat.le_of_ble_eq_true rfl) (Nat.zero_le _) (Nat.zero_le _) rfl rfl (Nat.le_of_ble_eq_true rfl) dX5_freshText_11 (fun w11 h11 => ?_)
        subst h11
        refine s_ws (ws2 := wm ad ct (upR σ 3 (frR (nI 0) 10 (σ 3) (k + 1)))) (congrArg (wm ad ct) (frR_s rfl)) ?_
        refine s_iinc E (L2 := [(1, .int (nI (k + 1))), (0, .ref (ad 0))]) dX5_freshText_14 (k := 1) rfl (v := nI (k + 1)) (nI_inc _) (Nat.le_of_ble_eq_true rfl) rfl ?_
        refine s_goto E dX5_freshText_17 (tgt := 2) rfl ?_
        refine s_loc (L2 := [(0, .ref (ad 0)), (1, .int (nI (k + 1)))]) [1, 0] rfl ?_
        exact ih2 (k + 1) _ (rfl) (by omega) (by omega)
  refine s_loc (L2 := [(0, .ref (ad 0)), (1, .int (nI 0))]) [1, 0] rfl ?_
  exact L2 (_ + 1) 0 _ (frR_0) (Nat.zero_le _) (Nat.lt_succ_self _)
set_option maxHeartbeats 1000000 in
set_option maxRecDepth 100000 in
theorem mz_readLine {σ : Nat → Nat → Int32} (n : Nat) (hB : In (σ 3 10) 61) (hB1 : 1 ≤ tN (σ 3 10)) (hn : σ 3 17 = nI n) (hn6 : n ≤ 6) (hR : RI σ) : Cv l D gt yX5_readLine cX5_readLine 1 10 216 0 0 [.ref (ad 0)] (wm ad ct σ) (tysA ct) (fun σ2 => lineS n σ = σ2) (fun σ2 => wm ad ct σ2) (fun _ => tysA ct) := by
  refine Cv.start RX5 (by decide) rfl (Nat.le_of_ble_eq_true rfl) rfl ?_
  intro pP eE sS mM aA bB hM cC QQ AA E Rt
  refine s_aload_n E dX5_readLine_0 (i := 0) (j := 0) rfl rfl ?_
  refine mg19 E (v := σ 0 19) (rfl) dX5_readLine_1 ?_
  have J193 : Sm pP l eE { frames := 10, cells := 0, slots := 0, locals := 216 } sS mM aA bB hM cC QQ AA D 1 0 0 (wm ad ct (lnW n σ)) 193 [(0, .ref (ad 0))] [] := by
    refine s_aload_n E dX5_readLine_193 (i := 0) (j := 0) rfl rfl ?_
    refine mg21 E (v := (lnW n σ) 0 21) (rfl) dX5_readLine_194 ?_
    have J217 : Sm pP l eE { frames := 10, cells := 0, slots := 0, locals := 216 } sS mM aA bB hM cC QQ AA D 1 0 0 (wm ad ct (lnE (lnW n σ))) 217 [(0, .ref (ad 0))] [] := by
      refine s_aload_n E dX5_readLine_217 (i := 0) (j := 0) rfl rfl ?_
      refine s_dup E dX5_readLine_218 rfl ?_
      refine mg15 E (v := (lnE (lnW n σ)) 0 15) (rfl) dX5_readLine_219 ?_
      refine s_iconst E dX5_readLine_222 (v := nI 1) (by decide) ?_
      refine s_iadd E dX5_readLine_223 ?_
      refine mp15 E dX5_readLine_224 ?_
      exact Rt (st1 (lnE (lnW n σ)) 0 15 (((lnE (lnW n σ)) 0 15) + (nI 1))) dX5_readLine_227 (rfl) rfl (Nat.le_refl _) (Nat.le_refl _) E.2.2.2.2.2.1
    refine s_if_ne E dX5_readLine_197 (tgt := 213) rfl (fun c197 => ?_) (fun c197 => ?_)
    · refine s_aload_n E dX5_readLine_213 (i := 0) (j := 0) rfl rfl ?_
      refine m_callv E (mz_goOn (by first | exact hR.rlnW | exact hR.rlnW.wrong _)) K5_159 (Nat.le_of_ble_eq_true rfl) (Nat.le_of_ble_eq_true rfl) (Nat.zero_le _) (Nat.zero_le _) rfl rfl (Nat.le_of_ble_eq_true rfl) dX5_readLine_214 (fun w214 h214 => ?_)
      subst h214
      refine s_ws (ws2 := wm ad ct (lnE (lnW n σ))) (by simp [bI, lnE, c197]) ?_
      exact J217
    · refine s_aload_n E dX5_readLine_200 (i := 0) (j := 0) rfl rfl ?_
      refine mg19 E (v := (lnW n σ) 0 19) (rfl) dX5_readLine_201 ?_
      refine s_iconst E dX5_readLine_204 (v := nI 3) (by decide) ?_
      refine s_icmp_eq E dX5_readLine_205 (tgt := 213) rfl (fun c205 => ?_) (fun c205 => ?_)
      · refine s_aload_n E dX5_readLine_213 (i := 0) (j := 0) rfl rfl ?_
        refine m_callv E (mz_goOn (by first | exact hR.rlnW | exact hR.rlnW.wrong _)) K5_159 (Nat.le_of_ble_eq_true rfl) (Nat.le_of_ble_eq_true rfl) (Nat.zero_le _) (Nat.zero_le _) rfl rfl (Nat.le_of_ble_eq_true rfl) dX5_readLine_214 (fun w214 h214 => ?_)
        subst h214
        refine s_ws (ws2 := wm ad ct (lnE (lnW n σ))) (by simp [bI, lnE, c197, c205]) ?_
        exact J217
      · refine s_aload_n E dX5_readLine_208 (i := 0) (j := 0) rfl rfl ?_
        refine s_iconst E dX5_readLine_209 (v := nI 1) (by decide) ?_
        refine m_callv E (mz_wrong (nI 1)) K5_155 (Nat.le_of_ble_eq_true rfl) (Nat.le_of_ble_eq_true rfl) (Nat.zero_le _) (Nat.zero_le _) rfl rfl (Nat.le_of_ble_eq_true rfl) dX5_readLine_210 (fun w210 h210 => ?_)
        subst h210
        refine s_aload_n E dX5_readLine_213 (i := 0) (j := 0) rfl rfl ?_
        refine m_callv E (mz_goOn (by first | exact hR.rlnW | exact hR.rlnW.wrong _)) K5_159 (Nat.le_of_ble_eq_true rfl) (Nat.le_of_ble_eq_true rfl) (Nat.zero_le _) (Nat.zero_le _) rfl rfl (Nat.le_of_ble_eq_true rfl) dX5_readLine_214 (fun w214 h214 => ?_)
        subst h214
        refine s_ws (ws2 := wm ad ct (lnE (lnW n σ))) (by simp [bI, lnE, c197, c205]) ?_
        exact J217
  refine s_if_eq E dX5_readLine_4 (tgt := 15) rfl (fun c4 => ?_) (fun c4 => ?_)
  · refine s_aload_n E dX5_readLine_15 (i := 0) (j := 0) rfl rfl ?_
    refine mg20 E (v := σ 0 20) (rfl) dX5_readLine_16 ?_
    refine s_if_ne E dX5_readLine_19 (tgt := 29) rfl (fun c19 => ?_) (fun c19 => ?_)
    · refine s_aload_n E dX5_readLine_29 (i := 0) (j := 0) rfl rfl ?_
      refine mg20 E (v := σ 0 20) (rfl) dX5_readLine_30 ?_
      refine s_iconst E dX5_readLine_33 (v := nI 1) (by decide) ?_
      refine s_icmp_ne E dX5_readLine_34 (tgt := 48) rfl (fun c34 => ?_) (fun c34 => ?_)
      · refine s_aload_n E dX5_readLine_48 (i := 0) (j := 0) rfl rfl ?_
        refine mg20 E (v := σ 0 20) (rfl) dX5_readLine_49 ?_
        refine s_iconst E dX5_readLine_52 (v := nI 2) (by decide) ?_
        refine s_icmp_ne E dX5_readLine_53 (tgt := 68) rfl (fun c53 => ?_) (fun c53 => ?_)
        · refine s_aload_n E dX5_readLine_68 (i := 0) (j := 0) rfl rfl ?_
          refine mg20 E (v := σ 0 20) (rfl) dX5_readLine_69 ?_
          refine s_iconst E dX5_readLine_72 (v := nI 3) (by decide) ?_
          refine s_icmp_ne E dX5_readLine_73 (tgt := 88) rfl (fun c73 => ?_) (fun c73 => ?_)
          · refine s_aload_n E dX5_readLine_88 (i := 0) (j := 0) rfl rfl ?_
            refine mg20 E (v := σ 0 20) (rfl) dX5_readLine_89 ?_
            refine s_iconst E dX5_readLine_92 (v := nI 4) (by decide) ?_
            refine s_icmp_ne E dX5_readLine_93 (tgt := 103) rfl (fun c93 => ?_) (fun c93 => ?_)
            · refine s_aload_n E dX5_readLine_103 (i := 0) (j := 0) rfl rfl ?_
              refine mg20 E (v := σ 0 20) (rfl) dX5_readLine_104 ?_
              refine s_iconst E dX5_readLine_107 (v := nI 5) (by decide) ?_
              refine s_icmp_ne E dX5_readLine_108 (tgt := 118) rfl (fun c108 => ?_) (fun c108 => ?_)
              · refine s_aload_n E dX5_readLine_118 (i := 0) (j := 0) rfl rfl ?_
                refine mg20 E (v := σ 0 20) (rfl) dX5_readLine_119 ?_
                refine s_bipush E dX5_readLine_122 (v := nI 6) (by decide) ?_
                refine s_icmp_ne E dX5_readLine_124 (tgt := 134) rfl (fun c124 => ?_) (fun c124 => ?_)
                · refine s_aload_n E dX5_readLine_134 (i := 0) (j := 0) rfl rfl ?_
                  refine mg20 E (v := σ 0 20) (rfl) dX5_readLine_135 ?_
                  refine s_bipush E dX5_readLine_138 (v := nI 7) (by decide) ?_
                  refine s_icmp_ne E dX5_readLine_140 (tgt := 150) rfl (fun c140 => ?_) (fun c140 => ?_)
                  · refine s_aload_n E dX5_readLine_150 (i := 0) (j := 0) rfl rfl ?_
                    refine mg20 E (v := σ 0 20) (rfl) dX5_readLine_151 ?_
                    refine s_bipush E dX5_readLine_154 (v := nI 8) (by decide) ?_
                    refine s_icmp_ne E dX5_readLine_156 (tgt := 166) rfl (fun c156 => ?_) (fun c156 => ?_)
                    · refine s_aload_n E dX5_readLine_166 (i := 0) (j := 0) rfl rfl ?_
                      refine mg20 E (v := σ 0 20) (rfl) dX5_readLine_167 ?_
                      refine s_bipush E dX5_readLine_170 (v := nI 9) (by decide) ?_
                      refine s_icmp_ne E dX5_readLine_172 (tgt := 182) rfl (fun c172 => ?_) (fun c172 => ?_)
                      · refine s_aload_n E dX5_readLine_182 (i := 0) (j := 0) rfl rfl ?_
                        refine s_bipush E dX5_readLine_183 (v := nI 10) (by decide) ?_
                        refine s_bipush E dX5_readLine_185 (v := nI 9) (by decide) ?_
                        refine s_iconst E dX5_readLine_187 (v := nI 0) (by decide) ?_
                        refine s_ldc E (v := nI 99999) dX5_readLine_188 q1420 ?_
                        refine m_callv E (mz_readOnce 10 9 (nI 0) (nI 99999) (by decide) (by decide) (hR)) K5_177 (Nat.le_of_ble_eq_true rfl) (Nat.le_of_ble_eq_true rfl) (Nat.zero_le _) (Nat.zero_le _) rfl rfl (Nat.le_of_ble_eq_true rfl) dX5_readLine_190 (fun w190 h190 => ?_)
                        subst h190
                        refine s_ws (ws2 := wm ad ct (lnW n σ)) (by unfold lnW; rw [if_neg (fun h => h c4), if_neg c19, if_neg c34, if_neg c53, if_neg c73, if_neg c93, if_neg c108, if_neg c124, if_neg c140, if_neg c156, if_neg c172]) ?_
                        exact J193
                      · refine s_aload_n E dX5_readLine_175 (i := 0) (j := 0) rfl rfl ?_
                        refine m_callv E (mz_readSlots n (hn) (hn6) (hR)) K5_211 (Nat.le_of_ble_eq_true rfl) (Nat.le_of_ble_eq_true rfl) (Nat.zero_le _) (Nat.zero_le _) rfl rfl (Nat.le_of_ble_eq_true rfl) dX5_readLine_176 (fun w176 h176 => ?_)
                        subst h176
                        refine s_goto E dX5_readLine_179 (tgt := 193) rfl ?_
                        refine s_ws (ws2 := wm ad ct (lnW n σ)) (by unfold lnW; rw [if_neg (fun h => h c4), if_neg c19, if_neg c34, if_neg c53, if_neg c73, if_neg c93, if_neg c108, if_neg c124, if_neg c140, if_neg c156, if_pos c172]) ?_
                        exact J193
                    · refine s_aload_n E dX5_readLine_159 (i := 0) (j := 0) rfl rfl ?_
                      refine m_callv E (mz_readLink (hR)) K5_208 (Nat.le_of_ble_eq_true rfl) (Nat.le_of_ble_eq_true rfl) (Nat.zero_le _) (Nat.zero_le _) rfl rfl (Nat.le_of_ble_eq_true rfl) dX5_readLine_160 (fun w160 h160 => ?_)
                      subst h160
                      refine s_goto E dX5_readLine_163 (tgt := 193) rfl ?_
                      refine s_ws (ws2 := wm ad ct (lnW n σ)) (by unfold lnW; rw [if_neg (fun h => h c4), if_neg c19, if_neg c34, if_neg c53, if_neg c73, if_neg c93, if_neg c108, if_neg c124, if_neg c140, if_pos c156]) ?_
                      exact J193
                  · refine s_aload_n E dX5_readLine_143 (i := 0) (j := 0) rfl rfl ?_
                    refine m_callv E (mz_readBlock (hB) (hB1) (hR)) K5_205 (Nat.le_of_ble_eq_true rfl) (Nat.le_of_ble_eq_true rfl) (Nat.zero_le _) (Nat.zero_le _) rfl rfl (Nat.le_of_ble_eq_true rfl) dX5_readLine_144 (fun w144 h144 => ?_)
                    subst h144
                    refine s_goto E dX5_readLine_147 (tgt := 193) rfl ?_
                    refine s_ws (ws2 := wm ad ct (lnW n σ)) (by unfold lnW; rw [if_neg (fun h => h c4), if_neg c19, if_neg c34, if_neg c53, if_neg c73, if_neg c93, if_neg c108, if_neg c124, if_pos c140]) ?_
                    exact J193
                · refine s_aload_n E dX5_readLine_127 (i := 0) (j := 0) rfl rfl ?_
                  refine m_callv E (mz_readFixed n (hn) (hn6) (hR)) K5_202 (Nat.le_of_ble_eq_true rfl) (Nat.le_of_ble_eq_true rfl) (Nat.zero_le _) (Nat.zero_le _) rfl rfl (Nat.le_of_ble_eq_true rfl) dX5_readLine_128 (fun w128 h128 => ?_)
                  subst h128
                  refine s_goto E dX5_readLine_131 (tgt := 193) rfl ?_
                  refine s_ws (ws2 := wm ad ct (lnW n σ)) (by unfold lnW; rw [if_neg (fun h => h c4), if_neg c19, if_neg c34, if_neg c53, if_neg c73, if_neg c93, if_neg c108, if_pos c124]) ?_
                  exact J193
              · refine s_aload_n E dX5_readLine_111 (i := 0) (j := 0) rfl rfl ?_
                refine m_callv E (mz_readUser n (hn) (hn6) (hR)) K5_199 (Nat.le_of_ble_eq_true rfl) (Nat.le_of_ble_eq_true rfl) (Nat.zero_le _) (Nat.zero_le _) rfl rfl (Nat.le_of_ble_eq_true rfl) dX5_readLine_112 (fun w112 h112 => ?_)
                subst h112
                refine s_goto E dX5_readLine_115 (tgt := 193) rfl ?_
                refine s_ws (ws2 := wm ad ct (lnW n σ)) (by unfold lnW; rw [if_neg (fun h => h c4), if_neg c19, if_neg c34, if_neg c53, if_neg c73, if_neg c93, if_pos c108]) ?_
                exact J193
            · refine s_aload_n E dX5_readLine_96 (i := 0) (j := 0) rfl rfl ?_
              refine m_callv E (mz_readLoss (hR)) K5_196 (Nat.le_of_ble_eq_true rfl) (Nat.le_of_ble_eq_true rfl) (Nat.zero_le _) (Nat.zero_le _) rfl rfl (Nat.le_of_ble_eq_true rfl) dX5_readLine_97 (fun w97 h97 => ?_)
              subst h97
              refine s_goto E dX5_readLine_100 (tgt := 193) rfl ?_
              refine s_ws (ws2 := wm ad ct (lnW n σ)) (by unfold lnW; rw [if_neg (fun h => h c4), if_neg c19, if_neg c34, if_neg c53, if_neg c73, if_pos c93]) ?_
              exact J193
          · refine s_aload_n E dX5_readLine_76 (i := 0) (j := 0) rfl rfl ?_
            refine s_iconst E dX5_readLine_77 (v := nI 3) (by decide) ?_
            refine s_iconst E dX5_readLine_78 (v := nI 3) (by decide) ?_
            refine s_iconst E dX5_readLine_79 (v := nI 0) (by decide) ?_
            refine s_bipush E dX5_readLine_80 (v := nI 7) (by decide) ?_
            refine m_callv E (mz_readOnce 3 3 (nI 0) (nI 7) (by decide) (by decide) (hR)) K5_177 (Nat.le_of_ble_eq_true rfl) (Nat.le_of_ble_eq_true rfl) (Nat.zero_le _) (Nat.zero_le _) rfl rfl (Nat.le_of_ble_eq_true rfl) dX5_readLine_82 (fun w82 h82 => ?_)
            subst h82
            refine s_goto E dX5_readLine_85 (tgt := 193) rfl ?_
            refine s_ws (ws2 := wm ad ct (lnW n σ)) (by unfold lnW; rw [if_neg (fun h => h c4), if_neg c19, if_neg c34, if_neg c53, if_pos c73]) ?_
            exact J193
        · refine s_aload_n E dX5_readLine_56 (i := 0) (j := 0) rfl rfl ?_
          refine s_iconst E dX5_readLine_57 (v := nI 2) (by decide) ?_
          refine s_iconst E dX5_readLine_58 (v := nI 2) (by decide) ?_
          refine s_iconst E dX5_readLine_59 (v := nI 1) (by decide) ?_
          refine s_bipush E dX5_readLine_60 (v := nI 20) (by decide) ?_
          refine m_callv E (mz_readOnce 2 2 (nI 1) (nI 20) (by decide) (by decide) (hR)) K5_177 (Nat.le_of_ble_eq_true rfl) (Nat.le_of_ble_eq_true rfl) (Nat.zero_le _) (Nat.zero_le _) rfl rfl (Nat.le_of_ble_eq_true rfl) dX5_readLine_62 (fun w62 h62 => ?_)
          subst h62
          refine s_goto E dX5_readLine_65 (tgt := 193) rfl ?_
          refine s_ws (ws2 := wm ad ct (lnW n σ)) (by unfold lnW; rw [if_neg (fun h => h c4), if_neg c19, if_neg c34, if_pos c53]) ?_
          exact J193
      · refine s_aload_n E dX5_readLine_37 (i := 0) (j := 0) rfl rfl ?_
        refine s_iconst E dX5_readLine_38 (v := nI 1) (by decide) ?_
        refine s_iconst E dX5_readLine_39 (v := nI 1) (by decide) ?_
        refine s_iconst E dX5_readLine_40 (v := nI 0) (by decide) ?_
        refine s_iconst E dX5_readLine_41 (v := nI 5) (by decide) ?_
        refine m_callv E (mz_readOnce 1 1 (nI 0) (nI 5) (by decide) (by decide) (hR)) K5_177 (Nat.le_of_ble_eq_true rfl) (Nat.le_of_ble_eq_true rfl) (Nat.zero_le _) (Nat.zero_le _) rfl rfl (Nat.le_of_ble_eq_true rfl) dX5_readLine_42 (fun w42 h42 => ?_)
        subst h42
        refine s_goto E dX5_readLine_45 (tgt := 193) rfl ?_
        refine s_ws (ws2 := wm ad ct (lnW n σ)) (by unfold lnW; rw [if_neg (fun h => h c4), if_neg c19, if_pos c34]) ?_
        exact J193
    · refine s_aload_n E dX5_readLine_22 (i := 0) (j := 0) rfl rfl ?_
      refine m_callv E (mz_readBand (hR)) K5_193 (Nat.le_of_ble_eq_true rfl) (Nat.le_of_ble_eq_true rfl) (Nat.zero_le _) (Nat.zero_le _) rfl rfl (Nat.le_of_ble_eq_true rfl) dX5_readLine_23 (fun w23 h23 => ?_)
      subst h23
      refine s_goto E dX5_readLine_26 (tgt := 193) rfl ?_
      refine s_ws (ws2 := wm ad ct (lnW n σ)) (by unfold lnW; rw [if_neg (fun h => h c4), if_pos c19]) ?_
      exact J193
  · refine s_aload_n E dX5_readLine_7 (i := 0) (j := 0) rfl rfl ?_
    refine s_iconst E dX5_readLine_8 (v := nI 1) (by decide) ?_
    refine m_callv E (mz_wrong (nI 1)) K5_155 (Nat.le_of_ble_eq_true rfl) (Nat.le_of_ble_eq_true rfl) (Nat.zero_le _) (Nat.zero_le _) rfl rfl (Nat.le_of_ble_eq_true rfl) dX5_readLine_9 (fun w9 h9 => ?_)
    subst h9
    refine s_goto E dX5_readLine_12 (tgt := 193) rfl ?_
    refine s_ws (ws2 := wm ad ct (lnW n σ)) (by unfold lnW; rw [if_pos c4]) ?_
    exact J193
end
