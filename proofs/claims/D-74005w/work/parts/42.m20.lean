set_option maxRecDepth 100000
section
variable {l : Launch} {D : va_G} {gt ad : Nat → Nat} {ct : Nat → ClassId}
set_option maxHeartbeats 1000000 in
set_option maxRecDepth 100000 in
theorem mz_wrong {σ : Nat → Nat → Int32} (v : Int32) : Cv l D gt yX5_wrong cX5_wrong 2 0 0 0 0 [.ref (ad 0), .int (v)] (wm ad ct σ) (tysA ct) (fun σ2 => wrongS v σ = σ2) (fun σ2 => wm ad ct σ2) (fun _ => tysA ct) := by
  refine Cv.start RX5 (by decide) rfl (Nat.le_of_ble_eq_true rfl) rfl ?_
  intro pP eE sS mM aA bB hM cC QQ AA E Rt
  refine s_aload_n E dX5_wrong_0 (i := 0) (j := 0) rfl rfl ?_
  refine mg21 E (v := σ 0 21) (rfl) dX5_wrong_1 ?_
  refine s_if_eq E dX5_wrong_4 (tgt := 8) rfl (fun c4 => ?_) (fun c4 => ?_)
  · refine s_aload_n E dX5_wrong_8 (i := 0) (j := 0) rfl rfl ?_
    refine s_iload_n E dX5_wrong_9 (i := 1) (j := 1) rfl rfl ?_
    refine mp21 E dX5_wrong_10 ?_
    refine s_aload_n E dX5_wrong_13 (i := 0) (j := 0) rfl rfl ?_
    refine s_aload_n E dX5_wrong_14 (i := 0) (j := 0) rfl rfl ?_
    refine mg18 E (v := σ 0 18) (st1_nj (by decide)) dX5_wrong_15 ?_
    refine mp22 E dX5_wrong_18 ?_
    exact Rt (st1 (st1 σ 0 21 v) 0 22 (σ 0 18)) dX5_wrong_21 (by simp [bI, wrongS, c4]) rfl (Nat.le_refl _) (Nat.le_refl _) E.2.2.2.2.2.1
  · exact Rt (σ) dX5_wrong_7 (by simp [bI, wrongS, c4]) rfl (Nat.le_refl _) (Nat.le_refl _) E.2.2.2.2.2.1
theorem mz_tokenR {σ : Nat → Nat → Int32} (hR : R0 σ) : Cv l D gt yX5_token cX5_token 2 5 108 0 0 [.ref (ad 0)] (wm ad ct σ) (tysA ct) (fun σ2 => tokS σ = σ2) (fun σ2 => wm ad ct σ2) (fun _ => tysA ct) := mz_token (tN (σ 0 16)) (tN (σ 0 17)) hR.1.1 hR.2.1.1 (by have := hR.1.2; omega) (by have := hR.2.1.2; omega) hR.2.2
set_option maxHeartbeats 1000000 in
set_option maxRecDepth 100000 in
theorem mz_goOn {σ : Nat → Nat → Int32}  (hR : RI σ) : Cv l D gt yX5_goOn cX5_goOn 1 6 129 0 0 [.ref (ad 0)] (wm ad ct σ) (tysA ct) (fun σ2 => goOnS σ = σ2) (fun σ2 => wm ad ct σ2) (fun _ => tysA ct) := by
  refine Cv.start RX5 (by decide) rfl (Nat.le_of_ble_eq_true rfl) rfl ?_
  intro pP eE sS mM aA bB hM cC QQ AA E Rt
  refine s_aload_n E dX5_goOn_0 (i := 0) (j := 0) rfl rfl ?_
  refine mg21 E (v := σ 0 21) (rfl) dX5_goOn_1 ?_
  refine s_if_ne E dX5_goOn_4 (tgt := 11) rfl (fun c4 => ?_) (fun c4 => ?_)
  · exact Rt (σ) dX5_goOn_11 (by simp [bI, goOnS, c4]) rfl (Nat.le_refl _) (Nat.le_refl _) E.2.2.2.2.2.1
  · refine s_aload_n E dX5_goOn_7 (i := 0) (j := 0) rfl rfl ?_
    refine m_callv E (mz_tokenR ((hR).1)) K5_152 (Nat.le_of_ble_eq_true rfl) (Nat.le_of_ble_eq_true rfl) (Nat.zero_le _) (Nat.zero_le _) rfl rfl (Nat.le_of_ble_eq_true rfl) dX5_goOn_8 (fun w8 h8 => ?_)
    subst h8
    exact Rt (tokS σ) dX5_goOn_11 (by simp [bI, goOnS, c4]) rfl (Nat.le_refl _) (Nat.le_refl _) E.2.2.2.2.2.1
set_option maxHeartbeats 1000000 in
set_option maxRecDepth 100000 in
theorem mz_numeral {σ : Nat → Nat → Int32} (lo hi : Int32) (hR : RI σ) : Ct l D gt yX5_numeral cX5_numeral 4 .int 7 149 0 0 [.ref (ad 0), .int (lo), .int (hi)] (wm ad ct σ) (tysA ct) (fun r σ2 => numV lo hi σ = r ∧ numS lo hi σ = σ2) (fun σ2 => wm ad ct σ2) (fun _ => tysA ct) := by
  refine Ct.start RX5 (by decide) rfl (Nat.le_of_ble_eq_true rfl) rfl ?_
  intro pP eE sS mM aA bB hM cC QQ AA E Rt
  refine s_aload_n E dX5_numeral_0 (i := 0) (j := 0) rfl rfl ?_
  refine mg21 E (v := σ 0 21) (rfl) dX5_numeral_1 ?_
  refine s_if_eq E dX5_numeral_4 (tgt := 9) rfl (fun c4 => ?_) (fun c4 => ?_)
  · refine s_aload_n E dX5_numeral_9 (i := 0) (j := 0) rfl rfl ?_
    refine mg19 E (v := σ 0 19) (rfl) dX5_numeral_10 ?_
    refine s_iconst E dX5_numeral_13 (v := nI 2) (by decide) ?_
    refine s_icmp_eq E dX5_numeral_14 (tgt := 25) rfl (fun c14 => ?_) (fun c14 => ?_)
    · refine s_aload_n E dX5_numeral_25 (i := 0) (j := 0) rfl rfl ?_
      refine mg20 E (v := σ 0 20) (rfl) dX5_numeral_26 ?_
      refine s_iload_n E dX5_numeral_29 (i := 1) (j := 1) rfl rfl ?_
      refine s_icmp_lt E dX5_numeral_30 (tgt := 41) rfl (fun c30 => ?_) (fun c30 => ?_)
      · refine s_aload_n E dX5_numeral_41 (i := 0) (j := 0) rfl rfl ?_
        refine s_iconst E dX5_numeral_42 (v := nI 2) (by decide) ?_
        refine m_callv E (mz_wrong (nI 2)) K5_155 (Nat.le_of_ble_eq_true rfl) (Nat.le_of_ble_eq_true rfl) (Nat.zero_le _) (Nat.zero_le _) rfl rfl (Nat.le_of_ble_eq_true rfl) dX5_numeral_43 (fun w43 h43 => ?_)
        subst h43
        have hw := wrongS_f (s := σ) (v := nI 2) (by decide)
        refine s_aload_n E dX5_numeral_46 (i := 0) (j := 0) rfl rfl ?_
        refine mg21 E (v := (wrongS (nI 2) σ) 0 21) (rfl) dX5_numeral_47 ?_
        refine s_if_ne E dX5_numeral_50 (tgt := 60) rfl (fun c50 => ?_) (fun c50 => absurd c50 hw)
        refine s_iload_n E dX5_numeral_60 (i := 1) (j := 1) rfl rfl ?_
        refine s_istore_n E (L2 := [(3, .int (lo)), (0, .ref (ad 0)), (1, .int (lo)), (2, .int (hi))]) dX5_numeral_61 rfl (Nat.le_of_ble_eq_true rfl) rfl ?_
        refine s_aload_n E dX5_numeral_62 (i := 0) (j := 1) rfl rfl ?_
        refine m_callv E (mz_goOn (by first | exact hR | exact hR.wrong _)) K5_159 (Nat.le_of_ble_eq_true rfl) (Nat.le_of_ble_eq_true rfl) (Nat.zero_le _) (Nat.zero_le _) rfl rfl (Nat.le_of_ble_eq_true rfl) dX5_numeral_63 (fun w63 h63 => ?_)
        subst h63
        refine s_iload_n E dX5_numeral_66 (i := 3) (j := 0) rfl rfl ?_
        exact Rt (lo) (goOnS (wrongS (nI 2) σ)) dX5_numeral_67 (⟨by simp [bI, numV, c4, c14, c30], by rw [wrongS_go (by decide)]; simp [bI, numS, c4, c14, c30]⟩) rfl (Nat.le_refl _) (Nat.le_refl _) rfl E.2.2.2.2.2.1
      · refine s_aload_n E dX5_numeral_33 (i := 0) (j := 0) rfl rfl ?_
        refine mg20 E (v := σ 0 20) (rfl) dX5_numeral_34 ?_
        refine s_iload_n E dX5_numeral_37 (i := 2) (j := 2) rfl rfl ?_
        refine s_icmp_le E dX5_numeral_38 (tgt := 46) rfl (fun c38 => ?_) (fun c38 => ?_)
        · have c38 := Int32.not_lt.mpr c38
          refine s_aload_n E dX5_numeral_46 (i := 0) (j := 0) rfl rfl ?_
          refine mg21 E (v := σ 0 21) (rfl) dX5_numeral_47 ?_
          refine s_if_ne E dX5_numeral_50 (tgt := 60) rfl (fun c50 => absurd c4 c50) (fun c50 => ?_)
          refine s_aload_n E dX5_numeral_53 (i := 0) (j := 0) rfl rfl ?_
          refine mg20 E (v := σ 0 20) (rfl) dX5_numeral_54 ?_
          refine s_goto E dX5_numeral_57 (tgt := 61) rfl ?_
          refine s_istore_n E (L2 := [(3, .int (σ 0 20)), (0, .ref (ad 0)), (1, .int (lo)), (2, .int (hi))]) dX5_numeral_61 rfl (Nat.le_of_ble_eq_true rfl) rfl ?_
          refine s_aload_n E dX5_numeral_62 (i := 0) (j := 1) rfl rfl ?_
          refine m_callv E (mz_goOn (by first | exact hR | exact hR.wrong _)) K5_159 (Nat.le_of_ble_eq_true rfl) (Nat.le_of_ble_eq_true rfl) (Nat.zero_le _) (Nat.zero_le _) rfl rfl (Nat.le_of_ble_eq_true rfl) dX5_numeral_63 (fun w63 h63 => ?_)
          subst h63
          refine s_iload_n E dX5_numeral_66 (i := 3) (j := 0) rfl rfl ?_
          exact Rt (σ 0 20) (goOnS σ) dX5_numeral_67 (⟨by simp [bI, numV, c4, c14, c30, c38], by simp [bI, numS, goOnS, c4, c14, c30, c38]⟩) rfl (Nat.le_refl _) (Nat.le_refl _) rfl E.2.2.2.2.2.1
        · have c38 := Int32.not_le.mp c38
          refine s_aload_n E dX5_numeral_41 (i := 0) (j := 0) rfl rfl ?_
          refine s_iconst E dX5_numeral_42 (v := nI 2) (by decide) ?_
          refine m_callv E (mz_wrong (nI 2)) K5_155 (Nat.le_of_ble_eq_true rfl) (Nat.le_of_ble_eq_true rfl) (Nat.zero_le _) (Nat.zero_le _) rfl rfl (Nat.le_of_ble_eq_true rfl) dX5_numeral_43 (fun w43 h43 => ?_)
          subst h43
          have hw := wrongS_f (s := σ) (v := nI 2) (by decide)
          refine s_aload_n E dX5_numeral_46 (i := 0) (j := 0) rfl rfl ?_
          refine mg21 E (v := (wrongS (nI 2) σ) 0 21) (rfl) dX5_numeral_47 ?_
          refine s_if_ne E dX5_numeral_50 (tgt := 60) rfl (fun c50 => ?_) (fun c50 => absurd c50 hw)
          refine s_iload_n E dX5_numeral_60 (i := 1) (j := 1) rfl rfl ?_
          refine s_istore_n E (L2 := [(3, .int (lo)), (0, .ref (ad 0)), (1, .int (lo)), (2, .int (hi))]) dX5_numeral_61 rfl (Nat.le_of_ble_eq_true rfl) rfl ?_
          refine s_aload_n E dX5_numeral_62 (i := 0) (j := 1) rfl rfl ?_
          refine m_callv E (mz_goOn (by first | exact hR | exact hR.wrong _)) K5_159 (Nat.le_of_ble_eq_true rfl) (Nat.le_of_ble_eq_true rfl) (Nat.zero_le _) (Nat.zero_le _) rfl rfl (Nat.le_of_ble_eq_true rfl) dX5_numeral_63 (fun w63 h63 => ?_)
          subst h63
          refine s_iload_n E dX5_numeral_66 (i := 3) (j := 0) rfl rfl ?_
          exact Rt (lo) (goOnS (wrongS (nI 2) σ)) dX5_numeral_67 (⟨by simp [bI, numV, c4, c14, c30, c38], by rw [wrongS_go (by decide)]; simp [bI, numS, c4, c14, c30, c38]⟩) rfl (Nat.le_refl _) (Nat.le_refl _) rfl E.2.2.2.2.2.1
    · refine s_aload_n E dX5_numeral_17 (i := 0) (j := 0) rfl rfl ?_
      refine s_iconst E dX5_numeral_18 (v := nI 1) (by decide) ?_
      refine m_callv E (mz_wrong (nI 1)) K5_155 (Nat.le_of_ble_eq_true rfl) (Nat.le_of_ble_eq_true rfl) (Nat.zero_le _) (Nat.zero_le _) rfl rfl (Nat.le_of_ble_eq_true rfl) dX5_numeral_19 (fun w19 h19 => ?_)
      subst h19
      have hw := wrongS_f (s := σ) (v := nI 1) (by decide)
      refine s_goto E dX5_numeral_22 (tgt := 46) rfl ?_
      refine s_aload_n E dX5_numeral_46 (i := 0) (j := 0) rfl rfl ?_
      refine mg21 E (v := (wrongS (nI 1) σ) 0 21) (rfl) dX5_numeral_47 ?_
      refine s_if_ne E dX5_numeral_50 (tgt := 60) rfl (fun c50 => ?_) (fun c50 => absurd c50 hw)
      refine s_iload_n E dX5_numeral_60 (i := 1) (j := 1) rfl rfl ?_
      refine s_istore_n E (L2 := [(3, .int (lo)), (0, .ref (ad 0)), (1, .int (lo)), (2, .int (hi))]) dX5_numeral_61 rfl (Nat.le_of_ble_eq_true rfl) rfl ?_
      refine s_aload_n E dX5_numeral_62 (i := 0) (j := 1) rfl rfl ?_
      refine m_callv E (mz_goOn (by first | exact hR | exact hR.wrong _)) K5_159 (Nat.le_of_ble_eq_true rfl) (Nat.le_of_ble_eq_true rfl) (Nat.zero_le _) (Nat.zero_le _) rfl rfl (Nat.le_of_ble_eq_true rfl) dX5_numeral_63 (fun w63 h63 => ?_)
      subst h63
      refine s_iload_n E dX5_numeral_66 (i := 3) (j := 0) rfl rfl ?_
      exact Rt (lo) (goOnS (wrongS (nI 1) σ)) dX5_numeral_67 (⟨by simp [bI, numV, c4, c14], by rw [wrongS_go (by decide)]; simp [bI, numS, c4, c14]⟩) rfl (Nat.le_refl _) (Nat.le_refl _) rfl E.2.2.2.2.2.1
  · refine s_iload_n E dX5_numeral_7 (i := 1) (j := 1) rfl rfl ?_
    exact Rt (lo) (σ) dX5_numeral_8 (⟨by simp [bI, numV, c4], by simp [bI, numS, c4]⟩) rfl (Nat.le_refl _) (Nat.le_refl _) rfl E.2.2.2.2.2.1
set_option maxHeartbeats 1000000 in
set_option maxRecDepth 100000 in
theorem mz_once {σ : Nat → Nat → Int32} (k : Nat) (hk : k < 11) (hR : RI σ) : Cv l D gt yX5_once cX5_once 2 7 149 0 0 [.ref (ad 0), .int (nI k)] (wm ad ct σ) (tysA ct) (fun σ2 => onceS k σ = σ2) (fun σ2 => wm ad ct σ2) (fun _ => tysA ct) := by
  refine Cv.start RX5 (by decide) rfl (Nat.le_of_ble_eq_true rfl) rfl ?_
  intro pP eE sS mM aA bB hM cC QQ AA E Rt
  refine s_aload_n E dX5_once_0 (i := 0) (j := 0) rfl rfl ?_
  refine mg4 E dX5_once_1 ?_
  refine s_iload_n E dX5_once_4 (i := 1) (j := 1) rfl rfl ?_
  refine ml4 E (v := σ 4 k) (k) (rfl) (by omega) (rfl) dX5_once_5 ?_
  refine s_if_eq E dX5_once_6 (tgt := 14) rfl (fun c6 => ?_) (fun c6 => ?_)
  · refine s_aload_n E dX5_once_14 (i := 0) (j := 0) rfl rfl ?_
    refine mg4 E dX5_once_15 ?_
    refine s_iload_n E dX5_once_18 (i := 1) (j := 1) rfl rfl ?_
    refine s_iconst E dX5_once_19 (v := nI 1) (by decide) ?_
    refine ms4 E rfl (k) (rfl) (by omega) dX5_once_20 ?_
    refine s_aload_n E dX5_once_21 (i := 0) (j := 0) rfl rfl ?_
    refine m_callv E (mz_goOn (RI.st (by first | exact hR | exact hR.wrong _) (by decide) (Or.inl (by decide)))) K5_159 (Nat.le_of_ble_eq_true rfl) (Nat.le_of_ble_eq_true rfl) (Nat.zero_le _) (Nat.zero_le _) rfl rfl (Nat.le_of_ble_eq_true rfl) dX5_once_22 (fun w22 h22 => ?_)
    subst h22
    exact Rt (goOnS (st1 σ 4 k (nI 1))) dX5_once_25 (by simp [bI, onceS, c6]) rfl (Nat.le_refl _) (Nat.le_refl _) E.2.2.2.2.2.1
  · refine s_aload_n E dX5_once_9 (i := 0) (j := 0) rfl rfl ?_
    refine s_iconst E dX5_once_10 (v := nI 3) (by decide) ?_
    refine m_callv E (mz_wrong (nI 3)) K5_155 (Nat.le_of_ble_eq_true rfl) (Nat.le_of_ble_eq_true rfl) (Nat.zero_le _) (Nat.zero_le _) rfl rfl (Nat.le_of_ble_eq_true rfl) dX5_once_11 (fun w11 h11 => ?_)
    subst h11
    refine s_aload_n E dX5_once_14 (i := 0) (j := 0) rfl rfl ?_
    refine mg4 E dX5_once_15 ?_
    refine s_iload_n E dX5_once_18 (i := 1) (j := 1) rfl rfl ?_
    refine s_iconst E dX5_once_19 (v := nI 1) (by decide) ?_
    refine ms4 E rfl (k) (rfl) (by omega) dX5_once_20 ?_
    refine s_aload_n E dX5_once_21 (i := 0) (j := 0) rfl rfl ?_
    refine m_callv E (mz_goOn (RI.st (by first | exact hR | exact hR.wrong _) (by decide) (Or.inl (by decide)))) K5_159 (Nat.le_of_ble_eq_true rfl) (Nat.le_of_ble_eq_true rfl) (Nat.zero_le _) (Nat.zero_le _) rfl rfl (Nat.le_of_ble_eq_true rfl) dX5_once_22 (fun w22 h22 => ?_)
    subst h22
    exact Rt (goOnS (st1 (wrongS (nI 3) σ) 4 k (nI 1))) dX5_once_25 (by simp [bI, onceS, c6]) rfl (Nat.le_refl _) (Nat.le_refl _) E.2.2.2.2.2.1
set_option maxHeartbeats 1000000 in
set_option maxRecDepth 100000 in
theorem mz_readOnce {σ : Nat → Nat → Int32} (k f : Nat) (lo hi : Int32) (hk : k < 11) (hf : f < 10) (hR : RI σ) : Cv l D gt yX5_readOnce cX5_readOnce 5 8 172 0 0 [.ref (ad 0), .int (nI k), .int (nI f), .int (lo), .int (hi)] (wm ad ct σ) (tysA ct) (fun σ2 => readOnceS k f lo hi σ = σ2) (fun σ2 => wm ad ct σ2) (fun _ => tysA ct) := by
  refine Cv.start RX5 (by decide) rfl (Nat.le_of_ble_eq_true rfl) rfl ?_
  intro pP eE sS mM aA bB hM cC QQ AA E Rt
  refine s_aload_n E dX5_readOnce_0 (i := 0) (j := 0) rfl rfl ?_
  refine s_iload_n E dX5_readOnce_1 (i := 1) (j := 1) rfl rfl ?_
  refine m_callv E (mz_once k (hk) (hR)) K5_162 (Nat.le_of_ble_eq_true rfl) (Nat.le_of_ble_eq_true rfl) (Nat.zero_le _) (Nat.zero_le _) rfl rfl (Nat.le_of_ble_eq_true rfl) dX5_readOnce_2 (fun w2 h2 => ?_)
  subst h2
  refine s_aload_n E dX5_readOnce_5 (i := 0) (j := 0) rfl rfl ?_
  refine s_iload_n E dX5_readOnce_6 (i := 2) (j := 2) rfl rfl ?_
  refine s_aload_n E dX5_readOnce_7 (i := 0) (j := 0) rfl rfl ?_
  refine s_iload_n E dX5_readOnce_8 (i := 3) (j := 3) rfl rfl ?_
  refine s_iload E dX5_readOnce_9 (i := 4) (j := 4) rfl ?_
  refine m_calli E (mz_numeral lo hi (hR.once k)) K5_165 (Nat.le_of_ble_eq_true rfl) (Nat.le_of_ble_eq_true rfl) (Nat.zero_le _) (Nat.zero_le _) rfl rfl (Nat.le_of_ble_eq_true rfl) dX5_readOnce_11 (fun r11 w11 h11 => ?_)
  obtain ⟨rfl, rfl⟩ := h11
  refine m_callv E (mz_reads f (numV lo hi (onceS k σ)) (by omega)) K5_169 (Nat.le_of_ble_eq_true rfl) (Nat.le_of_ble_eq_true rfl) (Nat.zero_le _) (Nat.zero_le _) rfl rfl (Nat.le_of_ble_eq_true rfl) dX5_readOnce_14 (fun w14 h14 => ?_)
  subst h14
  exact Rt (upR (numS lo hi (onceS k σ)) 3 (upd ((numS lo hi (onceS k σ)) 3) (10 + f) (numV lo hi (onceS k σ)))) dX5_readOnce_17 (rfl) rfl (Nat.le_refl _) (Nat.le_refl _) E.2.2.2.2.2.1
set_option maxHeartbeats 1000000 in
set_option maxRecDepth 100000 in
theorem mz_readBand {σ : Nat → Nat → Int32}  (hR : RI σ) : Cv l D gt yX5_readBand cX5_readBand 1 9 196 0 0 [.ref (ad 0)] (wm ad ct σ) (tysA ct) (fun σ2 => readBandS σ = σ2) (fun σ2 => wm ad ct σ2) (fun _ => tysA ct) := by
  refine Cv.start RX5 (by decide) rfl (Nat.le_of_ble_eq_true rfl) rfl ?_
  intro pP eE sS mM aA bB hM cC QQ AA E Rt
  refine s_aload_n E dX5_readBand_0 (i := 0) (j := 0) rfl rfl ?_
  refine mg14 E (v := σ 0 14) (rfl) dX5_readBand_1 ?_
  refine s_if_eq E dX5_readBand_4 (tgt := 12) rfl (fun c4 => ?_) (fun c4 => ?_)
  · refine s_aload_n E dX5_readBand_12 (i := 0) (j := 0) rfl rfl ?_
    refine s_iconst E dX5_readBand_13 (v := nI 0) (by decide) ?_
    refine s_iconst E dX5_readBand_14 (v := nI 0) (by decide) ?_
    refine s_iconst E dX5_readBand_15 (v := nI 4) (by decide) ?_
    refine s_bipush E dX5_readBand_16 (v := nI 60) (by decide) ?_
    refine m_callv E (mz_readOnce 0 0 (nI 4) (nI 60) (by decide) (by decide) (by first | exact hR | exact hR.wrong _)) K5_177 (Nat.le_of_ble_eq_true rfl) (Nat.le_of_ble_eq_true rfl) (Nat.zero_le _) (Nat.zero_le _) rfl rfl (Nat.le_of_ble_eq_true rfl) dX5_readBand_18 (fun w18 h18 => ?_)
    subst h18
    exact Rt (readOnceS 0 0 (nI 4) (nI 60) σ) dX5_readBand_21 (by simp [bI, readBandS, c4]) rfl (Nat.le_refl _) (Nat.le_refl _) E.2.2.2.2.2.1
  · refine s_aload_n E dX5_readBand_7 (i := 0) (j := 0) rfl rfl ?_
    refine s_iconst E dX5_readBand_8 (v := nI 1) (by decide) ?_
    refine m_callv E (mz_wrong (nI 1)) K5_155 (Nat.le_of_ble_eq_true rfl) (Nat.le_of_ble_eq_true rfl) (Nat.zero_le _) (Nat.zero_le _) rfl rfl (Nat.le_of_ble_eq_true rfl) dX5_readBand_9 (fun w9 h9 => ?_)
    subst h9
    refine s_aload_n E dX5_readBand_12 (i := 0) (j := 0) rfl rfl ?_
    refine s_iconst E dX5_readBand_13 (v := nI 0) (by decide) ?_
    refine s_iconst E dX5_readBand_14 (v := nI 0) (by decide) ?_
    refine s_iconst E dX5_readBand_15 (v := nI 4) (by decide) ?_
    refine s_bipush E dX5_readBand_16 (v := nI 60) (by decide) ?_
    refine m_callv E (mz_readOnce 0 0 (nI 4) (nI 60) (by decide) (by decide) (by first | exact hR | exact hR.wrong _)) K5_177 (Nat.le_of_ble_eq_true rfl) (Nat.le_of_ble_eq_true rfl) (Nat.zero_le _) (Nat.zero_le _) rfl rfl (Nat.le_of_ble_eq_true rfl) dX5_readBand_18 (fun w18 h18 => ?_)
    subst h18
    exact Rt (readOnceS 0 0 (nI 4) (nI 60) (wrongS (nI 1) σ)) dX5_readBand_21 (by simp [bI, readBandS, c4]) rfl (Nat.le_refl _) (Nat.le_refl _) E.2.2.2.2.2.1
set_option maxHeartbeats 1000000 in
set_option maxRecDepth 100000 in
theorem mz_readLoss {σ : Nat → Nat → Int32}  (hR : RI σ) : Cv l D gt yX5_readLoss cX5_readLoss 2 8 172 0 0 [.ref (ad 0)] (wm ad ct σ) (tysA ct) (fun σ2 => readLossS σ = σ2) (fun σ2 => wm ad ct σ2) (fun _ => tysA ct) := by
  refine Cv.start RX5 (by decide) rfl (Nat.le_of_ble_eq_true rfl) rfl ?_
  intro pP eE sS mM aA bB hM cC QQ AA E Rt
  refine s_aload_n E dX5_readLoss_0 (i := 0) (j := 0) rfl rfl ?_
  refine s_iconst E dX5_readLoss_1 (v := nI 4) (by decide) ?_
  refine m_callv E (mz_once 4 (by decide) (hR)) K5_162 (Nat.le_of_ble_eq_true rfl) (Nat.le_of_ble_eq_true rfl) (Nat.zero_le _) (Nat.zero_le _) rfl rfl (Nat.le_of_ble_eq_true rfl) dX5_readLoss_2 (fun w2 h2 => ?_)
  subst h2
  refine s_iconst E dX5_readLoss_5 (v := nI 0) (by decide) ?_
  refine s_istore_n E (L2 := [(1, .int (nI 0)), (0, .ref (ad 0))]) dX5_readLoss_6 rfl (Nat.le_of_ble_eq_true rfl) rfl ?_
  have L7 : ∀ (fuel : Nat) (i : Nat), (i ≤ 3) → (3 - i) < fuel → Sm pP l eE { frames := 8, cells := 0, slots := 0, locals := 172 } sS mM aA bB hM cC QQ AA D 2 0 0 (wm ad ct (lossIt (onceS 4 σ) i)) 7 [(0, .ref (ad 0)), (1, .int (nI i))] [] := by
    intro fuel
    induction fuel with
    | zero =>
      intro i hi hf7
      exact absurd hf7 (Nat.not_lt_zero _)
    | succ fuel ih7 =>
      intro i hi hf7
      refine s_iload_n E dX5_readLoss_7 (i := 1) (j := 1) rfl rfl ?_
      refine s_iconst E dX5_readLoss_8 (v := nI 3) (by decide) ?_
      refine s_icmp_ge E dX5_readLoss_9 (tgt := 32) rfl (fun c9 => ?_) (fun c9 => ?_)
      · have c9 : ¬ i < 3 := fun h => absurd c9 (Int32.not_le.mpr ((nI_ltI (a := i) (b := 3) (by omega) (by omega)).mpr h))
        exact Rt (lossIt (onceS 4 σ) i) dX5_readLoss_32 (by obtain rfl : i = 3 := (by omega); rfl) rfl (Nat.le_refl _) (Nat.le_refl _) E.2.2.2.2.2.1
      · have c9 : i < 3 := (nI_ltI (a := i) (b := 3) (by omega) (by omega)).mp (Int32.not_le.mp c9)
        refine s_aload_n E dX5_readLoss_12 (i := 0) (j := 0) rfl rfl ?_
        refine s_iconst E dX5_readLoss_13 (v := nI 4) (by decide) ?_
        refine s_iload_n E dX5_readLoss_14 (i := 1) (j := 1) rfl rfl ?_
        refine s_iadd_ E dX5_readLoss_15 (v := nI (4 + i)) (nI_add _ _) ?_
        refine s_aload_n E dX5_readLoss_16 (i := 0) (j := 0) rfl rfl ?_
        refine s_iconst E dX5_readLoss_17 (v := nI 0) (by decide) ?_
        refine s_bipush E dX5_readLoss_18 (v := nI 99) (by decide) ?_
        refine m_calli E (mz_numeral (nI 0) (nI 99) ((hR.once 4).lossIt i)) K5_165 (Nat.le_of_ble_eq_true rfl) (Nat.le_of_ble_eq_true rfl) (Nat.zero_le _) (Nat.zero_le _) rfl rfl (Nat.le_of_ble_eq_true rfl) dX5_readLoss_20 (fun r20 w20 h20 => ?_)
        obtain ⟨rfl, rfl⟩ := h20
        refine m_callv E (mz_reads (4 + i) (numV (nI 0) (nI 99) (lossIt (onceS 4 σ) i)) (by omega)) K5_169 (Nat.le_of_ble_eq_true rfl) (Nat.le_of_ble_eq_true rfl) (Nat.zero_le _) (Nat.zero_le _) rfl rfl (Nat.le_of_ble_eq_true rfl) dX5_readLoss_23 (fun w23 h23 => ?_)
        subst h23
        refine s_ws (ws2 := wm ad ct (lossIt (onceS 4 σ) (i + 1))) (rfl) ?_
        refine s_iinc E (L2 := [(1, .int (nI (i + 1))), (0, .ref (ad 0))]) dX5_readLoss_26 (k := 1) rfl (v := nI (i + 1)) (nI_inc _) (Nat.le_of_ble_eq_true rfl) rfl ?_
        refine s_goto E dX5_readLoss_29 (tgt := 7) rfl ?_
        refine s_loc (L2 := [(0, .ref (ad 0)), (1, .int (nI (i + 1)))]) [1, 0] rfl ?_
        exact ih7 (i + 1) (by omega) (by omega)
  refine s_loc (L2 := [(0, .ref (ad 0)), (1, .int (nI 0))]) [1, 0] rfl ?_
  exact L7 (_ + 1) 0 (Nat.zero_le _) (Nat.lt_succ_self _)
set_option maxHeartbeats 1000000 in
set_option maxRecDepth 100000 in
theorem mz_readUser {σ : Nat → Nat → Int32} (n : Nat) (hn : σ 3 17 = nI n) (hn6 : n ≤ 6) (hR : RI σ) : Cv l D gt yX5_readUser cX5_readUser 2 8 172 0 0 [.ref (ad 0)] (wm ad ct σ) (tysA ct) (fun σ2 => readUserS n σ = σ2) (fun σ2 => wm ad ct σ2) (fun _ => tysA ct) := by
  refine Cv.start RX5 (by decide) rfl (Nat.le_of_ble_eq_true rfl) rfl ?_
  intro pP eE sS mM aA bB hM cC QQ AA E Rt
  refine s_aload_n E dX5_readUser_0 (i := 0) (j := 0) rfl rfl ?_
  refine s_iconst E dX5_readUser_1 (v := nI 1) (by decide) ?_
  refine mp14 E rfl rfl dX5_readUser_2 ?_
  refine s_bipush E dX5_readUser_5 (v := nI 6) (by decide) ?_
  refine s_aload_n E dX5_readUser_7 (i := 0) (j := 0) rfl rfl ?_
  refine s_bipush E dX5_readUser_8 (v := nI 7) (by decide) ?_
  refine m_calli E (mz_reading 7 (by decide)) K5_181 (Nat.le_of_ble_eq_true rfl) (Nat.le_of_ble_eq_true rfl) (Nat.zero_le _) (Nat.zero_le _) rfl rfl (Nat.le_of_ble_eq_true rfl) dX5_readUser_10 (fun r10 w10 h10 => ?_)
  obtain ⟨rfl, rfl⟩ := h10
  refine s_top (v2 := nI n) (hn) ?_
  refine s_iadd_ E dX5_readUser_13 (v := nI (6 + n)) (nI_add _ _) ?_
  refine s_istore_n E (L2 := [(1, .int (nI (6 + n))), (0, .ref (ad 0))]) dX5_readUser_14 rfl (Nat.le_of_ble_eq_true rfl) rfl ?_
  refine s_iload_n E dX5_readUser_15 (i := 1) (j := 0) rfl rfl ?_
  refine s_bipush E dX5_readUser_16 (v := nI 12) (by decide) ?_
  have J30 : Sm pP l eE { frames := 8, cells := 0, slots := 0, locals := 172 } sS mM aA bB hM cC QQ AA D 2 0 0 (wm ad ct (us1 σ)) 30 [(1, .int (nI (6 + n))), (0, .ref (ad 0))] [] := by
    refine s_aload_n E dX5_readUser_30 (i := 0) (j := 1) rfl rfl ?_
    refine mg21 E (v := (us1 σ) 0 21) (rfl) dX5_readUser_31 ?_
    refine s_if_eq E dX5_readUser_34 (tgt := 38) rfl (fun c34 => ?_) (fun c34 => ?_)
    · have hn5 : n < 6 := by rcases Nat.lt_or_ge n 6 with h9 | h9; exact h9; exact absurd c34 (us1_6 (by rw [hn, show n = 6 by omega]))
      refine s_aload_n E dX5_readUser_38 (i := 0) (j := 1) rfl rfl ?_
      refine mg19 E (v := (us1 σ) 0 19) (rfl) dX5_readUser_39 ?_
      refine s_iconst E dX5_readUser_42 (v := nI 1) (by decide) ?_
      refine s_icmp_eq E dX5_readUser_43 (tgt := 54) rfl (fun c43 => ?_) (fun c43 => ?_)
      · refine s_aload_n E dX5_readUser_54 (i := 0) (j := 1) rfl rfl ?_
        refine s_bipush E dX5_readUser_55 (v := nI 6) (by decide) ?_
        refine s_aload_n E dX5_readUser_57 (i := 0) (j := 1) rfl rfl ?_
        refine s_bipush E dX5_readUser_58 (v := nI 7) (by decide) ?_
        refine m_calli E (mz_reading 7 (by decide)) K5_181 (Nat.le_of_ble_eq_true rfl) (Nat.le_of_ble_eq_true rfl) (Nat.zero_le _) (Nat.zero_le _) rfl rfl (Nat.le_of_ble_eq_true rfl) dX5_readUser_60 (fun r60 w60 h60 => ?_)
        obtain ⟨rfl, rfl⟩ := h60
        refine s_top (v2 := nI n) (by rw [us1_r (by decide)]; exact hn) ?_
        refine s_aload_n E dX5_readUser_63 (i := 0) (j := 1) rfl rfl ?_
        refine mg20 E (v := (us1 σ) 0 20) (rfl) dX5_readUser_64 ?_
        refine m_calli E (mz_namedAt 6 n (us1 σ 0 20) (by omega)) K5_185 (Nat.le_of_ble_eq_true rfl) (Nat.le_of_ble_eq_true rfl) (Nat.zero_le _) (Nat.zero_le _) rfl rfl (Nat.le_of_ble_eq_true rfl) dX5_readUser_67 (fun r67 w67 h67 => ?_)
        obtain ⟨rfl, rfl⟩ := h67
        refine s_iconst E dX5_readUser_70 (v := (-1)) (by decide) ?_
        refine s_icmp_eq E dX5_readUser_71 (tgt := 79) rfl (fun c71 => ?_) (fun c71 => ?_)
        · refine s_aload_n E dX5_readUser_79 (i := 0) (j := 1) rfl rfl ?_
          refine mg21 E (v := (us1 σ) 0 21) (rfl) dX5_readUser_80 ?_
          refine s_if_eq E dX5_readUser_83 (tgt := 87) rfl (fun c83 => ?_) (fun c83 => absurd c34 c83)
          refine s_aload_n E dX5_readUser_87 (i := 0) (j := 1) rfl rfl ?_
          refine mg5 E dX5_readUser_88 ?_
          refine s_iload_n E dX5_readUser_91 (i := 1) (j := 0) rfl rfl ?_
          refine s_aload_n E dX5_readUser_92 (i := 0) (j := 1) rfl rfl ?_
          refine mg20 E (v := (us1 σ) 0 20) (rfl) dX5_readUser_93 ?_
          refine ms5 E (6 + n) (rfl) (by omega) dX5_readUser_96 ?_
          refine s_aload_n E dX5_readUser_97 (i := 0) (j := 1) rfl rfl ?_
          refine m_callv E (mz_tokenR ((hR.gus1.st (by decide) (Or.inl (by decide))).1)) K5_152 (Nat.le_of_ble_eq_true rfl) (Nat.le_of_ble_eq_true rfl) (Nat.zero_le _) (Nat.zero_le _) rfl rfl (Nat.le_of_ble_eq_true rfl) dX5_readUser_98 (fun w98 h98 => ?_)
          have e98 : xa n (us1 σ) = w98 := h98
          subst e98
          refine s_aload_n E dX5_readUser_101 (i := 0) (j := 1) rfl rfl ?_
          refine mg6 E dX5_readUser_102 ?_
          refine s_iload_n E dX5_readUser_105 (i := 1) (j := 0) rfl rfl ?_
          refine s_aload_n E dX5_readUser_106 (i := 0) (j := 1) rfl rfl ?_
          refine s_iconst E dX5_readUser_107 (v := nI 0) (by decide) ?_
          refine s_iconst E dX5_readUser_108 (v := nI 2) (by decide) ?_
          refine m_calli E (mz_numeral (nI 0) (nI 2) (hR.gus1.xa)) K5_165 (Nat.le_of_ble_eq_true rfl) (Nat.le_of_ble_eq_true rfl) (Nat.zero_le _) (Nat.zero_le _) rfl rfl (Nat.le_of_ble_eq_true rfl) dX5_readUser_109 (fun r109 w109 h109 => ?_)
          obtain ⟨rfl, rfl⟩ := h109
          refine ms6 E (6 + n) (rfl) (by omega) dX5_readUser_112 ?_
          refine s_ws (ws2 := wm ad ct (xb n (us1 σ))) (congrArg (wm ad ct) (rfl)) ?_
          refine s_aload_n E dX5_readUser_113 (i := 0) (j := 1) rfl rfl ?_
          refine mg7 E dX5_readUser_114 ?_
          refine s_iload_n E dX5_readUser_117 (i := 1) (j := 0) rfl rfl ?_
          refine s_aload_n E dX5_readUser_118 (i := 0) (j := 1) rfl rfl ?_
          refine s_iconst E dX5_readUser_119 (v := nI 0) (by decide) ?_
          refine s_bipush E dX5_readUser_120 (v := nI 30) (by decide) ?_
          refine m_calli E (mz_numeral (nI 0) (nI 30) (hR.gus1.xb)) K5_165 (Nat.le_of_ble_eq_true rfl) (Nat.le_of_ble_eq_true rfl) (Nat.zero_le _) (Nat.zero_le _) rfl rfl (Nat.le_of_ble_eq_true rfl) dX5_readUser_122 (fun r122 w122 h122 => ?_)
          obtain ⟨rfl, rfl⟩ := h122
          refine ms7 E (6 + n) (rfl) (by omega) dX5_readUser_125 ?_
          refine s_ws (ws2 := wm ad ct (xc n (us1 σ))) (congrArg (wm ad ct) (rfl)) ?_
          refine s_aload_n E dX5_readUser_126 (i := 0) (j := 1) rfl rfl ?_
          refine mg8 E dX5_readUser_127 ?_
          refine s_iload_n E dX5_readUser_130 (i := 1) (j := 0) rfl rfl ?_
          refine s_aload_n E dX5_readUser_131 (i := 0) (j := 1) rfl rfl ?_
          refine s_iconst E dX5_readUser_132 (v := nI 1) (by decide) ?_
          refine s_aload_n E dX5_readUser_133 (i := 0) (j := 1) rfl rfl ?_
          refine s_iconst E dX5_readUser_134 (v := nI 0) (by decide) ?_
          refine m_calli E (mz_reading 0 (by decide)) K5_181 (Nat.le_of_ble_eq_true rfl) (Nat.le_of_ble_eq_true rfl) (Nat.zero_le _) (Nat.zero_le _) rfl rfl (Nat.le_of_ble_eq_true rfl) dX5_readUser_135 (fun r135 w135 h135 => ?_)
          obtain ⟨rfl, rfl⟩ := h135
          refine s_top (v2 := xc n (us1 σ) 3 10) (rfl) ?_
          refine m_calli E (mz_numeral (nI 1) (xc n (us1 σ) 3 10) (hR.gus1.xc)) K5_165 (Nat.le_of_ble_eq_true rfl) (Nat.le_of_ble_eq_true rfl) (Nat.zero_le _) (Nat.zero_le _) rfl rfl (Nat.le_of_ble_eq_true rfl) dX5_readUser_138 (fun r138 w138 h138 => ?_)
          obtain ⟨rfl, rfl⟩ := h138
          refine ms8 E (6 + n) (rfl) (by omega) dX5_readUser_141 ?_
          refine s_ws (ws2 := wm ad ct (xd n (us1 σ))) (congrArg (wm ad ct) (rfl)) ?_
          refine s_aload_n E dX5_readUser_142 (i := 0) (j := 1) rfl rfl ?_
          refine mg9 E dX5_readUser_143 ?_
          refine s_iload_n E dX5_readUser_146 (i := 1) (j := 0) rfl rfl ?_
          refine s_aload_n E dX5_readUser_147 (i := 0) (j := 1) rfl rfl ?_
          refine s_aload_n E dX5_readUser_148 (i := 0) (j := 1) rfl rfl ?_
          refine mg8 E dX5_readUser_149 ?_
          refine s_iload_n E dX5_readUser_152 (i := 1) (j := 0) rfl rfl ?_
          refine ml8 E (v := (xd n (us1 σ)) 8 (6 + n)) (6 + n) (rfl) (by omega) (rfl) dX5_readUser_153 ?_
          refine s_aload_n E dX5_readUser_154 (i := 0) (j := 1) rfl rfl ?_
          refine s_iconst E dX5_readUser_155 (v := nI 0) (by decide) ?_
          refine m_calli E (mz_reading 0 (by decide)) K5_181 (Nat.le_of_ble_eq_true rfl) (Nat.le_of_ble_eq_true rfl) (Nat.zero_le _) (Nat.zero_le _) rfl rfl (Nat.le_of_ble_eq_true rfl) dX5_readUser_156 (fun r156 w156 h156 => ?_)
          obtain ⟨rfl, rfl⟩ := h156
          refine s_top (v2 := xd n (us1 σ) 3 10) (rfl) ?_
          refine m_calli E (mz_numeral ((xd n (us1 σ)) 8 (6 + n)) (xd n (us1 σ) 3 10) (hR.gus1.xd)) K5_165 (Nat.le_of_ble_eq_true rfl) (Nat.le_of_ble_eq_true rfl) (Nat.zero_le _) (Nat.zero_le _) rfl rfl (Nat.le_of_ble_eq_true rfl) dX5_readUser_159 (fun r159 w159 h159 => ?_)
          obtain ⟨rfl, rfl⟩ := h159
          refine ms9 E (6 + n) (rfl) (by omega) dX5_readUser_162 ?_
          refine s_ws (ws2 := wm ad ct (xe n (us1 σ))) (congrArg (wm ad ct) (rfl)) ?_
          refine s_aload_n E dX5_readUser_163 (i := 0) (j := 1) rfl rfl ?_
          refine mg10 E dX5_readUser_164 ?_
          refine s_iload_n E dX5_readUser_167 (i := 1) (j := 0) rfl rfl ?_
          refine s_iconst E dX5_readUser_168 (v := nI 0) (by decide) ?_
          refine ms10 E (6 + n) (rfl) (by omega) dX5_readUser_169 ?_
          refine s_aload_n E dX5_readUser_170 (i := 0) (j := 1) rfl rfl ?_
          refine mg11 E dX5_readUser_171 ?_
          refine s_iload_n E dX5_readUser_174 (i := 1) (j := 0) rfl rfl ?_
          refine s_iconst E dX5_readUser_175 (v := nI 0) (by decide) ?_
          refine ms11 E (6 + n) (rfl) (by omega) dX5_readUser_176 ?_
          refine s_ws (ws2 := wm ad ct (xf n (us1 σ))) (congrArg (wm ad ct) (rfl)) ?_
          refine s_aload_n E dX5_readUser_177 (i := 0) (j := 1) rfl rfl ?_
          refine s_bipush E dX5_readUser_178 (v := nI 7) (by decide) ?_
          refine s_aload_n E dX5_readUser_180 (i := 0) (j := 1) rfl rfl ?_
          refine s_bipush E dX5_readUser_181 (v := nI 7) (by decide) ?_
          refine m_calli E (mz_reading 7 (by decide)) K5_181 (Nat.le_of_ble_eq_true rfl) (Nat.le_of_ble_eq_true rfl) (Nat.zero_le _) (Nat.zero_le _) rfl rfl (Nat.le_of_ble_eq_true rfl) dX5_readUser_183 (fun r183 w183 h183 => ?_)
          obtain ⟨rfl, rfl⟩ := h183
          refine s_top (v2 := xf n (us1 σ) 3 17) (rfl) ?_
          refine s_iconst E dX5_readUser_186 (v := nI 1) (by decide) ?_
          refine s_iadd E dX5_readUser_187 ?_
          refine m_callv E (mz_reads 7 ((xf n (us1 σ) 3 17) + (nI 1)) (by omega)) K5_169 (Nat.le_of_ble_eq_true rfl) (Nat.le_of_ble_eq_true rfl) (Nat.zero_le _) (Nat.zero_le _) rfl rfl (Nat.le_of_ble_eq_true rfl) dX5_readUser_188 (fun w188 h188 => ?_)
          subst h188
          exact Rt (upR (xf n (us1 σ)) 3 (upd ((xf n (us1 σ)) 3) (10 + 7) ((xf n (us1 σ) 3 17) + (nI 1)))) dX5_readUser_191 (by unfold readUserS us2; rw [if_pos c34, if_pos c43, if_pos c71]; rfl) rfl (Nat.le_refl _) (Nat.le_refl _) E.2.2.2.2.2.1
        · refine s_aload_n E dX5_readUser_74 (i := 0) (j := 1) rfl rfl ?_
          refine s_iconst E dX5_readUser_75 (v := nI 3) (by decide) ?_
          refine m_callv E (mz_wrong (nI 3)) K5_155 (Nat.le_of_ble_eq_true rfl) (Nat.le_of_ble_eq_true rfl) (Nat.zero_le _) (Nat.zero_le _) rfl rfl (Nat.le_of_ble_eq_true rfl) dX5_readUser_76 (fun w76 h76 => ?_)
          subst h76
          have hw := wrongS_f (s := us1 σ) (v := nI 3) (by decide)
          refine s_aload_n E dX5_readUser_79 (i := 0) (j := 1) rfl rfl ?_
          refine mg21 E (v := (wrongS (nI 3) (us1 σ)) 0 21) (rfl) dX5_readUser_80 ?_
          refine s_if_eq E dX5_readUser_83 (tgt := 87) rfl (fun c83 => absurd c83 hw) (fun c83 => ?_)
          exact Rt (wrongS (nI 3) (us1 σ)) dX5_readUser_86 (by unfold readUserS us2; simp [bI, c34, hn5, c43, c71]) rfl (Nat.le_refl _) (Nat.le_refl _) E.2.2.2.2.2.1
      · refine s_aload_n E dX5_readUser_46 (i := 0) (j := 1) rfl rfl ?_
        refine s_iconst E dX5_readUser_47 (v := nI 1) (by decide) ?_
        refine m_callv E (mz_wrong (nI 1)) K5_155 (Nat.le_of_ble_eq_true rfl) (Nat.le_of_ble_eq_true rfl) (Nat.zero_le _) (Nat.zero_le _) rfl rfl (Nat.le_of_ble_eq_true rfl) dX5_readUser_48 (fun w48 h48 => ?_)
        subst h48
        have hw := wrongS_f (s := us1 σ) (v := nI 1) (by decide)
        refine s_goto E dX5_readUser_51 (tgt := 79) rfl ?_
        refine s_aload_n E dX5_readUser_79 (i := 0) (j := 1) rfl rfl ?_
        refine mg21 E (v := (wrongS (nI 1) (us1 σ)) 0 21) (rfl) dX5_readUser_80 ?_
        refine s_if_eq E dX5_readUser_83 (tgt := 87) rfl (fun c83 => absurd c83 hw) (fun c83 => ?_)
        exact Rt (wrongS (nI 1) (us1 σ)) dX5_readUser_86 (by unfold readUserS us2; simp [bI, c34, hn5, c43]) rfl (Nat.le_refl _) (Nat.le_refl _) E.2.2.2.2.2.1
    · exact Rt (us1 σ) dX5_readUser_37 (by unfold readUserS us2; rw [if_neg c34]) rfl (Nat.le_refl _) (Nat.le_refl _) E.2.2.2.2.2.1
  refine s_icmp_ne E dX5_readUser_18 (tgt := 26) rfl (fun c18 => ?_) (fun c18 => ?_)
  · have c18 : ¬ 6 + n = 12 := fun h => c18 ((nI_eq (a := 6 + n) (b := 12) (by omega) (by omega)).mpr h)
    have h6 : ¬ σ 3 17 = nI 6 := by rw [hn]; exact fun h => c18 (by have := (nI_eq (by omega) (by omega)).mp h; omega)
    refine s_aload_n E dX5_readUser_26 (i := 0) (j := 1) rfl rfl ?_
    refine m_callv E (mz_goOn (by first | exact hR.st (by decide) (by decide) | exact (hR.st (by decide) (by decide)).wrong _)) K5_159 (Nat.le_of_ble_eq_true rfl) (Nat.le_of_ble_eq_true rfl) (Nat.zero_le _) (Nat.zero_le _) rfl rfl (Nat.le_of_ble_eq_true rfl) dX5_readUser_27 (fun w27 h27 => ?_)
    subst h27
    refine s_ws (ws2 := wm ad ct (us1 σ)) (by simp only [us1, h6, if_true, if_false]) ?_
    exact J30
  · have c18 : 6 + n = 12 := (nI_eq (a := 6 + n) (b := 12) (by omega) (by omega)).mp c18
    have h6 : σ 3 17 = nI 6 := by rw [hn, show n = 6 by omega]
    refine s_aload_n E dX5_readUser_21 (i := 0) (j := 1) rfl rfl ?_
    refine s_iconst E dX5_readUser_22 (v := nI 2) (by decide) ?_
    refine m_callv E (mz_wrong (nI 2)) K5_155 (Nat.le_of_ble_eq_true rfl) (Nat.le_of_ble_eq_true rfl) (Nat.zero_le _) (Nat.zero_le _) rfl rfl (Nat.le_of_ble_eq_true rfl) dX5_readUser_23 (fun w23 h23 => ?_)
    subst h23
    refine s_aload_n E dX5_readUser_26 (i := 0) (j := 1) rfl rfl ?_
    refine m_callv E (mz_goOn (by first | exact hR.st (by decide) (by decide) | exact (hR.st (by decide) (by decide)).wrong _)) K5_159 (Nat.le_of_ble_eq_true rfl) (Nat.le_of_ble_eq_true rfl) (Nat.zero_le _) (Nat.zero_le _) rfl rfl (Nat.le_of_ble_eq_true rfl) dX5_readUser_27 (fun w27 h27 => ?_)
    subst h27
    refine s_ws (ws2 := wm ad ct (us1 σ)) (by simp only [us1, h6, if_true, if_false]) ?_
    exact J30
end
