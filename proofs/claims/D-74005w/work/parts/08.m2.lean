set_option maxRecDepth 100000
section
variable {l : Launch} {D : va_G} {gt ad : Nat → Nat} {ct : Nat → ClassId}
set_option maxHeartbeats 1000000 in
set_option maxRecDepth 100000 in
theorem mz_users {σ : Nat → Nat → Int32} (n : Nat) (hn : σ 3 7 = nI n) : Ct l D gt yX5_users cX5_users 1 .int 0 0 0 0 [.ref (ad 0)] (wm ad ct σ) (tysA ct) (fun r σ2 => nI n = r ∧ σ = σ2) (fun σ2 => wm ad ct σ2) (fun _ => tysA ct) := by
  refine Ct.start RX5 (by decide) rfl (Nat.le_of_ble_eq_true rfl) rfl ?_
  intro pP eE sS mM aA bB hM cC QQ AA E Rt
  refine s_aload_n E dX5_users_0 (i := 0) (j := 0) rfl rfl ?_
  refine mg3 E dX5_users_1 ?_
  refine s_bipush E dX5_users_4 (v := nI 7) (by decide) ?_
  refine ml3 E (v := σ 3 7) (7) (rfl) (by omega) (rfl) dX5_users_6 ?_
  exact Rt (σ 3 7) (σ) dX5_users_7 (⟨hn.symm, rfl⟩) rfl (Nat.le_refl _) (Nat.le_refl _) rfl E.2.2.2.2.2.1
set_option maxHeartbeats 1000000 in
set_option maxRecDepth 100000 in
theorem mz_thrown {σ : Nat → Nat → Int32}  : Ct l D gt yX5_thrown cX5_thrown 1 .int 0 0 0 0 [.ref (ad 0)] (wm ad ct σ) (tysA ct) (fun r σ2 => σ 0 0 = r ∧ σ = σ2) (fun σ2 => wm ad ct σ2) (fun _ => tysA ct) := by
  refine Ct.start RX5 (by decide) rfl (Nat.le_of_ble_eq_true rfl) rfl ?_
  intro pP eE sS mM aA bB hM cC QQ AA E Rt
  refine s_aload_n E dX5_thrown_0 (i := 0) (j := 0) rfl rfl ?_
  refine mg0 E (v := σ 0 0) (rfl) dX5_thrown_1 ?_
  exact Rt (σ 0 0) (σ) dX5_thrown_4 (⟨rfl, rfl⟩) rfl (Nat.le_refl _) (Nat.le_refl _) rfl E.2.2.2.2.2.1
set_option maxHeartbeats 1000000 in
set_option maxRecDepth 100000 in
theorem mz_isUser {σ : Nat → Nat → Int32} (n : Nat) (u : Int32) (hn : σ 3 7 = nI n) : Ct l D gt yX5_isUser cX5_isUser 2 .boolean 1 20 0 0 [.ref (ad 0), .int (u)] (wm ad ct σ) (tysA ct) (fun r σ2 => bI (¬ u < 0 ∧ u < nI n) = r ∧ σ = σ2) (fun σ2 => wm ad ct σ2) (fun _ => tysA ct) := by
  refine Ct.start RX5 (by decide) rfl (Nat.le_of_ble_eq_true rfl) rfl ?_
  intro pP eE sS mM aA bB hM cC QQ AA E Rt
  refine s_iload_n E dX5_isUser_0 (i := 1) (j := 1) rfl rfl ?_
  refine s_if_lt E dX5_isUser_1 (tgt := 16) rfl (fun c1 => ?_) (fun c1 => ?_)
  · refine s_iconst E dX5_isUser_16 (v := nI 0) (by decide) ?_
    exact Rt (nI 0) (σ) dX5_isUser_17 (⟨by simp [bI, c1], rfl⟩) rfl (Nat.le_refl _) (Nat.le_refl _) rfl E.2.2.2.2.2.1
  · refine s_iload_n E dX5_isUser_4 (i := 1) (j := 1) rfl rfl ?_
    refine s_aload_n E dX5_isUser_5 (i := 0) (j := 0) rfl rfl ?_
    refine m_calli E (mz_users n (hn)) K5_232 (Nat.le_of_ble_eq_true rfl) (Nat.le_of_ble_eq_true rfl) (Nat.zero_le _) (Nat.zero_le _) rfl rfl (Nat.le_of_ble_eq_true rfl) dX5_isUser_6 (fun r6 w6 h6 => ?_)
    obtain ⟨rfl, rfl⟩ := h6
    refine s_icmp_ge E dX5_isUser_9 (tgt := 16) rfl (fun c9 => ?_) (fun c9 => ?_)
    · have c9 := Int32.not_lt.mpr c9
      refine s_iconst E dX5_isUser_16 (v := nI 0) (by decide) ?_
      exact Rt (nI 0) (σ) dX5_isUser_17 (⟨by simp [bI, c1, c9], rfl⟩) rfl (Nat.le_refl _) (Nat.le_refl _) rfl E.2.2.2.2.2.1
    · have c9 := Int32.not_le.mp c9
      refine s_iconst E dX5_isUser_12 (v := nI 1) (by decide) ?_
      refine s_goto E dX5_isUser_13 (tgt := 17) rfl ?_
      exact Rt (nI 1) (σ) dX5_isUser_17 (⟨by simp [bI, c1, c9], rfl⟩) rfl (Nat.le_refl _) (Nat.le_refl _) rfl E.2.2.2.2.2.1
set_option maxHeartbeats 1000000 in
set_option maxRecDepth 100000 in
theorem mz_isChannel {σ : Nat → Nat → Int32} (u : Int32) : Ct l D gt yX5_isChannel cX5_isChannel 2 .boolean 0 0 0 0 [.ref (ad 0), .int (u)] (wm ad ct σ) (tysA ct) (fun r σ2 => bI (¬ u < nI 1 ∧ ¬ σ 3 0 < u) = r ∧ σ = σ2) (fun σ2 => wm ad ct σ2) (fun _ => tysA ct) := by
  refine Ct.start RX5 (by decide) rfl (Nat.le_of_ble_eq_true rfl) rfl ?_
  intro pP eE sS mM aA bB hM cC QQ AA E Rt
  refine s_iload_n E dX5_isChannel_0 (i := 1) (j := 1) rfl rfl ?_
  refine s_iconst E dX5_isChannel_1 (v := nI 1) (by decide) ?_
  refine s_icmp_lt E dX5_isChannel_2 (tgt := 19) rfl (fun c2 => ?_) (fun c2 => ?_)
  · refine s_iconst E dX5_isChannel_19 (v := nI 0) (by decide) ?_
    exact Rt (nI 0) (σ) dX5_isChannel_20 (⟨by simp [bI, c2], rfl⟩) rfl (Nat.le_refl _) (Nat.le_refl _) rfl E.2.2.2.2.2.1
  · refine s_iload_n E dX5_isChannel_5 (i := 1) (j := 1) rfl rfl ?_
    refine s_aload_n E dX5_isChannel_6 (i := 0) (j := 0) rfl rfl ?_
    refine mg3 E dX5_isChannel_7 ?_
    refine s_iconst E dX5_isChannel_10 (v := nI 0) (by decide) ?_
    refine ml3 E (v := σ 3 0) (0) (rfl) (by omega) (rfl) dX5_isChannel_11 ?_
    refine s_icmp_gt E dX5_isChannel_12 (tgt := 19) rfl (fun c12 => ?_) (fun c12 => ?_)
    · refine s_iconst E dX5_isChannel_19 (v := nI 0) (by decide) ?_
      exact Rt (nI 0) (σ) dX5_isChannel_20 (⟨by simp [bI, c2, c12], rfl⟩) rfl (Nat.le_refl _) (Nat.le_refl _) rfl E.2.2.2.2.2.1
    · refine s_iconst E dX5_isChannel_15 (v := nI 1) (by decide) ?_
      refine s_goto E dX5_isChannel_16 (tgt := 20) rfl ?_
      exact Rt (nI 1) (σ) dX5_isChannel_20 (⟨by simp [bI, c2, c12], rfl⟩) rfl (Nat.le_refl _) (Nat.le_refl _) rfl E.2.2.2.2.2.1
set_option maxHeartbeats 1000000 in
set_option maxRecDepth 100000 in
theorem mz_reading {σ : Nat → Nat → Int32} (k : Nat) (hk : k < 10) : Ct l D gt yX5_reading cX5_reading 2 .int 0 0 0 0 [.ref (ad 0), .int (nI k)] (wm ad ct σ) (tysA ct) (fun r σ2 => σ 3 (10 + k) = r ∧ σ = σ2) (fun σ2 => wm ad ct σ2) (fun _ => tysA ct) := by
  refine Ct.start RX5 (by decide) rfl (Nat.le_of_ble_eq_true rfl) rfl ?_
  intro pP eE sS mM aA bB hM cC QQ AA E Rt
  refine s_aload_n E dX5_reading_0 (i := 0) (j := 0) rfl rfl ?_
  refine mg3 E dX5_reading_1 ?_
  refine s_bipush E dX5_reading_4 (v := nI 10) (by decide) ?_
  refine s_iload_n E dX5_reading_6 (i := 1) (j := 1) rfl rfl ?_
  refine s_iadd_ E dX5_reading_7 (v := nI (10 + k)) (nI_add _ _) ?_
  refine ml3 E (v := σ 3 (10 + k)) (10 + k) (rfl) (by omega) (rfl) dX5_reading_8 ?_
  exact Rt (σ 3 (10 + k)) (σ) dX5_reading_9 (⟨rfl, rfl⟩) rfl (Nat.le_refl _) (Nat.le_refl _) rfl E.2.2.2.2.2.1
set_option maxHeartbeats 1000000 in
set_option maxRecDepth 100000 in
theorem mz_reads {σ : Nat → Nat → Int32} (k : Nat) (v : Int32) (hk : k < 10) : Cv l D gt yX5_reads cX5_reads 3 0 0 0 0 [.ref (ad 0), .int (nI k), .int (v)] (wm ad ct σ) (tysA ct) (fun σ2 => upR σ 3 (upd (σ 3) (10 + k) v) = σ2) (fun σ2 => wm ad ct σ2) (fun _ => tysA ct) := by
  refine Cv.start RX5 (by decide) rfl (Nat.le_of_ble_eq_true rfl) rfl ?_
  intro pP eE sS mM aA bB hM cC QQ AA E Rt
  refine s_aload_n E dX5_reads_0 (i := 0) (j := 0) rfl rfl ?_
  refine mg3 E dX5_reads_1 ?_
  refine s_bipush E dX5_reads_4 (v := nI 10) (by decide) ?_
  refine s_iload_n E dX5_reads_6 (i := 1) (j := 1) rfl rfl ?_
  refine s_iadd_ E dX5_reads_7 (v := nI (10 + k)) (nI_add _ _) ?_
  refine s_iload_n E dX5_reads_8 (i := 2) (j := 2) rfl rfl ?_
  refine ms3 E (10 + k) (rfl) (by omega) dX5_reads_9 ?_
  exact Rt (st1 σ 3 (10 + k) v) dX5_reads_10 (rfl) rfl (Nat.le_refl _) (Nat.le_refl _) E.2.2.2.2.2.1
set_option maxHeartbeats 1000000 in
set_option maxRecDepth 100000 in
theorem mz_isSmall (v : Int32) : Ct l D gt yX5_isSmall cX5_isSmall 1 .boolean 0 0 0 0 [.int (v)] [] [] (fun r _ => bI (¬ v < nI 97 ∧ ¬ nI 122 < v) = r) (fun _ : Unit => []) (fun _ => []) := by
  refine Ct.start RX5 (by decide) rfl (Nat.le_of_ble_eq_true rfl) rfl ?_
  intro pP eE sS mM aA bB hM cC QQ AA E Rt
  refine s_iload_n E dX5_isSmall_0 (i := 0) (j := 0) rfl rfl ?_
  refine s_bipush E dX5_isSmall_1 (v := nI 97) (by decide) ?_
  refine s_icmp_lt E dX5_isSmall_3 (tgt := 16) rfl (fun c3 => ?_) (fun c3 => ?_)
  · refine s_iconst E dX5_isSmall_16 (v := nI 0) (by decide) ?_
    exact Rt (nI 0) (()) dX5_isSmall_17 (by simp [bI, c3]) rfl (Nat.le_refl _) (Nat.le_refl _) rfl E.2.2.2.2.2.1
  · refine s_iload_n E dX5_isSmall_6 (i := 0) (j := 0) rfl rfl ?_
    refine s_bipush E dX5_isSmall_7 (v := nI 122) (by decide) ?_
    refine s_icmp_gt E dX5_isSmall_9 (tgt := 16) rfl (fun c9 => ?_) (fun c9 => ?_)
    · refine s_iconst E dX5_isSmall_16 (v := nI 0) (by decide) ?_
      exact Rt (nI 0) (()) dX5_isSmall_17 (by simp [bI, c3, c9]) rfl (Nat.le_refl _) (Nat.le_refl _) rfl E.2.2.2.2.2.1
    · refine s_iconst E dX5_isSmall_12 (v := nI 1) (by decide) ?_
      refine s_goto E dX5_isSmall_13 (tgt := 17) rfl ?_
      exact Rt (nI 1) (()) dX5_isSmall_17 (by simp [bI, c3, c9]) rfl (Nat.le_refl _) (Nat.le_refl _) rfl E.2.2.2.2.2.1
set_option maxHeartbeats 1000000 in
set_option maxRecDepth 100000 in
theorem mz_isDigit (v : Int32) : Ct l D gt yX5_isDigit cX5_isDigit 1 .boolean 0 0 0 0 [.int (v)] [] [] (fun r _ => bI (¬ v < nI 48 ∧ ¬ nI 57 < v) = r) (fun _ : Unit => []) (fun _ => []) := by
  refine Ct.start RX5 (by decide) rfl (Nat.le_of_ble_eq_true rfl) rfl ?_
  intro pP eE sS mM aA bB hM cC QQ AA E Rt
  refine s_iload_n E dX5_isDigit_0 (i := 0) (j := 0) rfl rfl ?_
  refine s_bipush E dX5_isDigit_1 (v := nI 48) (by decide) ?_
  refine s_icmp_lt E dX5_isDigit_3 (tgt := 16) rfl (fun c3 => ?_) (fun c3 => ?_)
  · refine s_iconst E dX5_isDigit_16 (v := nI 0) (by decide) ?_
    exact Rt (nI 0) (()) dX5_isDigit_17 (by simp [bI, c3]) rfl (Nat.le_refl _) (Nat.le_refl _) rfl E.2.2.2.2.2.1
  · refine s_iload_n E dX5_isDigit_6 (i := 0) (j := 0) rfl rfl ?_
    refine s_bipush E dX5_isDigit_7 (v := nI 57) (by decide) ?_
    refine s_icmp_gt E dX5_isDigit_9 (tgt := 16) rfl (fun c9 => ?_) (fun c9 => ?_)
    · refine s_iconst E dX5_isDigit_16 (v := nI 0) (by decide) ?_
      exact Rt (nI 0) (()) dX5_isDigit_17 (by simp [bI, c3, c9]) rfl (Nat.le_refl _) (Nat.le_refl _) rfl E.2.2.2.2.2.1
    · refine s_iconst E dX5_isDigit_12 (v := nI 1) (by decide) ?_
      refine s_goto E dX5_isDigit_13 (tgt := 17) rfl ?_
      exact Rt (nI 1) (()) dX5_isDigit_17 (by simp [bI, c3, c9]) rfl (Nat.le_refl _) (Nat.le_refl _) rfl E.2.2.2.2.2.1
set_option maxHeartbeats 1000000 in
set_option maxRecDepth 100000 in
theorem mz_bitOf (k : Nat) (hk : k < 6) : Ct l D gt yX5_bitOf cX5_bitOf 1 .int 0 0 0 0 [.int (nI k)] [] [] (fun r _ => bO k = r) (fun _ : Unit => []) (fun _ => []) := by
  refine Ct.start RX5 (by decide) rfl (Nat.le_of_ble_eq_true rfl) rfl ?_
  intro pP eE sS mM aA bB hM cC QQ AA E Rt
  refine s_iload_n E dX5_bitOf_0 (i := 0) (j := 0) rfl rfl ?_
  refine s_iconst E dX5_bitOf_1 (v := nI 2) (by decide) ?_
  refine s_icmp_ge E dX5_bitOf_2 (tgt := 9) rfl (fun c2 => ?_) (fun c2 => ?_)
  · have c2 : ¬ k < 2 := fun h => absurd c2 (Int32.not_le.mpr ((nI_ltI (a := k) (b := 2) (by omega) (by omega)).mpr h))
    refine s_iload_n E dX5_bitOf_9 (i := 0) (j := 0) rfl rfl ?_
    refine s_iconst E dX5_bitOf_10 (v := nI 4) (by decide) ?_
    refine s_icmp_ge E dX5_bitOf_11 (tgt := 18) rfl (fun c11 => ?_) (fun c11 => ?_)
    · have c11 : ¬ k < 4 := fun h => absurd c11 (Int32.not_le.mpr ((nI_ltI (a := k) (b := 4) (by omega) (by omega)).mpr h))
      refine s_iconst E dX5_bitOf_18 (v := nI 4) (by decide) ?_
      exact Rt (nI 4) (()) dX5_bitOf_19 (by simp [bI, bO, c2, c11]) rfl (Nat.le_refl _) (Nat.le_refl _) rfl E.2.2.2.2.2.1
    · have c11 : k < 4 := (nI_ltI (a := k) (b := 4) (by omega) (by omega)).mp (Int32.not_le.mp c11)
      refine s_iconst E dX5_bitOf_14 (v := nI 2) (by decide) ?_
      refine s_goto E dX5_bitOf_15 (tgt := 19) rfl ?_
      exact Rt (nI 2) (()) dX5_bitOf_19 (by simp [bI, bO, c2, c11]) rfl (Nat.le_refl _) (Nat.le_refl _) rfl E.2.2.2.2.2.1
  · have c2 : k < 2 := (nI_ltI (a := k) (b := 2) (by omega) (by omega)).mp (Int32.not_le.mp c2)
    refine s_iconst E dX5_bitOf_5 (v := nI 1) (by decide) ?_
    refine s_goto E dX5_bitOf_6 (tgt := 19) rfl ?_
    exact Rt (nI 1) (()) dX5_bitOf_19 (by simp [bI, bO, c2]) rfl (Nat.le_refl _) (Nat.le_refl _) rfl E.2.2.2.2.2.1
set_option maxHeartbeats 1000000 in
set_option maxRecDepth 100000 in
theorem mz_timesA (k : Nat) (hk : k < 6) : Ct l D gt yX5_timesA cX5_timesA 1 .int 0 0 0 0 [.int (nI k)] [] [] (fun r _ => tA k = r) (fun _ : Unit => []) (fun _ => []) := by
  refine Ct.start RX5 (by decide) rfl (Nat.le_of_ble_eq_true rfl) rfl ?_
  intro pP eE sS mM aA bB hM cC QQ AA E Rt
  refine s_iload_n E dX5_timesA_0 (i := 0) (j := 0) rfl rfl ?_
  refine s_iconst E dX5_timesA_1 (v := nI 2) (by decide) ?_
  refine s_icmp_eq E dX5_timesA_2 (tgt := 10) rfl (fun c2 => ?_) (fun c2 => ?_)
  · have c2 : k = 2 := (nI_eq (a := k) (b := 2) (by omega) (by omega)).mp c2
    refine s_iconst E dX5_timesA_10 (v := nI 2) (by decide) ?_
    refine s_goto E dX5_timesA_11 (tgt := 24) rfl ?_
    exact Rt (nI 2) (()) dX5_timesA_24 (by simp [bI, tA, c2]) rfl (Nat.le_refl _) (Nat.le_refl _) rfl E.2.2.2.2.2.1
  · have c2 : ¬ k = 2 := fun h => c2 ((nI_eq (a := k) (b := 2) (by omega) (by omega)).mpr h)
    refine s_iload_n E dX5_timesA_5 (i := 0) (j := 0) rfl rfl ?_
    refine s_iconst E dX5_timesA_6 (v := nI 5) (by decide) ?_
    refine s_icmp_ne E dX5_timesA_7 (tgt := 14) rfl (fun c7 => ?_) (fun c7 => ?_)
    · have c7 : ¬ k = 5 := fun h => c7 ((nI_eq (a := k) (b := 5) (by omega) (by omega)).mpr h)
      refine s_iload_n E dX5_timesA_14 (i := 0) (j := 0) rfl rfl ?_
      refine s_iconst E dX5_timesA_15 (v := nI 4) (by decide) ?_
      refine s_icmp_ne E dX5_timesA_16 (tgt := 23) rfl (fun c16 => ?_) (fun c16 => ?_)
      · have c16 : ¬ k = 4 := fun h => c16 ((nI_eq (a := k) (b := 4) (by omega) (by omega)).mpr h)
        refine s_iconst E dX5_timesA_23 (v := nI 1) (by decide) ?_
        exact Rt (nI 1) (()) dX5_timesA_24 (by simp [bI, tA, c2, c7, c16]) rfl (Nat.le_refl _) (Nat.le_refl _) rfl E.2.2.2.2.2.1
      · have c16 : k = 4 := (nI_eq (a := k) (b := 4) (by omega) (by omega)).mp c16
        refine s_iconst E dX5_timesA_19 (v := nI 3) (by decide) ?_
        refine s_goto E dX5_timesA_20 (tgt := 24) rfl ?_
        exact Rt (nI 3) (()) dX5_timesA_24 (by simp [bI, tA, c2, c7, c16]) rfl (Nat.le_refl _) (Nat.le_refl _) rfl E.2.2.2.2.2.1
    · have c7 : k = 5 := (nI_eq (a := k) (b := 5) (by omega) (by omega)).mp c7
      refine s_iconst E dX5_timesA_10 (v := nI 2) (by decide) ?_
      refine s_goto E dX5_timesA_11 (tgt := 24) rfl ?_
      exact Rt (nI 2) (()) dX5_timesA_24 (by simp [bI, tA, c2, c7]) rfl (Nat.le_refl _) (Nat.le_refl _) rfl E.2.2.2.2.2.1
set_option maxHeartbeats 1000000 in
set_option maxRecDepth 100000 in
theorem mz_timesB (k : Nat) (hk : k < 6) : Ct l D gt yX5_timesB cX5_timesB 1 .int 0 0 0 0 [.int (nI k)] [] [] (fun r _ => tB k = r) (fun _ : Unit => []) (fun _ => []) := by
  refine Ct.start RX5 (by decide) rfl (Nat.le_of_ble_eq_true rfl) rfl ?_
  intro pP eE sS mM aA bB hM cC QQ AA E Rt
  refine s_iload_n E dX5_timesB_0 (i := 0) (j := 0) rfl rfl ?_
  refine s_if_eq E dX5_timesB_1 (tgt := 14) rfl (fun c1 => ?_) (fun c1 => ?_)
  · have c1 : k = 0 := (nI_eq (a := k) (b := 0) (by omega) (by omega)).mp c1
    refine s_iconst E dX5_timesB_14 (v := nI 1) (by decide) ?_
    refine s_goto E dX5_timesB_15 (tgt := 29) rfl ?_
    exact Rt (nI 1) (()) dX5_timesB_29 (by simp [bI, tB, c1]) rfl (Nat.le_refl _) (Nat.le_refl _) rfl E.2.2.2.2.2.1
  · have c1 : ¬ k = 0 := fun h => c1 ((nI_eq (a := k) (b := 0) (by omega) (by omega)).mpr h)
    refine s_iload_n E dX5_timesB_4 (i := 0) (j := 0) rfl rfl ?_
    refine s_iconst E dX5_timesB_5 (v := nI 3) (by decide) ?_
    refine s_icmp_eq E dX5_timesB_6 (tgt := 14) rfl (fun c6 => ?_) (fun c6 => ?_)
    · have c6 : k = 3 := (nI_eq (a := k) (b := 3) (by omega) (by omega)).mp c6
      refine s_iconst E dX5_timesB_14 (v := nI 1) (by decide) ?_
      refine s_goto E dX5_timesB_15 (tgt := 29) rfl ?_
      exact Rt (nI 1) (()) dX5_timesB_29 (by simp [bI, tB, c1, c6]) rfl (Nat.le_refl _) (Nat.le_refl _) rfl E.2.2.2.2.2.1
    · have c6 : ¬ k = 3 := fun h => c6 ((nI_eq (a := k) (b := 3) (by omega) (by omega)).mpr h)
      refine s_iload_n E dX5_timesB_9 (i := 0) (j := 0) rfl rfl ?_
      refine s_iconst E dX5_timesB_10 (v := nI 5) (by decide) ?_
      refine s_icmp_ne E dX5_timesB_11 (tgt := 18) rfl (fun c11 => ?_) (fun c11 => ?_)
      · have c11 : ¬ k = 5 := fun h => c11 ((nI_eq (a := k) (b := 5) (by omega) (by omega)).mpr h)
        refine s_iload_n E dX5_timesB_18 (i := 0) (j := 0) rfl rfl ?_
        refine s_iconst E dX5_timesB_19 (v := nI 4) (by decide) ?_
        refine s_icmp_ne E dX5_timesB_20 (tgt := 28) rfl (fun c20 => ?_) (fun c20 => ?_)
        · have c20 : ¬ k = 4 := fun h => c20 ((nI_eq (a := k) (b := 4) (by omega) (by omega)).mpr h)
          refine s_iconst E dX5_timesB_28 (v := (-1)) (by decide) ?_
          exact Rt ((-1)) (()) dX5_timesB_29 (by simp [bI, tB, c1, c6, c11, c20]) rfl (Nat.le_refl _) (Nat.le_refl _) rfl E.2.2.2.2.2.1
        · have c20 : k = 4 := (nI_eq (a := k) (b := 4) (by omega) (by omega)).mp c20
          refine s_bipush E dX5_timesB_23 (v := (-2)) (by decide) ?_
          refine s_goto E dX5_timesB_25 (tgt := 29) rfl ?_
          exact Rt ((-2)) (()) dX5_timesB_29 (by simp [bI, tB, c1, c6, c11, c20]) rfl (Nat.le_refl _) (Nat.le_refl _) rfl E.2.2.2.2.2.1
      · have c11 : k = 5 := (nI_eq (a := k) (b := 5) (by omega) (by omega)).mp c11
        refine s_iconst E dX5_timesB_14 (v := nI 1) (by decide) ?_
        refine s_goto E dX5_timesB_15 (tgt := 29) rfl ?_
        exact Rt (nI 1) (()) dX5_timesB_29 (by simp [bI, tB, c1, c6, c11]) rfl (Nat.le_refl _) (Nat.le_refl _) rfl E.2.2.2.2.2.1
set_option maxHeartbeats 1000000 in
set_option maxRecDepth 100000 in
theorem mz_timesC (k : Nat) (hk : k < 6) : Ct l D gt yX5_timesC cX5_timesC 1 .int 0 0 0 0 [.int (nI k)] [] [] (fun r _ => tC k = r) (fun _ : Unit => []) (fun _ => []) := by
  refine Ct.start RX5 (by decide) rfl (Nat.le_of_ble_eq_true rfl) rfl ?_
  intro pP eE sS mM aA bB hM cC QQ AA E Rt
  refine s_iload_n E dX5_timesC_0 (i := 0) (j := 0) rfl rfl ?_
  refine s_iconst E dX5_timesC_1 (v := nI 3) (by decide) ?_
  refine s_icmp_ne E dX5_timesC_2 (tgt := 9) rfl (fun c2 => ?_) (fun c2 => ?_)
  · have c2 : ¬ k = 3 := fun h => c2 ((nI_eq (a := k) (b := 3) (by omega) (by omega)).mpr h)
    refine s_iload_n E dX5_timesC_9 (i := 0) (j := 0) rfl rfl ?_
    refine s_iconst E dX5_timesC_10 (v := nI 5) (by decide) ?_
    refine s_icmp_ne E dX5_timesC_11 (tgt := 19) rfl (fun c11 => ?_) (fun c11 => ?_)
    · have c11 : ¬ k = 5 := fun h => c11 ((nI_eq (a := k) (b := 5) (by omega) (by omega)).mpr h)
      refine s_iconst E dX5_timesC_19 (v := nI 0) (by decide) ?_
      exact Rt (nI 0) (()) dX5_timesC_20 (by simp [bI, tC, c2, c11]) rfl (Nat.le_refl _) (Nat.le_refl _) rfl E.2.2.2.2.2.1
    · have c11 : k = 5 := (nI_eq (a := k) (b := 5) (by omega) (by omega)).mp c11
      refine s_bipush E dX5_timesC_14 (v := (-2)) (by decide) ?_
      refine s_goto E dX5_timesC_16 (tgt := 20) rfl ?_
      exact Rt ((-2)) (()) dX5_timesC_20 (by simp [bI, tC, c2, c11]) rfl (Nat.le_refl _) (Nat.le_refl _) rfl E.2.2.2.2.2.1
  · have c2 : k = 3 := (nI_eq (a := k) (b := 3) (by omega) (by omega)).mp c2
    refine s_iconst E dX5_timesC_5 (v := (-1)) (by decide) ?_
    refine s_goto E dX5_timesC_6 (tgt := 20) rfl ?_
    exact Rt ((-1)) (()) dX5_timesC_20 (by simp [bI, tC, c2]) rfl (Nat.le_refl _) (Nat.le_refl _) rfl E.2.2.2.2.2.1
set_option maxHeartbeats 1000000 in
set_option maxRecDepth 100000 in
theorem mz_without (v : Int32) : Ct l D gt yX5_without cX5_without 1 .int 0 0 0 0 [.int (v)] [] [] (fun r _ => absI v = r) (fun _ : Unit => []) (fun _ => []) := by
  refine Ct.start RX5 (by decide) rfl (Nat.le_of_ble_eq_true rfl) rfl ?_
  intro pP eE sS mM aA bB hM cC QQ AA E Rt
  refine s_iload_n E dX5_without_0 (i := 0) (j := 0) rfl rfl ?_
  refine s_if_ge E dX5_without_1 (tgt := 9) rfl (fun c1 => ?_) (fun c1 => ?_)
  · have c1 := Int32.not_lt.mpr c1
    refine s_iload_n E dX5_without_9 (i := 0) (j := 0) rfl rfl ?_
    exact Rt (v) (()) dX5_without_10 (by simp [bI, absI, c1]) rfl (Nat.le_refl _) (Nat.le_refl _) rfl E.2.2.2.2.2.1
  · have c1 := Int32.not_le.mp c1
    refine s_iload_n E dX5_without_4 (i := 0) (j := 0) rfl rfl ?_
    refine s_ineg E dX5_without_5 ?_
    refine s_goto E dX5_without_6 (tgt := 10) rfl ?_
    exact Rt (-v) (()) dX5_without_10 (by simp [bI, absI, c1]) rfl (Nat.le_refl _) (Nat.le_refl _) rfl E.2.2.2.2.2.1
set_option maxHeartbeats 1000000 in
set_option maxRecDepth 100000 in
theorem mz_bits (S : Nat) (hS : S < 256) : Ct l D gt yX5_bits cX5_bits 3 .int 0 0 0 0 [.int (nI S)] [] [] (fun r _ => nI (pop S) = r) (fun _ : Unit => []) (fun _ => []) := by
  refine Ct.start RX5 (by decide) rfl (Nat.le_of_ble_eq_true rfl) rfl ?_
  intro pP eE sS mM aA bB hM cC QQ AA E Rt
  refine s_iconst E dX5_bits_0 (v := nI 0) (by decide) ?_
  refine s_istore_n E (L2 := [(1, .int (nI 0)), (0, .int (nI S))]) dX5_bits_1 rfl (Nat.le_of_ble_eq_true rfl) rfl ?_
  refine s_iload_n E dX5_bits_2 (i := 0) (j := 1) rfl rfl ?_
  refine s_istore_n E (L2 := [(2, .int (nI S)), (1, .int (nI 0)), (0, .int (nI S))]) dX5_bits_3 rfl (Nat.le_of_ble_eq_true rfl) rfl ?_
  have L4 : ∀ (fuel : Nat) (z : Nat) (j : Nat), j < 256 → z + pop j = pop S → (pop j) < fuel → Sm pP l eE { frames := 0, cells := 0, slots := 0, locals := 0 } sS mM aA bB hM cC QQ AA D 3 0 0 ([]) 4 [(1, .int (nI z)), (2, .int (nI j))] [] := by
    intro fuel
    induction fuel with
    | zero =>
      intro z j hj hc hf4
      exact absurd hf4 (Nat.not_lt_zero _)
    | succ fuel ih4 =>
      intro z j hj hc hf4
      refine s_iload_n E dX5_bits_4 (i := 2) (j := 1) rfl rfl ?_
      refine s_if_eq E dX5_bits_5 (tgt := 20) rfl (fun c5 => ?_) (fun c5 => ?_)
      · have c5 : j = 0 := (nI_eq (a := j) (b := 0) (by omega) (by omega)).mp c5
        refine s_iload_n E dX5_bits_20 (i := 1) (j := 0) rfl rfl ?_
        exact Rt (nI z) (()) dX5_bits_21 (by subst c5; rw [← hc, pop_0, Nat.add_zero]) rfl (Nat.le_refl _) (Nat.le_refl _) rfl E.2.2.2.2.2.1
      · have c5 : ¬ j = 0 := fun h => c5 ((nI_eq (a := j) (b := 0) (by omega) (by omega)).mpr h)
        refine s_iinc E (L2 := [(1, .int (nI (z + 1))), (2, .int (nI j))]) dX5_bits_8 (k := 0) rfl (v := nI (z + 1)) (nI_inc _) (Nat.le_of_ble_eq_true rfl) rfl ?_
        refine s_iload_n E dX5_bits_11 (i := 2) (j := 1) rfl rfl ?_
        refine s_iload_n E dX5_bits_12 (i := 2) (j := 1) rfl rfl ?_
        refine s_iconst E dX5_bits_13 (v := nI 1) (by decide) ?_
        refine s_isub E dX5_bits_14 ?_
        refine s_iand_ E dX5_bits_15 (v := nI (j &&& (j - 1))) ((bits_step j hj c5).1) ?_
        refine s_istore_n E (L2 := [(2, .int (nI (j &&& (j - 1)))), (1, .int (nI (z + 1)))]) dX5_bits_16 rfl (Nat.le_of_ble_eq_true rfl) rfl ?_
        refine s_goto E dX5_bits_17 (tgt := 4) rfl ?_
        refine s_loc (L2 := [(1, .int (nI (z + 1))), (2, .int (nI (j &&& (j - 1))))]) [1, 0] rfl ?_
        exact ih4 (z + 1) (j &&& (j - 1)) ((bits_step j hj c5).2.1) (by have := (bits_step j hj c5).2.2; omega) (by have := (bits_step j hj c5).2.2; omega)
  refine s_loc (L2 := [(1, .int (nI 0)), (2, .int (nI S))]) [1, 0] rfl ?_
  exact L4 (_ + 1) 0 S (hS) (Nat.zero_add _) (Nat.lt_succ_self _)
set_option maxHeartbeats 1000000 in
set_option maxRecDepth 100000 in
theorem mz_lossOf {σ : Nat → Nat → Int32} (k : Nat) (hk : k < 6) : Ct l D gt yX5_lossOf cX5_lossOf 2 .int 0 0 0 0 [.ref (ad 0), .int (nI k)] (wm ad ct σ) (tysA ct) (fun r σ2 => σ 3 (4 + k / 2) = r ∧ σ = σ2) (fun σ2 => wm ad ct σ2) (fun _ => tysA ct) := by
  refine Ct.start RX5 (by decide) rfl (Nat.le_of_ble_eq_true rfl) rfl ?_
  intro pP eE sS mM aA bB hM cC QQ AA E Rt
  refine s_aload_n E dX5_lossOf_0 (i := 0) (j := 0) rfl rfl ?_
  refine mg3 E dX5_lossOf_1 ?_
  refine s_iconst E dX5_lossOf_4 (v := nI 4) (by decide) ?_
  refine s_iload_n E dX5_lossOf_5 (i := 1) (j := 1) rfl rfl ?_
  refine s_iconst E dX5_lossOf_6 (v := nI 2) (by decide) ?_
  refine s_idiv_ E dX5_lossOf_7 (by decide) (v := nI (k / 2)) (pk_div (by omega) (by decide) (by decide)) ?_
  refine s_iadd_ E dX5_lossOf_8 (v := nI (4 + (k / 2))) (nI_add _ _) ?_
  refine ml3 E (v := σ 3 (4 + (k / 2))) (4 + (k / 2)) (rfl) (by omega) (rfl) dX5_lossOf_9 ?_
  exact Rt (σ 3 (4 + (k / 2))) (σ) dX5_lossOf_10 (⟨rfl, rfl⟩) rfl (Nat.le_refl _) (Nat.le_refl _) rfl E.2.2.2.2.2.1
set_option maxHeartbeats 1000000 in
set_option maxRecDepth 100000 in
theorem mz_isThere {σ : Nat → Nat → Int32} (u a : Nat) (hu : u < 12) : Ct l D gt yX5_isThere cX5_isThere 3 .boolean 0 0 0 0 [.ref (ad 0), .int (nI u), .int (nI a)] (wm ad ct σ) (tysA ct) (fun r σ2 => bI (thB σ u a = true) = r ∧ σ = σ2) (fun σ2 => wm ad ct σ2) (fun _ => tysA ct) := by
  refine Ct.start RX5 (by decide) rfl (Nat.le_of_ble_eq_true rfl) rfl ?_
  intro pP eE sS mM aA bB hM cC QQ AA E Rt
  refine s_aload_n E dX5_isThere_0 (i := 0) (j := 0) rfl rfl ?_
  refine mg6 E dX5_isThere_1 ?_
  refine s_iload_n E dX5_isThere_4 (i := 1) (j := 1) rfl rfl ?_
  refine ml6 E (v := σ 6 u) (u) (rfl) (by omega) (rfl) dX5_isThere_5 ?_
  refine s_iload_n E dX5_isThere_6 (i := 2) (j := 2) rfl rfl ?_
  refine s_icmp_ne E dX5_isThere_7 (tgt := 25) rfl (fun c7 => ?_) (fun c7 => ?_)
  · refine s_iconst E dX5_isThere_25 (v := nI 0) (by decide) ?_
    exact Rt (nI 0) (σ) dX5_isThere_26 (⟨by simp [bI, thB, c7], rfl⟩) rfl (Nat.le_refl _) (Nat.le_refl _) rfl E.2.2.2.2.2.1
  · refine s_aload_n E dX5_isThere_10 (i := 0) (j := 0) rfl rfl ?_
    refine mg25 E dX5_isThere_11 ?_
    refine s_iconst E dX5_isThere_14 (v := nI 0) (by decide) ?_
    refine s_iload_n E dX5_isThere_15 (i := 1) (j := 1) rfl rfl ?_
    refine s_iadd_ E dX5_isThere_16 (v := nI u) (nI_z _) ?_
    refine ml25 E (v := σ 25 u) (u) (rfl) (by omega) (rfl) dX5_isThere_17 ?_
    refine s_if_le E dX5_isThere_18 (tgt := 25) rfl (fun c18 => ?_) (fun c18 => ?_)
    · have c18 := Int32.not_lt.mpr c18
      refine s_iconst E dX5_isThere_25 (v := nI 0) (by decide) ?_
      exact Rt (nI 0) (σ) dX5_isThere_26 (⟨by simp [bI, thB, c7, c18], rfl⟩) rfl (Nat.le_refl _) (Nat.le_refl _) rfl E.2.2.2.2.2.1
    · have c18 := Int32.not_le.mp c18
      refine s_iconst E dX5_isThere_21 (v := nI 1) (by decide) ?_
      refine s_goto E dX5_isThere_22 (tgt := 26) rfl ?_
      exact Rt (nI 1) (σ) dX5_isThere_26 (⟨by simp [bI, thB, c7, c18], rfl⟩) rfl (Nat.le_refl _) (Nat.le_refl _) rfl E.2.2.2.2.2.1
set_option maxHeartbeats 1000000 in
set_option maxRecDepth 100000 in
theorem mz_isIn {σ : Nat → Nat → Int32} (p u : Nat) (hp : p < 300) : Ct l D gt yX5_isIn cX5_isIn 3 .boolean 0 0 0 0 [.ref (ad 0), .int (nI p), .int (nI u)] (wm ad ct σ) (tysA ct) (fun r σ2 => bI (isInB σ p u = true) = r ∧ σ = σ2) (fun σ2 => wm ad ct σ2) (fun _ => tysA ct) := by
  refine Ct.start RX5 (by decide) rfl (Nat.le_of_ble_eq_true rfl) rfl ?_
  intro pP eE sS mM aA bB hM cC QQ AA E Rt
  refine s_aload_n E dX5_isIn_0 (i := 0) (j := 0) rfl rfl ?_
  refine mg35 E dX5_isIn_1 ?_
  refine s_iload_n E dX5_isIn_4 (i := 1) (j := 1) rfl rfl ?_
  refine ml35 E (v := σ 35 p) (p) (rfl) (by omega) (rfl) dX5_isIn_5 ?_
  refine s_iload_n E dX5_isIn_6 (i := 2) (j := 2) rfl rfl ?_
  refine s_icmp_eq E dX5_isIn_7 (tgt := 30) rfl (fun c7 => ?_) (fun c7 => ?_)
  · refine s_iconst E dX5_isIn_30 (v := nI 1) (by decide) ?_
    refine s_goto E dX5_isIn_31 (tgt := 35) rfl ?_
    exact Rt (nI 1) (σ) dX5_isIn_35 (⟨by simp [bI, isInB, c7], rfl⟩) rfl (Nat.le_refl _) (Nat.le_refl _) rfl E.2.2.2.2.2.1
  · refine s_aload_n E dX5_isIn_10 (i := 0) (j := 0) rfl rfl ?_
    refine mg36 E dX5_isIn_11 ?_
    refine s_iload_n E dX5_isIn_14 (i := 1) (j := 1) rfl rfl ?_
    refine ml36 E (v := σ 36 p) (p) (rfl) (by omega) (rfl) dX5_isIn_15 ?_
    refine s_iload_n E dX5_isIn_16 (i := 2) (j := 2) rfl rfl ?_
    refine s_icmp_eq E dX5_isIn_17 (tgt := 30) rfl (fun c17 => ?_) (fun c17 => ?_)
    · refine s_iconst E dX5_isIn_30 (v := nI 1) (by decide) ?_
      refine s_goto E dX5_isIn_31 (tgt := 35) rfl ?_
      exact Rt (nI 1) (σ) dX5_isIn_35 (⟨by simp [bI, isInB, c7, c17], rfl⟩) rfl (Nat.le_refl _) (Nat.le_refl _) rfl E.2.2.2.2.2.1
    · refine s_aload_n E dX5_isIn_20 (i := 0) (j := 0) rfl rfl ?_
      refine mg37 E dX5_isIn_21 ?_
      refine s_iload_n E dX5_isIn_24 (i := 1) (j := 1) rfl rfl ?_
      refine ml37 E (v := σ 37 p) (p) (rfl) (by omega) (rfl) dX5_isIn_25 ?_
      refine s_iload_n E dX5_isIn_26 (i := 2) (j := 2) rfl rfl ?_
      refine s_icmp_ne E dX5_isIn_27 (tgt := 34) rfl (fun c27 => ?_) (fun c27 => ?_)
      · refine s_iconst E dX5_isIn_34 (v := nI 0) (by decide) ?_
        exact Rt (nI 0) (σ) dX5_isIn_35 (⟨by simp [bI, isInB, c7, c17, c27], rfl⟩) rfl (Nat.le_refl _) (Nat.le_refl _) rfl E.2.2.2.2.2.1
      · refine s_iconst E dX5_isIn_30 (v := nI 1) (by decide) ?_
        refine s_goto E dX5_isIn_31 (tgt := 35) rfl ?_
        exact Rt (nI 1) (σ) dX5_isIn_35 (⟨by simp [bI, isInB, c7, c17, c27], rfl⟩) rfl (Nat.le_refl _) (Nat.le_refl _) rfl E.2.2.2.2.2.1
set_option maxHeartbeats 1000000 in
set_option maxRecDepth 100000 in
theorem mz_highOf {σ : Nat → Nat → Int32} (u : Nat) (hu : u < 12) : Ct l D gt yX5_highOf cX5_highOf 2 .int 0 0 0 0 [.ref (ad 0), .int (nI u)] (wm ad ct σ) (tysA ct) (fun r σ2 => highF σ u = r ∧ σ = σ2) (fun σ2 => wm ad ct σ2) (fun _ => tysA ct) := by
  refine Ct.start RX5 (by decide) rfl (Nat.le_of_ble_eq_true rfl) rfl ?_
  intro pP eE sS mM aA bB hM cC QQ AA E Rt
  refine s_aload_n E dX5_highOf_0 (i := 0) (j := 0) rfl rfl ?_
  refine mg9 E dX5_highOf_1 ?_
  refine s_iload_n E dX5_highOf_4 (i := 1) (j := 1) rfl rfl ?_
  refine ml9 E (v := σ 9 u) (u) (rfl) (by omega) (rfl) dX5_highOf_5 ?_
  refine s_aload_n E dX5_highOf_6 (i := 0) (j := 0) rfl rfl ?_
  refine mg30 E (v := σ 0 30) (rfl) dX5_highOf_7 ?_
  refine s_icmp_ge E dX5_highOf_10 (tgt := 22) rfl (fun c10 => ?_) (fun c10 => ?_)
  · have c10 := Int32.not_lt.mpr c10
    refine s_aload_n E dX5_highOf_22 (i := 0) (j := 0) rfl rfl ?_
    refine mg30 E (v := σ 0 30) (rfl) dX5_highOf_23 ?_
    exact Rt (σ 0 30) (σ) dX5_highOf_26 (⟨by simp [bI, highF, c10], rfl⟩) rfl (Nat.le_refl _) (Nat.le_refl _) rfl E.2.2.2.2.2.1
  · have c10 := Int32.not_le.mp c10
    refine s_aload_n E dX5_highOf_13 (i := 0) (j := 0) rfl rfl ?_
    refine mg9 E dX5_highOf_14 ?_
    refine s_iload_n E dX5_highOf_17 (i := 1) (j := 1) rfl rfl ?_
    refine ml9 E (v := σ 9 u) (u) (rfl) (by omega) (rfl) dX5_highOf_18 ?_
    refine s_goto E dX5_highOf_19 (tgt := 26) rfl ?_
    exact Rt (σ 9 u) (σ) dX5_highOf_26 (⟨by simp [bI, highF, c10], rfl⟩) rfl (Nat.le_refl _) (Nat.le_refl _) rfl E.2.2.2.2.2.1
set_option maxHeartbeats 1000000 in
set_option maxRecDepth 100000 in
theorem mz_isRight {σ : Nat → Nat → Int32} (u : Nat) (hu : u < 12) (hc : In (σ 25 u) 61) : Ct l D gt yX5_isRight cX5_isRight 3 .boolean 1 21 0 0 [.ref (ad 0), .int (nI u)] (wm ad ct σ) (tysA ct) (fun r σ2 => bI (rightB σ u = true) = r ∧ σ = σ2) (fun σ2 => wm ad ct σ2) (fun _ => tysA ct) := by
  refine Ct.start RX5 (by decide) rfl (Nat.le_of_ble_eq_true rfl) rfl ?_
  intro pP eE sS mM aA bB hM cC QQ AA E Rt
  refine s_aload_n E dX5_isRight_0 (i := 0) (j := 0) rfl rfl ?_
  refine mg25 E dX5_isRight_1 ?_
  refine s_iconst E dX5_isRight_4 (v := nI 0) (by decide) ?_
  refine s_iload_n E dX5_isRight_5 (i := 1) (j := 1) rfl rfl ?_
  refine s_iadd_ E dX5_isRight_6 (v := nI u) (nI_z _) ?_
  refine ml25 E (v := σ 25 u) (u) (rfl) (by omega) (rfl) dX5_isRight_7 ?_
  refine s_istore_n E (L2 := [(2, .int (σ 25 u)), (0, .ref (ad 0)), (1, .int (nI u))]) dX5_isRight_8 rfl (Nat.le_of_ble_eq_true rfl) rfl ?_
  refine s_iload_n E dX5_isRight_9 (i := 2) (j := 0) rfl rfl ?_
  refine s_aload_n E dX5_isRight_10 (i := 0) (j := 1) rfl rfl ?_
  refine mg8 E dX5_isRight_11 ?_
  refine s_iload_n E dX5_isRight_14 (i := 1) (j := 2) rfl rfl ?_
  refine ml8 E (v := σ 8 u) (u) (rfl) (by omega) (rfl) dX5_isRight_15 ?_
  refine s_icmp_lt E dX5_isRight_16 (tgt := 44) rfl (fun c16 => ?_) (fun c16 => ?_)
  · refine s_iconst E dX5_isRight_44 (v := nI 0) (by decide) ?_
    exact Rt (nI 0) (σ) dX5_isRight_45 (⟨by simp [bI, rightB, c16], rfl⟩) rfl (Nat.le_refl _) (Nat.le_refl _) rfl E.2.2.2.2.2.1
  · refine s_iload_n E dX5_isRight_19 (i := 2) (j := 0) rfl rfl ?_
    refine s_aload_n E dX5_isRight_20 (i := 0) (j := 1) rfl rfl ?_
    refine s_iload_n E dX5_isRight_21 (i := 1) (j := 2) rfl rfl ?_
    refine m_calli E (mz_highOf u (hu)) K5_320 (Nat.le_of_ble_eq_true rfl) (Nat.le_of_ble_eq_true rfl) (Nat.zero_le _) (Nat.zero_le _) rfl rfl (Nat.le_of_ble_eq_true rfl) dX5_isRight_22 (fun r22 w22 h22 => ?_)
    obtain ⟨rfl, rfl⟩ := h22
    refine s_icmp_gt E dX5_isRight_25 (tgt := 44) rfl (fun c25 => ?_) (fun c25 => ?_)
    · refine s_iconst E dX5_isRight_44 (v := nI 0) (by decide) ?_
      exact Rt (nI 0) (σ) dX5_isRight_45 (⟨by simp [bI, rightB, c16, c25], rfl⟩) rfl (Nat.le_refl _) (Nat.le_refl _) rfl E.2.2.2.2.2.1
    · refine s_aload_n E dX5_isRight_28 (i := 0) (j := 1) rfl rfl ?_
      refine mg25 E dX5_isRight_29 ?_
      refine s_bipush E dX5_isRight_32 (v := nI 12) (by decide) ?_
      refine s_iload_n E dX5_isRight_34 (i := 2) (j := 0) rfl rfl ?_
      refine s_iadd_ E dX5_isRight_35 (v := nI (12 + tN (σ 25 u))) (by rw [← nI_add, ← hc.1]) ?_
      refine ml25 E (v := σ 25 (12 + tN (σ 25 u))) (12 + tN (σ 25 u)) (rfl) (by have := hc.2; omega) (rfl) dX5_isRight_36 ?_
      refine s_if_ne E dX5_isRight_37 (tgt := 44) rfl (fun c37 => ?_) (fun c37 => ?_)
      · refine s_iconst E dX5_isRight_44 (v := nI 0) (by decide) ?_
        exact Rt (nI 0) (σ) dX5_isRight_45 (⟨by simp [bI, rightB, c16, c25, c37], rfl⟩) rfl (Nat.le_refl _) (Nat.le_refl _) rfl E.2.2.2.2.2.1
      · refine s_iconst E dX5_isRight_40 (v := nI 1) (by decide) ?_
        refine s_goto E dX5_isRight_41 (tgt := 45) rfl ?_
        exact Rt (nI 1) (σ) dX5_isRight_45 (⟨by simp [bI, rightB, c16, c25, c37], rfl⟩) rfl (Nat.le_refl _) (Nat.le_refl _) rfl E.2.2.2.2.2.1
set_option maxHeartbeats 1000000 in
set_option maxRecDepth 100000 in
theorem mz_mayHit {σ : Nat → Nat → Int32} (p u : Nat) (hp : p < 300) (hu : u < 6) (ha : In (σ 35 p) 12) (hs : In (σ 6 (tN (σ 35 p))) 3) (ht : In (σ 6 u) 3) : Ct l D gt yX5_mayHit cX5_mayHit 5 .boolean 1 22 0 0 [.ref (ad 0), .int (nI p), .int (nI u)] (wm ad ct σ) (tysA ct) (fun r σ2 => bI (mayB σ p u = true) = r ∧ σ = σ2) (fun σ2 => wm ad ct σ2) (fun _ => tysA ct) := by
  refine Ct.start RX5 (by decide) rfl (Nat.le_of_ble_eq_true rfl) rfl ?_
  intro pP eE sS mM aA bB hM cC QQ AA E Rt
  refine s_aload_n E dX5_mayHit_0 (i := 0) (j := 0) rfl rfl ?_
  refine mg39 E dX5_mayHit_1 ?_
  refine s_iload_n E dX5_mayHit_4 (i := 1) (j := 1) rfl rfl ?_
  refine ml39 E (v := σ 39 p) (p) (rfl) (by omega) (rfl) dX5_mayHit_5 ?_
  refine s_if_lt E dX5_mayHit_6 (tgt := 48) rfl (fun c6 => ?_) (fun c6 => ?_)
  · refine s_iconst E dX5_mayHit_48 (v := nI 0) (by decide) ?_
    exact Rt (nI 0) (σ) dX5_mayHit_49 (⟨by simp [bI, mayB, linkF, c6], rfl⟩) rfl (Nat.le_refl _) (Nat.le_refl _) rfl E.2.2.2.2.2.1
  · refine s_aload_n E dX5_mayHit_9 (i := 0) (j := 0) rfl rfl ?_
    refine mg25 E dX5_mayHit_10 ?_
    refine s_iconst E dX5_mayHit_13 (v := nI 0) (by decide) ?_
    refine s_iload_n E dX5_mayHit_14 (i := 2) (j := 2) rfl rfl ?_
    refine s_iadd_ E dX5_mayHit_15 (v := nI u) (nI_z _) ?_
    refine ml25 E (v := σ 25 u) (u) (rfl) (by omega) (rfl) dX5_mayHit_16 ?_
    refine s_if_eq E dX5_mayHit_17 (tgt := 48) rfl (fun c17 => ?_) (fun c17 => ?_)
    · refine s_iconst E dX5_mayHit_48 (v := nI 0) (by decide) ?_
      exact Rt (nI 0) (σ) dX5_mayHit_49 (⟨by simp [bI, mayB, linkF, c6, c17], rfl⟩) rfl (Nat.le_refl _) (Nat.le_refl _) rfl E.2.2.2.2.2.1
    · refine s_aload_n E dX5_mayHit_20 (i := 0) (j := 0) rfl rfl ?_
      refine s_iload_n E dX5_mayHit_21 (i := 1) (j := 1) rfl rfl ?_
      refine s_iload_n E dX5_mayHit_22 (i := 2) (j := 2) rfl rfl ?_
      refine m_calli E (mz_isIn p u (hp)) K5_302 (Nat.le_of_ble_eq_true rfl) (Nat.le_of_ble_eq_true rfl) (Nat.zero_le _) (Nat.zero_le _) rfl rfl (Nat.le_of_ble_eq_true rfl) dX5_mayHit_23 (fun r23 w23 h23 => ?_)
      obtain ⟨rfl, rfl⟩ := h23
      refine s_if_ne E dX5_mayHit_26 (tgt := 48) rfl (fun c26 => ?_) (fun c26 => ?_)
      · have c26 := bI_n0 c26
        refine s_iconst E dX5_mayHit_48 (v := nI 0) (by decide) ?_
        exact Rt (nI 0) (σ) dX5_mayHit_49 (⟨by simp [bI, mayB, linkF, c6, c17, c26], rfl⟩) rfl (Nat.le_refl _) (Nat.le_refl _) rfl E.2.2.2.2.2.1
      · have c26 := bI_0 c26
        refine s_aload_n E dX5_mayHit_29 (i := 0) (j := 0) rfl rfl ?_
        refine mg40 E dX5_mayHit_30 ?_
        refine s_iload_n E dX5_mayHit_33 (i := 1) (j := 1) rfl rfl ?_
        refine ml40 E (v := σ 40 p) (p) (rfl) (by omega) (rfl) dX5_mayHit_34 ?_
        refine s_aload_n E dX5_mayHit_35 (i := 0) (j := 0) rfl rfl ?_
        refine mg25 E dX5_mayHit_36 ?_
        refine s_bipush E dX5_mayHit_39 (v := nI 73) (by decide) ?_
        refine s_iload_n E dX5_mayHit_41 (i := 2) (j := 2) rfl rfl ?_
        refine s_iadd_ E dX5_mayHit_42 (v := nI (73 + u)) (nI_add _ _) ?_
        refine ml25 E (v := σ 25 (73 + u)) (73 + u) (rfl) (by omega) (rfl) dX5_mayHit_43 ?_
        refine s_iand E dX5_mayHit_44 ?_
        refine s_if_ne E dX5_mayHit_45 (tgt := 50) rfl (fun c45 => ?_) (fun c45 => ?_)
        · refine s_aload_n E dX5_mayHit_50 (i := 0) (j := 0) rfl rfl ?_
          refine mg6 E dX5_mayHit_51 ?_
          refine s_aload_n E dX5_mayHit_54 (i := 0) (j := 0) rfl rfl ?_
          refine mg35 E dX5_mayHit_55 ?_
          refine s_iload_n E dX5_mayHit_58 (i := 1) (j := 1) rfl rfl ?_
          refine ml35 E (v := σ 35 p) (p) (rfl) (by omega) (rfl) dX5_mayHit_59 ?_
          refine ml6 E (v := σ 6 (tN (σ 35 p))) (tN (σ 35 p)) (ha.1) (ha.2) (rfl) dX5_mayHit_60 ?_
          refine s_istore_n E (L2 := [(3, .int (σ 6 (tN (σ 35 p)))), (0, .ref (ad 0)), (1, .int (nI p)), (2, .int (nI u))]) dX5_mayHit_61 rfl (Nat.le_of_ble_eq_true rfl) rfl ?_
          refine s_aload_n E dX5_mayHit_62 (i := 0) (j := 1) rfl rfl ?_
          refine mg6 E dX5_mayHit_63 ?_
          refine s_iload_n E dX5_mayHit_66 (i := 2) (j := 3) rfl rfl ?_
          refine ml6 E (v := σ 6 u) (u) (rfl) (by omega) (rfl) dX5_mayHit_67 ?_
          refine s_iload_n E dX5_mayHit_68 (i := 3) (j := 0) rfl rfl ?_
          refine s_icmp_ne E dX5_mayHit_69 (tgt := 74) rfl (fun c69 => ?_) (fun c69 => ?_)
          · refine s_aload_n E dX5_mayHit_74 (i := 0) (j := 1) rfl rfl ?_
            refine mg12 E dX5_mayHit_75 ?_
            refine s_iconst E dX5_mayHit_78 (v := nI 3) (by decide) ?_
            refine s_iload_n E dX5_mayHit_79 (i := 3) (j := 0) rfl rfl ?_
            refine s_imul_ E dX5_mayHit_80 (v := nI (3 * tN (σ 6 (tN (σ 35 p))))) (by rw [← pk_mul, ← hs.1]) ?_
            refine s_aload_n E dX5_mayHit_81 (i := 0) (j := 1) rfl rfl ?_
            refine mg6 E dX5_mayHit_82 ?_
            refine s_iload_n E dX5_mayHit_85 (i := 2) (j := 3) rfl rfl ?_
            refine ml6 E (v := σ 6 u) (u) (rfl) (by omega) (rfl) dX5_mayHit_86 ?_
            refine s_iadd_ E dX5_mayHit_87 (v := nI (3 * tN (σ 6 (tN (σ 35 p))) + tN (σ 6 u))) (by rw [← nI_add, ← ht.1]) ?_
            refine ml12 E (v := σ 12 (3 * tN (σ 6 (tN (σ 35 p))) + tN (σ 6 u))) (3 * tN (σ 6 (tN (σ 35 p))) + tN (σ 6 u)) (rfl) (by have := hs.2; have := ht.2; omega) (rfl) dX5_mayHit_88 ?_
            refine s_istore E (L2 := [(4, .int (σ 12 (3 * tN (σ 6 (tN (σ 35 p))) + tN (σ 6 u)))), (3, .int (σ 6 (tN (σ 35 p)))), (0, .ref (ad 0)), (1, .int (nI p)), (2, .int (nI u))]) dX5_mayHit_89 (Nat.le_of_ble_eq_true rfl) rfl ?_
            refine s_iload E dX5_mayHit_91 (i := 4) (j := 0) rfl ?_
            refine s_bipush E dX5_mayHit_93 (v := (-2)) (by decide) ?_
            refine s_icmp_eq E dX5_mayHit_95 (tgt := 113) rfl (fun c95 => ?_) (fun c95 => ?_)
            · refine s_iconst E dX5_mayHit_113 (v := nI 0) (by decide) ?_
              exact Rt (nI 0) (σ) dX5_mayHit_114 (⟨by simp [bI, mayB, linkF, c6, c17, c26, c45, c69, c95], rfl⟩) rfl (Nat.le_refl _) (Nat.le_refl _) rfl E.2.2.2.2.2.1
            · refine s_aload_n E dX5_mayHit_98 (i := 0) (j := 2) rfl rfl ?_
              refine mg39 E dX5_mayHit_99 ?_
              refine s_iload_n E dX5_mayHit_102 (i := 1) (j := 3) rfl rfl ?_
              refine ml39 E (v := σ 39 p) (p) (rfl) (by omega) (rfl) dX5_mayHit_103 ?_
              refine s_iload E dX5_mayHit_104 (i := 4) (j := 0) rfl ?_
              refine s_icmp_lt E dX5_mayHit_106 (tgt := 113) rfl (fun c106 => ?_) (fun c106 => ?_)
              · refine s_iconst E dX5_mayHit_113 (v := nI 0) (by decide) ?_
                exact Rt (nI 0) (σ) dX5_mayHit_114 (⟨by simp [bI, mayB, linkF, c6, c17, c26, c45, c69, c95, c106], rfl⟩) rfl (Nat.le_refl _) (Nat.le_refl _) rfl E.2.2.2.2.2.1
              · refine s_iconst E dX5_mayHit_109 (v := nI 1) (by decide) ?_
                refine s_goto E dX5_mayHit_110 (tgt := 114) rfl ?_
                exact Rt (nI 1) (σ) dX5_mayHit_114 (⟨by simp [bI, mayB, linkF, c6, c17, c26, c45, c69, c95, c106], rfl⟩) rfl (Nat.le_refl _) (Nat.le_refl _) rfl E.2.2.2.2.2.1
          · refine s_iconst E dX5_mayHit_72 (v := nI 1) (by decide) ?_
            exact Rt (nI 1) (σ) dX5_mayHit_73 (⟨by simp [bI, mayB, linkF, c6, c17, c26, c45, c69], rfl⟩) rfl (Nat.le_refl _) (Nat.le_refl _) rfl E.2.2.2.2.2.1
        · refine s_iconst E dX5_mayHit_48 (v := nI 0) (by decide) ?_
          exact Rt (nI 0) (σ) dX5_mayHit_49 (⟨by simp [bI, mayB, linkF, c6, c17, c26, c45], rfl⟩) rfl (Nat.le_refl _) (Nat.le_refl _) rfl E.2.2.2.2.2.1
set_option maxHeartbeats 1000000 in
set_option maxRecDepth 100000 in
theorem mz_hits {σ : Nat → Nat → Int32} (p u : Nat) (hp : p < 300) (hu : u < 6) (ha : In (σ 35 p) 12) (hs : In (σ 6 (tN (σ 35 p))) 3) (ht : In (σ 6 u) 3) : Ct l D gt yX5_hits cX5_hits 3 .boolean 2 46 0 0 [.ref (ad 0), .int (nI p), .int (nI u)] (wm ad ct σ) (tysA ct) (fun r σ2 => bI (hitB σ p u = true) = r ∧ σ = σ2) (fun σ2 => wm ad ct σ2) (fun _ => tysA ct) := by
  refine Ct.start RX5 (by decide) rfl (Nat.le_of_ble_eq_true rfl) rfl ?_
  intro pP eE sS mM aA bB hM cC QQ AA E Rt
  refine s_aload_n E dX5_hits_0 (i := 0) (j := 0) rfl rfl ?_
  refine s_iload_n E dX5_hits_1 (i := 1) (j := 1) rfl rfl ?_
  refine s_iload_n E dX5_hits_2 (i := 2) (j := 2) rfl rfl ?_
  refine m_calli E (mz_mayHit p u (hp) (hu) (ha) (hs) (ht)) K5_299 (Nat.le_of_ble_eq_true rfl) (Nat.le_of_ble_eq_true rfl) (Nat.zero_le _) (Nat.zero_le _) rfl rfl (Nat.le_of_ble_eq_true rfl) dX5_hits_3 (fun r3 w3 h3 => ?_)
  obtain ⟨rfl, rfl⟩ := h3
  refine s_if_eq E dX5_hits_6 (tgt := 38) rfl (fun c6 => ?_) (fun c6 => ?_)
  · have c6 := bI_0 c6
    refine s_iconst E dX5_hits_38 (v := nI 0) (by decide) ?_
    exact Rt (nI 0) (σ) dX5_hits_39 (⟨by simp [bI, hitB, c6], rfl⟩) rfl (Nat.le_refl _) (Nat.le_refl _) rfl E.2.2.2.2.2.1
  · have c6 := bI_n0 c6
    refine s_aload_n E dX5_hits_9 (i := 0) (j := 0) rfl rfl ?_
    refine mg25 E dX5_hits_10 ?_
    refine s_iconst E dX5_hits_13 (v := nI 0) (by decide) ?_
    refine s_iload_n E dX5_hits_14 (i := 2) (j := 2) rfl rfl ?_
    refine s_iadd_ E dX5_hits_15 (v := nI u) (nI_z _) ?_
    refine ml25 E (v := σ 25 u) (u) (rfl) (by omega) (rfl) dX5_hits_16 ?_
    refine s_aload_n E dX5_hits_17 (i := 0) (j := 0) rfl rfl ?_
    refine mg38 E dX5_hits_18 ?_
    refine s_iload_n E dX5_hits_21 (i := 1) (j := 1) rfl rfl ?_
    refine ml38 E (v := σ 38 p) (p) (rfl) (by omega) (rfl) dX5_hits_22 ?_
    refine s_isub E dX5_hits_23 ?_
    refine m_calls E (mz_without ((σ 25 u) - (σ 38 p))) K5_274 (Nat.le_of_ble_eq_true rfl) (Nat.le_of_ble_eq_true rfl) (Nat.zero_le _) (Nat.zero_le _) rfl rfl (Nat.le_of_ble_eq_true rfl) dX5_hits_24 (fun r24 h24 => ?_)
    subst h24
    refine s_aload_n E dX5_hits_27 (i := 0) (j := 0) rfl rfl ?_
    refine mg31 E (v := σ 0 31) (rfl) dX5_hits_28 ?_
    refine s_icmp_gt E dX5_hits_31 (tgt := 38) rfl (fun c31 => ?_) (fun c31 => ?_)
    · refine s_iconst E dX5_hits_38 (v := nI 0) (by decide) ?_
      exact Rt (nI 0) (σ) dX5_hits_39 (⟨by simp [bI, hitB, c6, c31], rfl⟩) rfl (Nat.le_refl _) (Nat.le_refl _) rfl E.2.2.2.2.2.1
    · refine s_iconst E dX5_hits_34 (v := nI 1) (by decide) ?_
      refine s_goto E dX5_hits_35 (tgt := 39) rfl ?_
      exact Rt (nI 1) (σ) dX5_hits_39 (⟨by simp [bI, hitB, c6, c31], rfl⟩) rfl (Nat.le_refl _) (Nat.le_refl _) rfl E.2.2.2.2.2.1
set_option maxHeartbeats 1000000 in
set_option maxRecDepth 100000 in
theorem mz_hitsOf {σ : Nat → Nat → Int32} (n p : Nat) (hp : p < 300) (hn : σ 3 7 = nI n) (hn6 : n ≤ 6) (ha : In (σ 35 p) 12) (hs : In (σ 6 (tN (σ 35 p))) 3) (ht : ∀ v, v < n → In (σ 6 v) 3) : Ct l D gt yX5_hitsOf cX5_hitsOf 4 .int 3 68 0 0 [.ref (ad 0), .int (nI p)] (wm ad ct σ) (tysA ct) (fun r σ2 => nI (setN (hitB σ p) n) = r ∧ σ = σ2) (fun σ2 => wm ad ct σ2) (fun _ => tysA ct) := by
  refine Ct.start RX5 (by decide) rfl (Nat.le_of_ble_eq_true rfl) rfl ?_
  intro pP eE sS mM aA bB hM cC QQ AA E Rt
  refine s_iconst E dX5_hitsOf_0 (v := nI 0) (by decide) ?_
  refine s_istore_n E (L2 := [(2, .int (nI 0)), (0, .ref (ad 0)), (1, .int (nI p))]) dX5_hitsOf_1 rfl (Nat.le_of_ble_eq_true rfl) rfl ?_
  refine s_iconst E dX5_hitsOf_2 (v := nI 0) (by decide) ?_
  refine s_istore_n E (L2 := [(3, .int (nI 0)), (2, .int (nI 0)), (0, .ref (ad 0)), (1, .int (nI p))]) dX5_hitsOf_3 rfl (Nat.le_of_ble_eq_true rfl) rfl ?_
  have L4 : ∀ (fuel : Nat) (i : Nat), i ≤ n → (n - i) < fuel → Sm pP l eE { frames := 3, cells := 0, slots := 0, locals := 68 } sS mM aA bB hM cC QQ AA D 4 0 0 (wm ad ct σ) 4 [(0, .ref (ad 0)), (1, .int (nI p)), (2, .int (nI (setN (hitB σ p) i))), (3, .int (nI i))] [] := by
    intro fuel
    induction fuel with
    | zero =>
      intro i hi hf4
      exact absurd hf4 (Nat.not_lt_zero _)
    | succ fuel ih4 =>
      intro i hi hf4
      refine s_iload_n E dX5_hitsOf_4 (i := 3) (j := 3) rfl rfl ?_
      refine s_aload_n E dX5_hitsOf_5 (i := 0) (j := 0) rfl rfl ?_
      refine m_calli E (mz_users n (hn)) K5_232 (Nat.le_of_ble_eq_true rfl) (Nat.le_of_ble_eq_true rfl) (Nat.zero_le _) (Nat.zero_le _) rfl rfl (Nat.le_of_ble_eq_true rfl) dX5_hitsOf_6 (fun r6 w6 h6 => ?_)
      obtain ⟨rfl, rfl⟩ := h6
      refine s_icmp_ge E dX5_hitsOf_9 (tgt := 33) rfl (fun c9 => ?_) (fun c9 => ?_)
      · have c9 : ¬ i < n := fun h => absurd c9 (Int32.not_le.mpr ((nI_ltI (a := i) (b := n) (by omega) (by omega)).mpr h))
        refine s_iload_n E dX5_hitsOf_33 (i := 2) (j := 2) rfl rfl ?_
        exact Rt (nI (setN (hitB σ p) i)) (σ) dX5_hitsOf_34 (by obtain rfl : i = n := (by omega); exact ⟨rfl, rfl⟩) rfl (Nat.le_refl _) (Nat.le_refl _) rfl E.2.2.2.2.2.1
      · have c9 : i < n := (nI_ltI (a := i) (b := n) (by omega) (by omega)).mp (Int32.not_le.mp c9)
        refine s_aload_n E dX5_hitsOf_12 (i := 0) (j := 0) rfl rfl ?_
        refine s_iload_n E dX5_hitsOf_13 (i := 1) (j := 1) rfl rfl ?_
        refine s_iload_n E dX5_hitsOf_14 (i := 3) (j := 3) rfl rfl ?_
        refine m_calli E (mz_hits p i (hp) (by omega) (ha) (hs) (ht i (by omega))) K5_305 (Nat.le_of_ble_eq_true rfl) (Nat.le_of_ble_eq_true rfl) (Nat.zero_le _) (Nat.zero_le _) rfl rfl (Nat.le_of_ble_eq_true rfl) dX5_hitsOf_15 (fun r15 w15 h15 => ?_)
        obtain ⟨rfl, rfl⟩ := h15
        refine s_if_eq E dX5_hitsOf_18 (tgt := 27) rfl (fun c18 => ?_) (fun c18 => ?_)
        · have c18 := bI_0 c18
          refine s_iinc E (L2 := [(3, .int (nI (i + 1))), (0, .ref (ad 0)), (1, .int (nI p)), (2, .int (nI (setN (hitB σ p) i)))]) dX5_hitsOf_27 (k := 3) rfl (v := nI (i + 1)) (nI_inc _) (Nat.le_of_ble_eq_true rfl) rfl ?_
          refine s_goto E dX5_hitsOf_30 (tgt := 4) rfl ?_
          rw [setN_f c18]
          refine s_loc (L2 := [(0, .ref (ad 0)), (1, .int (nI p)), (2, .int (nI (setN (hitB σ p) (i + 1)))), (3, .int (nI (i + 1)))]) [1, 2, 3, 0] rfl ?_
          exact ih4 (i + 1) (by omega) (by omega)
        · have c18 := bI_n0 c18
          refine s_iload_n E dX5_hitsOf_21 (i := 2) (j := 2) rfl rfl ?_
          refine s_iconst E dX5_hitsOf_22 (v := nI 1) (by decide) ?_
          refine s_iload_n E dX5_hitsOf_23 (i := 3) (j := 3) rfl rfl ?_
          refine s_ishl E dX5_hitsOf_24 ?_
          refine s_ior_ E dX5_hitsOf_25 (v := nI (setN (hitB σ p) (i + 1))) (setN_t (by omega) c18) ?_
          refine s_istore_n E (L2 := [(2, .int (nI (setN (hitB σ p) (i + 1)))), (0, .ref (ad 0)), (1, .int (nI p)), (3, .int (nI i))]) dX5_hitsOf_26 rfl (Nat.le_of_ble_eq_true rfl) rfl ?_
          refine s_iinc E (L2 := [(3, .int (nI (i + 1))), (2, .int (nI (setN (hitB σ p) (i + 1)))), (0, .ref (ad 0)), (1, .int (nI p))]) dX5_hitsOf_27 (k := 3) rfl (v := nI (i + 1)) (nI_inc _) (Nat.le_of_ble_eq_true rfl) rfl ?_
          refine s_goto E dX5_hitsOf_30 (tgt := 4) rfl ?_
          refine s_loc (L2 := [(0, .ref (ad 0)), (1, .int (nI p)), (2, .int (nI (setN (hitB σ p) (i + 1)))), (3, .int (nI (i + 1)))]) [2, 3, 1, 0] rfl ?_
          exact ih4 (i + 1) (by omega) (by omega)
  refine s_loc (L2 := [(0, .ref (ad 0)), (1, .int (nI p)), (2, .int (nI 0)), (3, .int (nI 0))]) [2, 3, 1, 0] rfl ?_
  exact L4 (_ + 1) 0 (Nat.zero_le _) (Nat.lt_succ_self _)
set_option maxHeartbeats 1000000 in
set_option maxRecDepth 100000 in
theorem mz_crowd {σ : Nat → Nat → Int32} (a b : Nat) (ha : a < 6) (hb : b < 6) : Ct l D gt yX5_crowd cX5_crowd 3 .boolean 1 20 0 0 [.ref (ad 0), .int (nI a), .int (nI b)] (wm ad ct σ) (tysA ct) (fun r σ2 => bI (crowdB σ a b = true) = r ∧ σ = σ2) (fun σ2 => wm ad ct σ2) (fun _ => tysA ct) := by
  refine Ct.start RX5 (by decide) rfl (Nat.le_of_ble_eq_true rfl) rfl ?_
  intro pP eE sS mM aA bB hM cC QQ AA E Rt
  refine s_iload_n E dX5_crowd_0 (i := 1) (j := 1) rfl rfl ?_
  refine s_iload_n E dX5_crowd_1 (i := 2) (j := 2) rfl rfl ?_
  refine s_icmp_eq E dX5_crowd_2 (tgt := 95) rfl (fun c2 => ?_) (fun c2 => ?_)
  · have c2 : a = b := (nI_eq (a := a) (b := b) (by omega) (by omega)).mp c2
    refine s_iconst E dX5_crowd_95 (v := nI 0) (by decide) ?_
    exact Rt (nI 0) (σ) dX5_crowd_96 (⟨by simp [bI, crowdB, c2], rfl⟩) rfl (Nat.le_refl _) (Nat.le_refl _) rfl E.2.2.2.2.2.1
  · have c2 : ¬ a = b := fun h => c2 ((nI_eq (a := a) (b := b) (by omega) (by omega)).mpr h)
    refine s_aload_n E dX5_crowd_5 (i := 0) (j := 0) rfl rfl ?_
    refine mg6 E dX5_crowd_6 ?_
    refine s_iload_n E dX5_crowd_9 (i := 1) (j := 1) rfl rfl ?_
    refine ml6 E (v := σ 6 a) (a) (rfl) (by omega) (rfl) dX5_crowd_10 ?_
    refine s_aload_n E dX5_crowd_11 (i := 0) (j := 0) rfl rfl ?_
    refine mg6 E dX5_crowd_12 ?_
    refine s_iload_n E dX5_crowd_15 (i := 2) (j := 2) rfl rfl ?_
    refine ml6 E (v := σ 6 b) (b) (rfl) (by omega) (rfl) dX5_crowd_16 ?_
    refine s_icmp_ne E dX5_crowd_17 (tgt := 95) rfl (fun c17 => ?_) (fun c17 => ?_)
    · refine s_iconst E dX5_crowd_95 (v := nI 0) (by decide) ?_
      exact Rt (nI 0) (σ) dX5_crowd_96 (⟨by simp [bI, crowdB, c2, c17], rfl⟩) rfl (Nat.le_refl _) (Nat.le_refl _) rfl E.2.2.2.2.2.1
    · refine s_aload_n E dX5_crowd_20 (i := 0) (j := 0) rfl rfl ?_
      refine mg25 E dX5_crowd_21 ?_
      refine s_bipush E dX5_crowd_24 (v := nI 73) (by decide) ?_
      refine s_iload_n E dX5_crowd_26 (i := 1) (j := 1) rfl rfl ?_
      refine s_iadd_ E dX5_crowd_27 (v := nI (73 + a)) (nI_add _ _) ?_
      refine ml25 E (v := σ 25 (73 + a)) (73 + a) (rfl) (by omega) (rfl) dX5_crowd_28 ?_
      refine s_aload_n E dX5_crowd_29 (i := 0) (j := 0) rfl rfl ?_
      refine mg25 E dX5_crowd_30 ?_
      refine s_bipush E dX5_crowd_33 (v := nI 73) (by decide) ?_
      refine s_iload_n E dX5_crowd_35 (i := 2) (j := 2) rfl rfl ?_
      refine s_iadd_ E dX5_crowd_36 (v := nI (73 + b)) (nI_add _ _) ?_
      refine ml25 E (v := σ 25 (73 + b)) (73 + b) (rfl) (by omega) (rfl) dX5_crowd_37 ?_
      refine s_iand E dX5_crowd_38 ?_
      refine s_if_eq E dX5_crowd_39 (tgt := 95) rfl (fun c39 => ?_) (fun c39 => ?_)
      · refine s_iconst E dX5_crowd_95 (v := nI 0) (by decide) ?_
        exact Rt (nI 0) (σ) dX5_crowd_96 (⟨by simp [bI, crowdB, c2, c17, c39], rfl⟩) rfl (Nat.le_refl _) (Nat.le_refl _) rfl E.2.2.2.2.2.1
      · refine s_aload_n E dX5_crowd_42 (i := 0) (j := 0) rfl rfl ?_
        refine mg25 E dX5_crowd_43 ?_
        refine s_iconst E dX5_crowd_46 (v := nI 0) (by decide) ?_
        refine s_iload_n E dX5_crowd_47 (i := 1) (j := 1) rfl rfl ?_
        refine s_iadd_ E dX5_crowd_48 (v := nI a) (nI_z _) ?_
        refine ml25 E (v := σ 25 a) (a) (rfl) (by omega) (rfl) dX5_crowd_49 ?_
        refine s_if_le E dX5_crowd_50 (tgt := 95) rfl (fun c50 => ?_) (fun c50 => ?_)
        · have c50 := Int32.not_lt.mpr c50
          refine s_iconst E dX5_crowd_95 (v := nI 0) (by decide) ?_
          exact Rt (nI 0) (σ) dX5_crowd_96 (⟨by simp [bI, crowdB, c2, c17, c39, c50], rfl⟩) rfl (Nat.le_refl _) (Nat.le_refl _) rfl E.2.2.2.2.2.1
        · have c50 := Int32.not_le.mp c50
          refine s_aload_n E dX5_crowd_53 (i := 0) (j := 0) rfl rfl ?_
          refine mg25 E dX5_crowd_54 ?_
          refine s_iconst E dX5_crowd_57 (v := nI 0) (by decide) ?_
          refine s_iload_n E dX5_crowd_58 (i := 2) (j := 2) rfl rfl ?_
          refine s_iadd_ E dX5_crowd_59 (v := nI b) (nI_z _) ?_
          refine ml25 E (v := σ 25 b) (b) (rfl) (by omega) (rfl) dX5_crowd_60 ?_
          refine s_if_le E dX5_crowd_61 (tgt := 95) rfl (fun c61 => ?_) (fun c61 => ?_)
          · have c61 := Int32.not_lt.mpr c61
            refine s_iconst E dX5_crowd_95 (v := nI 0) (by decide) ?_
            exact Rt (nI 0) (σ) dX5_crowd_96 (⟨by simp [bI, crowdB, c2, c17, c39, c50, c61], rfl⟩) rfl (Nat.le_refl _) (Nat.le_refl _) rfl E.2.2.2.2.2.1
          · have c61 := Int32.not_le.mp c61
            refine s_aload_n E dX5_crowd_64 (i := 0) (j := 0) rfl rfl ?_
            refine mg25 E dX5_crowd_65 ?_
            refine s_iconst E dX5_crowd_68 (v := nI 0) (by decide) ?_
            refine s_iload_n E dX5_crowd_69 (i := 1) (j := 1) rfl rfl ?_
            refine s_iadd_ E dX5_crowd_70 (v := nI a) (nI_z _) ?_
            refine ml25 E (v := σ 25 a) (a) (rfl) (by omega) (rfl) dX5_crowd_71 ?_
            refine s_aload_n E dX5_crowd_72 (i := 0) (j := 0) rfl rfl ?_
            refine mg25 E dX5_crowd_73 ?_
            refine s_iconst E dX5_crowd_76 (v := nI 0) (by decide) ?_
            refine s_iload_n E dX5_crowd_77 (i := 2) (j := 2) rfl rfl ?_
            refine s_iadd_ E dX5_crowd_78 (v := nI b) (nI_z _) ?_
            refine ml25 E (v := σ 25 b) (b) (rfl) (by omega) (rfl) dX5_crowd_79 ?_
            refine s_isub E dX5_crowd_80 ?_
            refine m_calls E (mz_without ((σ 25 a) - (σ 25 b))) K5_274 (Nat.le_of_ble_eq_true rfl) (Nat.le_of_ble_eq_true rfl) (Nat.zero_le _) (Nat.zero_le _) rfl rfl (Nat.le_of_ble_eq_true rfl) dX5_crowd_81 (fun r81 h81 => ?_)
            subst h81
            refine s_aload_n E dX5_crowd_84 (i := 0) (j := 0) rfl rfl ?_
            refine mg32 E (v := σ 0 32) (rfl) dX5_crowd_85 ?_
            refine s_icmp_ge E dX5_crowd_88 (tgt := 95) rfl (fun c88 => ?_) (fun c88 => ?_)
            · have c88 := Int32.not_lt.mpr c88
              refine s_iconst E dX5_crowd_95 (v := nI 0) (by decide) ?_
              exact Rt (nI 0) (σ) dX5_crowd_96 (⟨by simp [bI, crowdB, c2, c17, c39, c50, c61, c88], rfl⟩) rfl (Nat.le_refl _) (Nat.le_refl _) rfl E.2.2.2.2.2.1
            · have c88 := Int32.not_le.mp c88
              refine s_iconst E dX5_crowd_91 (v := nI 1) (by decide) ?_
              refine s_goto E dX5_crowd_92 (tgt := 96) rfl ?_
              exact Rt (nI 1) (σ) dX5_crowd_96 (⟨by simp [bI, crowdB, c2, c17, c39, c50, c61, c88], rfl⟩) rfl (Nat.le_refl _) (Nat.le_refl _) rfl E.2.2.2.2.2.1
set_option maxHeartbeats 1000000 in
set_option maxRecDepth 100000 in
theorem mz_crowdsOf {σ : Nat → Nat → Int32} (n a : Nat) (hn : σ 3 7 = nI n) (hn6 : n ≤ 6) (ha : a < 6) : Ct l D gt yX5_crowdsOf cX5_crowdsOf 4 .int 2 42 0 0 [.ref (ad 0), .int (nI a)] (wm ad ct σ) (tysA ct) (fun r σ2 => nI (setN (crowdB σ a) n) = r ∧ σ = σ2) (fun σ2 => wm ad ct σ2) (fun _ => tysA ct) := by
  refine Ct.start RX5 (by decide) rfl (Nat.le_of_ble_eq_true rfl) rfl ?_
  intro pP eE sS mM aA bB hM cC QQ AA E Rt
  refine s_iconst E dX5_crowdsOf_0 (v := nI 0) (by decide) ?_
  refine s_istore_n E (L2 := [(2, .int (nI 0)), (0, .ref (ad 0)), (1, .int (nI a))]) dX5_crowdsOf_1 rfl (Nat.le_of_ble_eq_true rfl) rfl ?_
  refine s_iconst E dX5_crowdsOf_2 (v := nI 0) (by decide) ?_
  refine s_istore_n E (L2 := [(3, .int (nI 0)), (2, .int (nI 0)), (0, .ref (ad 0)), (1, .int (nI a))]) dX5_crowdsOf_3 rfl (Nat.le_of_ble_eq_true rfl) rfl ?_
  have L4 : ∀ (fuel : Nat) (i : Nat), i ≤ n → (n - i) < fuel → Sm pP l eE { frames := 2, cells := 0, slots := 0, locals := 42 } sS mM aA bB hM cC QQ AA D 4 0 0 (wm ad ct σ) 4 [(0, .ref (ad 0)), (1, .int (nI a)), (2, .int (nI (setN (crowdB σ a) i))), (3, .int (nI i))] [] := by
    intro fuel
    induction fuel with
    | zero =>
      intro i hi hf4
      exact absurd hf4 (Nat.not_lt_zero _)
    | succ fuel ih4 =>
      intro i hi hf4
      refine s_iload_n E dX5_crowdsOf_4 (i := 3) (j := 3) rfl rfl ?_
      refine s_aload_n E dX5_crowdsOf_5 (i := 0) (j := 0) rfl rfl ?_
      refine m_calli E (mz_users n (hn)) K5_232 (Nat.le_of_ble_eq_true rfl) (Nat.le_of_ble_eq_true rfl) (Nat.zero_le _) (Nat.zero_le _) rfl rfl (Nat.le_of_ble_eq_true rfl) dX5_crowdsOf_6 (fun r6 w6 h6 => ?_)
      obtain ⟨rfl, rfl⟩ := h6
      refine s_icmp_ge E dX5_crowdsOf_9 (tgt := 33) rfl (fun c9 => ?_) (fun c9 => ?_)
      · have c9 : ¬ i < n := fun h => absurd c9 (Int32.not_le.mpr ((nI_ltI (a := i) (b := n) (by omega) (by omega)).mpr h))
        refine s_iload_n E dX5_crowdsOf_33 (i := 2) (j := 2) rfl rfl ?_
        exact Rt (nI (setN (crowdB σ a) i)) (σ) dX5_crowdsOf_34 (by obtain rfl : i = n := (by omega); exact ⟨rfl, rfl⟩) rfl (Nat.le_refl _) (Nat.le_refl _) rfl E.2.2.2.2.2.1
      · have c9 : i < n := (nI_ltI (a := i) (b := n) (by omega) (by omega)).mp (Int32.not_le.mp c9)
        refine s_aload_n E dX5_crowdsOf_12 (i := 0) (j := 0) rfl rfl ?_
        refine s_iload_n E dX5_crowdsOf_13 (i := 1) (j := 1) rfl rfl ?_
        refine s_iload_n E dX5_crowdsOf_14 (i := 3) (j := 3) rfl rfl ?_
        refine m_calli E (mz_crowd a i (ha) (by omega)) K5_314 (Nat.le_of_ble_eq_true rfl) (Nat.le_of_ble_eq_true rfl) (Nat.zero_le _) (Nat.zero_le _) rfl rfl (Nat.le_of_ble_eq_true rfl) dX5_crowdsOf_15 (fun r15 w15 h15 => ?_)
        obtain ⟨rfl, rfl⟩ := h15
        refine s_if_eq E dX5_crowdsOf_18 (tgt := 27) rfl (fun c18 => ?_) (fun c18 => ?_)
        · have c18 := bI_0 c18
          refine s_iinc E (L2 := [(3, .int (nI (i + 1))), (0, .ref (ad 0)), (1, .int (nI a)), (2, .int (nI (setN (crowdB σ a) i)))]) dX5_crowdsOf_27 (k := 3) rfl (v := nI (i + 1)) (nI_inc _) (Nat.le_of_ble_eq_true rfl) rfl ?_
          refine s_goto E dX5_crowdsOf_30 (tgt := 4) rfl ?_
          rw [setN_f c18]
          refine s_loc (L2 := [(0, .ref (ad 0)), (1, .int (nI a)), (2, .int (nI (setN (crowdB σ a) (i + 1)))), (3, .int (nI (i + 1)))]) [1, 2, 3, 0] rfl ?_
          exact ih4 (i + 1) (by omega) (by omega)
        · have c18 := bI_n0 c18
          refine s_iload_n E dX5_crowdsOf_21 (i := 2) (j := 2) rfl rfl ?_
          refine s_iconst E dX5_crowdsOf_22 (v := nI 1) (by decide) ?_
          refine s_iload_n E dX5_crowdsOf_23 (i := 3) (j := 3) rfl rfl ?_
          refine s_ishl E dX5_crowdsOf_24 ?_
          refine s_ior_ E dX5_crowdsOf_25 (v := nI (setN (crowdB σ a) (i + 1))) (setN_t (by omega) c18) ?_
          refine s_istore_n E (L2 := [(2, .int (nI (setN (crowdB σ a) (i + 1)))), (0, .ref (ad 0)), (1, .int (nI a)), (3, .int (nI i))]) dX5_crowdsOf_26 rfl (Nat.le_of_ble_eq_true rfl) rfl ?_
          refine s_iinc E (L2 := [(3, .int (nI (i + 1))), (2, .int (nI (setN (crowdB σ a) (i + 1)))), (0, .ref (ad 0)), (1, .int (nI a))]) dX5_crowdsOf_27 (k := 3) rfl (v := nI (i + 1)) (nI_inc _) (Nat.le_of_ble_eq_true rfl) rfl ?_
          refine s_goto E dX5_crowdsOf_30 (tgt := 4) rfl ?_
          refine s_loc (L2 := [(0, .ref (ad 0)), (1, .int (nI a)), (2, .int (nI (setN (crowdB σ a) (i + 1)))), (3, .int (nI (i + 1)))]) [2, 3, 1, 0] rfl ?_
          exact ih4 (i + 1) (by omega) (by omega)
  refine s_loc (L2 := [(0, .ref (ad 0)), (1, .int (nI a)), (2, .int (nI 0)), (3, .int (nI 0))]) [2, 3, 1, 0] rfl ?_
  exact L4 (_ + 1) 0 (Nat.zero_le _) (Nat.lt_succ_self _)
end
