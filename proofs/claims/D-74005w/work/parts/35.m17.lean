set_option maxRecDepth 100000
section
variable {l : Launch} {D : va_G} {gt ad : Nat → Nat} {ct : Nat → ClassId}
set_option maxHeartbeats 1000000 in
set_option maxRecDepth 100000 in
theorem mz_sumOf {σ : Nat → Nat → Int32} (k a b : Nat) (hk : k < 6) (ha : a < 8) (hb : b < 8) : Ct l D gt yX5_sumOf cX5_sumOf 5 .int 1 20 0 0 [.ref (ad 0), .int (nI k), .int (nI a), .int (nI b), .int ((-2))] (wm ad ct σ) (tysA ct) (fun r σ2 => sumR (σ 43) k a b none = r ∧ σ = σ2) (fun σ2 => wm ad ct σ2) (fun _ => tysA ct) := by
  refine Ct.start RX5 (by decide) rfl (Nat.le_of_ble_eq_true rfl) rfl ?_
  intro pP eE sS mM aA bB hM cC QQ AA E Rt
  refine s_iload_n E dX5_sumOf_0 (i := 1) (j := 1) rfl rfl ?_
  refine m_calls E (mz_timesA k (hk)) K5_268 (Nat.le_of_ble_eq_true rfl) (Nat.le_of_ble_eq_true rfl) (Nat.zero_le _) (Nat.zero_le _) rfl rfl (Nat.le_of_ble_eq_true rfl) dX5_sumOf_1 (fun r1 h1 => ?_)
  subst h1
  refine s_aload_n E dX5_sumOf_4 (i := 0) (j := 0) rfl rfl ?_
  refine mg43 E dX5_sumOf_5 ?_
  refine s_iload_n E dX5_sumOf_8 (i := 2) (j := 2) rfl rfl ?_
  refine ml43 E (v := σ 43 a) (a) (rfl) (by omega) (rfl) dX5_sumOf_9 ?_
  refine s_imul E dX5_sumOf_10 ?_
  refine s_iload_n E dX5_sumOf_11 (i := 1) (j := 1) rfl rfl ?_
  refine m_calls E (mz_timesB k (hk)) K5_271 (Nat.le_of_ble_eq_true rfl) (Nat.le_of_ble_eq_true rfl) (Nat.zero_le _) (Nat.zero_le _) rfl rfl (Nat.le_of_ble_eq_true rfl) dX5_sumOf_12 (fun r12 h12 => ?_)
  subst h12
  refine s_aload_n E dX5_sumOf_15 (i := 0) (j := 0) rfl rfl ?_
  refine mg43 E dX5_sumOf_16 ?_
  refine s_iload_n E dX5_sumOf_19 (i := 3) (j := 3) rfl rfl ?_
  refine ml43 E (v := σ 43 b) (b) (rfl) (by omega) (rfl) dX5_sumOf_20 ?_
  refine s_imul E dX5_sumOf_21 ?_
  refine s_iadd E dX5_sumOf_22 ?_
  refine s_iload E dX5_sumOf_23 (i := 4) (j := 4) rfl ?_
  refine s_bipush E dX5_sumOf_25 (v := (-2)) (by decide) ?_
  refine s_icmp_ne E dX5_sumOf_27 (tgt := 34) rfl (fun c27 => absurd rfl c27) (fun c27 => ?_)
  refine s_iconst E dX5_sumOf_30 (v := nI 0) (by decide) ?_
  refine s_goto E dX5_sumOf_31 (tgt := 46) rfl ?_
  refine s_iadd E dX5_sumOf_46 ?_
  exact Rt ((((tA k) * (σ 43 a)) + ((tB k) * (σ 43 b))) + (nI 0)) (σ) dX5_sumOf_47 (⟨rfl, rfl⟩) rfl (Nat.le_refl _) (Nat.le_refl _) rfl E.2.2.2.2.2.1
set_option maxHeartbeats 1000000 in
set_option maxRecDepth 100000 in
theorem mz_hitsRow {σ : Nat → Nat → Int32} (v near : Int32) (M a b : Nat) (hM8 : M ≤ 8) (ha : a < 8) (hb : b < 8) : Ct l D gt yX5_hitsRow cX5_hitsRow 8 .boolean 1 20 0 0 [.ref (ad 0), .int (v), .int (nI M), .int (nI a), .int (nI b), .int ((-2)), .int (near)] (wm ad ct σ) (tysA ct) (fun r σ2 => bI (hitR (σ 43) v near M a b none = true) = r ∧ σ = σ2) (fun σ2 => wm ad ct σ2) (fun _ => tysA ct) := by
  refine Ct.start RX5 (by decide) rfl (Nat.le_of_ble_eq_true rfl) rfl ?_
  intro pP eE sS mM aA bB hM cC QQ AA E Rt
  refine s_iload_n E dX5_hitsRow_0 (i := 1) (j := 1) rfl rfl ?_
  refine s_iconst E dX5_hitsRow_1 (v := nI 1) (by decide) ?_
  refine s_icmp_lt E dX5_hitsRow_2 (tgt := 11) rfl (fun c2 => ?_) (fun c2 => ?_)
  · refine s_iconst E dX5_hitsRow_11 (v := nI 0) (by decide) ?_
    exact Rt (nI 0) (σ) dX5_hitsRow_12 (⟨by simp [bI, hitR, c2], rfl⟩) rfl (Nat.le_refl _) (Nat.le_refl _) rfl E.2.2.2.2.2.1
  · refine s_iload_n E dX5_hitsRow_5 (i := 1) (j := 1) rfl rfl ?_
    refine s_bipush E dX5_hitsRow_6 (v := nI 60) (by decide) ?_
    refine s_icmp_le E dX5_hitsRow_8 (tgt := 13) rfl (fun c8 => ?_) (fun c8 => ?_)
    · have c8 := Int32.not_lt.mpr c8
      refine s_iconst E dX5_hitsRow_13 (v := nI 0) (by decide) ?_
      refine s_istore E (L2 := [(7, .int (nI 0)), (0, .ref (ad 0)), (1, .int (v)), (2, .int (nI M)), (3, .int (nI a)), (4, .int (nI b)), (5, .int ((-2))), (6, .int (near))]) dX5_hitsRow_14 (Nat.le_of_ble_eq_true rfl) rfl ?_
      have L16 : ∀ (fuel : Nat) (u : Nat), (u ≤ M) → (exB (nearR (σ 43) v near a b none) u = false) → (M - u) < fuel → Sm pP l eE { frames := 1, cells := 0, slots := 0, locals := 20 } sS mM aA bB hM cC QQ AA D 8 0 0 (wm ad ct σ) 16 [(0, .ref (ad 0)), (1, .int (v)), (2, .int (nI M)), (3, .int (nI a)), (4, .int (nI b)), (5, .int ((-2))), (6, .int (near)), (7, .int (nI u))] [] := by
        intro fuel
        induction fuel with
        | zero =>
          intro u hu he hf16
          exact absurd hf16 (Nat.not_lt_zero _)
        | succ fuel ih16 =>
          intro u hu he hf16
          refine s_iload E dX5_hitsRow_16 (i := 7) (j := 7) rfl ?_
          refine s_iload_n E dX5_hitsRow_18 (i := 2) (j := 2) rfl rfl ?_
          refine s_icmp_ge E dX5_hitsRow_19 (tgt := 67) rfl (fun c19 => ?_) (fun c19 => ?_)
          · have c19 : ¬ u < M := fun h => absurd c19 (Int32.not_le.mpr ((nI_ltI (a := u) (b := M) (by omega) (by omega)).mpr h))
            refine s_iconst E dX5_hitsRow_67 (v := nI 0) (by decide) ?_
            exact Rt (nI 0) (σ) dX5_hitsRow_68 (⟨by rw [bI_f]; unfold hitR; rw [show M = u by omega, he]; simp, rfl⟩) rfl (Nat.le_refl _) (Nat.le_refl _) rfl E.2.2.2.2.2.1
          · have c19 : u < M := (nI_ltI (a := u) (b := M) (by omega) (by omega)).mp (Int32.not_le.mp c19)
            refine s_iload E dX5_hitsRow_22 (i := 7) (j := 7) rfl ?_
            refine s_iload_n E dX5_hitsRow_24 (i := 3) (j := 3) rfl rfl ?_
            refine s_icmp_eq E dX5_hitsRow_25 (tgt := 61) rfl (fun c25 => ?_) (fun c25 => ?_)
            · have c25 : u = a := (nI_eq (a := u) (b := a) (by omega) (by omega)).mp c25
              refine s_iinc E (L2 := [(7, .int (nI (u + 1))), (0, .ref (ad 0)), (1, .int (v)), (2, .int (nI M)), (3, .int (nI a)), (4, .int (nI b)), (5, .int ((-2))), (6, .int (near))]) dX5_hitsRow_61 (k := 7) rfl (v := nI (u + 1)) (nI_inc _) (Nat.le_of_ble_eq_true rfl) rfl ?_
              refine s_goto E dX5_hitsRow_64 (tgt := 16) rfl ?_
              refine s_loc (L2 := [(0, .ref (ad 0)), (1, .int (v)), (2, .int (nI M)), (3, .int (nI a)), (4, .int (nI b)), (5, .int ((-2))), (6, .int (near)), (7, .int (nI (u + 1)))]) [1, 2, 3, 4, 5, 6, 7, 0] rfl ?_
              exact ih16 (u + 1) (by omega) (exB_s he (by simp [bI, nearR, cI, c2, c8, c19, c25])) (by omega)
            · have c25 : ¬ u = a := fun h => c25 ((nI_eq (a := u) (b := a) (by omega) (by omega)).mpr h)
              refine s_iload E dX5_hitsRow_28 (i := 7) (j := 7) rfl ?_
              refine s_iload E dX5_hitsRow_30 (i := 4) (j := 4) rfl ?_
              refine s_icmp_eq E dX5_hitsRow_32 (tgt := 61) rfl (fun c32 => ?_) (fun c32 => ?_)
              · have c32 : u = b := (nI_eq (a := u) (b := b) (by omega) (by omega)).mp c32
                refine s_iinc E (L2 := [(7, .int (nI (u + 1))), (0, .ref (ad 0)), (1, .int (v)), (2, .int (nI M)), (3, .int (nI a)), (4, .int (nI b)), (5, .int ((-2))), (6, .int (near))]) dX5_hitsRow_61 (k := 7) rfl (v := nI (u + 1)) (nI_inc _) (Nat.le_of_ble_eq_true rfl) rfl ?_
                refine s_goto E dX5_hitsRow_64 (tgt := 16) rfl ?_
                refine s_loc (L2 := [(0, .ref (ad 0)), (1, .int (v)), (2, .int (nI M)), (3, .int (nI a)), (4, .int (nI b)), (5, .int ((-2))), (6, .int (near)), (7, .int (nI (u + 1)))]) [1, 2, 3, 4, 5, 6, 7, 0] rfl ?_
                exact ih16 (u + 1) (by omega) (exB_s he (by simp [bI, nearR, cI, c2, c8, c19, c25, c32])) (by omega)
              · have c32 : ¬ u = b := fun h => c32 ((nI_eq (a := u) (b := b) (by omega) (by omega)).mpr h)
                refine s_iload E dX5_hitsRow_35 (i := 7) (j := 7) rfl ?_
                refine s_iload E dX5_hitsRow_37 (i := 5) (j := 5) rfl ?_
                refine s_icmp_eq E dX5_hitsRow_39 (tgt := 61) rfl (fun c39 => absurd c39 (nI_m2 (by omega))) (fun c39 => ?_)
                refine s_aload_n E dX5_hitsRow_42 (i := 0) (j := 0) rfl rfl ?_
                refine mg43 E dX5_hitsRow_43 ?_
                refine s_iload E dX5_hitsRow_46 (i := 7) (j := 7) rfl ?_
                refine ml43 E (v := σ 43 u) (u) (rfl) (by omega) (rfl) dX5_hitsRow_48 ?_
                refine s_iload_n E dX5_hitsRow_49 (i := 1) (j := 1) rfl rfl ?_
                refine s_isub E dX5_hitsRow_50 ?_
                refine m_calls E (mz_without ((σ 43 u) - v)) K5_274 (Nat.le_of_ble_eq_true rfl) (Nat.le_of_ble_eq_true rfl) (Nat.zero_le _) (Nat.zero_le _) rfl rfl (Nat.le_of_ble_eq_true rfl) dX5_hitsRow_51 (fun r51 h51 => ?_)
                subst h51
                refine s_iload E dX5_hitsRow_54 (i := 6) (j := 6) rfl ?_
                refine s_icmp_gt E dX5_hitsRow_56 (tgt := 61) rfl (fun c56 => ?_) (fun c56 => ?_)
                · refine s_iinc E (L2 := [(7, .int (nI (u + 1))), (0, .ref (ad 0)), (1, .int (v)), (2, .int (nI M)), (3, .int (nI a)), (4, .int (nI b)), (5, .int ((-2))), (6, .int (near))]) dX5_hitsRow_61 (k := 7) rfl (v := nI (u + 1)) (nI_inc _) (Nat.le_of_ble_eq_true rfl) rfl ?_
                  refine s_goto E dX5_hitsRow_64 (tgt := 16) rfl ?_
                  refine s_loc (L2 := [(0, .ref (ad 0)), (1, .int (v)), (2, .int (nI M)), (3, .int (nI a)), (4, .int (nI b)), (5, .int ((-2))), (6, .int (near)), (7, .int (nI (u + 1)))]) [1, 2, 3, 4, 5, 6, 7, 0] rfl ?_
                  exact ih16 (u + 1) (by omega) (exB_s he (by simp [bI, nearR, cI, c2, c8, c19, c25, c32, c56])) (by omega)
                · refine s_iconst E dX5_hitsRow_59 (v := nI 1) (by decide) ?_
                  exact Rt (nI 1) (σ) dX5_hitsRow_60 (⟨by rw [bI_t]; unfold hitR; rw [exB_t (i := u) (by omega) (by simp [bI, nearR, cI, nI_m2 (show u < 2 ^ 31 by omega), c2, c8, c19, c25, c32, c56])]; simp [bI, c2, c8, c19, c25, c32, c56], rfl⟩) rfl (Nat.le_refl _) (Nat.le_refl _) rfl E.2.2.2.2.2.1
      refine s_loc (L2 := [(0, .ref (ad 0)), (1, .int (v)), (2, .int (nI M)), (3, .int (nI a)), (4, .int (nI b)), (5, .int ((-2))), (6, .int (near)), (7, .int (nI 0))]) [1, 2, 3, 4, 5, 6, 7, 0] rfl ?_
      exact L16 (_ + 1) 0 (Nat.zero_le _) (rfl) (Nat.lt_succ_self _)
    · have c8 := Int32.not_le.mp c8
      refine s_iconst E dX5_hitsRow_11 (v := nI 0) (by decide) ?_
      exact Rt (nI 0) (σ) dX5_hitsRow_12 (⟨by simp [bI, hitR, c2, c8], rfl⟩) rfl (Nat.le_refl _) (Nat.le_refl _) rfl E.2.2.2.2.2.1
set_option maxHeartbeats 1000000 in
set_option maxRecDepth 100000 in
theorem mz_sumOf3 {σ : Nat → Nat → Int32} (k a b w : Nat) (hk : k < 6) (ha : a < 8) (hb : b < 8) (hw : w < 8) : Ct l D gt yX5_sumOf cX5_sumOf 5 .int 1 20 0 0 [.ref (ad 0), .int (nI k), .int (nI a), .int (nI b), .int (nI w)] (wm ad ct σ) (tysA ct) (fun r σ2 => sumR (σ 43) k a b (some w) = r ∧ σ = σ2) (fun σ2 => wm ad ct σ2) (fun _ => tysA ct) := by
  refine Ct.start RX5 (by decide) rfl (Nat.le_of_ble_eq_true rfl) rfl ?_
  intro pP eE sS mM aA bB hM cC QQ AA E Rt
  refine s_iload_n E dX5_sumOf_0 (i := 1) (j := 1) rfl rfl ?_
  refine m_calls E (mz_timesA k (hk)) K5_268 (Nat.le_of_ble_eq_true rfl) (Nat.le_of_ble_eq_true rfl) (Nat.zero_le _) (Nat.zero_le _) rfl rfl (Nat.le_of_ble_eq_true rfl) dX5_sumOf_1 (fun r1 h1 => ?_)
  subst h1
  refine s_aload_n E dX5_sumOf_4 (i := 0) (j := 0) rfl rfl ?_
  refine mg43 E dX5_sumOf_5 ?_
  refine s_iload_n E dX5_sumOf_8 (i := 2) (j := 2) rfl rfl ?_
  refine ml43 E (v := σ 43 a) (a) (rfl) (by omega) (rfl) dX5_sumOf_9 ?_
  refine s_imul E dX5_sumOf_10 ?_
  refine s_iload_n E dX5_sumOf_11 (i := 1) (j := 1) rfl rfl ?_
  refine m_calls E (mz_timesB k (hk)) K5_271 (Nat.le_of_ble_eq_true rfl) (Nat.le_of_ble_eq_true rfl) (Nat.zero_le _) (Nat.zero_le _) rfl rfl (Nat.le_of_ble_eq_true rfl) dX5_sumOf_12 (fun r12 h12 => ?_)
  subst h12
  refine s_aload_n E dX5_sumOf_15 (i := 0) (j := 0) rfl rfl ?_
  refine mg43 E dX5_sumOf_16 ?_
  refine s_iload_n E dX5_sumOf_19 (i := 3) (j := 3) rfl rfl ?_
  refine ml43 E (v := σ 43 b) (b) (rfl) (by omega) (rfl) dX5_sumOf_20 ?_
  refine s_imul E dX5_sumOf_21 ?_
  refine s_iadd E dX5_sumOf_22 ?_
  refine s_iload E dX5_sumOf_23 (i := 4) (j := 4) rfl ?_
  refine s_bipush E dX5_sumOf_25 (v := (-2)) (by decide) ?_
  refine s_icmp_ne E dX5_sumOf_27 (tgt := 34) rfl (fun c27 => ?_) (fun c27 => absurd c27 (nI_m2 (by omega)))
  refine s_iload_n E dX5_sumOf_34 (i := 1) (j := 1) rfl rfl ?_
  refine m_calls E (mz_timesC k (hk)) K5_277 (Nat.le_of_ble_eq_true rfl) (Nat.le_of_ble_eq_true rfl) (Nat.zero_le _) (Nat.zero_le _) rfl rfl (Nat.le_of_ble_eq_true rfl) dX5_sumOf_35 (fun r35 h35 => ?_)
  subst h35
  refine s_aload_n E dX5_sumOf_38 (i := 0) (j := 0) rfl rfl ?_
  refine mg43 E dX5_sumOf_39 ?_
  refine s_iload E dX5_sumOf_42 (i := 4) (j := 4) rfl ?_
  refine ml43 E (v := σ 43 w) (w) (rfl) (by omega) (rfl) dX5_sumOf_44 ?_
  refine s_imul E dX5_sumOf_45 ?_
  refine s_iadd E dX5_sumOf_46 ?_
  exact Rt ((((tA k) * (σ 43 a)) + ((tB k) * (σ 43 b))) + ((tC k) * (σ 43 w))) (σ) dX5_sumOf_47 (⟨rfl, rfl⟩) rfl (Nat.le_refl _) (Nat.le_refl _) rfl E.2.2.2.2.2.1
set_option maxHeartbeats 1000000 in
set_option maxRecDepth 100000 in
theorem mz_hitsRow3 {σ : Nat → Nat → Int32} (v near : Int32) (M a b w : Nat) (hM8 : M ≤ 8) (ha : a < 8) (hb : b < 8) (hw : w < 8) : Ct l D gt yX5_hitsRow cX5_hitsRow 8 .boolean 1 20 0 0 [.ref (ad 0), .int (v), .int (nI M), .int (nI a), .int (nI b), .int (nI w), .int (near)] (wm ad ct σ) (tysA ct) (fun r σ2 => bI (hitR (σ 43) v near M a b (some w) = true) = r ∧ σ = σ2) (fun σ2 => wm ad ct σ2) (fun _ => tysA ct) := by
  refine Ct.start RX5 (by decide) rfl (Nat.le_of_ble_eq_true rfl) rfl ?_
  intro pP eE sS mM aA bB hM cC QQ AA E Rt
  refine s_iload_n E dX5_hitsRow_0 (i := 1) (j := 1) rfl rfl ?_
  refine s_iconst E dX5_hitsRow_1 (v := nI 1) (by decide) ?_
  refine s_icmp_lt E dX5_hitsRow_2 (tgt := 11) rfl (fun c2 => ?_) (fun c2 => ?_)
  · refine s_iconst E dX5_hitsRow_11 (v := nI 0) (by decide) ?_
    exact Rt (nI 0) (σ) dX5_hitsRow_12 (⟨by simp [bI, hitR, c2], rfl⟩) rfl (Nat.le_refl _) (Nat.le_refl _) rfl E.2.2.2.2.2.1
  · refine s_iload_n E dX5_hitsRow_5 (i := 1) (j := 1) rfl rfl ?_
    refine s_bipush E dX5_hitsRow_6 (v := nI 60) (by decide) ?_
    refine s_icmp_le E dX5_hitsRow_8 (tgt := 13) rfl (fun c8 => ?_) (fun c8 => ?_)
    · have c8 := Int32.not_lt.mpr c8
      refine s_iconst E dX5_hitsRow_13 (v := nI 0) (by decide) ?_
      refine s_istore E (L2 := [(7, .int (nI 0)), (0, .ref (ad 0)), (1, .int (v)), (2, .int (nI M)), (3, .int (nI a)), (4, .int (nI b)), (5, .int (nI w)), (6, .int (near))]) dX5_hitsRow_14 (Nat.le_of_ble_eq_true rfl) rfl ?_
      have L16 : ∀ (fuel : Nat) (u : Nat), (u ≤ M) → (exB (nearR (σ 43) v near a b (some w)) u = false) → (M - u) < fuel → Sm pP l eE { frames := 1, cells := 0, slots := 0, locals := 20 } sS mM aA bB hM cC QQ AA D 8 0 0 (wm ad ct σ) 16 [(0, .ref (ad 0)), (1, .int (v)), (2, .int (nI M)), (3, .int (nI a)), (4, .int (nI b)), (5, .int (nI w)), (6, .int (near)), (7, .int (nI u))] [] := by
        intro fuel
        induction fuel with
        | zero =>
          intro u hu he hf16
          exact absurd hf16 (Nat.not_lt_zero _)
        | succ fuel ih16 =>
          intro u hu he hf16
          refine s_iload E dX5_hitsRow_16 (i := 7) (j := 7) rfl ?_
          refine s_iload_n E dX5_hitsRow_18 (i := 2) (j := 2) rfl rfl ?_
          refine s_icmp_ge E dX5_hitsRow_19 (tgt := 67) rfl (fun c19 => ?_) (fun c19 => ?_)
          · have c19 : ¬ u < M := fun h => absurd c19 (Int32.not_le.mpr ((nI_ltI (a := u) (b := M) (by omega) (by omega)).mpr h))
            refine s_iconst E dX5_hitsRow_67 (v := nI 0) (by decide) ?_
            exact Rt (nI 0) (σ) dX5_hitsRow_68 (⟨by rw [bI_f]; unfold hitR; rw [show M = u by omega, he]; simp, rfl⟩) rfl (Nat.le_refl _) (Nat.le_refl _) rfl E.2.2.2.2.2.1
          · have c19 : u < M := (nI_ltI (a := u) (b := M) (by omega) (by omega)).mp (Int32.not_le.mp c19)
            refine s_iload E dX5_hitsRow_22 (i := 7) (j := 7) rfl ?_
            refine s_iload_n E dX5_hitsRow_24 (i := 3) (j := 3) rfl rfl ?_
            refine s_icmp_eq E dX5_hitsRow_25 (tgt := 61) rfl (fun c25 => ?_) (fun c25 => ?_)
            · have c25 : u = a := (nI_eq (a := u) (b := a) (by omega) (by omega)).mp c25
              refine s_iinc E (L2 := [(7, .int (nI (u + 1))), (0, .ref (ad 0)), (1, .int (v)), (2, .int (nI M)), (3, .int (nI a)), (4, .int (nI b)), (5, .int (nI w)), (6, .int (near))]) dX5_hitsRow_61 (k := 7) rfl (v := nI (u + 1)) (nI_inc _) (Nat.le_of_ble_eq_true rfl) rfl ?_
              refine s_goto E dX5_hitsRow_64 (tgt := 16) rfl ?_
              refine s_loc (L2 := [(0, .ref (ad 0)), (1, .int (v)), (2, .int (nI M)), (3, .int (nI a)), (4, .int (nI b)), (5, .int (nI w)), (6, .int (near)), (7, .int (nI (u + 1)))]) [1, 2, 3, 4, 5, 6, 7, 0] rfl ?_
              exact ih16 (u + 1) (by omega) (exB_s he (by simp [bI, nearR, cI, c2, c8, c19, c25])) (by omega)
            · have c25 : ¬ u = a := fun h => c25 ((nI_eq (a := u) (b := a) (by omega) (by omega)).mpr h)
              refine s_iload E dX5_hitsRow_28 (i := 7) (j := 7) rfl ?_
              refine s_iload E dX5_hitsRow_30 (i := 4) (j := 4) rfl ?_
              refine s_icmp_eq E dX5_hitsRow_32 (tgt := 61) rfl (fun c32 => ?_) (fun c32 => ?_)
              · have c32 : u = b := (nI_eq (a := u) (b := b) (by omega) (by omega)).mp c32
                refine s_iinc E (L2 := [(7, .int (nI (u + 1))), (0, .ref (ad 0)), (1, .int (v)), (2, .int (nI M)), (3, .int (nI a)), (4, .int (nI b)), (5, .int (nI w)), (6, .int (near))]) dX5_hitsRow_61 (k := 7) rfl (v := nI (u + 1)) (nI_inc _) (Nat.le_of_ble_eq_true rfl) rfl ?_
                refine s_goto E dX5_hitsRow_64 (tgt := 16) rfl ?_
                refine s_loc (L2 := [(0, .ref (ad 0)), (1, .int (v)), (2, .int (nI M)), (3, .int (nI a)), (4, .int (nI b)), (5, .int (nI w)), (6, .int (near)), (7, .int (nI (u + 1)))]) [1, 2, 3, 4, 5, 6, 7, 0] rfl ?_
                exact ih16 (u + 1) (by omega) (exB_s he (by simp [bI, nearR, cI, c2, c8, c19, c25, c32])) (by omega)
              · have c32 : ¬ u = b := fun h => c32 ((nI_eq (a := u) (b := b) (by omega) (by omega)).mpr h)
                refine s_iload E dX5_hitsRow_35 (i := 7) (j := 7) rfl ?_
                refine s_iload E dX5_hitsRow_37 (i := 5) (j := 5) rfl ?_
                refine s_icmp_eq E dX5_hitsRow_39 (tgt := 61) rfl (fun c39 => ?_) (fun c39 => ?_)
                · have c39 : u = w := (nI_eq (a := u) (b := w) (by omega) (by omega)).mp c39
                  have h39 : nI u = nI w := by rw [c39]
                  refine s_iinc E (L2 := [(7, .int (nI (u + 1))), (0, .ref (ad 0)), (1, .int (v)), (2, .int (nI M)), (3, .int (nI a)), (4, .int (nI b)), (5, .int (nI w)), (6, .int (near))]) dX5_hitsRow_61 (k := 7) rfl (v := nI (u + 1)) (nI_inc _) (Nat.le_of_ble_eq_true rfl) rfl ?_
                  refine s_goto E dX5_hitsRow_64 (tgt := 16) rfl ?_
                  refine s_loc (L2 := [(0, .ref (ad 0)), (1, .int (v)), (2, .int (nI M)), (3, .int (nI a)), (4, .int (nI b)), (5, .int (nI w)), (6, .int (near)), (7, .int (nI (u + 1)))]) [1, 2, 3, 4, 5, 6, 7, 0] rfl ?_
                  exact ih16 (u + 1) (by omega) (exB_s he (by simp [bI, nearR, cI, c2, c8, c19, c25, c32, c39, h39])) (by omega)
                · have c39 : ¬ u = w := fun h => c39 ((nI_eq (a := u) (b := w) (by omega) (by omega)).mpr h)
                  have h39 : ¬ nI u = nI w := fun h => c39 ((nI_eq (by omega) (by omega)).mp h)
                  refine s_aload_n E dX5_hitsRow_42 (i := 0) (j := 0) rfl rfl ?_
                  refine mg43 E dX5_hitsRow_43 ?_
                  refine s_iload E dX5_hitsRow_46 (i := 7) (j := 7) rfl ?_
                  refine ml43 E (v := σ 43 u) (u) (rfl) (by omega) (rfl) dX5_hitsRow_48 ?_
                  refine s_iload_n E dX5_hitsRow_49 (i := 1) (j := 1) rfl rfl ?_
                  refine s_isub E dX5_hitsRow_50 ?_
                  refine m_calls E (mz_without ((σ 43 u) - v)) K5_274 (Nat.le_of_ble_eq_true rfl) (Nat.le_of_ble_eq_true rfl) (Nat.zero_le _) (Nat.zero_le _) rfl rfl (Nat.le_of_ble_eq_true rfl) dX5_hitsRow_51 (fun r51 h51 => ?_)
                  subst h51
                  refine s_iload E dX5_hitsRow_54 (i := 6) (j := 6) rfl ?_
                  refine s_icmp_gt E dX5_hitsRow_56 (tgt := 61) rfl (fun c56 => ?_) (fun c56 => ?_)
                  · refine s_iinc E (L2 := [(7, .int (nI (u + 1))), (0, .ref (ad 0)), (1, .int (v)), (2, .int (nI M)), (3, .int (nI a)), (4, .int (nI b)), (5, .int (nI w)), (6, .int (near))]) dX5_hitsRow_61 (k := 7) rfl (v := nI (u + 1)) (nI_inc _) (Nat.le_of_ble_eq_true rfl) rfl ?_
                    refine s_goto E dX5_hitsRow_64 (tgt := 16) rfl ?_
                    refine s_loc (L2 := [(0, .ref (ad 0)), (1, .int (v)), (2, .int (nI M)), (3, .int (nI a)), (4, .int (nI b)), (5, .int (nI w)), (6, .int (near)), (7, .int (nI (u + 1)))]) [1, 2, 3, 4, 5, 6, 7, 0] rfl ?_
                    exact ih16 (u + 1) (by omega) (exB_s he (by simp [bI, nearR, cI, c2, c8, c19, c25, c32, c39, h39, c56])) (by omega)
                  · refine s_iconst E dX5_hitsRow_59 (v := nI 1) (by decide) ?_
                    exact Rt (nI 1) (σ) dX5_hitsRow_60 (⟨by rw [bI_t]; unfold hitR; rw [exB_t (i := u) (by omega) (by simp [bI, nearR, cI, c2, c8, c19, c25, c32, c39, h39, c56])]; simp [bI, c2, c8, c19, c25, c32, c39, h39, c56], rfl⟩) rfl (Nat.le_refl _) (Nat.le_refl _) rfl E.2.2.2.2.2.1
      refine s_loc (L2 := [(0, .ref (ad 0)), (1, .int (v)), (2, .int (nI M)), (3, .int (nI a)), (4, .int (nI b)), (5, .int (nI w)), (6, .int (near)), (7, .int (nI 0))]) [1, 2, 3, 4, 5, 6, 7, 0] rfl ?_
      exact L16 (_ + 1) 0 (Nat.zero_le _) (rfl) (Nat.lt_succ_self _)
    · have c8 := Int32.not_le.mp c8
      refine s_iconst E dX5_hitsRow_11 (v := nI 0) (by decide) ?_
      exact Rt (nI 0) (σ) dX5_hitsRow_12 (⟨by simp [bI, hitR, c2, c8], rfl⟩) rfl (Nat.le_refl _) (Nat.le_refl _) rfl E.2.2.2.2.2.1
set_option maxHeartbeats 1000000 in
set_option maxRecDepth 100000 in
theorem mz_isRowClean {σ : Nat → Nat → Int32} (M : Nat) (o near far : Int32) (hM8 : M ≤ 8) : Ct l D gt yX5_isRowClean cX5_isRowClean 10 .boolean 2 47 0 0 [.ref (ad 0), .int (nI M), .int (o), .int (near), .int (far)] (wm ad ct σ) (tysA ct) (fun r σ2 => bI (rcB (σ 43) o near far M = true) = r ∧ σ = σ2) (fun σ2 => wm ad ct σ2) (fun _ => tysA ct) := by
  refine Ct.start RX5 (by decide) rfl (Nat.le_of_ble_eq_true rfl) rfl ?_
  intro pP eE sS mM aA bB hM cC QQ AA E Rt
  refine s_iconst E dX5_isRowClean_0 (v := nI 0) (by decide) ?_
  refine s_istore E (L2 := [(5, .int (nI 0)), (0, .ref (ad 0)), (1, .int (nI M)), (2, .int (o)), (3, .int (near)), (4, .int (far))]) dX5_isRowClean_1 (Nat.le_of_ble_eq_true rfl) rfl ?_
  have L3 : ∀ (fuel : Nat) (a : Nat), (a ≤ M) → (allB (fun a => allB (cB2 (σ 43) o near far M a) M) a = true) → (M - a) < fuel → Sm pP l eE { frames := 2, cells := 0, slots := 0, locals := 47 } sS mM aA bB hM cC QQ AA D 10 0 0 (wm ad ct σ) 3 [(0, .ref (ad 0)), (1, .int (nI M)), (2, .int (o)), (3, .int (near)), (4, .int (far)), (5, .int (nI a))] [] := by
    intro fuel
    induction fuel with
    | zero =>
      intro a ha h1 hf3
      exact absurd hf3 (Nat.not_lt_zero _)
    | succ fuel ih3 =>
      intro a ha h1 hf3
      refine s_iload E dX5_isRowClean_3 (i := 5) (j := 5) rfl ?_
      refine s_iload_n E dX5_isRowClean_5 (i := 1) (j := 1) rfl rfl ?_
      refine s_icmp_ge E dX5_isRowClean_6 (tgt := 235) rfl (fun c6 => ?_) (fun c6 => ?_)
      · have c6 : ¬ a < M := fun h => absurd c6 (Int32.not_le.mpr ((nI_ltI (a := a) (b := M) (by omega) (by omega)).mpr h))
        refine s_iconst E dX5_isRowClean_235 (v := nI 1) (by decide) ?_
        exact Rt (nI 1) (σ) dX5_isRowClean_236 (⟨by rw [bI_t]; unfold rcB; rw [show M = a by omega] at h1 ⊢; exact h1, rfl⟩) rfl (Nat.le_refl _) (Nat.le_refl _) rfl E.2.2.2.2.2.1
      · have c6 : a < M := (nI_ltI (a := a) (b := M) (by omega) (by omega)).mp (Int32.not_le.mp c6)
        refine s_iconst E dX5_isRowClean_9 (v := nI 0) (by decide) ?_
        refine s_istore E (L2 := [(6, .int (nI 0)), (0, .ref (ad 0)), (1, .int (nI M)), (2, .int (o)), (3, .int (near)), (4, .int (far)), (5, .int (nI a))]) dX5_isRowClean_10 (Nat.le_of_ble_eq_true rfl) rfl ?_
        have L12 : ∀ (fuel : Nat) (b : Nat), (b ≤ M) → (allB (cB2 (σ 43) o near far M a) b = true) → (M - b) < fuel → Sm pP l eE { frames := 2, cells := 0, slots := 0, locals := 47 } sS mM aA bB hM cC QQ AA D 10 0 0 (wm ad ct σ) 12 [(0, .ref (ad 0)), (1, .int (nI M)), (2, .int (o)), (3, .int (near)), (4, .int (far)), (5, .int (nI a)), (6, .int (nI b))] [] := by
          intro fuel
          induction fuel with
          | zero =>
            intro b hb h2 hf12
            exact absurd hf12 (Nat.not_lt_zero _)
          | succ fuel ih12 =>
            intro b hb h2 hf12
            refine s_iload E dX5_isRowClean_12 (i := 6) (j := 6) rfl ?_
            refine s_iload_n E dX5_isRowClean_14 (i := 1) (j := 1) rfl rfl ?_
            refine s_icmp_ge E dX5_isRowClean_15 (tgt := 229) rfl (fun c15 => ?_) (fun c15 => ?_)
            · have c15 : ¬ b < M := fun h => absurd c15 (Int32.not_le.mpr ((nI_ltI (a := b) (b := M) (by omega) (by omega)).mpr h))
              refine s_iinc E (L2 := [(5, .int (nI (a + 1))), (0, .ref (ad 0)), (1, .int (nI M)), (2, .int (o)), (3, .int (near)), (4, .int (far)), (6, .int (nI b))]) dX5_isRowClean_229 (k := 5) rfl (v := nI (a + 1)) (nI_inc _) (Nat.le_of_ble_eq_true rfl) rfl ?_
              refine s_goto E dX5_isRowClean_232 (tgt := 3) rfl ?_
              refine s_loc (L2 := [(0, .ref (ad 0)), (1, .int (nI M)), (2, .int (o)), (3, .int (near)), (4, .int (far)), (5, .int (nI (a + 1)))]) [1, 2, 3, 4, 5, 0] rfl ?_
              exact ih3 (a + 1) (by omega) (allB_s h1 (by rw [show b = M by omega] at h2; exact h2)) (by omega)
            · have c15 : b < M := (nI_ltI (a := b) (b := M) (by omega) (by omega)).mp (Int32.not_le.mp c15)
              refine s_iload E dX5_isRowClean_18 (i := 5) (j := 5) rfl ?_
              refine s_iload E dX5_isRowClean_20 (i := 6) (j := 6) rfl ?_
              refine s_icmp_ne E dX5_isRowClean_22 (tgt := 28) rfl (fun c22 => ?_) (fun c22 => ?_)
              · have c22 : ¬ a = b := fun h => c22 ((nI_eq (a := a) (b := b) (by omega) (by omega)).mpr h)
                refine s_aload_n E dX5_isRowClean_28 (i := 0) (j := 0) rfl rfl ?_
                refine mg43 E dX5_isRowClean_29 ?_
                refine s_iload E dX5_isRowClean_32 (i := 5) (j := 5) rfl ?_
                refine ml43 E (v := σ 43 a) (a) (rfl) (by omega) (rfl) dX5_isRowClean_34 ?_
                refine s_aload_n E dX5_isRowClean_35 (i := 0) (j := 0) rfl rfl ?_
                refine mg43 E dX5_isRowClean_36 ?_
                refine s_iload E dX5_isRowClean_39 (i := 6) (j := 6) rfl ?_
                refine ml43 E (v := σ 43 b) (b) (rfl) (by omega) (rfl) dX5_isRowClean_41 ?_
                refine s_isub E dX5_isRowClean_42 ?_
                refine m_calls E (mz_without ((σ 43 a) - (σ 43 b))) K5_274 (Nat.le_of_ble_eq_true rfl) (Nat.le_of_ble_eq_true rfl) (Nat.zero_le _) (Nat.zero_le _) rfl rfl (Nat.le_of_ble_eq_true rfl) dX5_isRowClean_43 (fun r43 h43 => ?_)
                subst h43
                refine s_iload E dX5_isRowClean_46 (i := 4) (j := 4) rfl ?_
                refine s_icmp_ge E dX5_isRowClean_48 (tgt := 53) rfl (fun c48 => ?_) (fun c48 => ?_)
                · have c48 := Int32.not_lt.mpr c48
                  refine s_iconst E dX5_isRowClean_53 (v := nI 0) (by decide) ?_
                  refine s_istore E (L2 := [(7, .int (nI 0)), (0, .ref (ad 0)), (1, .int (nI M)), (2, .int (o)), (3, .int (near)), (4, .int (far)), (5, .int (nI a)), (6, .int (nI b))]) dX5_isRowClean_54 (Nat.le_of_ble_eq_true rfl) rfl ?_
                  have L56 : ∀ (fuel : Nat) (k : Nat), (k ≤ 6) → (allB (cK (σ 43) o near M a b) k = true) → (6 - k) < fuel → Sm pP l eE { frames := 2, cells := 0, slots := 0, locals := 47 } sS mM aA bB hM cC QQ AA D 10 0 0 (wm ad ct σ) 56 [(0, .ref (ad 0)), (1, .int (nI M)), (2, .int (o)), (3, .int (near)), (4, .int (far)), (5, .int (nI a)), (6, .int (nI b)), (7, .int (nI k))] [] := by
                    intro fuel
                    induction fuel with
                    | zero =>
                      intro k hk h3 hf56
                      exact absurd hf56 (Nat.not_lt_zero _)
                    | succ fuel ih56 =>
                      intro k hk h3 hf56
                      refine s_iload E dX5_isRowClean_56 (i := 7) (j := 7) rfl ?_
                      refine s_bipush E dX5_isRowClean_58 (v := nI 6) (by decide) ?_
                      refine s_icmp_ge E dX5_isRowClean_60 (tgt := 223) rfl (fun c60 => ?_) (fun c60 => ?_)
                      · have c60 : ¬ k < 6 := fun h => absurd c60 (Int32.not_le.mpr ((nI_ltI (a := k) (b := 6) (by omega) (by omega)).mpr h))
                        refine s_iinc E (L2 := [(6, .int (nI (b + 1))), (0, .ref (ad 0)), (1, .int (nI M)), (2, .int (o)), (3, .int (near)), (4, .int (far)), (5, .int (nI a)), (7, .int (nI k))]) dX5_isRowClean_223 (k := 6) rfl (v := nI (b + 1)) (nI_inc _) (Nat.le_of_ble_eq_true rfl) rfl ?_
                        refine s_goto E dX5_isRowClean_226 (tgt := 12) rfl ?_
                        refine s_loc (L2 := [(0, .ref (ad 0)), (1, .int (nI M)), (2, .int (o)), (3, .int (near)), (4, .int (far)), (5, .int (nI a)), (6, .int (nI (b + 1)))]) [1, 2, 3, 4, 5, 6, 0] rfl ?_
                        exact ih12 (b + 1) (by omega) (allB_s h2 (by unfold cB2; rw [show 6 = k by omega, h3]; simp [bI, c6, c15, c22, c48, c60])) (by omega)
                      · have c60 : k < 6 := (nI_ltI (a := k) (b := 6) (by omega) (by omega)).mp (Int32.not_le.mp c60)
                        refine s_iload E dX5_isRowClean_63 (i := 7) (j := 7) rfl ?_
                        have J79 : Sm pP l eE { frames := 2, cells := 0, slots := 0, locals := 47 } sS mM aA bB hM cC QQ AA D 10 0 0 (wm ad ct σ) 79 [(0, .ref (ad 0)), (1, .int (nI M)), (2, .int (o)), (3, .int (near)), (4, .int (far)), (5, .int (nI a)), (6, .int (nI b)), (7, .int (nI k))] [.int (bI (ordK k = true))] := by
                          refine s_istore E (L2 := [(8, .int (bI (ordK k = true))), (0, .ref (ad 0)), (1, .int (nI M)), (2, .int (o)), (3, .int (near)), (4, .int (far)), (5, .int (nI a)), (6, .int (nI b)), (7, .int (nI k))]) dX5_isRowClean_79 (Nat.le_of_ble_eq_true rfl) rfl ?_
                          refine s_iload_n E dX5_isRowClean_81 (i := 2) (j := 3) rfl rfl ?_
                          refine s_iload E dX5_isRowClean_82 (i := 7) (j := 8) rfl ?_
                          refine m_calls E (mz_bitOf k (by omega)) K5_286 (Nat.le_of_ble_eq_true rfl) (Nat.le_of_ble_eq_true rfl) (Nat.zero_le _) (Nat.zero_le _) rfl rfl (Nat.le_of_ble_eq_true rfl) dX5_isRowClean_84 (fun r84 h84 => ?_)
                          subst h84
                          refine s_iand E dX5_isRowClean_87 ?_
                          refine s_if_eq E dX5_isRowClean_88 (tgt := 217) rfl (fun c88 => ?_) (fun c88 => ?_)
                          · refine s_iinc E (L2 := [(7, .int (nI (k + 1))), (8, .int (bI (ordK k = true))), (0, .ref (ad 0)), (1, .int (nI M)), (2, .int (o)), (3, .int (near)), (4, .int (far)), (5, .int (nI a)), (6, .int (nI b))]) dX5_isRowClean_217 (k := 8) rfl (v := nI (k + 1)) (nI_inc _) (Nat.le_of_ble_eq_true rfl) rfl ?_
                            refine s_goto E dX5_isRowClean_220 (tgt := 56) rfl ?_
                            refine s_loc (L2 := [(0, .ref (ad 0)), (1, .int (nI M)), (2, .int (o)), (3, .int (near)), (4, .int (far)), (5, .int (nI a)), (6, .int (nI b)), (7, .int (nI (k + 1)))]) [2, 3, 4, 5, 6, 7, 8, 0] rfl ?_
                            exact ih56 (k + 1) (by omega) (allB_s h3 (by simp [bI, cK, c6, c15, c22, c48, c60, c88])) (by omega)
                          · refine s_iload E dX5_isRowClean_91 (i := 8) (j := 0) rfl ?_
                            refine s_if_eq E dX5_isRowClean_93 (tgt := 106) rfl (fun c93 => ?_) (fun c93 => ?_)
                            · have c93 := bI_0 c93
                              refine s_iload E dX5_isRowClean_106 (i := 7) (j := 8) rfl ?_
                              refine s_iconst E dX5_isRowClean_108 (v := nI 3) (by decide) ?_
                              refine s_icmp_eq E dX5_isRowClean_109 (tgt := 147) rfl (fun c109 => ?_) (fun c109 => ?_)
                              · have c109 : k = 3 := (nI_eq (a := k) (b := 3) (by omega) (by omega)).mp c109
                                have ht3 : third k = true := by rw [third, c109]; rfl
                                have t109 := ht3
                                refine s_iconst E dX5_isRowClean_147 (v := nI 0) (by decide) ?_
                                refine s_istore E (L2 := [(9, .int (nI 0)), (8, .int (bI (ordK k = true))), (0, .ref (ad 0)), (1, .int (nI M)), (2, .int (o)), (3, .int (near)), (4, .int (far)), (5, .int (nI a)), (6, .int (nI b)), (7, .int (nI k))]) dX5_isRowClean_148 (Nat.le_of_ble_eq_true rfl) rfl ?_
                                have L150 : ∀ (fuel : Nat) (d : Nat), (d ≤ M) → (third k = true → allB (cC3 (σ 43) near M k a b) d = true) → (M - d) < fuel → Sm pP l eE { frames := 2, cells := 0, slots := 0, locals := 47 } sS mM aA bB hM cC QQ AA D 10 0 0 (wm ad ct σ) 150 [(0, .ref (ad 0)), (1, .int (nI M)), (2, .int (o)), (3, .int (near)), (4, .int (far)), (5, .int (nI a)), (6, .int (nI b)), (7, .int (nI k)), (8, .int (bI (ordK k = true))), (9, .int (nI d))] [] := by
                                  intro fuel
                                  induction fuel with
                                  | zero =>
                                    intro d hd h4 hf150
                                    exact absurd hf150 (Nat.not_lt_zero _)
                                  | succ fuel ih150 =>
                                    intro d hd h4 hf150
                                    refine s_iload E dX5_isRowClean_150 (i := 9) (j := 9) rfl ?_
                                    refine s_iload_n E dX5_isRowClean_152 (i := 1) (j := 1) rfl rfl ?_
                                    refine s_icmp_ge E dX5_isRowClean_153 (tgt := 217) rfl (fun c153 => ?_) (fun c153 => ?_)
                                    · have c153 : ¬ d < M := fun h => absurd c153 (Int32.not_le.mpr ((nI_ltI (a := d) (b := M) (by omega) (by omega)).mpr h))
                                      refine s_iinc E (L2 := [(7, .int (nI (k + 1))), (0, .ref (ad 0)), (1, .int (nI M)), (2, .int (o)), (3, .int (near)), (4, .int (far)), (5, .int (nI a)), (6, .int (nI b)), (8, .int (bI (ordK k = true))), (9, .int (nI d))]) dX5_isRowClean_217 (k := 7) rfl (v := nI (k + 1)) (nI_inc _) (Nat.le_of_ble_eq_true rfl) rfl ?_
                                      refine s_goto E dX5_isRowClean_220 (tgt := 56) rfl ?_
                                      refine s_loc (L2 := [(0, .ref (ad 0)), (1, .int (nI M)), (2, .int (o)), (3, .int (near)), (4, .int (far)), (5, .int (nI a)), (6, .int (nI b)), (7, .int (nI (k + 1)))]) [1, 2, 3, 4, 5, 6, 7, 0] rfl ?_
                                      exact ih56 (k + 1) (by omega) (allB_s h3 (cK_of (fun h9 => by have h8 := h4 h9; rwa [show d = M by omega] at h8) (fun h9 => by rw [ht3] at h9; cases h9))) (by omega)
                                    · have c153 : d < M := (nI_ltI (a := d) (b := M) (by omega) (by omega)).mp (Int32.not_le.mp c153)
                                      refine s_iload E dX5_isRowClean_156 (i := 7) (j := 7) rfl ?_
                                      refine s_iconst E dX5_isRowClean_158 (v := nI 3) (by decide) ?_
                                      refine s_icmp_eq E dX5_isRowClean_159 (tgt := 168) rfl (fun c159 => ?_) (fun c159 => ?_)
                                      · have c159 : k = 3 := (nI_eq (a := k) (b := 3) (by omega) (by omega)).mp c159
                                        refine s_iload E dX5_isRowClean_168 (i := 9) (j := 9) rfl ?_
                                        refine s_iload E dX5_isRowClean_170 (i := 5) (j := 5) rfl ?_
                                        refine s_icmp_eq E dX5_isRowClean_172 (tgt := 211) rfl (fun c172 => ?_) (fun c172 => ?_)
                                        · have c172 : d = a := (nI_eq (a := d) (b := a) (by omega) (by omega)).mp c172
                                          refine s_iinc E (L2 := [(9, .int (nI (d + 1))), (0, .ref (ad 0)), (1, .int (nI M)), (2, .int (o)), (3, .int (near)), (4, .int (far)), (5, .int (nI a)), (6, .int (nI b)), (7, .int (nI k)), (8, .int (bI (ordK k = true)))]) dX5_isRowClean_211 (k := 9) rfl (v := nI (d + 1)) (nI_inc _) (Nat.le_of_ble_eq_true rfl) rfl ?_
                                          refine s_goto E dX5_isRowClean_214 (tgt := 150) rfl ?_
                                          refine s_loc (L2 := [(0, .ref (ad 0)), (1, .int (nI M)), (2, .int (o)), (3, .int (near)), (4, .int (far)), (5, .int (nI a)), (6, .int (nI b)), (7, .int (nI k)), (8, .int (bI (ordK k = true))), (9, .int (nI (d + 1)))]) [1, 2, 3, 4, 5, 6, 7, 8, 9, 0] rfl ?_
                                          exact ih150 (d + 1) (by omega) (fun h9 => allB_s (h4 h9) (by unfold cC3; simp [c172])) (by omega)
                                        · have c172 : ¬ d = a := fun h => c172 ((nI_eq (a := d) (b := a) (by omega) (by omega)).mpr h)
                                          refine s_iload E dX5_isRowClean_175 (i := 9) (j := 9) rfl ?_
                                          refine s_iload E dX5_isRowClean_177 (i := 6) (j := 6) rfl ?_
                                          refine s_icmp_eq E dX5_isRowClean_179 (tgt := 211) rfl (fun c179 => ?_) (fun c179 => ?_)
                                          · have c179 : d = b := (nI_eq (a := d) (b := b) (by omega) (by omega)).mp c179
                                            refine s_iinc E (L2 := [(9, .int (nI (d + 1))), (0, .ref (ad 0)), (1, .int (nI M)), (2, .int (o)), (3, .int (near)), (4, .int (far)), (5, .int (nI a)), (6, .int (nI b)), (7, .int (nI k)), (8, .int (bI (ordK k = true)))]) dX5_isRowClean_211 (k := 9) rfl (v := nI (d + 1)) (nI_inc _) (Nat.le_of_ble_eq_true rfl) rfl ?_
                                            refine s_goto E dX5_isRowClean_214 (tgt := 150) rfl ?_
                                            refine s_loc (L2 := [(0, .ref (ad 0)), (1, .int (nI M)), (2, .int (o)), (3, .int (near)), (4, .int (far)), (5, .int (nI a)), (6, .int (nI b)), (7, .int (nI k)), (8, .int (bI (ordK k = true))), (9, .int (nI (d + 1)))]) [1, 2, 3, 4, 5, 6, 7, 8, 9, 0] rfl ?_
                                            exact ih150 (d + 1) (by omega) (fun h9 => allB_s (h4 h9) (by unfold cC3; simp [c179])) (by omega)
                                          · have c179 : ¬ d = b := fun h => c179 ((nI_eq (a := d) (b := b) (by omega) (by omega)).mpr h)
                                            refine s_aload_n E dX5_isRowClean_182 (i := 0) (j := 0) rfl rfl ?_
                                            refine s_aload_n E dX5_isRowClean_183 (i := 0) (j := 0) rfl rfl ?_
                                            refine s_iload E dX5_isRowClean_184 (i := 7) (j := 7) rfl ?_
                                            refine s_iload E dX5_isRowClean_186 (i := 5) (j := 5) rfl ?_
                                            refine s_iload E dX5_isRowClean_188 (i := 6) (j := 6) rfl ?_
                                            refine s_iload E dX5_isRowClean_190 (i := 9) (j := 9) rfl ?_
                                            refine m_calli E (mz_sumOf3 k a b d (by omega) (by omega) (by omega) (by omega)) K5_366 (Nat.le_of_ble_eq_true rfl) (Nat.le_of_ble_eq_true rfl) (Nat.zero_le _) (Nat.zero_le _) rfl rfl (Nat.le_of_ble_eq_true rfl) dX5_isRowClean_192 (fun r192 w192 h192 => ?_)
                                            obtain ⟨rfl, rfl⟩ := h192
                                            refine s_iload_n E dX5_isRowClean_195 (i := 1) (j := 1) rfl rfl ?_
                                            refine s_iload E dX5_isRowClean_196 (i := 5) (j := 5) rfl ?_
                                            refine s_iload E dX5_isRowClean_198 (i := 6) (j := 6) rfl ?_
                                            refine s_iload E dX5_isRowClean_200 (i := 9) (j := 9) rfl ?_
                                            refine s_iload_n E dX5_isRowClean_202 (i := 3) (j := 3) rfl rfl ?_
                                            refine m_calli E (mz_hitsRow3 (sumR (σ 43) k a b (some d)) near M a b d (hM8) (by omega) (by omega) (by omega)) K5_370 (Nat.le_of_ble_eq_true rfl) (Nat.le_of_ble_eq_true rfl) (Nat.zero_le _) (Nat.zero_le _) rfl rfl (Nat.le_of_ble_eq_true rfl) dX5_isRowClean_203 (fun r203 w203 h203 => ?_)
                                            obtain ⟨rfl, rfl⟩ := h203
                                            refine s_if_eq E dX5_isRowClean_206 (tgt := 211) rfl (fun c206 => ?_) (fun c206 => ?_)
                                            · have c206 := bI_0 c206
                                              refine s_iinc E (L2 := [(9, .int (nI (d + 1))), (0, .ref (ad 0)), (1, .int (nI M)), (2, .int (o)), (3, .int (near)), (4, .int (far)), (5, .int (nI a)), (6, .int (nI b)), (7, .int (nI k)), (8, .int (bI (ordK k = true)))]) dX5_isRowClean_211 (k := 9) rfl (v := nI (d + 1)) (nI_inc _) (Nat.le_of_ble_eq_true rfl) rfl ?_
                                              refine s_goto E dX5_isRowClean_214 (tgt := 150) rfl ?_
                                              refine s_loc (L2 := [(0, .ref (ad 0)), (1, .int (nI M)), (2, .int (o)), (3, .int (near)), (4, .int (far)), (5, .int (nI a)), (6, .int (nI b)), (7, .int (nI k)), (8, .int (bI (ordK k = true))), (9, .int (nI (d + 1)))]) [1, 2, 3, 4, 5, 6, 7, 8, 9, 0] rfl ?_
                                              exact ih150 (d + 1) (by omega) (fun h9 => allB_s (h4 h9) (by unfold cC3; simp [c206])) (by omega)
                                            · have c206 := bI_n0 c206
                                              refine s_iconst E dX5_isRowClean_209 (v := nI 0) (by decide) ?_
                                              exact Rt (nI 0) (σ) dX5_isRowClean_210 (⟨by rw [bI_f]; exact allB_f (f := (fun a => allB (cB2 (σ 43) o near far M a) M)) (i := a) (by omega) (allB_f (f := cB2 (σ 43) o near far M a) (i := b) (by omega) (fun h9 => cB2_no c22 (by omega) (cK_no c88 (fun h5 => absurd h5 c93) (Or.inl ⟨ht3, allB_f (i := d) (by omega) (fun h6 => (by unfold cC3 at h6; simp [c172, c179, c206] at h6))⟩)) h9)), rfl⟩) rfl (Nat.le_refl _) (Nat.le_refl _) rfl E.2.2.2.2.2.1
                                      · have c159 : ¬ k = 3 := fun h => c159 ((nI_eq (a := k) (b := 3) (by omega) (by omega)).mpr h)
                                        refine s_iload E dX5_isRowClean_162 (i := 7) (j := 7) rfl ?_
                                        refine s_iconst E dX5_isRowClean_164 (v := nI 5) (by decide) ?_
                                        refine s_icmp_ne E dX5_isRowClean_165 (tgt := 217) rfl (fun c165 => ?_) (fun c165 => ?_)
                                        · have c165 : ¬ k = 5 := fun h => c165 ((nI_eq (a := k) (b := 5) (by omega) (by omega)).mpr h)
                                          refine s_iinc E (L2 := [(7, .int (nI (k + 1))), (0, .ref (ad 0)), (1, .int (nI M)), (2, .int (o)), (3, .int (near)), (4, .int (far)), (5, .int (nI a)), (6, .int (nI b)), (8, .int (bI (ordK k = true))), (9, .int (nI d))]) dX5_isRowClean_217 (k := 7) rfl (v := nI (k + 1)) (nI_inc _) (Nat.le_of_ble_eq_true rfl) rfl ?_
                                          refine s_goto E dX5_isRowClean_220 (tgt := 56) rfl ?_
                                          refine s_loc (L2 := [(0, .ref (ad 0)), (1, .int (nI M)), (2, .int (o)), (3, .int (near)), (4, .int (far)), (5, .int (nI a)), (6, .int (nI b)), (7, .int (nI (k + 1)))]) [1, 2, 3, 4, 5, 6, 7, 0] rfl ?_
                                          exact ih56 (k + 1) (by omega) (allB_s h3 (cK_of (fun h9 => by simp [third, c159, c165] at h9) (fun h9 => by rw [ht3] at h9; cases h9))) (by omega)
                                        · have c165 : k = 5 := (nI_eq (a := k) (b := 5) (by omega) (by omega)).mp c165
                                          refine s_iload E dX5_isRowClean_168 (i := 9) (j := 9) rfl ?_
                                          refine s_iload E dX5_isRowClean_170 (i := 5) (j := 5) rfl ?_
                                          refine s_icmp_eq E dX5_isRowClean_172 (tgt := 211) rfl (fun c172 => ?_) (fun c172 => ?_)
                                          · have c172 : d = a := (nI_eq (a := d) (b := a) (by omega) (by omega)).mp c172
                                            refine s_iinc E (L2 := [(9, .int (nI (d + 1))), (0, .ref (ad 0)), (1, .int (nI M)), (2, .int (o)), (3, .int (near)), (4, .int (far)), (5, .int (nI a)), (6, .int (nI b)), (7, .int (nI k)), (8, .int (bI (ordK k = true)))]) dX5_isRowClean_211 (k := 9) rfl (v := nI (d + 1)) (nI_inc _) (Nat.le_of_ble_eq_true rfl) rfl ?_
                                            refine s_goto E dX5_isRowClean_214 (tgt := 150) rfl ?_
                                            refine s_loc (L2 := [(0, .ref (ad 0)), (1, .int (nI M)), (2, .int (o)), (3, .int (near)), (4, .int (far)), (5, .int (nI a)), (6, .int (nI b)), (7, .int (nI k)), (8, .int (bI (ordK k = true))), (9, .int (nI (d + 1)))]) [1, 2, 3, 4, 5, 6, 7, 8, 9, 0] rfl ?_
                                            exact ih150 (d + 1) (by omega) (fun h9 => allB_s (h4 h9) (by unfold cC3; simp [c172])) (by omega)
                                          · have c172 : ¬ d = a := fun h => c172 ((nI_eq (a := d) (b := a) (by omega) (by omega)).mpr h)
                                            refine s_iload E dX5_isRowClean_175 (i := 9) (j := 9) rfl ?_
                                            refine s_iload E dX5_isRowClean_177 (i := 6) (j := 6) rfl ?_
                                            refine s_icmp_eq E dX5_isRowClean_179 (tgt := 211) rfl (fun c179 => ?_) (fun c179 => ?_)
                                            · have c179 : d = b := (nI_eq (a := d) (b := b) (by omega) (by omega)).mp c179
                                              refine s_iinc E (L2 := [(9, .int (nI (d + 1))), (0, .ref (ad 0)), (1, .int (nI M)), (2, .int (o)), (3, .int (near)), (4, .int (far)), (5, .int (nI a)), (6, .int (nI b)), (7, .int (nI k)), (8, .int (bI (ordK k = true)))]) dX5_isRowClean_211 (k := 9) rfl (v := nI (d + 1)) (nI_inc _) (Nat.le_of_ble_eq_true rfl) rfl ?_
                                              refine s_goto E dX5_isRowClean_214 (tgt := 150) rfl ?_
                                              refine s_loc (L2 := [(0, .ref (ad 0)), (1, .int (nI M)), (2, .int (o)), (3, .int (near)), (4, .int (far)), (5, .int (nI a)), (6, .int (nI b)), (7, .int (nI k)), (8, .int (bI (ordK k = true))), (9, .int (nI (d + 1)))]) [1, 2, 3, 4, 5, 6, 7, 8, 9, 0] rfl ?_
                                              exact ih150 (d + 1) (by omega) (fun h9 => allB_s (h4 h9) (by unfold cC3; simp [c179])) (by omega)
                                            · have c179 : ¬ d = b := fun h => c179 ((nI_eq (a := d) (b := b) (by omega) (by omega)).mpr h)
                                              refine s_aload_n E dX5_isRowClean_182 (i := 0) (j := 0) rfl rfl ?_
                                              refine s_aload_n E dX5_isRowClean_183 (i := 0) (j := 0) rfl rfl ?_
                                              refine s_iload E dX5_isRowClean_184 (i := 7) (j := 7) rfl ?_
                                              refine s_iload E dX5_isRowClean_186 (i := 5) (j := 5) rfl ?_
                                              refine s_iload E dX5_isRowClean_188 (i := 6) (j := 6) rfl ?_
                                              refine s_iload E dX5_isRowClean_190 (i := 9) (j := 9) rfl ?_
                                              refine m_calli E (mz_sumOf3 k a b d (by omega) (by omega) (by omega) (by omega)) K5_366 (Nat.le_of_ble_eq_true rfl) (Nat.le_of_ble_eq_true rfl) (Nat.zero_le _) (Nat.zero_le _) rfl rfl (Nat.le_of_ble_eq_true rfl) dX5_isRowClean_192 (fun r192 w192 h192 => ?_)
                                              obtain ⟨rfl, rfl⟩ := h192
                                              refine s_iload_n E dX5_isRowClean_195 (i := 1) (j := 1) rfl rfl ?_
                                              refine s_iload E dX5_isRowClean_196 (i := 5) (j := 5) rfl ?_
                                              refine s_iload E dX5_isRowClean_198 (i := 6) (j := 6) rfl ?_
                                              refine s_iload E dX5_isRowClean_200 (i := 9) (j := 9) rfl ?_
                                              refine s_iload_n E dX5_isRowClean_202 (i := 3) (j := 3) rfl rfl ?_
                                              refine m_calli E (mz_hitsRow3 (sumR (σ 43) k a b (some d)) near M a b d (hM8) (by omega) (by omega) (by omega)) K5_370 (Nat.le_of_ble_eq_true rfl) (Nat.le_of_ble_eq_true rfl) (Nat.zero_le _) (Nat.zero_le _) rfl rfl (Nat.le_of_ble_eq_true rfl) dX5_isRowClean_203 (fun r203 w203 h203 => ?_)
                                              obtain ⟨rfl, rfl⟩ := h203
                                              refine s_if_eq E dX5_isRowClean_206 (tgt := 211) rfl (fun c206 => ?_) (fun c206 => ?_)
                                              · have c206 := bI_0 c206
                                                refine s_iinc E (L2 := [(9, .int (nI (d + 1))), (0, .ref (ad 0)), (1, .int (nI M)), (2, .int (o)), (3, .int (near)), (4, .int (far)), (5, .int (nI a)), (6, .int (nI b)), (7, .int (nI k)), (8, .int (bI (ordK k = true)))]) dX5_isRowClean_211 (k := 9) rfl (v := nI (d + 1)) (nI_inc _) (Nat.le_of_ble_eq_true rfl) rfl ?_
                                                refine s_goto E dX5_isRowClean_214 (tgt := 150) rfl ?_
                                                refine s_loc (L2 := [(0, .ref (ad 0)), (1, .int (nI M)), (2, .int (o)), (3, .int (near)), (4, .int (far)), (5, .int (nI a)), (6, .int (nI b)), (7, .int (nI k)), (8, .int (bI (ordK k = true))), (9, .int (nI (d + 1)))]) [1, 2, 3, 4, 5, 6, 7, 8, 9, 0] rfl ?_
                                                exact ih150 (d + 1) (by omega) (fun h9 => allB_s (h4 h9) (by unfold cC3; simp [c206])) (by omega)
                                              · have c206 := bI_n0 c206
                                                refine s_iconst E dX5_isRowClean_209 (v := nI 0) (by decide) ?_
                                                exact Rt (nI 0) (σ) dX5_isRowClean_210 (⟨by rw [bI_f]; exact allB_f (f := (fun a => allB (cB2 (σ 43) o near far M a) M)) (i := a) (by omega) (allB_f (f := cB2 (σ 43) o near far M a) (i := b) (by omega) (fun h9 => cB2_no c22 (by omega) (cK_no c88 (fun h5 => absurd h5 c93) (Or.inl ⟨ht3, allB_f (i := d) (by omega) (fun h6 => (by unfold cC3 at h6; simp [c172, c179, c206] at h6))⟩)) h9)), rfl⟩) rfl (Nat.le_refl _) (Nat.le_refl _) rfl E.2.2.2.2.2.1
                                refine s_loc (L2 := [(0, .ref (ad 0)), (1, .int (nI M)), (2, .int (o)), (3, .int (near)), (4, .int (far)), (5, .int (nI a)), (6, .int (nI b)), (7, .int (nI k)), (8, .int (bI (ordK k = true))), (9, .int (nI 0))]) [2, 3, 4, 5, 6, 7, 8, 9, 1, 0] rfl ?_
                                exact L150 (_ + 1) 0 (Nat.zero_le _) (fun _ => rfl) (Nat.lt_succ_self _)
                              · have c109 : ¬ k = 3 := fun h => c109 ((nI_eq (a := k) (b := 3) (by omega) (by omega)).mpr h)
                                refine s_iload E dX5_isRowClean_112 (i := 7) (j := 8) rfl ?_
                                refine s_iconst E dX5_isRowClean_114 (v := nI 5) (by decide) ?_
                                refine s_icmp_eq E dX5_isRowClean_115 (tgt := 147) rfl (fun c115 => ?_) (fun c115 => ?_)
                                · have c115 : k = 5 := (nI_eq (a := k) (b := 5) (by omega) (by omega)).mp c115
                                  have ht3 : third k = true := by rw [third, c115]; rfl
                                  have t115 := ht3
                                  refine s_iconst E dX5_isRowClean_147 (v := nI 0) (by decide) ?_
                                  refine s_istore E (L2 := [(9, .int (nI 0)), (8, .int (bI (ordK k = true))), (0, .ref (ad 0)), (1, .int (nI M)), (2, .int (o)), (3, .int (near)), (4, .int (far)), (5, .int (nI a)), (6, .int (nI b)), (7, .int (nI k))]) dX5_isRowClean_148 (Nat.le_of_ble_eq_true rfl) rfl ?_
                                  have L150 : ∀ (fuel : Nat) (d : Nat), (d ≤ M) → (third k = true → allB (cC3 (σ 43) near M k a b) d = true) → (M - d) < fuel → Sm pP l eE { frames := 2, cells := 0, slots := 0, locals := 47 } sS mM aA bB hM cC QQ AA D 10 0 0 (wm ad ct σ) 150 [(0, .ref (ad 0)), (1, .int (nI M)), (2, .int (o)), (3, .int (near)), (4, .int (far)), (5, .int (nI a)), (6, .int (nI b)), (7, .int (nI k)), (8, .int (bI (ordK k = true))), (9, .int (nI d))] [] := by
                                    intro fuel
                                    induction fuel with
                                    | zero =>
                                      intro d hd h4 hf150
                                      exact absurd hf150 (Nat.not_lt_zero _)
                                    | succ fuel ih150 =>
                                      intro d hd h4 hf150
                                      refine s_iload E dX5_isRowClean_150 (i := 9) (j := 9) rfl ?_
                                      refine s_iload_n E dX5_isRowClean_152 (i := 1) (j := 1) rfl rfl ?_
                                      refine s_icmp_ge E dX5_isRowClean_153 (tgt := 217) rfl (fun c153 => ?_) (fun c153 => ?_)
                                      · have c153 : ¬ d < M := fun h => absurd c153 (Int32.not_le.mpr ((nI_ltI (a := d) (b := M) (by omega) (by omega)).mpr h))
                                        refine s_iinc E (L2 := [(7, .int (nI (k + 1))), (0, .ref (ad 0)), (1, .int (nI M)), (2, .int (o)), (3, .int (near)), (4, .int (far)), (5, .int (nI a)), (6, .int (nI b)), (8, .int (bI (ordK k = true))), (9, .int (nI d))]) dX5_isRowClean_217 (k := 7) rfl (v := nI (k + 1)) (nI_inc _) (Nat.le_of_ble_eq_true rfl) rfl ?_
                                        refine s_goto E dX5_isRowClean_220 (tgt := 56) rfl ?_
                                        refine s_loc (L2 := [(0, .ref (ad 0)), (1, .int (nI M)), (2, .int (o)), (3, .int (near)), (4, .int (far)), (5, .int (nI a)), (6, .int (nI b)), (7, .int (nI (k + 1)))]) [1, 2, 3, 4, 5, 6, 7, 0] rfl ?_
                                        exact ih56 (k + 1) (by omega) (allB_s h3 (cK_of (fun h9 => by have h8 := h4 h9; rwa [show d = M by omega] at h8) (fun h9 => by rw [ht3] at h9; cases h9))) (by omega)
                                      · have c153 : d < M := (nI_ltI (a := d) (b := M) (by omega) (by omega)).mp (Int32.not_le.mp c153)
                                        refine s_iload E dX5_isRowClean_156 (i := 7) (j := 7) rfl ?_
                                        refine s_iconst E dX5_isRowClean_158 (v := nI 3) (by decide) ?_
                                        refine s_icmp_eq E dX5_isRowClean_159 (tgt := 168) rfl (fun c159 => ?_) (fun c159 => ?_)
                                        · have c159 : k = 3 := (nI_eq (a := k) (b := 3) (by omega) (by omega)).mp c159
                                          refine s_iload E dX5_isRowClean_168 (i := 9) (j := 9) rfl ?_
                                          refine s_iload E dX5_isRowClean_170 (i := 5) (j := 5) rfl ?_
                                          refine s_icmp_eq E dX5_isRowClean_172 (tgt := 211) rfl (fun c172 => ?_) (fun c172 => ?_)
                                          · have c172 : d = a := (nI_eq (a := d) (b := a) (by omega) (by omega)).mp c172
                                            refine s_iinc E (L2 := [(9, .int (nI (d + 1))), (0, .ref (ad 0)), (1, .int (nI M)), (2, .int (o)), (3, .int (near)), (4, .int (far)), (5, .int (nI a)), (6, .int (nI b)), (7, .int (nI k)), (8, .int (bI (ordK k = true)))]) dX5_isRowClean_211 (k := 9) rfl (v := nI (d + 1)) (nI_inc _) (Nat.le_of_ble_eq_true rfl) rfl ?_
                                            refine s_goto E dX5_isRowClean_214 (tgt := 150) rfl ?_
                                            refine s_loc (L2 := [(0, .ref (ad 0)), (1, .int (nI M)), (2, .int (o)), (3, .int (near)), (4, .int (far)), (5, .int (nI a)), (6, .int (nI b)), (7, .int (nI k)), (8, .int (bI (ordK k = true))), (9, .int (nI (d + 1)))]) [1, 2, 3, 4, 5, 6, 7, 8, 9, 0] rfl ?_
                                            exact ih150 (d + 1) (by omega) (fun h9 => allB_s (h4 h9) (by unfold cC3; simp [c172])) (by omega)
                                          · have c172 : ¬ d = a := fun h => c172 ((nI_eq (a := d) (b := a) (by omega) (by omega)).mpr h)
                                            refine s_iload E dX5_isRowClean_175 (i := 9) (j := 9) rfl ?_
                                            refine s_iload E dX5_isRowClean_177 (i := 6) (j := 6) rfl ?_
                                            refine s_icmp_eq E dX5_isRowClean_179 (tgt := 211) rfl (fun c179 => ?_) (fun c179 => ?_)
                                            · have c179 : d = b := (nI_eq (a := d) (b := b) (by omega) (by omega)).mp c179
                                              refine s_iinc E (L2 := [(9, .int (nI (d + 1))), (0, .ref (ad 0)), (1, .int (nI M)), (2, .int (o)), (3, .int (near)), (4, .int (far)), (5, .int (nI a)), (6, .int (nI b)), (7, .int (nI k)), (8, .int (bI (ordK k = true)))]) dX5_isRowClean_211 (k := 9) rfl (v := nI (d + 1)) (nI_inc _) (Nat.le_of_ble_eq_true rfl) rfl ?_
                                              refine s_goto E dX5_isRowClean_214 (tgt := 150) rfl ?_
                                              refine s_loc (L2 := [(0, .ref (ad 0)), (1, .int (nI M)), (2, .int (o)), (3, .int (near)), (4, .int (far)), (5, .int (nI a)), (6, .int (nI b)), (7, .int (nI k)), (8, .int (bI (ordK k = true))), (9, .int (nI (d + 1)))]) [1, 2, 3, 4, 5, 6, 7, 8, 9, 0] rfl ?_
                                              exact ih150 (d + 1) (by omega) (fun h9 => allB_s (h4 h9) (by unfold cC3; simp [c179])) (by omega)
                                            · have c179 : ¬ d = b := fun h => c179 ((nI_eq (a := d) (b := b) (by omega) (by omega)).mpr h)
                                              refine s_aload_n E dX5_isRowClean_182 (i := 0) (j := 0) rfl rfl ?_
                                              refine s_aload_n E dX5_isRowClean_183 (i := 0) (j := 0) rfl rfl ?_
                                              refine s_iload E dX5_isRowClean_184 (i := 7) (j := 7) rfl ?_
                                              refine s_iload E dX5_isRowClean_186 (i := 5) (j := 5) rfl ?_
                                              refine s_iload E dX5_isRowClean_188 (i := 6) (j := 6) rfl ?_
                                              refine s_iload E dX5_isRowClean_190 (i := 9) (j := 9) rfl ?_
                                              refine m_calli E (mz_sumOf3 k a b d (by omega) (by omega) (by omega) (by omega)) K5_366 (Nat.le_of_ble_eq_true rfl) (Nat.le_of_ble_eq_true rfl) (Nat.zero_le _) (Nat.zero_le _) rfl rfl (Nat.le_of_ble_eq_true rfl) dX5_isRowClean_192 (fun r192 w192 h192 => ?_)
                                              obtain ⟨rfl, rfl⟩ := h192
                                              refine s_iload_n E dX5_isRowClean_195 (i := 1) (j := 1) rfl rfl ?_
                                              refine s_iload E dX5_isRowClean_196 (i := 5) (j := 5) rfl ?_
                                              refine s_iload E dX5_isRowClean_198 (i := 6) (j := 6) rfl ?_
                                              refine s_iload E dX5_isRowClean_200 (i := 9) (j := 9) rfl ?_
                                              refine s_iload_n E dX5_isRowClean_202 (i := 3) (j := 3) rfl rfl ?_
                                              refine m_calli E (mz_hitsRow3 (sumR (σ 43) k a b (some d)) near M a b d (hM8) (by omega) (by omega) (by omega)) K5_370 (Nat.le_of_ble_eq_true rfl) (Nat.le_of_ble_eq_true rfl) (Nat.zero_le _) (Nat.zero_le _) rfl rfl (Nat.le_of_ble_eq_true rfl) dX5_isRowClean_203 (fun r203 w203 h203 => ?_)
                                              obtain ⟨rfl, rfl⟩ := h203
                                              refine s_if_eq E dX5_isRowClean_206 (tgt := 211) rfl (fun c206 => ?_) (fun c206 => ?_)
                                              · have c206 := bI_0 c206
                                                refine s_iinc E (L2 := [(9, .int (nI (d + 1))), (0, .ref (ad 0)), (1, .int (nI M)), (2, .int (o)), (3, .int (near)), (4, .int (far)), (5, .int (nI a)), (6, .int (nI b)), (7, .int (nI k)), (8, .int (bI (ordK k = true)))]) dX5_isRowClean_211 (k := 9) rfl (v := nI (d + 1)) (nI_inc _) (Nat.le_of_ble_eq_true rfl) rfl ?_
                                                refine s_goto E dX5_isRowClean_214 (tgt := 150) rfl ?_
                                                refine s_loc (L2 := [(0, .ref (ad 0)), (1, .int (nI M)), (2, .int (o)), (3, .int (near)), (4, .int (far)), (5, .int (nI a)), (6, .int (nI b)), (7, .int (nI k)), (8, .int (bI (ordK k = true))), (9, .int (nI (d + 1)))]) [1, 2, 3, 4, 5, 6, 7, 8, 9, 0] rfl ?_
                                                exact ih150 (d + 1) (by omega) (fun h9 => allB_s (h4 h9) (by unfold cC3; simp [c206])) (by omega)
                                              · have c206 := bI_n0 c206
                                                refine s_iconst E dX5_isRowClean_209 (v := nI 0) (by decide) ?_
                                                exact Rt (nI 0) (σ) dX5_isRowClean_210 (⟨by rw [bI_f]; exact allB_f (f := (fun a => allB (cB2 (σ 43) o near far M a) M)) (i := a) (by omega) (allB_f (f := cB2 (σ 43) o near far M a) (i := b) (by omega) (fun h9 => cB2_no c22 (by omega) (cK_no c88 (fun h5 => absurd h5 c93) (Or.inl ⟨ht3, allB_f (i := d) (by omega) (fun h6 => (by unfold cC3 at h6; simp [c172, c179, c206] at h6))⟩)) h9)), rfl⟩) rfl (Nat.le_refl _) (Nat.le_refl _) rfl E.2.2.2.2.2.1
                                        · have c159 : ¬ k = 3 := fun h => c159 ((nI_eq (a := k) (b := 3) (by omega) (by omega)).mpr h)
                                          refine s_iload E dX5_isRowClean_162 (i := 7) (j := 7) rfl ?_
                                          refine s_iconst E dX5_isRowClean_164 (v := nI 5) (by decide) ?_
                                          refine s_icmp_ne E dX5_isRowClean_165 (tgt := 217) rfl (fun c165 => ?_) (fun c165 => ?_)
                                          · have c165 : ¬ k = 5 := fun h => c165 ((nI_eq (a := k) (b := 5) (by omega) (by omega)).mpr h)
                                            refine s_iinc E (L2 := [(7, .int (nI (k + 1))), (0, .ref (ad 0)), (1, .int (nI M)), (2, .int (o)), (3, .int (near)), (4, .int (far)), (5, .int (nI a)), (6, .int (nI b)), (8, .int (bI (ordK k = true))), (9, .int (nI d))]) dX5_isRowClean_217 (k := 7) rfl (v := nI (k + 1)) (nI_inc _) (Nat.le_of_ble_eq_true rfl) rfl ?_
                                            refine s_goto E dX5_isRowClean_220 (tgt := 56) rfl ?_
                                            refine s_loc (L2 := [(0, .ref (ad 0)), (1, .int (nI M)), (2, .int (o)), (3, .int (near)), (4, .int (far)), (5, .int (nI a)), (6, .int (nI b)), (7, .int (nI (k + 1)))]) [1, 2, 3, 4, 5, 6, 7, 0] rfl ?_
                                            exact ih56 (k + 1) (by omega) (allB_s h3 (cK_of (fun h9 => by simp [third, c159, c165] at h9) (fun h9 => by rw [ht3] at h9; cases h9))) (by omega)
                                          · have c165 : k = 5 := (nI_eq (a := k) (b := 5) (by omega) (by omega)).mp c165
                                            refine s_iload E dX5_isRowClean_168 (i := 9) (j := 9) rfl ?_
                                            refine s_iload E dX5_isRowClean_170 (i := 5) (j := 5) rfl ?_
                                            refine s_icmp_eq E dX5_isRowClean_172 (tgt := 211) rfl (fun c172 => ?_) (fun c172 => ?_)
                                            · have c172 : d = a := (nI_eq (a := d) (b := a) (by omega) (by omega)).mp c172
                                              refine s_iinc E (L2 := [(9, .int (nI (d + 1))), (0, .ref (ad 0)), (1, .int (nI M)), (2, .int (o)), (3, .int (near)), (4, .int (far)), (5, .int (nI a)), (6, .int (nI b)), (7, .int (nI k)), (8, .int (bI (ordK k = true)))]) dX5_isRowClean_211 (k := 9) rfl (v := nI (d + 1)) (nI_inc _) (Nat.le_of_ble_eq_true rfl) rfl ?_
                                              refine s_goto E dX5_isRowClean_214 (tgt := 150) rfl ?_
                                              refine s_loc (L2 := [(0, .ref (ad 0)), (1, .int (nI M)), (2, .int (o)), (3, .int (near)), (4, .int (far)), (5, .int (nI a)), (6, .int (nI b)), (7, .int (nI k)), (8, .int (bI (ordK k = true))), (9, .int (nI (d + 1)))]) [1, 2, 3, 4, 5, 6, 7, 8, 9, 0] rfl ?_
                                              exact ih150 (d + 1) (by omega) (fun h9 => allB_s (h4 h9) (by unfold cC3; simp [c172])) (by omega)
                                            · have c172 : ¬ d = a := fun h => c172 ((nI_eq (a := d) (b := a) (by omega) (by omega)).mpr h)
                                              refine s_iload E dX5_isRowClean_175 (i := 9) (j := 9) rfl ?_
                                              refine s_iload E dX5_isRowClean_177 (i := 6) (j := 6) rfl ?_
                                              refine s_icmp_eq E dX5_isRowClean_179 (tgt := 211) rfl (fun c179 => ?_) (fun c179 => ?_)
                                              · have c179 : d = b := (nI_eq (a := d) (b := b) (by omega) (by omega)).mp c179
                                                refine s_iinc E (L2 := [(9, .int (nI (d + 1))), (0, .ref (ad 0)), (1, .int (nI M)), (2, .int (o)), (3, .int (near)), (4, .int (far)), (5, .int (nI a)), (6, .int (nI b)), (7, .int (nI k)), (8, .int (bI (ordK k = true)))]) dX5_isRowClean_211 (k := 9) rfl (v := nI (d + 1)) (nI_inc _) (Nat.le_of_ble_eq_true rfl) rfl ?_
                                                refine s_goto E dX5_isRowClean_214 (tgt := 150) rfl ?_
                                                refine s_loc (L2 := [(0, .ref (ad 0)), (1, .int (nI M)), (2, .int (o)), (3, .int (near)), (4, .int (far)), (5, .int (nI a)), (6, .int (nI b)), (7, .int (nI k)), (8, .int (bI (ordK k = true))), (9, .int (nI (d + 1)))]) [1, 2, 3, 4, 5, 6, 7, 8, 9, 0] rfl ?_
                                                exact ih150 (d + 1) (by omega) (fun h9 => allB_s (h4 h9) (by unfold cC3; simp [c179])) (by omega)
                                              · have c179 : ¬ d = b := fun h => c179 ((nI_eq (a := d) (b := b) (by omega) (by omega)).mpr h)
                                                refine s_aload_n E dX5_isRowClean_182 (i := 0) (j := 0) rfl rfl ?_
                                                refine s_aload_n E dX5_isRowClean_183 (i := 0) (j := 0) rfl rfl ?_
                                                refine s_iload E dX5_isRowClean_184 (i := 7) (j := 7) rfl ?_
                                                refine s_iload E dX5_isRowClean_186 (i := 5) (j := 5) rfl ?_
                                                refine s_iload E dX5_isRowClean_188 (i := 6) (j := 6) rfl ?_
                                                refine s_iload E dX5_isRowClean_190 (i := 9) (j := 9) rfl ?_
                                                refine m_calli E (mz_sumOf3 k a b d (by omega) (by omega) (by omega) (by omega)) K5_366 (Nat.le_of_ble_eq_true rfl) (Nat.le_of_ble_eq_true rfl) (Nat.zero_le _) (Nat.zero_le _) rfl rfl (Nat.le_of_ble_eq_true rfl) dX5_isRowClean_192 (fun r192 w192 h192 => ?_)
                                                obtain ⟨rfl, rfl⟩ := h192
                                                refine s_iload_n E dX5_isRowClean_195 (i := 1) (j := 1) rfl rfl ?_
                                                refine s_iload E dX5_isRowClean_196 (i := 5) (j := 5) rfl ?_
                                                refine s_iload E dX5_isRowClean_198 (i := 6) (j := 6) rfl ?_
                                                refine s_iload E dX5_isRowClean_200 (i := 9) (j := 9) rfl ?_
                                                refine s_iload_n E dX5_isRowClean_202 (i := 3) (j := 3) rfl rfl ?_
                                                refine m_calli E (mz_hitsRow3 (sumR (σ 43) k a b (some d)) near M a b d (hM8) (by omega) (by omega) (by omega)) K5_370 (Nat.le_of_ble_eq_true rfl) (Nat.le_of_ble_eq_true rfl) (Nat.zero_le _) (Nat.zero_le _) rfl rfl (Nat.le_of_ble_eq_true rfl) dX5_isRowClean_203 (fun r203 w203 h203 => ?_)
                                                obtain ⟨rfl, rfl⟩ := h203
                                                refine s_if_eq E dX5_isRowClean_206 (tgt := 211) rfl (fun c206 => ?_) (fun c206 => ?_)
                                                · have c206 := bI_0 c206
                                                  refine s_iinc E (L2 := [(9, .int (nI (d + 1))), (0, .ref (ad 0)), (1, .int (nI M)), (2, .int (o)), (3, .int (near)), (4, .int (far)), (5, .int (nI a)), (6, .int (nI b)), (7, .int (nI k)), (8, .int (bI (ordK k = true)))]) dX5_isRowClean_211 (k := 9) rfl (v := nI (d + 1)) (nI_inc _) (Nat.le_of_ble_eq_true rfl) rfl ?_
                                                  refine s_goto E dX5_isRowClean_214 (tgt := 150) rfl ?_
                                                  refine s_loc (L2 := [(0, .ref (ad 0)), (1, .int (nI M)), (2, .int (o)), (3, .int (near)), (4, .int (far)), (5, .int (nI a)), (6, .int (nI b)), (7, .int (nI k)), (8, .int (bI (ordK k = true))), (9, .int (nI (d + 1)))]) [1, 2, 3, 4, 5, 6, 7, 8, 9, 0] rfl ?_
                                                  exact ih150 (d + 1) (by omega) (fun h9 => allB_s (h4 h9) (by unfold cC3; simp [c206])) (by omega)
                                                · have c206 := bI_n0 c206
                                                  refine s_iconst E dX5_isRowClean_209 (v := nI 0) (by decide) ?_
                                                  exact Rt (nI 0) (σ) dX5_isRowClean_210 (⟨by rw [bI_f]; exact allB_f (f := (fun a => allB (cB2 (σ 43) o near far M a) M)) (i := a) (by omega) (allB_f (f := cB2 (σ 43) o near far M a) (i := b) (by omega) (fun h9 => cB2_no c22 (by omega) (cK_no c88 (fun h5 => absurd h5 c93) (Or.inl ⟨ht3, allB_f (i := d) (by omega) (fun h6 => (by unfold cC3 at h6; simp [c172, c179, c206] at h6))⟩)) h9)), rfl⟩) rfl (Nat.le_refl _) (Nat.le_refl _) rfl E.2.2.2.2.2.1
                                  refine s_loc (L2 := [(0, .ref (ad 0)), (1, .int (nI M)), (2, .int (o)), (3, .int (near)), (4, .int (far)), (5, .int (nI a)), (6, .int (nI b)), (7, .int (nI k)), (8, .int (bI (ordK k = true))), (9, .int (nI 0))]) [2, 3, 4, 5, 6, 7, 8, 9, 1, 0] rfl ?_
                                  exact L150 (_ + 1) 0 (Nat.zero_le _) (fun _ => rfl) (Nat.lt_succ_self _)
                                · have c115 : ¬ k = 5 := fun h => c115 ((nI_eq (a := k) (b := 5) (by omega) (by omega)).mpr h)
                                  have ht3 : third k = false := by simp [third, c109, c115]
                                  refine s_aload_n E dX5_isRowClean_118 (i := 0) (j := 1) rfl rfl ?_
                                  refine s_aload_n E dX5_isRowClean_119 (i := 0) (j := 1) rfl rfl ?_
                                  refine s_iload E dX5_isRowClean_120 (i := 7) (j := 8) rfl ?_
                                  refine s_iload E dX5_isRowClean_122 (i := 5) (j := 6) rfl ?_
                                  refine s_iload E dX5_isRowClean_124 (i := 6) (j := 7) rfl ?_
                                  refine s_bipush E dX5_isRowClean_126 (v := (-2)) (by decide) ?_
                                  refine m_calli E (mz_sumOf k a b (by omega) (by omega) (by omega)) K5_366 (Nat.le_of_ble_eq_true rfl) (Nat.le_of_ble_eq_true rfl) (Nat.zero_le _) (Nat.zero_le _) rfl rfl (Nat.le_of_ble_eq_true rfl) dX5_isRowClean_128 (fun r128 w128 h128 => ?_)
                                  obtain ⟨rfl, rfl⟩ := h128
                                  refine s_iload_n E dX5_isRowClean_131 (i := 1) (j := 2) rfl rfl ?_
                                  refine s_iload E dX5_isRowClean_132 (i := 5) (j := 6) rfl ?_
                                  refine s_iload E dX5_isRowClean_134 (i := 6) (j := 7) rfl ?_
                                  refine s_bipush E dX5_isRowClean_136 (v := (-2)) (by decide) ?_
                                  refine s_iload_n E dX5_isRowClean_138 (i := 3) (j := 4) rfl rfl ?_
                                  refine m_calli E (mz_hitsRow (sumR (σ 43) k a b none) near M a b (hM8) (by omega) (by omega)) K5_370 (Nat.le_of_ble_eq_true rfl) (Nat.le_of_ble_eq_true rfl) (Nat.zero_le _) (Nat.zero_le _) rfl rfl (Nat.le_of_ble_eq_true rfl) dX5_isRowClean_139 (fun r139 w139 h139 => ?_)
                                  obtain ⟨rfl, rfl⟩ := h139
                                  refine s_if_eq E dX5_isRowClean_142 (tgt := 147) rfl (fun c142 => ?_) (fun c142 => ?_)
                                  · have c142 := bI_0 c142
                                    refine s_iconst E dX5_isRowClean_147 (v := nI 0) (by decide) ?_
                                    refine s_istore E (L2 := [(9, .int (nI 0)), (8, .int (bI (ordK k = true))), (0, .ref (ad 0)), (1, .int (nI M)), (2, .int (o)), (3, .int (near)), (4, .int (far)), (5, .int (nI a)), (6, .int (nI b)), (7, .int (nI k))]) dX5_isRowClean_148 (Nat.le_of_ble_eq_true rfl) rfl ?_
                                    have L150 : ∀ (fuel : Nat) (d : Nat), (d ≤ M) → (third k = true → allB (cC3 (σ 43) near M k a b) d = true) → (M - d) < fuel → Sm pP l eE { frames := 2, cells := 0, slots := 0, locals := 47 } sS mM aA bB hM cC QQ AA D 10 0 0 (wm ad ct σ) 150 [(0, .ref (ad 0)), (1, .int (nI M)), (2, .int (o)), (3, .int (near)), (4, .int (far)), (5, .int (nI a)), (6, .int (nI b)), (7, .int (nI k)), (8, .int (bI (ordK k = true))), (9, .int (nI d))] [] := by
                                      intro fuel
                                      induction fuel with
                                      | zero =>
                                        intro d hd h4 hf150
                                        exact absurd hf150 (Nat.not_lt_zero _)
                                      | succ fuel ih150 =>
                                        intro d hd h4 hf150
                                        refine s_iload E dX5_isRowClean_150 (i := 9) (j := 9) rfl ?_
                                        refine s_iload_n E dX5_isRowClean_152 (i := 1) (j := 1) rfl rfl ?_
                                        refine s_icmp_ge E dX5_isRowClean_153 (tgt := 217) rfl (fun c153 => ?_) (fun c153 => ?_)
                                        · have c153 : ¬ d < M := fun h => absurd c153 (Int32.not_le.mpr ((nI_ltI (a := d) (b := M) (by omega) (by omega)).mpr h))
                                          refine s_iinc E (L2 := [(7, .int (nI (k + 1))), (0, .ref (ad 0)), (1, .int (nI M)), (2, .int (o)), (3, .int (near)), (4, .int (far)), (5, .int (nI a)), (6, .int (nI b)), (8, .int (bI (ordK k = true))), (9, .int (nI d))]) dX5_isRowClean_217 (k := 7) rfl (v := nI (k + 1)) (nI_inc _) (Nat.le_of_ble_eq_true rfl) rfl ?_
                                          refine s_goto E dX5_isRowClean_220 (tgt := 56) rfl ?_
                                          refine s_loc (L2 := [(0, .ref (ad 0)), (1, .int (nI M)), (2, .int (o)), (3, .int (near)), (4, .int (far)), (5, .int (nI a)), (6, .int (nI b)), (7, .int (nI (k + 1)))]) [1, 2, 3, 4, 5, 6, 7, 0] rfl ?_
                                          exact ih56 (k + 1) (by omega) (allB_s h3 (cK_of (fun h9 => by have h8 := h4 h9; rwa [show d = M by omega] at h8) (fun h9 => c142))) (by omega)
                                        · have c153 : d < M := (nI_ltI (a := d) (b := M) (by omega) (by omega)).mp (Int32.not_le.mp c153)
                                          refine s_iload E dX5_isRowClean_156 (i := 7) (j := 7) rfl ?_
                                          refine s_iconst E dX5_isRowClean_158 (v := nI 3) (by decide) ?_
                                          refine s_icmp_eq E dX5_isRowClean_159 (tgt := 168) rfl (fun c159 => ?_) (fun c159 => ?_)
                                          · have c159 : k = 3 := (nI_eq (a := k) (b := 3) (by omega) (by omega)).mp c159
                                            refine s_iload E dX5_isRowClean_168 (i := 9) (j := 9) rfl ?_
                                            refine s_iload E dX5_isRowClean_170 (i := 5) (j := 5) rfl ?_
                                            refine s_icmp_eq E dX5_isRowClean_172 (tgt := 211) rfl (fun c172 => ?_) (fun c172 => ?_)
                                            · have c172 : d = a := (nI_eq (a := d) (b := a) (by omega) (by omega)).mp c172
                                              refine s_iinc E (L2 := [(9, .int (nI (d + 1))), (0, .ref (ad 0)), (1, .int (nI M)), (2, .int (o)), (3, .int (near)), (4, .int (far)), (5, .int (nI a)), (6, .int (nI b)), (7, .int (nI k)), (8, .int (bI (ordK k = true)))]) dX5_isRowClean_211 (k := 9) rfl (v := nI (d + 1)) (nI_inc _) (Nat.le_of_ble_eq_true rfl) rfl ?_
                                              refine s_goto E dX5_isRowClean_214 (tgt := 150) rfl ?_
                                              refine s_loc (L2 := [(0, .ref (ad 0)), (1, .int (nI M)), (2, .int (o)), (3, .int (near)), (4, .int (far)), (5, .int (nI a)), (6, .int (nI b)), (7, .int (nI k)), (8, .int (bI (ordK k = true))), (9, .int (nI (d + 1)))]) [1, 2, 3, 4, 5, 6, 7, 8, 9, 0] rfl ?_
                                              exact ih150 (d + 1) (by omega) (fun h9 => allB_s (h4 h9) (by unfold cC3; simp [c172])) (by omega)
                                            · have c172 : ¬ d = a := fun h => c172 ((nI_eq (a := d) (b := a) (by omega) (by omega)).mpr h)
                                              refine s_iload E dX5_isRowClean_175 (i := 9) (j := 9) rfl ?_
                                              refine s_iload E dX5_isRowClean_177 (i := 6) (j := 6) rfl ?_
                                              refine s_icmp_eq E dX5_isRowClean_179 (tgt := 211) rfl (fun c179 => ?_) (fun c179 => ?_)
                                              · have c179 : d = b := (nI_eq (a := d) (b := b) (by omega) (by omega)).mp c179
                                                refine s_iinc E (L2 := [(9, .int (nI (d + 1))), (0, .ref (ad 0)), (1, .int (nI M)), (2, .int (o)), (3, .int (near)), (4, .int (far)), (5, .int (nI a)), (6, .int (nI b)), (7, .int (nI k)), (8, .int (bI (ordK k = true)))]) dX5_isRowClean_211 (k := 9) rfl (v := nI (d + 1)) (nI_inc _) (Nat.le_of_ble_eq_true rfl) rfl ?_
                                                refine s_goto E dX5_isRowClean_214 (tgt := 150) rfl ?_
                                                refine s_loc (L2 := [(0, .ref (ad 0)), (1, .int (nI M)), (2, .int (o)), (3, .int (near)), (4, .int (far)), (5, .int (nI a)), (6, .int (nI b)), (7, .int (nI k)), (8, .int (bI (ordK k = true))), (9, .int (nI (d + 1)))]) [1, 2, 3, 4, 5, 6, 7, 8, 9, 0] rfl ?_
                                                exact ih150 (d + 1) (by omega) (fun h9 => allB_s (h4 h9) (by unfold cC3; simp [c179])) (by omega)
                                              · have c179 : ¬ d = b := fun h => c179 ((nI_eq (a := d) (b := b) (by omega) (by omega)).mpr h)
                                                refine s_aload_n E dX5_isRowClean_182 (i := 0) (j := 0) rfl rfl ?_
                                                refine s_aload_n E dX5_isRowClean_183 (i := 0) (j := 0) rfl rfl ?_
                                                refine s_iload E dX5_isRowClean_184 (i := 7) (j := 7) rfl ?_
                                                refine s_iload E dX5_isRowClean_186 (i := 5) (j := 5) rfl ?_
                                                refine s_iload E dX5_isRowClean_188 (i := 6) (j := 6) rfl ?_
                                                refine s_iload E dX5_isRowClean_190 (i := 9) (j := 9) rfl ?_
                                                refine m_calli E (mz_sumOf3 k a b d (by omega) (by omega) (by omega) (by omega)) K5_366 (Nat.le_of_ble_eq_true rfl) (Nat.le_of_ble_eq_true rfl) (Nat.zero_le _) (Nat.zero_le _) rfl rfl (Nat.le_of_ble_eq_true rfl) dX5_isRowClean_192 (fun r192 w192 h192 => ?_)
                                                obtain ⟨rfl, rfl⟩ := h192
                                                refine s_iload_n E dX5_isRowClean_195 (i := 1) (j := 1) rfl rfl ?_
                                                refine s_iload E dX5_isRowClean_196 (i := 5) (j := 5) rfl ?_
                                                refine s_iload E dX5_isRowClean_198 (i := 6) (j := 6) rfl ?_
                                                refine s_iload E dX5_isRowClean_200 (i := 9) (j := 9) rfl ?_
                                                refine s_iload_n E dX5_isRowClean_202 (i := 3) (j := 3) rfl rfl ?_
                                                refine m_calli E (mz_hitsRow3 (sumR (σ 43) k a b (some d)) near M a b d (hM8) (by omega) (by omega) (by omega)) K5_370 (Nat.le_of_ble_eq_true rfl) (Nat.le_of_ble_eq_true rfl) (Nat.zero_le _) (Nat.zero_le _) rfl rfl (Nat.le_of_ble_eq_true rfl) dX5_isRowClean_203 (fun r203 w203 h203 => ?_)
                                                obtain ⟨rfl, rfl⟩ := h203
                                                refine s_if_eq E dX5_isRowClean_206 (tgt := 211) rfl (fun c206 => ?_) (fun c206 => ?_)
                                                · have c206 := bI_0 c206
                                                  refine s_iinc E (L2 := [(9, .int (nI (d + 1))), (0, .ref (ad 0)), (1, .int (nI M)), (2, .int (o)), (3, .int (near)), (4, .int (far)), (5, .int (nI a)), (6, .int (nI b)), (7, .int (nI k)), (8, .int (bI (ordK k = true)))]) dX5_isRowClean_211 (k := 9) rfl (v := nI (d + 1)) (nI_inc _) (Nat.le_of_ble_eq_true rfl) rfl ?_
                                                  refine s_goto E dX5_isRowClean_214 (tgt := 150) rfl ?_
                                                  refine s_loc (L2 := [(0, .ref (ad 0)), (1, .int (nI M)), (2, .int (o)), (3, .int (near)), (4, .int (far)), (5, .int (nI a)), (6, .int (nI b)), (7, .int (nI k)), (8, .int (bI (ordK k = true))), (9, .int (nI (d + 1)))]) [1, 2, 3, 4, 5, 6, 7, 8, 9, 0] rfl ?_
                                                  exact ih150 (d + 1) (by omega) (fun h9 => allB_s (h4 h9) (by unfold cC3; simp [c206])) (by omega)
                                                · have c206 := bI_n0 c206
                                                  refine s_iconst E dX5_isRowClean_209 (v := nI 0) (by decide) ?_
                                                  exact Rt (nI 0) (σ) dX5_isRowClean_210 (⟨by rw [bI_f]; exact allB_f (f := (fun a => allB (cB2 (σ 43) o near far M a) M)) (i := a) (by omega) (allB_f (f := cB2 (σ 43) o near far M a) (i := b) (by omega) (fun h9 => cB2_no c22 (by omega) (cK_no c88 (fun h5 => absurd h5 c93) (Or.inl ⟨(by simp [third, c159]), allB_f (i := d) (by omega) (fun h6 => (by unfold cC3 at h6; simp [c172, c179, c206] at h6))⟩)) h9)), rfl⟩) rfl (Nat.le_refl _) (Nat.le_refl _) rfl E.2.2.2.2.2.1
                                          · have c159 : ¬ k = 3 := fun h => c159 ((nI_eq (a := k) (b := 3) (by omega) (by omega)).mpr h)
                                            refine s_iload E dX5_isRowClean_162 (i := 7) (j := 7) rfl ?_
                                            refine s_iconst E dX5_isRowClean_164 (v := nI 5) (by decide) ?_
                                            refine s_icmp_ne E dX5_isRowClean_165 (tgt := 217) rfl (fun c165 => ?_) (fun c165 => ?_)
                                            · have c165 : ¬ k = 5 := fun h => c165 ((nI_eq (a := k) (b := 5) (by omega) (by omega)).mpr h)
                                              refine s_iinc E (L2 := [(7, .int (nI (k + 1))), (0, .ref (ad 0)), (1, .int (nI M)), (2, .int (o)), (3, .int (near)), (4, .int (far)), (5, .int (nI a)), (6, .int (nI b)), (8, .int (bI (ordK k = true))), (9, .int (nI d))]) dX5_isRowClean_217 (k := 7) rfl (v := nI (k + 1)) (nI_inc _) (Nat.le_of_ble_eq_true rfl) rfl ?_
                                              refine s_goto E dX5_isRowClean_220 (tgt := 56) rfl ?_
                                              refine s_loc (L2 := [(0, .ref (ad 0)), (1, .int (nI M)), (2, .int (o)), (3, .int (near)), (4, .int (far)), (5, .int (nI a)), (6, .int (nI b)), (7, .int (nI (k + 1)))]) [1, 2, 3, 4, 5, 6, 7, 0] rfl ?_
                                              exact ih56 (k + 1) (by omega) (allB_s h3 (cK_of (fun h9 => by simp [third, c159, c165] at h9) (fun h9 => c142))) (by omega)
                                            · have c165 : k = 5 := (nI_eq (a := k) (b := 5) (by omega) (by omega)).mp c165
                                              refine s_iload E dX5_isRowClean_168 (i := 9) (j := 9) rfl ?_
                                              refine s_iload E dX5_isRowClean_170 (i := 5) (j := 5) rfl ?_
                                              refine s_icmp_eq E dX5_isRowClean_172 (tgt := 211) rfl (fun c172 => ?_) (fun c172 => ?_)
                                              · have c172 : d = a := (nI_eq (a := d) (b := a) (by omega) (by omega)).mp c172
                                                refine s_iinc E (L2 := [(9, .int (nI (d + 1))), (0, .ref (ad 0)), (1, .int (nI M)), (2, .int (o)), (3, .int (near)), (4, .int (far)), (5, .int (nI a)), (6, .int (nI b)), (7, .int (nI k)), (8, .int (bI (ordK k = true)))]) dX5_isRowClean_211 (k := 9) rfl (v := nI (d + 1)) (nI_inc _) (Nat.le_of_ble_eq_true rfl) rfl ?_
                                                refine s_goto E dX5_isRowClean_214 (tgt := 150) rfl ?_
                                                refine s_loc (L2 := [(0, .ref (ad 0)), (1, .int (nI M)), (2, .int (o)), (3, .int (near)), (4, .int (far)), (5, .int (nI a)), (6, .int (nI b)), (7, .int (nI k)), (8, .int (bI (ordK k = true))), (9, .int (nI (d + 1)))]) [1, 2, 3, 4, 5, 6, 7, 8, 9, 0] rfl ?_
                                                exact ih150 (d + 1) (by omega) (fun h9 => allB_s (h4 h9) (by unfold cC3; simp [c172])) (by omega)
                                              · have c172 : ¬ d = a := fun h => c172 ((nI_eq (a := d) (b := a) (by omega) (by omega)).mpr h)
                                                refine s_iload E dX5_isRowClean_175 (i := 9) (j := 9) rfl ?_
                                                refine s_iload E dX5_isRowClean_177 (i := 6) (j := 6) rfl ?_
                                                refine s_icmp_eq E dX5_isRowClean_179 (tgt := 211) rfl (fun c179 => ?_) (fun c179 => ?_)
                                                · have c179 : d = b := (nI_eq (a := d) (b := b) (by omega) (by omega)).mp c179
                                                  refine s_iinc E (L2 := [(9, .int (nI (d + 1))), (0, .ref (ad 0)), (1, .int (nI M)), (2, .int (o)), (3, .int (near)), (4, .int (far)), (5, .int (nI a)), (6, .int (nI b)), (7, .int (nI k)), (8, .int (bI (ordK k = true)))]) dX5_isRowClean_211 (k := 9) rfl (v := nI (d + 1)) (nI_inc _) (Nat.le_of_ble_eq_true rfl) rfl ?_
                                                  refine s_goto E dX5_isRowClean_214 (tgt := 150) rfl ?_
                                                  refine s_loc (L2 := [(0, .ref (ad 0)), (1, .int (nI M)), (2, .int (o)), (3, .int (near)), (4, .int (far)), (5, .int (nI a)), (6, .int (nI b)), (7, .int (nI k)), (8, .int (bI (ordK k = true))), (9, .int (nI (d + 1)))]) [1, 2, 3, 4, 5, 6, 7, 8, 9, 0] rfl ?_
                                                  exact ih150 (d + 1) (by omega) (fun h9 => allB_s (h4 h9) (by unfold cC3; simp [c179])) (by omega)
                                                · have c179 : ¬ d = b := fun h => c179 ((nI_eq (a := d) (b := b) (by omega) (by omega)).mpr h)
                                                  refine s_aload_n E dX5_isRowClean_182 (i := 0) (j := 0) rfl rfl ?_
                                                  refine s_aload_n E dX5_isRowClean_183 (i := 0) (j := 0) rfl rfl ?_
                                                  refine s_iload E dX5_isRowClean_184 (i := 7) (j := 7) rfl ?_
                                                  refine s_iload E dX5_isRowClean_186 (i := 5) (j := 5) rfl ?_
                                                  refine s_iload E dX5_isRowClean_188 (i := 6) (j := 6) rfl ?_
                                                  refine s_iload E dX5_isRowClean_190 (i := 9) (j := 9) rfl ?_
                                                  refine m_calli E (mz_sumOf3 k a b d (by omega) (by omega) (by omega) (by omega)) K5_366 (Nat.le_of_ble_eq_true rfl) (Nat.le_of_ble_eq_true rfl) (Nat.zero_le _) (Nat.zero_le _) rfl rfl (Nat.le_of_ble_eq_true rfl) dX5_isRowClean_192 (fun r192 w192 h192 => ?_)
                                                  obtain ⟨rfl, rfl⟩ := h192
                                                  refine s_iload_n E dX5_isRowClean_195 (i := 1) (j := 1) rfl rfl ?_
                                                  refine s_iload E dX5_isRowClean_196 (i := 5) (j := 5) rfl ?_
                                                  refine s_iload E dX5_isRowClean_198 (i := 6) (j := 6) rfl ?_
                                                  refine s_iload E dX5_isRowClean_200 (i := 9) (j := 9) rfl ?_
                                                  refine s_iload_n E dX5_isRowClean_202 (i := 3) (j := 3) rfl rfl ?_
                                                  refine m_calli E (mz_hitsRow3 (sumR (σ 43) k a b (some d)) near M a b d (hM8) (by omega) (by omega) (by omega)) K5_370 (Nat.le_of_ble_eq_true rfl) (Nat.le_of_ble_eq_true rfl) (Nat.zero_le _) (Nat.zero_le _) rfl rfl (Nat.le_of_ble_eq_true rfl) dX5_isRowClean_203 (fun r203 w203 h203 => ?_)
                                                  obtain ⟨rfl, rfl⟩ := h203
                                                  refine s_if_eq E dX5_isRowClean_206 (tgt := 211) rfl (fun c206 => ?_) (fun c206 => ?_)
                                                  · have c206 := bI_0 c206
                                                    refine s_iinc E (L2 := [(9, .int (nI (d + 1))), (0, .ref (ad 0)), (1, .int (nI M)), (2, .int (o)), (3, .int (near)), (4, .int (far)), (5, .int (nI a)), (6, .int (nI b)), (7, .int (nI k)), (8, .int (bI (ordK k = true)))]) dX5_isRowClean_211 (k := 9) rfl (v := nI (d + 1)) (nI_inc _) (Nat.le_of_ble_eq_true rfl) rfl ?_
                                                    refine s_goto E dX5_isRowClean_214 (tgt := 150) rfl ?_
                                                    refine s_loc (L2 := [(0, .ref (ad 0)), (1, .int (nI M)), (2, .int (o)), (3, .int (near)), (4, .int (far)), (5, .int (nI a)), (6, .int (nI b)), (7, .int (nI k)), (8, .int (bI (ordK k = true))), (9, .int (nI (d + 1)))]) [1, 2, 3, 4, 5, 6, 7, 8, 9, 0] rfl ?_
                                                    exact ih150 (d + 1) (by omega) (fun h9 => allB_s (h4 h9) (by unfold cC3; simp [c206])) (by omega)
                                                  · have c206 := bI_n0 c206
                                                    refine s_iconst E dX5_isRowClean_209 (v := nI 0) (by decide) ?_
                                                    exact Rt (nI 0) (σ) dX5_isRowClean_210 (⟨by rw [bI_f]; exact allB_f (f := (fun a => allB (cB2 (σ 43) o near far M a) M)) (i := a) (by omega) (allB_f (f := cB2 (σ 43) o near far M a) (i := b) (by omega) (fun h9 => cB2_no c22 (by omega) (cK_no c88 (fun h5 => absurd h5 c93) (Or.inl ⟨(by simp [third, c165]), allB_f (i := d) (by omega) (fun h6 => (by unfold cC3 at h6; simp [c172, c179, c206] at h6))⟩)) h9)), rfl⟩) rfl (Nat.le_refl _) (Nat.le_refl _) rfl E.2.2.2.2.2.1
                                    refine s_loc (L2 := [(0, .ref (ad 0)), (1, .int (nI M)), (2, .int (o)), (3, .int (near)), (4, .int (far)), (5, .int (nI a)), (6, .int (nI b)), (7, .int (nI k)), (8, .int (bI (ordK k = true))), (9, .int (nI 0))]) [2, 3, 4, 5, 6, 7, 8, 9, 1, 0] rfl ?_
                                    exact L150 (_ + 1) 0 (Nat.zero_le _) (fun _ => rfl) (Nat.lt_succ_self _)
                                  · have c142 := bI_n0 c142
                                    refine s_iconst E dX5_isRowClean_145 (v := nI 0) (by decide) ?_
                                    exact Rt (nI 0) (σ) dX5_isRowClean_146 (⟨by rw [bI_f]; exact allB_f (f := (fun a => allB (cB2 (σ 43) o near far M a) M)) (i := a) (by omega) (allB_f (f := cB2 (σ 43) o near far M a) (i := b) (by omega) (fun h9 => cB2_no c22 (by omega) (cK_no c88 (fun h5 => absurd h5 c93) (Or.inr ⟨ht3, c142⟩)) h9)), rfl⟩) rfl (Nat.le_refl _) (Nat.le_refl _) rfl E.2.2.2.2.2.1
                            · have c93 := bI_n0 c93
                              refine s_iload E dX5_isRowClean_96 (i := 5) (j := 6) rfl ?_
                              refine s_iload E dX5_isRowClean_98 (i := 6) (j := 7) rfl ?_
                              refine s_icmp_le E dX5_isRowClean_100 (tgt := 106) rfl (fun c100 => ?_) (fun c100 => ?_)
                              · have c100 : ¬ b < a := fun h => absurd c100 (Int32.not_le.mpr ((nI_ltI (a := b) (b := a) (by omega) (by omega)).mpr h))
                                refine s_iload E dX5_isRowClean_106 (i := 7) (j := 8) rfl ?_
                                refine s_iconst E dX5_isRowClean_108 (v := nI 3) (by decide) ?_
                                refine s_icmp_eq E dX5_isRowClean_109 (tgt := 147) rfl (fun c109 => ?_) (fun c109 => ?_)
                                · have c109 : k = 3 := (nI_eq (a := k) (b := 3) (by omega) (by omega)).mp c109
                                  have ht3 : third k = true := by rw [third, c109]; rfl
                                  have t109 := ht3
                                  refine s_iconst E dX5_isRowClean_147 (v := nI 0) (by decide) ?_
                                  refine s_istore E (L2 := [(9, .int (nI 0)), (8, .int (bI (ordK k = true))), (0, .ref (ad 0)), (1, .int (nI M)), (2, .int (o)), (3, .int (near)), (4, .int (far)), (5, .int (nI a)), (6, .int (nI b)), (7, .int (nI k))]) dX5_isRowClean_148 (Nat.le_of_ble_eq_true rfl) rfl ?_
                                  have L150 : ∀ (fuel : Nat) (d : Nat), (d ≤ M) → (third k = true → allB (cC3 (σ 43) near M k a b) d = true) → (M - d) < fuel → Sm pP l eE { frames := 2, cells := 0, slots := 0, locals := 47 } sS mM aA bB hM cC QQ AA D 10 0 0 (wm ad ct σ) 150 [(0, .ref (ad 0)), (1, .int (nI M)), (2, .int (o)), (3, .int (near)), (4, .int (far)), (5, .int (nI a)), (6, .int (nI b)), (7, .int (nI k)), (8, .int (bI (ordK k = true))), (9, .int (nI d))] [] := by
                                    intro fuel
                                    induction fuel with
                                    | zero =>
                                      intro d hd h4 hf150
                                      exact absurd hf150 (Nat.not_lt_zero _)
                                    | succ fuel ih150 =>
                                      intro d hd h4 hf150
                                      refine s_iload E dX5_isRowClean_150 (i := 9) (j := 9) rfl ?_
                                      refine s_iload_n E dX5_isRowClean_152 (i := 1) (j := 1) rfl rfl ?_
                                      refine s_icmp_ge E dX5_isRowClean_153 (tgt := 217) rfl (fun c153 => ?_) (fun c153 => ?_)
                                      · have c153 : ¬ d < M := fun h => absurd c153 (Int32.not_le.mpr ((nI_ltI (a := d) (b := M) (by omega) (by omega)).mpr h))
                                        refine s_iinc E (L2 := [(7, .int (nI (k + 1))), (0, .ref (ad 0)), (1, .int (nI M)), (2, .int (o)), (3, .int (near)), (4, .int (far)), (5, .int (nI a)), (6, .int (nI b)), (8, .int (bI (ordK k = true))), (9, .int (nI d))]) dX5_isRowClean_217 (k := 7) rfl (v := nI (k + 1)) (nI_inc _) (Nat.le_of_ble_eq_true rfl) rfl ?_
                                        refine s_goto E dX5_isRowClean_220 (tgt := 56) rfl ?_
                                        refine s_loc (L2 := [(0, .ref (ad 0)), (1, .int (nI M)), (2, .int (o)), (3, .int (near)), (4, .int (far)), (5, .int (nI a)), (6, .int (nI b)), (7, .int (nI (k + 1)))]) [1, 2, 3, 4, 5, 6, 7, 0] rfl ?_
                                        exact ih56 (k + 1) (by omega) (allB_s h3 (cK_of (fun h9 => by have h8 := h4 h9; rwa [show d = M by omega] at h8) (fun h9 => by rw [ht3] at h9; cases h9))) (by omega)
                                      · have c153 : d < M := (nI_ltI (a := d) (b := M) (by omega) (by omega)).mp (Int32.not_le.mp c153)
                                        refine s_iload E dX5_isRowClean_156 (i := 7) (j := 7) rfl ?_
                                        refine s_iconst E dX5_isRowClean_158 (v := nI 3) (by decide) ?_
                                        refine s_icmp_eq E dX5_isRowClean_159 (tgt := 168) rfl (fun c159 => ?_) (fun c159 => ?_)
                                        · have c159 : k = 3 := (nI_eq (a := k) (b := 3) (by omega) (by omega)).mp c159
                                          refine s_iload E dX5_isRowClean_168 (i := 9) (j := 9) rfl ?_
                                          refine s_iload E dX5_isRowClean_170 (i := 5) (j := 5) rfl ?_
                                          refine s_icmp_eq E dX5_isRowClean_172 (tgt := 211) rfl (fun c172 => ?_) (fun c172 => ?_)
                                          · have c172 : d = a := (nI_eq (a := d) (b := a) (by omega) (by omega)).mp c172
                                            refine s_iinc E (L2 := [(9, .int (nI (d + 1))), (0, .ref (ad 0)), (1, .int (nI M)), (2, .int (o)), (3, .int (near)), (4, .int (far)), (5, .int (nI a)), (6, .int (nI b)), (7, .int (nI k)), (8, .int (bI (ordK k = true)))]) dX5_isRowClean_211 (k := 9) rfl (v := nI (d + 1)) (nI_inc _) (Nat.le_of_ble_eq_true rfl) rfl ?_
                                            refine s_goto E dX5_isRowClean_214 (tgt := 150) rfl ?_
                                            refine s_loc (L2 := [(0, .ref (ad 0)), (1, .int (nI M)), (2, .int (o)), (3, .int (near)), (4, .int (far)), (5, .int (nI a)), (6, .int (nI b)), (7, .int (nI k)), (8, .int (bI (ordK k = true))), (9, .int (nI (d + 1)))]) [1, 2, 3, 4, 5, 6, 7, 8, 9, 0] rfl ?_
                                            exact ih150 (d + 1) (by omega) (fun h9 => allB_s (h4 h9) (by unfold cC3; simp [c172])) (by omega)
                                          · have c172 : ¬ d = a := fun h => c172 ((nI_eq (a := d) (b := a) (by omega) (by omega)).mpr h)
                                            refine s_iload E dX5_isRowClean_175 (i := 9) (j := 9) rfl ?_
                                            refine s_iload E dX5_isRowClean_177 (i := 6) (j := 6) rfl ?_
                                            refine s_icmp_eq E dX5_isRowClean_179 (tgt := 211) rfl (fun c179 => ?_) (fun c179 => ?_)
                                            · have c179 : d = b := (nI_eq (a := d) (b := b) (by omega) (by omega)).mp c179
                                              refine s_iinc E (L2 := [(9, .int (nI (d + 1))), (0, .ref (ad 0)), (1, .int (nI M)), (2, .int (o)), (3, .int (near)), (4, .int (far)), (5, .int (nI a)), (6, .int (nI b)), (7, .int (nI k)), (8, .int (bI (ordK k = true)))]) dX5_isRowClean_211 (k := 9) rfl (v := nI (d + 1)) (nI_inc _) (Nat.le_of_ble_eq_true rfl) rfl ?_
                                              refine s_goto E dX5_isRowClean_214 (tgt := 150) rfl ?_
                                              refine s_loc (L2 := [(0, .ref (ad 0)), (1, .int (nI M)), (2, .int (o)), (3, .int (near)), (4, .int (far)), (5, .int (nI a)), (6, .int (nI b)), (7, .int (nI k)), (8, .int (bI (ordK k = true))), (9, .int (nI (d + 1)))]) [1, 2, 3, 4, 5, 6, 7, 8, 9, 0] rfl ?_
                                              exact ih150 (d + 1) (by omega) (fun h9 => allB_s (h4 h9) (by unfold cC3; simp [c179])) (by omega)
                                            · have c179 : ¬ d = b := fun h => c179 ((nI_eq (a := d) (b := b) (by omega) (by omega)).mpr h)
                                              refine s_aload_n E dX5_isRowClean_182 (i := 0) (j := 0) rfl rfl ?_
                                              refine s_aload_n E dX5_isRowClean_183 (i := 0) (j := 0) rfl rfl ?_
                                              refine s_iload E dX5_isRowClean_184 (i := 7) (j := 7) rfl ?_
                                              refine s_iload E dX5_isRowClean_186 (i := 5) (j := 5) rfl ?_
                                              refine s_iload E dX5_isRowClean_188 (i := 6) (j := 6) rfl ?_
                                              refine s_iload E dX5_isRowClean_190 (i := 9) (j := 9) rfl ?_
                                              refine m_calli E (mz_sumOf3 k a b d (by omega) (by omega) (by omega) (by omega)) K5_366 (Nat.le_of_ble_eq_true rfl) (Nat.le_of_ble_eq_true rfl) (Nat.zero_le _) (Nat.zero_le _) rfl rfl (Nat.le_of_ble_eq_true rfl) dX5_isRowClean_192 (fun r192 w192 h192 => ?_)
                                              obtain ⟨rfl, rfl⟩ := h192
                                              refine s_iload_n E dX5_isRowClean_195 (i := 1) (j := 1) rfl rfl ?_
                                              refine s_iload E dX5_isRowClean_196 (i := 5) (j := 5) rfl ?_
                                              refine s_iload E dX5_isRowClean_198 (i := 6) (j := 6) rfl ?_
                                              refine s_iload E dX5_isRowClean_200 (i := 9) (j := 9) rfl ?_
                                              refine s_iload_n E dX5_isRowClean_202 (i := 3) (j := 3) rfl rfl ?_
                                              refine m_calli E (mz_hitsRow3 (sumR (σ 43) k a b (some d)) near M a b d (hM8) (by omega) (by omega) (by omega)) K5_370 (Nat.le_of_ble_eq_true rfl) (Nat.le_of_ble_eq_true rfl) (Nat.zero_le _) (Nat.zero_le _) rfl rfl (Nat.le_of_ble_eq_true rfl) dX5_isRowClean_203 (fun r203 w203 h203 => ?_)
                                              obtain ⟨rfl, rfl⟩ := h203
                                              refine s_if_eq E dX5_isRowClean_206 (tgt := 211) rfl (fun c206 => ?_) (fun c206 => ?_)
                                              · have c206 := bI_0 c206
                                                refine s_iinc E (L2 := [(9, .int (nI (d + 1))), (0, .ref (ad 0)), (1, .int (nI M)), (2, .int (o)), (3, .int (near)), (4, .int (far)), (5, .int (nI a)), (6, .int (nI b)), (7, .int (nI k)), (8, .int (bI (ordK k = true)))]) dX5_isRowClean_211 (k := 9) rfl (v := nI (d + 1)) (nI_inc _) (Nat.le_of_ble_eq_true rfl) rfl ?_
                                                refine s_goto E dX5_isRowClean_214 (tgt := 150) rfl ?_
                                                refine s_loc (L2 := [(0, .ref (ad 0)), (1, .int (nI M)), (2, .int (o)), (3, .int (near)), (4, .int (far)), (5, .int (nI a)), (6, .int (nI b)), (7, .int (nI k)), (8, .int (bI (ordK k = true))), (9, .int (nI (d + 1)))]) [1, 2, 3, 4, 5, 6, 7, 8, 9, 0] rfl ?_
                                                exact ih150 (d + 1) (by omega) (fun h9 => allB_s (h4 h9) (by unfold cC3; simp [c206])) (by omega)
                                              · have c206 := bI_n0 c206
                                                refine s_iconst E dX5_isRowClean_209 (v := nI 0) (by decide) ?_
                                                exact Rt (nI 0) (σ) dX5_isRowClean_210 (⟨by rw [bI_f]; exact allB_f (f := (fun a => allB (cB2 (σ 43) o near far M a) M)) (i := a) (by omega) (allB_f (f := cB2 (σ 43) o near far M a) (i := b) (by omega) (fun h9 => cB2_no c22 (by omega) (cK_no c88 (fun _ => c100) (Or.inl ⟨ht3, allB_f (i := d) (by omega) (fun h6 => (by unfold cC3 at h6; simp [c172, c179, c206] at h6))⟩)) h9)), rfl⟩) rfl (Nat.le_refl _) (Nat.le_refl _) rfl E.2.2.2.2.2.1
                                        · have c159 : ¬ k = 3 := fun h => c159 ((nI_eq (a := k) (b := 3) (by omega) (by omega)).mpr h)
                                          refine s_iload E dX5_isRowClean_162 (i := 7) (j := 7) rfl ?_
                                          refine s_iconst E dX5_isRowClean_164 (v := nI 5) (by decide) ?_
                                          refine s_icmp_ne E dX5_isRowClean_165 (tgt := 217) rfl (fun c165 => ?_) (fun c165 => ?_)
                                          · have c165 : ¬ k = 5 := fun h => c165 ((nI_eq (a := k) (b := 5) (by omega) (by omega)).mpr h)
                                            refine s_iinc E (L2 := [(7, .int (nI (k + 1))), (0, .ref (ad 0)), (1, .int (nI M)), (2, .int (o)), (3, .int (near)), (4, .int (far)), (5, .int (nI a)), (6, .int (nI b)), (8, .int (bI (ordK k = true))), (9, .int (nI d))]) dX5_isRowClean_217 (k := 7) rfl (v := nI (k + 1)) (nI_inc _) (Nat.le_of_ble_eq_true rfl) rfl ?_
                                            refine s_goto E dX5_isRowClean_220 (tgt := 56) rfl ?_
                                            refine s_loc (L2 := [(0, .ref (ad 0)), (1, .int (nI M)), (2, .int (o)), (3, .int (near)), (4, .int (far)), (5, .int (nI a)), (6, .int (nI b)), (7, .int (nI (k + 1)))]) [1, 2, 3, 4, 5, 6, 7, 0] rfl ?_
                                            exact ih56 (k + 1) (by omega) (allB_s h3 (cK_of (fun h9 => by simp [third, c159, c165] at h9) (fun h9 => by rw [ht3] at h9; cases h9))) (by omega)
                                          · have c165 : k = 5 := (nI_eq (a := k) (b := 5) (by omega) (by omega)).mp c165
                                            refine s_iload E dX5_isRowClean_168 (i := 9) (j := 9) rfl ?_
                                            refine s_iload E dX5_isRowClean_170 (i := 5) (j := 5) rfl ?_
                                            refine s_icmp_eq E dX5_isRowClean_172 (tgt := 211) rfl (fun c172 => ?_) (fun c172 => ?_)
                                            · have c172 : d = a := (nI_eq (a := d) (b := a) (by omega) (by omega)).mp c172
                                              refine s_iinc E (L2 := [(9, .int (nI (d + 1))), (0, .ref (ad 0)), (1, .int (nI M)), (2, .int (o)), (3, .int (near)), (4, .int (far)), (5, .int (nI a)), (6, .int (nI b)), (7, .int (nI k)), (8, .int (bI (ordK k = true)))]) dX5_isRowClean_211 (k := 9) rfl (v := nI (d + 1)) (nI_inc _) (Nat.le_of_ble_eq_true rfl) rfl ?_
                                              refine s_goto E dX5_isRowClean_214 (tgt := 150) rfl ?_
                                              refine s_loc (L2 := [(0, .ref (ad 0)), (1, .int (nI M)), (2, .int (o)), (3, .int (near)), (4, .int (far)), (5, .int (nI a)), (6, .int (nI b)), (7, .int (nI k)), (8, .int (bI (ordK k = true))), (9, .int (nI (d + 1)))]) [1, 2, 3, 4, 5, 6, 7, 8, 9, 0] rfl ?_
                                              exact ih150 (d + 1) (by omega) (fun h9 => allB_s (h4 h9) (by unfold cC3; simp [c172])) (by omega)
                                            · have c172 : ¬ d = a := fun h => c172 ((nI_eq (a := d) (b := a) (by omega) (by omega)).mpr h)
                                              refine s_iload E dX5_isRowClean_175 (i := 9) (j := 9) rfl ?_
                                              refine s_iload E dX5_isRowClean_177 (i := 6) (j := 6) rfl ?_
                                              refine s_icmp_eq E dX5_isRowClean_179 (tgt := 211) rfl (fun c179 => ?_) (fun c179 => ?_)
                                              · have c179 : d = b := (nI_eq (a := d) (b := b) (by omega) (by omega)).mp c179
                                                refine s_iinc E (L2 := [(9, .int (nI (d + 1))), (0, .ref (ad 0)), (1, .int (nI M)), (2, .int (o)), (3, .int (near)), (4, .int (far)), (5, .int (nI a)), (6, .int (nI b)), (7, .int (nI k)), (8, .int (bI (ordK k = true)))]) dX5_isRowClean_211 (k := 9) rfl (v := nI (d + 1)) (nI_inc _) (Nat.le_of_ble_eq_true rfl) rfl ?_
                                                refine s_goto E dX5_isRowClean_214 (tgt := 150) rfl ?_
                                                refine s_loc (L2 := [(0, .ref (ad 0)), (1, .int (nI M)), (2, .int (o)), (3, .int (near)), (4, .int (far)), (5, .int (nI a)), (6, .int (nI b)), (7, .int (nI k)), (8, .int (bI (ordK k = true))), (9, .int (nI (d + 1)))]) [1, 2, 3, 4, 5, 6, 7, 8, 9, 0] rfl ?_
                                                exact ih150 (d + 1) (by omega) (fun h9 => allB_s (h4 h9) (by unfold cC3; simp [c179])) (by omega)
                                              · have c179 : ¬ d = b := fun h => c179 ((nI_eq (a := d) (b := b) (by omega) (by omega)).mpr h)
                                                refine s_aload_n E dX5_isRowClean_182 (i := 0) (j := 0) rfl rfl ?_
                                                refine s_aload_n E dX5_isRowClean_183 (i := 0) (j := 0) rfl rfl ?_
                                                refine s_iload E dX5_isRowClean_184 (i := 7) (j := 7) rfl ?_
                                                refine s_iload E dX5_isRowClean_186 (i := 5) (j := 5) rfl ?_
                                                refine s_iload E dX5_isRowClean_188 (i := 6) (j := 6) rfl ?_
                                                refine s_iload E dX5_isRowClean_190 (i := 9) (j := 9) rfl ?_
                                                refine m_calli E (mz_sumOf3 k a b d (by omega) (by omega) (by omega) (by omega)) K5_366 (Nat.le_of_ble_eq_true rfl) (Nat.le_of_ble_eq_true rfl) (Nat.zero_le _) (Nat.zero_le _) rfl rfl (Nat.le_of_ble_eq_true rfl) dX5_isRowClean_192 (fun r192 w192 h192 => ?_)
                                                obtain ⟨rfl, rfl⟩ := h192
                                                refine s_iload_n E dX5_isRowClean_195 (i := 1) (j := 1) rfl rfl ?_
                                                refine s_iload E dX5_isRowClean_196 (i := 5) (j := 5) rfl ?_
                                                refine s_iload E dX5_isRowClean_198 (i := 6) (j := 6) rfl ?_
                                                refine s_iload E dX5_isRowClean_200 (i := 9) (j := 9) rfl ?_
                                                refine s_iload_n E dX5_isRowClean_202 (i := 3) (j := 3) rfl rfl ?_
                                                refine m_calli E (mz_hitsRow3 (sumR (σ 43) k a b (some d)) near M a b d (hM8) (by omega) (by omega) (by omega)) K5_370 (Nat.le_of_ble_eq_true rfl) (Nat.le_of_ble_eq_true rfl) (Nat.zero_le _) (Nat.zero_le _) rfl rfl (Nat.le_of_ble_eq_true rfl) dX5_isRowClean_203 (fun r203 w203 h203 => ?_)
                                                obtain ⟨rfl, rfl⟩ := h203
                                                refine s_if_eq E dX5_isRowClean_206 (tgt := 211) rfl (fun c206 => ?_) (fun c206 => ?_)
                                                · have c206 := bI_0 c206
                                                  refine s_iinc E (L2 := [(9, .int (nI (d + 1))), (0, .ref (ad 0)), (1, .int (nI M)), (2, .int (o)), (3, .int (near)), (4, .int (far)), (5, .int (nI a)), (6, .int (nI b)), (7, .int (nI k)), (8, .int (bI (ordK k = true)))]) dX5_isRowClean_211 (k := 9) rfl (v := nI (d + 1)) (nI_inc _) (Nat.le_of_ble_eq_true rfl) rfl ?_
                                                  refine s_goto E dX5_isRowClean_214 (tgt := 150) rfl ?_
                                                  refine s_loc (L2 := [(0, .ref (ad 0)), (1, .int (nI M)), (2, .int (o)), (3, .int (near)), (4, .int (far)), (5, .int (nI a)), (6, .int (nI b)), (7, .int (nI k)), (8, .int (bI (ordK k = true))), (9, .int (nI (d + 1)))]) [1, 2, 3, 4, 5, 6, 7, 8, 9, 0] rfl ?_
                                                  exact ih150 (d + 1) (by omega) (fun h9 => allB_s (h4 h9) (by unfold cC3; simp [c206])) (by omega)
                                                · have c206 := bI_n0 c206
                                                  refine s_iconst E dX5_isRowClean_209 (v := nI 0) (by decide) ?_
                                                  exact Rt (nI 0) (σ) dX5_isRowClean_210 (⟨by rw [bI_f]; exact allB_f (f := (fun a => allB (cB2 (σ 43) o near far M a) M)) (i := a) (by omega) (allB_f (f := cB2 (σ 43) o near far M a) (i := b) (by omega) (fun h9 => cB2_no c22 (by omega) (cK_no c88 (fun _ => c100) (Or.inl ⟨ht3, allB_f (i := d) (by omega) (fun h6 => (by unfold cC3 at h6; simp [c172, c179, c206] at h6))⟩)) h9)), rfl⟩) rfl (Nat.le_refl _) (Nat.le_refl _) rfl E.2.2.2.2.2.1
                                  refine s_loc (L2 := [(0, .ref (ad 0)), (1, .int (nI M)), (2, .int (o)), (3, .int (near)), (4, .int (far)), (5, .int (nI a)), (6, .int (nI b)), (7, .int (nI k)), (8, .int (bI (ordK k = true))), (9, .int (nI 0))]) [2, 3, 4, 5, 6, 7, 8, 9, 1, 0] rfl ?_
                                  exact L150 (_ + 1) 0 (Nat.zero_le _) (fun _ => rfl) (Nat.lt_succ_self _)
                                · have c109 : ¬ k = 3 := fun h => c109 ((nI_eq (a := k) (b := 3) (by omega) (by omega)).mpr h)
                                  refine s_iload E dX5_isRowClean_112 (i := 7) (j := 8) rfl ?_
                                  refine s_iconst E dX5_isRowClean_114 (v := nI 5) (by decide) ?_
                                  refine s_icmp_eq E dX5_isRowClean_115 (tgt := 147) rfl (fun c115 => ?_) (fun c115 => ?_)
                                  · have c115 : k = 5 := (nI_eq (a := k) (b := 5) (by omega) (by omega)).mp c115
                                    have ht3 : third k = true := by rw [third, c115]; rfl
                                    have t115 := ht3
                                    refine s_iconst E dX5_isRowClean_147 (v := nI 0) (by decide) ?_
                                    refine s_istore E (L2 := [(9, .int (nI 0)), (8, .int (bI (ordK k = true))), (0, .ref (ad 0)), (1, .int (nI M)), (2, .int (o)), (3, .int (near)), (4, .int (far)), (5, .int (nI a)), (6, .int (nI b)), (7, .int (nI k))]) dX5_isRowClean_148 (Nat.le_of_ble_eq_true rfl) rfl ?_
                                    have L150 : ∀ (fuel : Nat) (d : Nat), (d ≤ M) → (third k = true → allB (cC3 (σ 43) near M k a b) d = true) → (M - d) < fuel → Sm pP l eE { frames := 2, cells := 0, slots := 0, locals := 47 } sS mM aA bB hM cC QQ AA D 10 0 0 (wm ad ct σ) 150 [(0, .ref (ad 0)), (1, .int (nI M)), (2, .int (o)), (3, .int (near)), (4, .int (far)), (5, .int (nI a)), (6, .int (nI b)), (7, .int (nI k)), (8, .int (bI (ordK k = true))), (9, .int (nI d))] [] := by
                                      intro fuel
                                      induction fuel with
                                      | zero =>
                                        intro d hd h4 hf150
                                        exact absurd hf150 (Nat.not_lt_zero _)
                                      | succ fuel ih150 =>
                                        intro d hd h4 hf150
                                        refine s_iload E dX5_isRowClean_150 (i := 9) (j := 9) rfl ?_
                                        refine s_iload_n E dX5_isRowClean_152 (i := 1) (j := 1) rfl rfl ?_
                                        refine s_icmp_ge E dX5_isRowClean_153 (tgt := 217) rfl (fun c153 => ?_) (fun c153 => ?_)
                                        · have c153 : ¬ d < M := fun h => absurd c153 (Int32.not_le.mpr ((nI_ltI (a := d) (b := M) (by omega) (by omega)).mpr h))
                                          refine s_iinc E (L2 := [(7, .int (nI (k + 1))), (0, .ref (ad 0)), (1, .int (nI M)), (2, .int (o)), (3, .int (near)), (4, .int (far)), (5, .int (nI a)), (6, .int (nI b)), (8, .int (bI (ordK k = true))), (9, .int (nI d))]) dX5_isRowClean_217 (k := 7) rfl (v := nI (k + 1)) (nI_inc _) (Nat.le_of_ble_eq_true rfl) rfl ?_
                                          refine s_goto E dX5_isRowClean_220 (tgt := 56) rfl ?_
                                          refine s_loc (L2 := [(0, .ref (ad 0)), (1, .int (nI M)), (2, .int (o)), (3, .int (near)), (4, .int (far)), (5, .int (nI a)), (6, .int (nI b)), (7, .int (nI (k + 1)))]) [1, 2, 3, 4, 5, 6, 7, 0] rfl ?_
                                          exact ih56 (k + 1) (by omega) (allB_s h3 (cK_of (fun h9 => by have h8 := h4 h9; rwa [show d = M by omega] at h8) (fun h9 => by rw [ht3] at h9; cases h9))) (by omega)
                                        · have c153 : d < M := (nI_ltI (a := d) (b := M) (by omega) (by omega)).mp (Int32.not_le.mp c153)
                                          refine s_iload E dX5_isRowClean_156 (i := 7) (j := 7) rfl ?_
                                          refine s_iconst E dX5_isRowClean_158 (v := nI 3) (by decide) ?_
                                          refine s_icmp_eq E dX5_isRowClean_159 (tgt := 168) rfl (fun c159 => ?_) (fun c159 => ?_)
                                          · have c159 : k = 3 := (nI_eq (a := k) (b := 3) (by omega) (by omega)).mp c159
                                            refine s_iload E dX5_isRowClean_168 (i := 9) (j := 9) rfl ?_
                                            refine s_iload E dX5_isRowClean_170 (i := 5) (j := 5) rfl ?_
                                            refine s_icmp_eq E dX5_isRowClean_172 (tgt := 211) rfl (fun c172 => ?_) (fun c172 => ?_)
                                            · have c172 : d = a := (nI_eq (a := d) (b := a) (by omega) (by omega)).mp c172
                                              refine s_iinc E (L2 := [(9, .int (nI (d + 1))), (0, .ref (ad 0)), (1, .int (nI M)), (2, .int (o)), (3, .int (near)), (4, .int (far)), (5, .int (nI a)), (6, .int (nI b)), (7, .int (nI k)), (8, .int (bI (ordK k = true)))]) dX5_isRowClean_211 (k := 9) rfl (v := nI (d + 1)) (nI_inc _) (Nat.le_of_ble_eq_true rfl) rfl ?_
                                              refine s_goto E dX5_isRowClean_214 (tgt := 150) rfl ?_
                                              refine s_loc (L2 := [(0, .ref (ad 0)), (1, .int (nI M)), (2, .int (o)), (3, .int (near)), (4, .int (far)), (5, .int (nI a)), (6, .int (nI b)), (7, .int (nI k)), (8, .int (bI (ordK k = true))), (9, .int (nI (d + 1)))]) [1, 2, 3, 4, 5, 6, 7, 8, 9, 0] rfl ?_
                                              exact ih150 (d + 1) (by omega) (fun h9 => allB_s (h4 h9) (by unfold cC3; simp [c172])) (by omega)
                                            · have c172 : ¬ d = a := fun h => c172 ((nI_eq (a := d) (b := a) (by omega) (by omega)).mpr h)
                                              refine s_iload E dX5_isRowClean_175 (i := 9) (j := 9) rfl ?_
                                              refine s_iload E dX5_isRowClean_177 (i := 6) (j := 6) rfl ?_
                                              refine s_icmp_eq E dX5_isRowClean_179 (tgt := 211) rfl (fun c179 => ?_) (fun c179 => ?_)
                                              · have c179 : d = b := (nI_eq (a := d) (b := b) (by omega) (by omega)).mp c179
                                                refine s_iinc E (L2 := [(9, .int (nI (d + 1))), (0, .ref (ad 0)), (1, .int (nI M)), (2, .int (o)), (3, .int (near)), (4, .int (far)), (5, .int (nI a)), (6, .int (nI b)), (7, .int (nI k)), (8, .int (bI (ordK k = true)))]) dX5_isRowClean_211 (k := 9) rfl (v := nI (d + 1)) (nI_inc _) (Nat.le_of_ble_eq_true rfl) rfl ?_
                                                refine s_goto E dX5_isRowClean_214 (tgt := 150) rfl ?_
                                                refine s_loc (L2 := [(0, .ref (ad 0)), (1, .int (nI M)), (2, .int (o)), (3, .int (near)), (4, .int (far)), (5, .int (nI a)), (6, .int (nI b)), (7, .int (nI k)), (8, .int (bI (ordK k = true))), (9, .int (nI (d + 1)))]) [1, 2, 3, 4, 5, 6, 7, 8, 9, 0] rfl ?_
                                                exact ih150 (d + 1) (by omega) (fun h9 => allB_s (h4 h9) (by unfold cC3; simp [c179])) (by omega)
                                              · have c179 : ¬ d = b := fun h => c179 ((nI_eq (a := d) (b := b) (by omega) (by omega)).mpr h)
                                                refine s_aload_n E dX5_isRowClean_182 (i := 0) (j := 0) rfl rfl ?_
                                                refine s_aload_n E dX5_isRowClean_183 (i := 0) (j := 0) rfl rfl ?_
                                                refine s_iload E dX5_isRowClean_184 (i := 7) (j := 7) rfl ?_
                                                refine s_iload E dX5_isRowClean_186 (i := 5) (j := 5) rfl ?_
                                                refine s_iload E dX5_isRowClean_188 (i := 6) (j := 6) rfl ?_
                                                refine s_iload E dX5_isRowClean_190 (i := 9) (j := 9) rfl ?_
                                                refine m_calli E (mz_sumOf3 k a b d (by omega) (by omega) (by omega) (by omega)) K5_366 (Nat.le_of_ble_eq_true rfl) (Nat.le_of_ble_eq_true rfl) (Nat.zero_le _) (Nat.zero_le _) rfl rfl (Nat.le_of_ble_eq_true rfl) dX5_isRowClean_192 (fun r192 w192 h192 => ?_)
                                                obtain ⟨rfl, rfl⟩ := h192
                                                refine s_iload_n E dX5_isRowClean_195 (i := 1) (j := 1) rfl rfl ?_
                                                refine s_iload E dX5_isRowClean_196 (i := 5) (j := 5) rfl ?_
                                                refine s_iload E dX5_isRowClean_198 (i := 6) (j := 6) rfl ?_
                                                refine s_iload E dX5_isRowClean_200 (i := 9) (j := 9) rfl ?_
                                                refine s_iload_n E dX5_isRowClean_202 (i := 3) (j := 3) rfl rfl ?_
                                                refine m_calli E (mz_hitsRow3 (sumR (σ 43) k a b (some d)) near M a b d (hM8) (by omega) (by omega) (by omega)) K5_370 (Nat.le_of_ble_eq_true rfl) (Nat.le_of_ble_eq_true rfl) (Nat.zero_le _) (Nat.zero_le _) rfl rfl (Nat.le_of_ble_eq_true rfl) dX5_isRowClean_203 (fun r203 w203 h203 => ?_)
                                                obtain ⟨rfl, rfl⟩ := h203
                                                refine s_if_eq E dX5_isRowClean_206 (tgt := 211) rfl (fun c206 => ?_) (fun c206 => ?_)
                                                · have c206 := bI_0 c206
                                                  refine s_iinc E (L2 := [(9, .int (nI (d + 1))), (0, .ref (ad 0)), (1, .int (nI M)), (2, .int (o)), (3, .int (near)), (4, .int (far)), (5, .int (nI a)), (6, .int (nI b)), (7, .int (nI k)), (8, .int (bI (ordK k = true)))]) dX5_isRowClean_211 (k := 9) rfl (v := nI (d + 1)) (nI_inc _) (Nat.le_of_ble_eq_true rfl) rfl ?_
                                                  refine s_goto E dX5_isRowClean_214 (tgt := 150) rfl ?_
                                                  refine s_loc (L2 := [(0, .ref (ad 0)), (1, .int (nI M)), (2, .int (o)), (3, .int (near)), (4, .int (far)), (5, .int (nI a)), (6, .int (nI b)), (7, .int (nI k)), (8, .int (bI (ordK k = true))), (9, .int (nI (d + 1)))]) [1, 2, 3, 4, 5, 6, 7, 8, 9, 0] rfl ?_
                                                  exact ih150 (d + 1) (by omega) (fun h9 => allB_s (h4 h9) (by unfold cC3; simp [c206])) (by omega)
                                                · have c206 := bI_n0 c206
                                                  refine s_iconst E dX5_isRowClean_209 (v := nI 0) (by decide) ?_
                                                  exact Rt (nI 0) (σ) dX5_isRowClean_210 (⟨by rw [bI_f]; exact allB_f (f := (fun a => allB (cB2 (σ 43) o near far M a) M)) (i := a) (by omega) (allB_f (f := cB2 (σ 43) o near far M a) (i := b) (by omega) (fun h9 => cB2_no c22 (by omega) (cK_no c88 (fun _ => c100) (Or.inl ⟨ht3, allB_f (i := d) (by omega) (fun h6 => (by unfold cC3 at h6; simp [c172, c179, c206] at h6))⟩)) h9)), rfl⟩) rfl (Nat.le_refl _) (Nat.le_refl _) rfl E.2.2.2.2.2.1
                                          · have c159 : ¬ k = 3 := fun h => c159 ((nI_eq (a := k) (b := 3) (by omega) (by omega)).mpr h)
                                            refine s_iload E dX5_isRowClean_162 (i := 7) (j := 7) rfl ?_
                                            refine s_iconst E dX5_isRowClean_164 (v := nI 5) (by decide) ?_
                                            refine s_icmp_ne E dX5_isRowClean_165 (tgt := 217) rfl (fun c165 => ?_) (fun c165 => ?_)
                                            · have c165 : ¬ k = 5 := fun h => c165 ((nI_eq (a := k) (b := 5) (by omega) (by omega)).mpr h)
                                              refine s_iinc E (L2 := [(7, .int (nI (k + 1))), (0, .ref (ad 0)), (1, .int (nI M)), (2, .int (o)), (3, .int (near)), (4, .int (far)), (5, .int (nI a)), (6, .int (nI b)), (8, .int (bI (ordK k = true))), (9, .int (nI d))]) dX5_isRowClean_217 (k := 7) rfl (v := nI (k + 1)) (nI_inc _) (Nat.le_of_ble_eq_true rfl) rfl ?_
                                              refine s_goto E dX5_isRowClean_220 (tgt := 56) rfl ?_
                                              refine s_loc (L2 := [(0, .ref (ad 0)), (1, .int (nI M)), (2, .int (o)), (3, .int (near)), (4, .int (far)), (5, .int (nI a)), (6, .int (nI b)), (7, .int (nI (k + 1)))]) [1, 2, 3, 4, 5, 6, 7, 0] rfl ?_
                                              exact ih56 (k + 1) (by omega) (allB_s h3 (cK_of (fun h9 => by simp [third, c159, c165] at h9) (fun h9 => by rw [ht3] at h9; cases h9))) (by omega)
                                            · have c165 : k = 5 := (nI_eq (a := k) (b := 5) (by omega) (by omega)).mp c165
                                              refine s_iload E dX5_isRowClean_168 (i := 9) (j := 9) rfl ?_
                                              refine s_iload E dX5_isRowClean_170 (i := 5) (j := 5) rfl ?_
                                              refine s_icmp_eq E dX5_isRowClean_172 (tgt := 211) rfl (fun c172 => ?_) (fun c172 => ?_)
                                              · have c172 : d = a := (nI_eq (a := d) (b := a) (by omega) (by omega)).mp c172
                                                refine s_iinc E (L2 := [(9, .int (nI (d + 1))), (0, .ref (ad 0)), (1, .int (nI M)), (2, .int (o)), (3, .int (near)), (4, .int (far)), (5, .int (nI a)), (6, .int (nI b)), (7, .int (nI k)), (8, .int (bI (ordK k = true)))]) dX5_isRowClean_211 (k := 9) rfl (v := nI (d + 1)) (nI_inc _) (Nat.le_of_ble_eq_true rfl) rfl ?_
                                                refine s_goto E dX5_isRowClean_214 (tgt := 150) rfl ?_
                                                refine s_loc (L2 := [(0, .ref (ad 0)), (1, .int (nI M)), (2, .int (o)), (3, .int (near)), (4, .int (far)), (5, .int (nI a)), (6, .int (nI b)), (7, .int (nI k)), (8, .int (bI (ordK k = true))), (9, .int (nI (d + 1)))]) [1, 2, 3, 4, 5, 6, 7, 8, 9, 0] rfl ?_
                                                exact ih150 (d + 1) (by omega) (fun h9 => allB_s (h4 h9) (by unfold cC3; simp [c172])) (by omega)
                                              · have c172 : ¬ d = a := fun h => c172 ((nI_eq (a := d) (b := a) (by omega) (by omega)).mpr h)
                                                refine s_iload E dX5_isRowClean_175 (i := 9) (j := 9) rfl ?_
                                                refine s_iload E dX5_isRowClean_177 (i := 6) (j := 6) rfl ?_
                                                refine s_icmp_eq E dX5_isRowClean_179 (tgt := 211) rfl (fun c179 => ?_) (fun c179 => ?_)
                                                · have c179 : d = b := (nI_eq (a := d) (b := b) (by omega) (by omega)).mp c179
                                                  refine s_iinc E (L2 := [(9, .int (nI (d + 1))), (0, .ref (ad 0)), (1, .int (nI M)), (2, .int (o)), (3, .int (near)), (4, .int (far)), (5, .int (nI a)), (6, .int (nI b)), (7, .int (nI k)), (8, .int (bI (ordK k = true)))]) dX5_isRowClean_211 (k := 9) rfl (v := nI (d + 1)) (nI_inc _) (Nat.le_of_ble_eq_true rfl) rfl ?_
                                                  refine s_goto E dX5_isRowClean_214 (tgt := 150) rfl ?_
                                                  refine s_loc (L2 := [(0, .ref (ad 0)), (1, .int (nI M)), (2, .int (o)), (3, .int (near)), (4, .int (far)), (5, .int (nI a)), (6, .int (nI b)), (7, .int (nI k)), (8, .int (bI (ordK k = true))), (9, .int (nI (d + 1)))]) [1, 2, 3, 4, 5, 6, 7, 8, 9, 0] rfl ?_
                                                  exact ih150 (d + 1) (by omega) (fun h9 => allB_s (h4 h9) (by unfold cC3; simp [c179])) (by omega)
                                                · have c179 : ¬ d = b := fun h => c179 ((nI_eq (a := d) (b := b) (by omega) (by omega)).mpr h)
                                                  refine s_aload_n E dX5_isRowClean_182 (i := 0) (j := 0) rfl rfl ?_
                                                  refine s_aload_n E dX5_isRowClean_183 (i := 0) (j := 0) rfl rfl ?_
                                                  refine s_iload E dX5_isRowClean_184 (i := 7) (j := 7) rfl ?_
                                                  refine s_iload E dX5_isRowClean_186 (i := 5) (j := 5) rfl ?_
                                                  refine s_iload E dX5_isRowClean_188 (i := 6) (j := 6) rfl ?_
                                                  refine s_iload E dX5_isRowClean_190 (i := 9) (j := 9) rfl ?_
                                                  refine m_calli E (mz_sumOf3 k a b d (by omega) (by omega) (by omega) (by omega)) K5_366 (Nat.le_of_ble_eq_true rfl) (Nat.le_of_ble_eq_true rfl) (Nat.zero_le _) (Nat.zero_le _) rfl rfl (Nat.le_of_ble_eq_true rfl) dX5_isRowClean_192 (fun r192 w192 h192 => ?_)
                                                  obtain ⟨rfl, rfl⟩ := h192
                                                  refine s_iload_n E dX5_isRowClean_195 (i := 1) (j := 1) rfl rfl ?_
                                                  refine s_iload E dX5_isRowClean_196 (i := 5) (j := 5) rfl ?_
                                                  refine s_iload E dX5_isRowClean_198 (i := 6) (j := 6) rfl ?_
                                                  refine s_iload E dX5_isRowClean_200 (i := 9) (j := 9) rfl ?_
                                                  refine s_iload_n E dX5_isRowClean_202 (i := 3) (j := 3) rfl rfl ?_
                                                  refine m_calli E (mz_hitsRow3 (sumR (σ 43) k a b (some d)) near M a b d (hM8) (by omega) (by omega) (by omega)) K5_370 (Nat.le_of_ble_eq_true rfl) (Nat.le_of_ble_eq_true rfl) (Nat.zero_le _) (Nat.zero_le _) rfl rfl (Nat.le_of_ble_eq_true rfl) dX5_isRowClean_203 (fun r203 w203 h203 => ?_)
                                                  obtain ⟨rfl, rfl⟩ := h203
                                                  refine s_if_eq E dX5_isRowClean_206 (tgt := 211) rfl (fun c206 => ?_) (fun c206 => ?_)
                                                  · have c206 := bI_0 c206
                                                    refine s_iinc E (L2 := [(9, .int (nI (d + 1))), (0, .ref (ad 0)), (1, .int (nI M)), (2, .int (o)), (3, .int (near)), (4, .int (far)), (5, .int (nI a)), (6, .int (nI b)), (7, .int (nI k)), (8, .int (bI (ordK k = true)))]) dX5_isRowClean_211 (k := 9) rfl (v := nI (d + 1)) (nI_inc _) (Nat.le_of_ble_eq_true rfl) rfl ?_
                                                    refine s_goto E dX5_isRowClean_214 (tgt := 150) rfl ?_
                                                    refine s_loc (L2 := [(0, .ref (ad 0)), (1, .int (nI M)), (2, .int (o)), (3, .int (near)), (4, .int (far)), (5, .int (nI a)), (6, .int (nI b)), (7, .int (nI k)), (8, .int (bI (ordK k = true))), (9, .int (nI (d + 1)))]) [1, 2, 3, 4, 5, 6, 7, 8, 9, 0] rfl ?_
                                                    exact ih150 (d + 1) (by omega) (fun h9 => allB_s (h4 h9) (by unfold cC3; simp [c206])) (by omega)
                                                  · have c206 := bI_n0 c206
                                                    refine s_iconst E dX5_isRowClean_209 (v := nI 0) (by decide) ?_
                                                    exact Rt (nI 0) (σ) dX5_isRowClean_210 (⟨by rw [bI_f]; exact allB_f (f := (fun a => allB (cB2 (σ 43) o near far M a) M)) (i := a) (by omega) (allB_f (f := cB2 (σ 43) o near far M a) (i := b) (by omega) (fun h9 => cB2_no c22 (by omega) (cK_no c88 (fun _ => c100) (Or.inl ⟨ht3, allB_f (i := d) (by omega) (fun h6 => (by unfold cC3 at h6; simp [c172, c179, c206] at h6))⟩)) h9)), rfl⟩) rfl (Nat.le_refl _) (Nat.le_refl _) rfl E.2.2.2.2.2.1
                                    refine s_loc (L2 := [(0, .ref (ad 0)), (1, .int (nI M)), (2, .int (o)), (3, .int (near)), (4, .int (far)), (5, .int (nI a)), (6, .int (nI b)), (7, .int (nI k)), (8, .int (bI (ordK k = true))), (9, .int (nI 0))]) [2, 3, 4, 5, 6, 7, 8, 9, 1, 0] rfl ?_
                                    exact L150 (_ + 1) 0 (Nat.zero_le _) (fun _ => rfl) (Nat.lt_succ_self _)
                                  · have c115 : ¬ k = 5 := fun h => c115 ((nI_eq (a := k) (b := 5) (by omega) (by omega)).mpr h)
                                    have ht3 : third k = false := by simp [third, c109, c115]
                                    refine s_aload_n E dX5_isRowClean_118 (i := 0) (j := 1) rfl rfl ?_
                                    refine s_aload_n E dX5_isRowClean_119 (i := 0) (j := 1) rfl rfl ?_
                                    refine s_iload E dX5_isRowClean_120 (i := 7) (j := 8) rfl ?_
                                    refine s_iload E dX5_isRowClean_122 (i := 5) (j := 6) rfl ?_
                                    refine s_iload E dX5_isRowClean_124 (i := 6) (j := 7) rfl ?_
                                    refine s_bipush E dX5_isRowClean_126 (v := (-2)) (by decide) ?_
                                    refine m_calli E (mz_sumOf k a b (by omega) (by omega) (by omega)) K5_366 (Nat.le_of_ble_eq_true rfl) (Nat.le_of_ble_eq_true rfl) (Nat.zero_le _) (Nat.zero_le _) rfl rfl (Nat.le_of_ble_eq_true rfl) dX5_isRowClean_128 (fun r128 w128 h128 => ?_)
                                    obtain ⟨rfl, rfl⟩ := h128
                                    refine s_iload_n E dX5_isRowClean_131 (i := 1) (j := 2) rfl rfl ?_
                                    refine s_iload E dX5_isRowClean_132 (i := 5) (j := 6) rfl ?_
                                    refine s_iload E dX5_isRowClean_134 (i := 6) (j := 7) rfl ?_
                                    refine s_bipush E dX5_isRowClean_136 (v := (-2)) (by decide) ?_
                                    refine s_iload_n E dX5_isRowClean_138 (i := 3) (j := 4) rfl rfl ?_
                                    refine m_calli E (mz_hitsRow (sumR (σ 43) k a b none) near M a b (hM8) (by omega) (by omega)) K5_370 (Nat.le_of_ble_eq_true rfl) (Nat.le_of_ble_eq_true rfl) (Nat.zero_le _) (Nat.zero_le _) rfl rfl (Nat.le_of_ble_eq_true rfl) dX5_isRowClean_139 (fun r139 w139 h139 => ?_)
                                    obtain ⟨rfl, rfl⟩ := h139
                                    refine s_if_eq E dX5_isRowClean_142 (tgt := 147) rfl (fun c142 => ?_) (fun c142 => ?_)
                                    · have c142 := bI_0 c142
                                      refine s_iconst E dX5_isRowClean_147 (v := nI 0) (by decide) ?_
                                      refine s_istore E (L2 := [(9, .int (nI 0)), (8, .int (bI (ordK k = true))), (0, .ref (ad 0)), (1, .int (nI M)), (2, .int (o)), (3, .int (near)), (4, .int (far)), (5, .int (nI a)), (6, .int (nI b)), (7, .int (nI k))]) dX5_isRowClean_148 (Nat.le_of_ble_eq_true rfl) rfl ?_
                                      have L150 : ∀ (fuel : Nat) (d : Nat), (d ≤ M) → (third k = true → allB (cC3 (σ 43) near M k a b) d = true) → (M - d) < fuel → Sm pP l eE { frames := 2, cells := 0, slots := 0, locals := 47 } sS mM aA bB hM cC QQ AA D 10 0 0 (wm ad ct σ) 150 [(0, .ref (ad 0)), (1, .int (nI M)), (2, .int (o)), (3, .int (near)), (4, .int (far)), (5, .int (nI a)), (6, .int (nI b)), (7, .int (nI k)), (8, .int (bI (ordK k = true))), (9, .int (nI d))] [] := by
                                        intro fuel
                                        induction fuel with
                                        | zero =>
                                          intro d hd h4 hf150
                                          exact absurd hf150 (Nat.not_lt_zero _)
                                        | succ fuel ih150 =>
                                          intro d hd h4 hf150
                                          refine s_iload E dX5_isRowClean_150 (i := 9) (j := 9) rfl ?_
                                          refine s_iload_n E dX5_isRowClean_152 (i := 1) (j := 1) rfl rfl ?_
                                          refine s_icmp_ge E dX5_isRowClean_153 (tgt := 217) rfl (fun c153 => ?_) (fun c153 => ?_)
                                          · have c153 : ¬ d < M := fun h => absurd c153 (Int32.not_le.mpr ((nI_ltI (a := d) (b := M) (by omega) (by omega)).mpr h))
                                            refine s_iinc E (L2 := [(7, .int (nI (k + 1))), (0, .ref (ad 0)), (1, .int (nI M)), (2, .int (o)), (3, .int (near)), (4, .int (far)), (5, .int (nI a)), (6, .int (nI b)), (8, .int (bI (ordK k = true))), (9, .int (nI d))]) dX5_isRowClean_217 (k := 7) rfl (v := nI (k + 1)) (nI_inc _) (Nat.le_of_ble_eq_true rfl) rfl ?_
                                            refine s_goto E dX5_isRowClean_220 (tgt := 56) rfl ?_
                                            refine s_loc (L2 := [(0, .ref (ad 0)), (1, .int (nI M)), (2, .int (o)), (3, .int (near)), (4, .int (far)), (5, .int (nI a)), (6, .int (nI b)), (7, .int (nI (k + 1)))]) [1, 2, 3, 4, 5, 6, 7, 0] rfl ?_
                                            exact ih56 (k + 1) (by omega) (allB_s h3 (cK_of (fun h9 => by have h8 := h4 h9; rwa [show d = M by omega] at h8) (fun h9 => c142))) (by omega)
                                          · have c153 : d < M := (nI_ltI (a := d) (b := M) (by omega) (by omega)).mp (Int32.not_le.mp c153)
                                            refine s_iload E dX5_isRowClean_156 (i := 7) (j := 7) rfl ?_
                                            refine s_iconst E dX5_isRowClean_158 (v := nI 3) (by decide) ?_
                                            refine s_icmp_eq E dX5_isRowClean_159 (tgt := 168) rfl (fun c159 => ?_) (fun c159 => ?_)
                                            · have c159 : k = 3 := (nI_eq (a := k) (b := 3) (by omega) (by omega)).mp c159
                                              refine s_iload E dX5_isRowClean_168 (i := 9) (j := 9) rfl ?_
                                              refine s_iload E dX5_isRowClean_170 (i := 5) (j := 5) rfl ?_
                                              refine s_icmp_eq E dX5_isRowClean_172 (tgt := 211) rfl (fun c172 => ?_) (fun c172 => ?_)
                                              · have c172 : d = a := (nI_eq (a := d) (b := a) (by omega) (by omega)).mp c172
                                                refine s_iinc E (L2 := [(9, .int (nI (d + 1))), (0, .ref (ad 0)), (1, .int (nI M)), (2, .int (o)), (3, .int (near)), (4, .int (far)), (5, .int (nI a)), (6, .int (nI b)), (7, .int (nI k)), (8, .int (bI (ordK k = true)))]) dX5_isRowClean_211 (k := 9) rfl (v := nI (d + 1)) (nI_inc _) (Nat.le_of_ble_eq_true rfl) rfl ?_
                                                refine s_goto E dX5_isRowClean_214 (tgt := 150) rfl ?_
                                                refine s_loc (L2 := [(0, .ref (ad 0)), (1, .int (nI M)), (2, .int (o)), (3, .int (near)), (4, .int (far)), (5, .int (nI a)), (6, .int (nI b)), (7, .int (nI k)), (8, .int (bI (ordK k = true))), (9, .int (nI (d + 1)))]) [1, 2, 3, 4, 5, 6, 7, 8, 9, 0] rfl ?_
                                                exact ih150 (d + 1) (by omega) (fun h9 => allB_s (h4 h9) (by unfold cC3; simp [c172])) (by omega)
                                              · have c172 : ¬ d = a := fun h => c172 ((nI_eq (a := d) (b := a) (by omega) (by omega)).mpr h)
                                                refine s_iload E dX5_isRowClean_175 (i := 9) (j := 9) rfl ?_
                                                refine s_iload E dX5_isRowClean_177 (i := 6) (j := 6) rfl ?_
                                                refine s_icmp_eq E dX5_isRowClean_179 (tgt := 211) rfl (fun c179 => ?_) (fun c179 => ?_)
                                                · have c179 : d = b := (nI_eq (a := d) (b := b) (by omega) (by omega)).mp c179
                                                  refine s_iinc E (L2 := [(9, .int (nI (d + 1))), (0, .ref (ad 0)), (1, .int (nI M)), (2, .int (o)), (3, .int (near)), (4, .int (far)), (5, .int (nI a)), (6, .int (nI b)), (7, .int (nI k)), (8, .int (bI (ordK k = true)))]) dX5_isRowClean_211 (k := 9) rfl (v := nI (d + 1)) (nI_inc _) (Nat.le_of_ble_eq_true rfl) rfl ?_
                                                  refine s_goto E dX5_isRowClean_214 (tgt := 150) rfl ?_
                                                  refine s_loc (L2 := [(0, .ref (ad 0)), (1, .int (nI M)), (2, .int (o)), (3, .int (near)), (4, .int (far)), (5, .int (nI a)), (6, .int (nI b)), (7, .int (nI k)), (8, .int (bI (ordK k = true))), (9, .int (nI (d + 1)))]) [1, 2, 3, 4, 5, 6, 7, 8, 9, 0] rfl ?_
                                                  exact ih150 (d + 1) (by omega) (fun h9 => allB_s (h4 h9) (by unfold cC3; simp [c179])) (by omega)
                                                · have c179 : ¬ d = b := fun h => c179 ((nI_eq (a := d) (b := b) (by omega) (by omega)).mpr h)
                                                  refine s_aload_n E dX5_isRowClean_182 (i := 0) (j := 0) rfl rfl ?_
                                                  refine s_aload_n E dX5_isRowClean_183 (i := 0) (j := 0) rfl rfl ?_
                                                  refine s_iload E dX5_isRowClean_184 (i := 7) (j := 7) rfl ?_
                                                  refine s_iload E dX5_isRowClean_186 (i := 5) (j := 5) rfl ?_
                                                  refine s_iload E dX5_isRowClean_188 (i := 6) (j := 6) rfl ?_
                                                  refine s_iload E dX5_isRowClean_190 (i := 9) (j := 9) rfl ?_
                                                  refine m_calli E (mz_sumOf3 k a b d (by omega) (by omega) (by omega) (by omega)) K5_366 (Nat.le_of_ble_eq_true rfl) (Nat.le_of_ble_eq_true rfl) (Nat.zero_le _) (Nat.zero_le _) rfl rfl (Nat.le_of_ble_eq_true rfl) dX5_isRowClean_192 (fun r192 w192 h192 => ?_)
                                                  obtain ⟨rfl, rfl⟩ := h192
                                                  refine s_iload_n E dX5_isRowClean_195 (i := 1) (j := 1) rfl rfl ?_
                                                  refine s_iload E dX5_isRowClean_196 (i := 5) (j := 5) rfl ?_
                                                  refine s_iload E dX5_isRowClean_198 (i := 6) (j := 6) rfl ?_
                                                  refine s_iload E dX5_isRowClean_200 (i := 9) (j := 9) rfl ?_
                                                  refine s_iload_n E dX5_isRowClean_202 (i := 3) (j := 3) rfl rfl ?_
                                                  refine m_calli E (mz_hitsRow3 (sumR (σ 43) k a b (some d)) near M a b d (hM8) (by omega) (by omega) (by omega)) K5_370 (Nat.le_of_ble_eq_true rfl) (Nat.le_of_ble_eq_true rfl) (Nat.zero_le _) (Nat.zero_le _) rfl rfl (Nat.le_of_ble_eq_true rfl) dX5_isRowClean_203 (fun r203 w203 h203 => ?_)
                                                  obtain ⟨rfl, rfl⟩ := h203
                                                  refine s_if_eq E dX5_isRowClean_206 (tgt := 211) rfl (fun c206 => ?_) (fun c206 => ?_)
                                                  · have c206 := bI_0 c206
                                                    refine s_iinc E (L2 := [(9, .int (nI (d + 1))), (0, .ref (ad 0)), (1, .int (nI M)), (2, .int (o)), (3, .int (near)), (4, .int (far)), (5, .int (nI a)), (6, .int (nI b)), (7, .int (nI k)), (8, .int (bI (ordK k = true)))]) dX5_isRowClean_211 (k := 9) rfl (v := nI (d + 1)) (nI_inc _) (Nat.le_of_ble_eq_true rfl) rfl ?_
                                                    refine s_goto E dX5_isRowClean_214 (tgt := 150) rfl ?_
                                                    refine s_loc (L2 := [(0, .ref (ad 0)), (1, .int (nI M)), (2, .int (o)), (3, .int (near)), (4, .int (far)), (5, .int (nI a)), (6, .int (nI b)), (7, .int (nI k)), (8, .int (bI (ordK k = true))), (9, .int (nI (d + 1)))]) [1, 2, 3, 4, 5, 6, 7, 8, 9, 0] rfl ?_
                                                    exact ih150 (d + 1) (by omega) (fun h9 => allB_s (h4 h9) (by unfold cC3; simp [c206])) (by omega)
                                                  · have c206 := bI_n0 c206
                                                    refine s_iconst E dX5_isRowClean_209 (v := nI 0) (by decide) ?_
                                                    exact Rt (nI 0) (σ) dX5_isRowClean_210 (⟨by rw [bI_f]; exact allB_f (f := (fun a => allB (cB2 (σ 43) o near far M a) M)) (i := a) (by omega) (allB_f (f := cB2 (σ 43) o near far M a) (i := b) (by omega) (fun h9 => cB2_no c22 (by omega) (cK_no c88 (fun _ => c100) (Or.inl ⟨(by simp [third, c159]), allB_f (i := d) (by omega) (fun h6 => (by unfold cC3 at h6; simp [c172, c179, c206] at h6))⟩)) h9)), rfl⟩) rfl (Nat.le_refl _) (Nat.le_refl _) rfl E.2.2.2.2.2.1
                                            · have c159 : ¬ k = 3 := fun h => c159 ((nI_eq (a := k) (b := 3) (by omega) (by omega)).mpr h)
                                              refine s_iload E dX5_isRowClean_162 (i := 7) (j := 7) rfl ?_
                                              refine s_iconst E dX5_isRowClean_164 (v := nI 5) (by decide) ?_
                                              refine s_icmp_ne E dX5_isRowClean_165 (tgt := 217) rfl (fun c165 => ?_) (fun c165 => ?_)
                                              · have c165 : ¬ k = 5 := fun h => c165 ((nI_eq (a := k) (b := 5) (by omega) (by omega)).mpr h)
                                                refine s_iinc E (L2 := [(7, .int (nI (k + 1))), (0, .ref (ad 0)), (1, .int (nI M)), (2, .int (o)), (3, .int (near)), (4, .int (far)), (5, .int (nI a)), (6, .int (nI b)), (8, .int (bI (ordK k = true))), (9, .int (nI d))]) dX5_isRowClean_217 (k := 7) rfl (v := nI (k + 1)) (nI_inc _) (Nat.le_of_ble_eq_true rfl) rfl ?_
                                                refine s_goto E dX5_isRowClean_220 (tgt := 56) rfl ?_
                                                refine s_loc (L2 := [(0, .ref (ad 0)), (1, .int (nI M)), (2, .int (o)), (3, .int (near)), (4, .int (far)), (5, .int (nI a)), (6, .int (nI b)), (7, .int (nI (k + 1)))]) [1, 2, 3, 4, 5, 6, 7, 0] rfl ?_
                                                exact ih56 (k + 1) (by omega) (allB_s h3 (cK_of (fun h9 => by simp [third, c159, c165] at h9) (fun h9 => c142))) (by omega)
                                              · have c165 : k = 5 := (nI_eq (a := k) (b := 5) (by omega) (by omega)).mp c165
                                                refine s_iload E dX5_isRowClean_168 (i := 9) (j := 9) rfl ?_
                                                refine s_iload E dX5_isRowClean_170 (i := 5) (j := 5) rfl ?_
                                                refine s_icmp_eq E dX5_isRowClean_172 (tgt := 211) rfl (fun c172 => ?_) (fun c172 => ?_)
                                                · have c172 : d = a := (nI_eq (a := d) (b := a) (by omega) (by omega)).mp c172
                                                  refine s_iinc E (L2 := [(9, .int (nI (d + 1))), (0, .ref (ad 0)), (1, .int (nI M)), (2, .int (o)), (3, .int (near)), (4, .int (far)), (5, .int (nI a)), (6, .int (nI b)), (7, .int (nI k)), (8, .int (bI (ordK k = true)))]) dX5_isRowClean_211 (k := 9) rfl (v := nI (d + 1)) (nI_inc _) (Nat.le_of_ble_eq_true rfl) rfl ?_
                                                  refine s_goto E dX5_isRowClean_214 (tgt := 150) rfl ?_
                                                  refine s_loc (L2 := [(0, .ref (ad 0)), (1, .int (nI M)), (2, .int (o)), (3, .int (near)), (4, .int (far)), (5, .int (nI a)), (6, .int (nI b)), (7, .int (nI k)), (8, .int (bI (ordK k = true))), (9, .int (nI (d + 1)))]) [1, 2, 3, 4, 5, 6, 7, 8, 9, 0] rfl ?_
                                                  exact ih150 (d + 1) (by omega) (fun h9 => allB_s (h4 h9) (by unfold cC3; simp [c172])) (by omega)
                                                · have c172 : ¬ d = a := fun h => c172 ((nI_eq (a := d) (b := a) (by omega) (by omega)).mpr h)
                                                  refine s_iload E dX5_isRowClean_175 (i := 9) (j := 9) rfl ?_
                                                  refine s_iload E dX5_isRowClean_177 (i := 6) (j := 6) rfl ?_
                                                  refine s_icmp_eq E dX5_isRowClean_179 (tgt := 211) rfl (fun c179 => ?_) (fun c179 => ?_)
                                                  · have c179 : d = b := (nI_eq (a := d) (b := b) (by omega) (by omega)).mp c179
                                                    refine s_iinc E (L2 := [(9, .int (nI (d + 1))), (0, .ref (ad 0)), (1, .int (nI M)), (2, .int (o)), (3, .int (near)), (4, .int (far)), (5, .int (nI a)), (6, .int (nI b)), (7, .int (nI k)), (8, .int (bI (ordK k = true)))]) dX5_isRowClean_211 (k := 9) rfl (v := nI (d + 1)) (nI_inc _) (Nat.le_of_ble_eq_true rfl) rfl ?_
                                                    refine s_goto E dX5_isRowClean_214 (tgt := 150) rfl ?_
                                                    refine s_loc (L2 := [(0, .ref (ad 0)), (1, .int (nI M)), (2, .int (o)), (3, .int (near)), (4, .int (far)), (5, .int (nI a)), (6, .int (nI b)), (7, .int (nI k)), (8, .int (bI (ordK k = true))), (9, .int (nI (d + 1)))]) [1, 2, 3, 4, 5, 6, 7, 8, 9, 0] rfl ?_
                                                    exact ih150 (d + 1) (by omega) (fun h9 => allB_s (h4 h9) (by unfold cC3; simp [c179])) (by omega)
                                                  · have c179 : ¬ d = b := fun h => c179 ((nI_eq (a := d) (b := b) (by omega) (by omega)).mpr h)
                                                    refine s_aload_n E dX5_isRowClean_182 (i := 0) (j := 0) rfl rfl ?_
                                                    refine s_aload_n E dX5_isRowClean_183 (i := 0) (j := 0) rfl rfl ?_
                                                    refine s_iload E dX5_isRowClean_184 (i := 7) (j := 7) rfl ?_
                                                    refine s_iload E dX5_isRowClean_186 (i := 5) (j := 5) rfl ?_
                                                    refine s_iload E dX5_isRowClean_188 (i := 6) (j := 6) rfl ?_
                                                    refine s_iload E dX5_isRowClean_190 (i := 9) (j := 9) rfl ?_
                                                    refine m_calli E (mz_sumOf3 k a b d (by omega) (by omega) (by omega) (by omega)) K5_366 (Nat.le_of_ble_eq_true rfl) (Nat.le_of_ble_eq_true rfl) (Nat.zero_le _) (Nat.zero_le _) rfl rfl (Nat.le_of_ble_eq_true rfl) dX5_isRowClean_192 (fun r192 w192 h192 => ?_)
                                                    obtain ⟨rfl, rfl⟩ := h192
                                                    refine s_iload_n E dX5_isRowClean_195 (i := 1) (j := 1) rfl rfl ?_
                                                    refine s_iload E dX5_isRowClean_196 (i := 5) (j := 5) rfl ?_
                                                    refine s_iload E dX5_isRowClean_198 (i := 6) (j := 6) rfl ?_
                                                    refine s_iload E dX5_isRowClean_200 (i := 9) (j := 9) rfl ?_
                                                    refine s_iload_n E dX5_isRowClean_202 (i := 3) (j := 3) rfl rfl ?_
                                                    refine m_calli E (mz_hitsRow3 (sumR (σ 43) k a b (some d)) near M a b d (hM8) (by omega) (by omega) (by omega)) K5_370 (Nat.le_of_ble_eq_true rfl) (Nat.le_of_ble_eq_true rfl) (Nat.zero_le _) (Nat.zero_le _) rfl rfl (Nat.le_of_ble_eq_true rfl) dX5_isRowClean_203 (fun r203 w203 h203 => ?_)
                                                    obtain ⟨rfl, rfl⟩ := h203
                                                    refine s_if_eq E dX5_isRowClean_206 (tgt := 211) rfl (fun c206 => ?_) (fun c206 => ?_)
                                                    · have c206 := bI_0 c206
                                                      refine s_iinc E (L2 := [(9, .int (nI (d + 1))), (0, .ref (ad 0)), (1, .int (nI M)), (2, .int (o)), (3, .int (near)), (4, .int (far)), (5, .int (nI a)), (6, .int (nI b)), (7, .int (nI k)), (8, .int (bI (ordK k = true)))]) dX5_isRowClean_211 (k := 9) rfl (v := nI (d + 1)) (nI_inc _) (Nat.le_of_ble_eq_true rfl) rfl ?_
                                                      refine s_goto E dX5_isRowClean_214 (tgt := 150) rfl ?_
                                                      refine s_loc (L2 := [(0, .ref (ad 0)), (1, .int (nI M)), (2, .int (o)), (3, .int (near)), (4, .int (far)), (5, .int (nI a)), (6, .int (nI b)), (7, .int (nI k)), (8, .int (bI (ordK k = true))), (9, .int (nI (d + 1)))]) [1, 2, 3, 4, 5, 6, 7, 8, 9, 0] rfl ?_
                                                      exact ih150 (d + 1) (by omega) (fun h9 => allB_s (h4 h9) (by unfold cC3; simp [c206])) (by omega)
                                                    · have c206 := bI_n0 c206
                                                      refine s_iconst E dX5_isRowClean_209 (v := nI 0) (by decide) ?_
                                                      exact Rt (nI 0) (σ) dX5_isRowClean_210 (⟨by rw [bI_f]; exact allB_f (f := (fun a => allB (cB2 (σ 43) o near far M a) M)) (i := a) (by omega) (allB_f (f := cB2 (σ 43) o near far M a) (i := b) (by omega) (fun h9 => cB2_no c22 (by omega) (cK_no c88 (fun _ => c100) (Or.inl ⟨(by simp [third, c165]), allB_f (i := d) (by omega) (fun h6 => (by unfold cC3 at h6; simp [c172, c179, c206] at h6))⟩)) h9)), rfl⟩) rfl (Nat.le_refl _) (Nat.le_refl _) rfl E.2.2.2.2.2.1
                                      refine s_loc (L2 := [(0, .ref (ad 0)), (1, .int (nI M)), (2, .int (o)), (3, .int (near)), (4, .int (far)), (5, .int (nI a)), (6, .int (nI b)), (7, .int (nI k)), (8, .int (bI (ordK k = true))), (9, .int (nI 0))]) [2, 3, 4, 5, 6, 7, 8, 9, 1, 0] rfl ?_
                                      exact L150 (_ + 1) 0 (Nat.zero_le _) (fun _ => rfl) (Nat.lt_succ_self _)
                                    · have c142 := bI_n0 c142
                                      refine s_iconst E dX5_isRowClean_145 (v := nI 0) (by decide) ?_
                                      exact Rt (nI 0) (σ) dX5_isRowClean_146 (⟨by rw [bI_f]; exact allB_f (f := (fun a => allB (cB2 (σ 43) o near far M a) M)) (i := a) (by omega) (allB_f (f := cB2 (σ 43) o near far M a) (i := b) (by omega) (fun h9 => cB2_no c22 (by omega) (cK_no c88 (fun _ => c100) (Or.inr ⟨ht3, c142⟩)) h9)), rfl⟩) rfl (Nat.le_refl _) (Nat.le_refl _) rfl E.2.2.2.2.2.1
                              · have c100 : b < a := (nI_ltI (a := b) (b := a) (by omega) (by omega)).mp (Int32.not_le.mp c100)
                                refine s_goto E dX5_isRowClean_103 (tgt := 217) rfl ?_
                                refine s_iinc E (L2 := [(7, .int (nI (k + 1))), (8, .int (bI (ordK k = true))), (0, .ref (ad 0)), (1, .int (nI M)), (2, .int (o)), (3, .int (near)), (4, .int (far)), (5, .int (nI a)), (6, .int (nI b))]) dX5_isRowClean_217 (k := 8) rfl (v := nI (k + 1)) (nI_inc _) (Nat.le_of_ble_eq_true rfl) rfl ?_
                                refine s_goto E dX5_isRowClean_220 (tgt := 56) rfl ?_
                                refine s_loc (L2 := [(0, .ref (ad 0)), (1, .int (nI M)), (2, .int (o)), (3, .int (near)), (4, .int (far)), (5, .int (nI a)), (6, .int (nI b)), (7, .int (nI (k + 1)))]) [2, 3, 4, 5, 6, 7, 8, 0] rfl ?_
                                exact ih56 (k + 1) (by omega) (allB_s h3 (by simp [bI, cK, c6, c15, c22, c48, c60, c88, c93, c100])) (by omega)
                        refine s_if_eq E dX5_isRowClean_65 (tgt := 74) rfl (fun c65 => ?_) (fun c65 => ?_)
                        · have c65 : k = 0 := (nI_eq (a := k) (b := 0) (by omega) (by omega)).mp c65
                          refine s_iconst E dX5_isRowClean_74 (v := nI 1) (by decide) ?_
                          refine s_goto E dX5_isRowClean_75 (tgt := 79) rfl ?_
                          refine s_top (v2 := bI (ordK k = true)) (by simp [bI, ordK, c6, c15, c22, c48, c60, c65]) ?_
                          exact J79
                        · have c65 : ¬ k = 0 := fun h => c65 ((nI_eq (a := k) (b := 0) (by omega) (by omega)).mpr h)
                          refine s_iload E dX5_isRowClean_68 (i := 7) (j := 7) rfl ?_
                          refine s_iconst E dX5_isRowClean_70 (v := nI 3) (by decide) ?_
                          refine s_icmp_ne E dX5_isRowClean_71 (tgt := 78) rfl (fun c71 => ?_) (fun c71 => ?_)
                          · have c71 : ¬ k = 3 := fun h => c71 ((nI_eq (a := k) (b := 3) (by omega) (by omega)).mpr h)
                            refine s_iconst E dX5_isRowClean_78 (v := nI 0) (by decide) ?_
                            refine s_top (v2 := bI (ordK k = true)) (by simp [bI, ordK, c6, c15, c22, c48, c60, c65, c71]) ?_
                            exact J79
                          · have c71 : k = 3 := (nI_eq (a := k) (b := 3) (by omega) (by omega)).mp c71
                            refine s_iconst E dX5_isRowClean_74 (v := nI 1) (by decide) ?_
                            refine s_goto E dX5_isRowClean_75 (tgt := 79) rfl ?_
                            refine s_top (v2 := bI (ordK k = true)) (by simp [bI, ordK, c6, c15, c22, c48, c60, c65, c71]) ?_
                            exact J79
                  refine s_loc (L2 := [(0, .ref (ad 0)), (1, .int (nI M)), (2, .int (o)), (3, .int (near)), (4, .int (far)), (5, .int (nI a)), (6, .int (nI b)), (7, .int (nI 0))]) [1, 2, 3, 4, 5, 6, 7, 0] rfl ?_
                  exact L56 (_ + 1) 0 (Nat.zero_le _) (rfl) (Nat.lt_succ_self _)
                · have c48 := Int32.not_le.mp c48
                  refine s_iconst E dX5_isRowClean_51 (v := nI 0) (by decide) ?_
                  exact Rt (nI 0) (σ) dX5_isRowClean_52 (⟨by rw [bI_f]; exact allB_f (f := (fun a => allB (cB2 (σ 43) o near far M a) M)) (i := a) (by omega) (allB_f (f := cB2 (σ 43) o near far M a) (i := b) (by omega) (fun h9 => by unfold cB2 at h9; simp [c22, c48] at h9)), rfl⟩) rfl (Nat.le_refl _) (Nat.le_refl _) rfl E.2.2.2.2.2.1
              · have c22 : a = b := (nI_eq (a := a) (b := b) (by omega) (by omega)).mp c22
                refine s_goto E dX5_isRowClean_25 (tgt := 223) rfl ?_
                refine s_iinc E (L2 := [(6, .int (nI (b + 1))), (0, .ref (ad 0)), (1, .int (nI M)), (2, .int (o)), (3, .int (near)), (4, .int (far)), (5, .int (nI a))]) dX5_isRowClean_223 (k := 6) rfl (v := nI (b + 1)) (nI_inc _) (Nat.le_of_ble_eq_true rfl) rfl ?_
                refine s_goto E dX5_isRowClean_226 (tgt := 12) rfl ?_
                refine s_loc (L2 := [(0, .ref (ad 0)), (1, .int (nI M)), (2, .int (o)), (3, .int (near)), (4, .int (far)), (5, .int (nI a)), (6, .int (nI (b + 1)))]) [1, 2, 3, 4, 5, 6, 0] rfl ?_
                exact ih12 (b + 1) (by omega) (allB_s h2 (by simp [bI, cB2, c6, c15, c22])) (by omega)
        refine s_loc (L2 := [(0, .ref (ad 0)), (1, .int (nI M)), (2, .int (o)), (3, .int (near)), (4, .int (far)), (5, .int (nI a)), (6, .int (nI 0))]) [1, 2, 3, 4, 5, 6, 0] rfl ?_
        exact L12 (_ + 1) 0 (Nat.zero_le _) (rfl) (Nat.lt_succ_self _)
  refine s_loc (L2 := [(0, .ref (ad 0)), (1, .int (nI M)), (2, .int (o)), (3, .int (near)), (4, .int (far)), (5, .int (nI 0))]) [1, 2, 3, 4, 5, 0] rfl ?_
  exact L3 (_ + 1) 0 (Nat.zero_le _) (rfl) (Nat.lt_succ_self _)
set_option maxHeartbeats 1000000 in
set_option maxRecDepth 100000 in
theorem mz_grown {σ : Nat → Nat → Int32} (o g s v : Int32) : Ct l D gt yX5_grown cX5_grown 6 .int 3 76 0 0 [.ref (ad 0), .int (o), .int (g), .int (s), .int (v)] (wm ad ct σ) (tysA ct) (fun r σ2 => grF o g s v = r ∧ HQ (zt σ) σ2) (fun σ2 => wm ad ct σ2) (fun _ => tysA ct) := by
  refine Ct.start RX5 (by decide) rfl (Nat.le_of_ble_eq_true rfl) rfl ?_
  intro pP eE sS mM aA bB hM cC QQ AA E Rt
  refine s_aload_n E dX5_grown_0 (i := 0) (j := 0) rfl rfl ?_
  refine s_iconst E dX5_grown_1 (v := nI 0) (by decide) ?_
  refine mp0 E dX5_grown_2 ?_
  refine s_ws (ws2 := wm ad ct (zt σ)) (congrArg (wm ad ct) (rfl)) ?_
  refine s_iload_n E dX5_grown_5 (i := 1) (j := 1) rfl rfl ?_
  refine s_if_lt E dX5_grown_6 (tgt := 40) rfl (fun c6 => ?_) (fun c6 => ?_)
  · refine s_iconst E dX5_grown_40 (v := (-1)) (by decide) ?_
    exact Rt ((-1)) (zt σ) dX5_grown_41 (⟨by rw [grF, if_neg (by simp [bI, grOk, c6])], HQ.rf _⟩) rfl (Nat.le_refl _) (Nat.le_refl _) rfl E.2.2.2.2.2.1
  · refine s_iload_n E dX5_grown_9 (i := 1) (j := 1) rfl rfl ?_
    refine s_bipush E dX5_grown_10 (v := nI 7) (by decide) ?_
    refine s_icmp_gt E dX5_grown_12 (tgt := 40) rfl (fun c12 => ?_) (fun c12 => ?_)
    · refine s_iconst E dX5_grown_40 (v := (-1)) (by decide) ?_
      exact Rt ((-1)) (zt σ) dX5_grown_41 (⟨by rw [grF, if_neg (by simp [bI, grOk, c6, c12])], HQ.rf _⟩) rfl (Nat.le_refl _) (Nat.le_refl _) rfl E.2.2.2.2.2.1
    · refine s_iload_n E dX5_grown_15 (i := 2) (j := 2) rfl rfl ?_
      refine s_if_lt E dX5_grown_16 (tgt := 40) rfl (fun c16 => ?_) (fun c16 => ?_)
      · refine s_iconst E dX5_grown_40 (v := (-1)) (by decide) ?_
        exact Rt ((-1)) (zt σ) dX5_grown_41 (⟨by rw [grF, if_neg (by simp [bI, grOk, c6, c12, c16])], HQ.rf _⟩) rfl (Nat.le_refl _) (Nat.le_refl _) rfl E.2.2.2.2.2.1
      · refine s_iload_n E dX5_grown_19 (i := 2) (j := 2) rfl rfl ?_
        refine s_iconst E dX5_grown_20 (v := nI 5) (by decide) ?_
        refine s_icmp_gt E dX5_grown_21 (tgt := 40) rfl (fun c21 => ?_) (fun c21 => ?_)
        · refine s_iconst E dX5_grown_40 (v := (-1)) (by decide) ?_
          exact Rt ((-1)) (zt σ) dX5_grown_41 (⟨by rw [grF, if_neg (by simp [bI, grOk, c6, c12, c16, c21])], HQ.rf _⟩) rfl (Nat.le_refl _) (Nat.le_refl _) rfl E.2.2.2.2.2.1
        · refine s_iload_n E dX5_grown_24 (i := 3) (j := 3) rfl rfl ?_
          refine s_iconst E dX5_grown_25 (v := nI 1) (by decide) ?_
          refine s_icmp_lt E dX5_grown_26 (tgt := 40) rfl (fun c26 => ?_) (fun c26 => ?_)
          · refine s_iconst E dX5_grown_40 (v := (-1)) (by decide) ?_
            exact Rt ((-1)) (zt σ) dX5_grown_41 (⟨by rw [grF, if_neg (by simp [bI, grOk, c6, c12, c16, c21, c26])], HQ.rf _⟩) rfl (Nat.le_refl _) (Nat.le_refl _) rfl E.2.2.2.2.2.1
          · refine s_iload_n E dX5_grown_29 (i := 3) (j := 3) rfl rfl ?_
            refine s_bipush E dX5_grown_30 (v := nI 20) (by decide) ?_
            refine s_icmp_gt E dX5_grown_32 (tgt := 40) rfl (fun c32 => ?_) (fun c32 => ?_)
            · refine s_iconst E dX5_grown_40 (v := (-1)) (by decide) ?_
              exact Rt ((-1)) (zt σ) dX5_grown_41 (⟨by rw [grF, if_neg (by simp [bI, grOk, c6, c12, c16, c21, c26, c32])], HQ.rf _⟩) rfl (Nat.le_refl _) (Nat.le_refl _) rfl E.2.2.2.2.2.1
            · refine s_iload E dX5_grown_35 (i := 4) (j := 4) rfl ?_
              refine s_if_ge E dX5_grown_37 (tgt := 42) rfl (fun c37 => ?_) (fun c37 => ?_)
              · have c37 := Int32.not_lt.mpr c37
                have hok : grOk o g s v = true := (by simp [bI, grOk, c6, c12, c16, c21, c26, c32, c37])
                refine s_iload E dX5_grown_42 (i := 4) (j := 4) rfl ?_
                refine s_bipush E dX5_grown_44 (v := nI 8) (by decide) ?_
                refine s_icmp_lt E dX5_grown_46 (tgt := 52) rfl (fun c46 => ?_) (fun c46 => ?_)
                · obtain ⟨i, hi, rfl⟩ : ∃ i, i < 8 ∧ v = nI i := us_ofL c37 c46 (by omega)
                  refine s_aload_n E dX5_grown_52 (i := 0) (j := 0) rfl rfl ?_
                  refine mg43 E dX5_grown_53 ?_
                  refine s_iconst E dX5_grown_56 (v := nI 0) (by decide) ?_
                  refine s_iconst E dX5_grown_57 (v := nI 1) (by decide) ?_
                  refine ms43 E (0) (rfl) (by omega) dX5_grown_58 ?_
                  refine s_iconst E dX5_grown_59 (v := nI 1) (by decide) ?_
                  refine s_istore E (L2 := [(5, .int (nI 1)), (0, .ref (ad 0)), (1, .int (o)), (2, .int (g)), (3, .int (s)), (4, .int (nI i))]) dX5_grown_60 (Nat.le_of_ble_eq_true rfl) rfl ?_
                  have L62 : ∀ (fuel : Nat) (n : Nat) (w1 : Nat → Nat → Int32), (n ≤ i) → (HQ (zt σ) w1) → (∀ j, j ≤ n → w1 43 j = nI (gN o g s n j)) → (gOk o g s n = true) → (gN o g s n n ≤ 60) → (i - n) < fuel → Sm pP l eE { frames := 3, cells := 0, slots := 0, locals := 76 } sS mM aA bB hM cC QQ AA D 6 0 0 (wm ad ct w1) 62 [(0, .ref (ad 0)), (1, .int (o)), (2, .int (g)), (3, .int (s)), (4, .int (nI i)), (5, .int (nI (n + 1)))] [] := by
                    intro fuel
                    induction fuel with
                    | zero =>
                      intro n w1 hn hq hr hg hp hf62
                      exact absurd hf62 (Nat.not_lt_zero _)
                    | succ fuel ih62 =>
                      intro n w1 hn hq hr hg hp hf62
                      refine s_iload E dX5_grown_62 (i := 5) (j := 5) rfl ?_
                      refine s_iload E dX5_grown_64 (i := 4) (j := 4) rfl ?_
                      refine s_icmp_gt E dX5_grown_66 (tgt := 148) rfl (fun c66 => ?_) (fun c66 => ?_)
                      · have c66 : i < n + 1 := (nI_ltI (a := i) (b := n + 1) (by omega) (by omega)).mp c66
                        refine s_aload_n E dX5_grown_148 (i := 0) (j := 0) rfl rfl ?_
                        refine mg43 E dX5_grown_149 ?_
                        refine s_iload E dX5_grown_152 (i := 4) (j := 4) rfl ?_
                        refine ml43 E (v := nI (gN o g s i i)) (i) (rfl) (by omega) (by rw [show i = n by omega]; exact hr n (Nat.le_refl _)) dX5_grown_154 ?_
                        exact Rt (nI (gN o g s i i)) (w1) dX5_grown_155 (⟨by rw [grF, if_pos hok, if_pos c46, tN_nI (by omega), if_pos (by rw [show i = n by omega]; exact hg)], hq⟩) rfl (Nat.le_refl _) (Nat.le_refl _) rfl E.2.2.2.2.2.1
                      · have c66 : ¬ i < n + 1 := fun h => c66 ((nI_ltI (a := i) (b := n + 1) (by omega) (by omega)).mpr h)
                        refine s_aload_n E dX5_grown_69 (i := 0) (j := 0) rfl rfl ?_
                        refine mg43 E dX5_grown_70 ?_
                        refine s_iload E dX5_grown_73 (i := 5) (j := 5) rfl ?_
                        refine s_aload_n E dX5_grown_75 (i := 0) (j := 0) rfl rfl ?_
                        refine mg43 E dX5_grown_76 ?_
                        refine s_iload E dX5_grown_79 (i := 5) (j := 5) rfl ?_
                        refine s_iconst E dX5_grown_81 (v := nI 1) (by decide) ?_
                        refine s_isub_ E dX5_grown_82 (v := nI n) (by rw [nI_dec (by omega)]; rfl) ?_
                        refine ml43 E (v := nI (gN o g s n n)) (n) (rfl) (by omega) (hr n (Nat.le_refl _)) dX5_grown_83 ?_
                        refine s_iconst E dX5_grown_84 (v := nI 1) (by decide) ?_
                        refine s_iadd_ E dX5_grown_85 (v := nI ((gN o g s n n) + 1)) (nI_add _ _) ?_
                        refine ms43 E (n + 1) (rfl) (by omega) dX5_grown_86 ?_
                        have L87 : ∀ (fuel : Nat) (d : Nat) (f : Nat) (w2 : Nat → Nat → Int32), (HQ (zt σ) w2) → (∀ j, j ≤ n → w2 43 j = nI (gN o g s n j)) → (w2 43 (n + 1) = nI d) → (d + f = 61) → (npF (gN o g s n) o g s (n + 1) f d = gN o g s (n + 1) (n + 1)) → f < fuel → Sm pP l eE { frames := 3, cells := 0, slots := 0, locals := 76 } sS mM aA bB hM cC QQ AA D 6 0 0 (wm ad ct w2) 87 [(0, .ref (ad 0)), (1, .int (o)), (2, .int (g)), (3, .int (s)), (4, .int (nI i)), (5, .int (nI (n + 1)))] [] := by
                          intro fuel
                          induction fuel with
                          | zero =>
                            intro d f w2 hq2 hr2 hd hd1 hnp hf87
                            exact absurd hf87 (Nat.not_lt_zero _)
                          | succ fuel ih87 =>
                            intro d f w2 hq2 hr2 hd hd1 hnp hf87
                            refine s_aload_n E dX5_grown_87 (i := 0) (j := 0) rfl rfl ?_
                            refine mg43 E dX5_grown_88 ?_
                            refine s_iload E dX5_grown_91 (i := 5) (j := 5) rfl ?_
                            refine ml43 E (v := nI d) (n + 1) (rfl) (by omega) (hd) dX5_grown_93 ?_
                            refine s_bipush E dX5_grown_94 (v := nI 60) (by decide) ?_
                            refine s_icmp_gt E dX5_grown_96 (tgt := 127) rfl (fun c96 => ?_) (fun c96 => ?_)
                            · have c96 : 60 < d := (nI_ltI (a := 60) (b := d) (by omega) (by omega)).mp c96
                              have hgn : gN o g s (n + 1) (n + 1) = d := (by rw [← hnp, show f = 0 by omega]; rfl)
                              have hrow2 : ∀ j, j ≤ n + 1 → w2 43 j = nI (gN o g s (n + 1) j) := fun j hj => by by_cases e : j = n + 1; (rw [e, hgn]; exact hd); (rw [gN_lo o g s n (n + 1) j (by omega) (by omega)]; exact hr2 j (by omega))
                              refine s_aload_n E dX5_grown_127 (i := 0) (j := 0) rfl rfl ?_
                              refine mg43 E dX5_grown_128 ?_
                              refine s_iload E dX5_grown_131 (i := 5) (j := 5) rfl ?_
                              refine ml43 E (v := nI d) (n + 1) (rfl) (by omega) (hd) dX5_grown_133 ?_
                              refine s_bipush E dX5_grown_134 (v := nI 60) (by decide) ?_
                              refine s_icmp_le E dX5_grown_136 (tgt := 142) rfl (fun c136 => ?_) (fun c136 => ?_)
                              · have c136 : ¬ 60 < d := fun h => absurd c136 (Int32.not_le.mpr ((nI_ltI (a := 60) (b := d) (by omega) (by omega)).mpr h))
                                refine s_iinc E (L2 := [(5, .int (nI (n + 1 + 1))), (0, .ref (ad 0)), (1, .int (o)), (2, .int (g)), (3, .int (s)), (4, .int (nI i))]) dX5_grown_142 (k := 5) rfl (v := nI (n + 1 + 1)) (nI_inc _) (Nat.le_of_ble_eq_true rfl) rfl ?_
                                refine s_goto E dX5_grown_145 (tgt := 62) rfl ?_
                                refine s_loc (L2 := [(0, .ref (ad 0)), (1, .int (o)), (2, .int (g)), (3, .int (s)), (4, .int (nI i)), (5, .int (nI (n + 1 + 1)))]) [1, 2, 3, 4, 5, 0] rfl ?_
                                exact ih62 (n + 1) w2 (by omega) (hq2) (hrow2) (by rw [gOk, hg, hgn]; simp; omega) (by rw [hgn]; omega) (by omega)
                              · have c136 : 60 < d := (nI_ltI (a := 60) (b := d) (by omega) (by omega)).mp (Int32.not_le.mp c136)
                                refine s_bipush E dX5_grown_139 (v := (-2)) (by decide) ?_
                                exact Rt ((-2)) (w2) dX5_grown_141 (⟨by rw [grF, if_pos hok, if_pos c46, tN_nI (by omega), if_neg (by rw [gOk_f (n := n) (by omega) (by rw [hgn]; omega)]; decide)], hq2⟩) rfl (Nat.le_refl _) (Nat.le_refl _) rfl E.2.2.2.2.2.1
                            · have c96 : ¬ 60 < d := fun h => c96 ((nI_ltI (a := 60) (b := d) (by omega) (by omega)).mpr h)
                              refine s_aload_n E dX5_grown_99 (i := 0) (j := 0) rfl rfl ?_
                              refine s_iload E dX5_grown_100 (i := 5) (j := 5) rfl ?_
                              refine s_iconst E dX5_grown_102 (v := nI 1) (by decide) ?_
                              refine s_iadd_ E dX5_grown_103 (v := nI ((n + 1) + 1)) (nI_add _ _) ?_
                              refine s_iload_n E dX5_grown_104 (i := 1) (j := 1) rfl rfl ?_
                              refine s_iload_n E dX5_grown_105 (i := 2) (j := 2) rfl rfl ?_
                              refine s_iload_n E dX5_grown_106 (i := 3) (j := 3) rfl rfl ?_
                              have hrc : rcB (w2 43) o g s (n + 2) = rcB (fun j => nI (if j = n + 1 then d else gN o g s n j)) o g s (n + 1 + 1) := rcB_cg (fun j hj => by split; (rename_i e; rw [e]; exact hd); exact hr2 j (by omega))
                              refine m_calli E (mz_isRowClean (n + 2) o g s (by omega)) K5_374 (Nat.le_of_ble_eq_true rfl) (Nat.le_of_ble_eq_true rfl) (Nat.zero_le _) (Nat.zero_le _) rfl rfl (Nat.le_of_ble_eq_true rfl) dX5_grown_107 (fun r107 w107 h107 => ?_)
                              obtain ⟨rfl, rfl⟩ := h107
                              refine s_if_ne E dX5_grown_110 (tgt := 127) rfl (fun c110 => ?_) (fun c110 => ?_)
                              · have c110 := bI_n0 c110
                                have hgn : gN o g s (n + 1) (n + 1) = d := (by rw [← hnp]; obtain ⟨q, rfl⟩ : ∃ q, f = q + 1 := ⟨f - 1, by omega⟩; rw [npF, if_pos (by rw [← hrc]; exact c110)])
                                have hrow2 : ∀ j, j ≤ n + 1 → w2 43 j = nI (gN o g s (n + 1) j) := fun j hj => by by_cases e : j = n + 1; (rw [e, hgn]; exact hd); (rw [gN_lo o g s n (n + 1) j (by omega) (by omega)]; exact hr2 j (by omega))
                                refine s_aload_n E dX5_grown_127 (i := 0) (j := 0) rfl rfl ?_
                                refine mg43 E dX5_grown_128 ?_
                                refine s_iload E dX5_grown_131 (i := 5) (j := 5) rfl ?_
                                refine ml43 E (v := nI d) (n + 1) (rfl) (by omega) (hd) dX5_grown_133 ?_
                                refine s_bipush E dX5_grown_134 (v := nI 60) (by decide) ?_
                                refine s_icmp_le E dX5_grown_136 (tgt := 142) rfl (fun c136 => ?_) (fun c136 => ?_)
                                · have c136 : ¬ 60 < d := fun h => absurd c136 (Int32.not_le.mpr ((nI_ltI (a := 60) (b := d) (by omega) (by omega)).mpr h))
                                  refine s_iinc E (L2 := [(5, .int (nI (n + 1 + 1))), (0, .ref (ad 0)), (1, .int (o)), (2, .int (g)), (3, .int (s)), (4, .int (nI i))]) dX5_grown_142 (k := 5) rfl (v := nI (n + 1 + 1)) (nI_inc _) (Nat.le_of_ble_eq_true rfl) rfl ?_
                                  refine s_goto E dX5_grown_145 (tgt := 62) rfl ?_
                                  refine s_loc (L2 := [(0, .ref (ad 0)), (1, .int (o)), (2, .int (g)), (3, .int (s)), (4, .int (nI i)), (5, .int (nI (n + 1 + 1)))]) [1, 2, 3, 4, 5, 0] rfl ?_
                                  exact ih62 (n + 1) w2 (by omega) (hq2) (hrow2) (by rw [gOk, hg, hgn]; simp; omega) (by rw [hgn]; omega) (by omega)
                                · have c136 : 60 < d := (nI_ltI (a := 60) (b := d) (by omega) (by omega)).mp (Int32.not_le.mp c136)
                                  refine s_bipush E dX5_grown_139 (v := (-2)) (by decide) ?_
                                  exact Rt ((-2)) (w2) dX5_grown_141 (⟨by rw [grF, if_pos hok, if_pos c46, tN_nI (by omega), if_neg (by rw [gOk_f (n := n) (by omega) (by rw [hgn]; omega)]; decide)], hq2⟩) rfl (Nat.le_refl _) (Nat.le_refl _) rfl E.2.2.2.2.2.1
                              · have c110 := bI_0 c110
                                refine s_aload_n E dX5_grown_113 (i := 0) (j := 0) rfl rfl ?_
                                refine mg43 E dX5_grown_114 ?_
                                refine s_iload E dX5_grown_117 (i := 5) (j := 5) rfl ?_
                                refine s_dup2 E dX5_grown_119 rfl rfl ?_
                                refine ml43 E (v := nI d) (n + 1) (rfl) (by omega) (hd) dX5_grown_120 ?_
                                refine s_iconst E dX5_grown_121 (v := nI 1) (by decide) ?_
                                refine s_iadd_ E dX5_grown_122 (v := nI (d + 1)) (nI_add _ _) ?_
                                refine ms43 E (n + 1) (rfl) (by omega) dX5_grown_123 ?_
                                refine s_goto E dX5_grown_124 (tgt := 87) rfl ?_
                                exact ih87 (d + 1) (f - 1) (st1 w2 43 (n + 1) (nI (d + 1))) (hq2.tr HQ.row) (fun j hj => by rw [st1_nj (by omega)]; exact hr2 j hj) (st1_eq) (by omega) (by obtain ⟨q, rfl⟩ : ∃ q, f = q + 1 := ⟨f - 1, by omega⟩; rw [← hnp, npF, if_neg (by rw [← hrc]; exact c110)]; rfl) (by omega)
                        exact L87 (_ + 1) (gN o g s n n + 1) (61 - (gN o g s n n + 1)) (st1 w1 43 (n + 1) (nI (gN o g s n n + 1))) (hq.tr HQ.row) (fun j hj => by rw [st1_nj (by omega)]; exact hr j hj) (st1_eq) (by omega) (by rw [gN]; dsimp only; rw [if_pos rfl]; rfl) (Nat.lt_succ_self _)
                  refine s_loc (L2 := [(0, .ref (ad 0)), (1, .int (o)), (2, .int (g)), (3, .int (s)), (4, .int (nI i)), (5, .int (nI 1))]) [1, 2, 3, 4, 5, 0] rfl ?_
                  exact L62 (_ + 1) 0 (st1 (zt σ) 43 0 (nI 1)) (Nat.zero_le _) (HQ.row) (fun j hj => by rw [show j = 0 by omega, st1_eq]; rfl) (rfl) (Nat.le_of_ble_eq_true rfl) (Nat.lt_succ_self _)
                · refine s_bipush E dX5_grown_49 (v := (-2)) (by decide) ?_
                  exact Rt ((-2)) (zt σ) dX5_grown_51 (⟨by rw [grF, if_pos hok, if_neg c46], HQ.rf _⟩) rfl (Nat.le_refl _) (Nat.le_refl _) rfl E.2.2.2.2.2.1
              · have c37 := Int32.not_le.mp c37
                refine s_iconst E dX5_grown_40 (v := (-1)) (by decide) ?_
                exact Rt ((-1)) (zt σ) dX5_grown_41 (⟨by rw [grF, if_neg (by simp [bI, grOk, c6, c12, c16, c21, c26, c32, c37])], HQ.rf _⟩) rfl (Nat.le_refl _) (Nat.le_refl _) rfl E.2.2.2.2.2.1
end
