set_option maxRecDepth 100000
section
variable {l : Launch} {D : va_G} {gt ad : Nat → Nat} {ct : Nat → ClassId}
set_option maxHeartbeats 1000000 in
set_option maxRecDepth 100000 in
theorem mz_nextOf {σ : Nat → Nat → Int32} (S j : Nat) (v : Int32) (hS : S < 64) (hv : v + nI 1 = nI j) (hj : j ≤ 6) : Ct l D gt yX5_nextOf cX5_nextOf 4 .int 0 0 0 0 [.ref (ad 0), .int (nI S), .int (v)] (wm ad ct σ) (tysA ct) (fun r σ2 => nI (nxF S 7 j) = r ∧ σ = σ2) (fun σ2 => wm ad ct σ2) (fun _ => tysA ct) := by
  refine Ct.start RX5 (by decide) rfl (Nat.le_of_ble_eq_true rfl) rfl ?_
  intro pP eE sS mM aA bB hM cC QQ AA E Rt
  refine s_iload_n E dX5_nextOf_0 (i := 2) (j := 2) rfl rfl ?_
  refine s_iconst E dX5_nextOf_1 (v := nI 1) (by decide) ?_
  refine s_iadd_ E dX5_nextOf_2 (v := nI j) (hv) ?_
  refine s_istore_n E (L2 := [(3, .int (nI j)), (0, .ref (ad 0)), (1, .int (nI S)), (2, .int (v))]) dX5_nextOf_3 rfl (Nat.le_of_ble_eq_true rfl) rfl ?_
  have L4 : ∀ (fuel : Nat) (k : Nat) (f : Nat), (k ≤ 6) → (6 ≤ k + f) → (nxF S (f + 1) k = nxF S 7 j) → (6 - k) < fuel → Sm pP l eE { frames := 0, cells := 0, slots := 0, locals := 0 } sS mM aA bB hM cC QQ AA D 4 0 0 (wm ad ct σ) 4 [(0, .ref (ad 0)), (1, .int (nI S)), (3, .int (nI k))] [] := by
    intro fuel
    induction fuel with
    | zero =>
      intro k f hk hf he hf4
      exact absurd hf4 (Nat.not_lt_zero _)
    | succ fuel ih4 =>
      intro k f hk hf he hf4
      have hbt := bit_01 S k
      refine s_iload_n E dX5_nextOf_4 (i := 3) (j := 2) rfl rfl ?_
      refine s_bipush E dX5_nextOf_5 (v := nI 6) (by decide) ?_
      refine s_icmp_ge E dX5_nextOf_7 (tgt := 24) rfl (fun c7 => ?_) (fun c7 => ?_)
      · have c7 : ¬ k < 6 := fun h => absurd c7 (Int32.not_le.mpr ((nI_ltI (a := k) (b := 6) (by omega) (by omega)).mpr h))
        refine s_iload_n E dX5_nextOf_24 (i := 3) (j := 2) rfl rfl ?_
        exact Rt (nI k) (σ) dX5_nextOf_25 (⟨by rw [← he, nxF, if_neg (by rintro ⟨h1, h2⟩; exact c7 h1)], rfl⟩) rfl (Nat.le_refl _) (Nat.le_refl _) rfl E.2.2.2.2.2.1
      · have c7 : k < 6 := (nI_ltI (a := k) (b := 6) (by omega) (by omega)).mp (Int32.not_le.mp c7)
        refine s_iload_n E dX5_nextOf_10 (i := 1) (j := 1) rfl rfl ?_
        refine s_iload_n E dX5_nextOf_11 (i := 3) (j := 2) rfl rfl ?_
        refine s_ishr E dX5_nextOf_12 ?_
        refine s_iconst E dX5_nextOf_13 (v := nI 1) (by decide) ?_
        refine s_iand_ E dX5_nextOf_14 (v := nI (bit S k)) (bit_at _ (by omega) _ (by omega)) ?_
        refine s_if_ne E dX5_nextOf_15 (tgt := 24) rfl (fun c15 => ?_) (fun c15 => ?_)
        · have c15 : ¬ bit S k = 0 := fun h => c15 ((nI_eq (a := bit S k) (b := 0) (by omega) (by omega)).mpr h)
          refine s_iload_n E dX5_nextOf_24 (i := 3) (j := 2) rfl rfl ?_
          exact Rt (nI k) (σ) dX5_nextOf_25 (⟨by rw [← he, nxF, if_neg (by rintro ⟨h1, h2⟩; exact c15 h2)], rfl⟩) rfl (Nat.le_refl _) (Nat.le_refl _) rfl E.2.2.2.2.2.1
        · have c15 : bit S k = 0 := (nI_eq (a := bit S k) (b := 0) (by omega) (by omega)).mp c15
          refine s_iinc E (L2 := [(3, .int (nI (k + 1))), (0, .ref (ad 0)), (1, .int (nI S))]) dX5_nextOf_18 (k := 2) rfl (v := nI (k + 1)) (nI_inc _) (Nat.le_of_ble_eq_true rfl) rfl ?_
          refine s_goto E dX5_nextOf_21 (tgt := 4) rfl ?_
          refine s_loc (L2 := [(0, .ref (ad 0)), (1, .int (nI S)), (3, .int (nI (k + 1)))]) [1, 2, 0] rfl ?_
          exact ih4 (k + 1) (f - 1) (by omega) (by omega) (by rw [← he, nx_step ⟨c7, c15⟩, Nat.sub_add_cancel (show 1 ≤ f by omega)]) (by omega)
  refine s_loc (L2 := [(0, .ref (ad 0)), (1, .int (nI S)), (3, .int (nI j))]) [1, 2, 0] rfl ?_
  exact L4 (_ + 1) j 6 (hj) (by omega) (rfl) (Nat.lt_succ_self _)
set_option maxHeartbeats 1000000 in
set_option maxRecDepth 100000 in
theorem mz_aheadOf {σ : Nat → Nat → Int32} (S u : Nat) (hS : S < 64) (hu : u ≤ 7) : Ct l D gt yX5_aheadOf cX5_aheadOf 4 .int 0 0 0 0 [.ref (ad 0), .int (nI S), .int (nI u)] (wm ad ct σ) (tysA ct) (fun r σ2 => m1I (avF S u) = r ∧ σ = σ2) (fun σ2 => wm ad ct σ2) (fun _ => tysA ct) := by
  refine Ct.start RX5 (by decide) rfl (Nat.le_of_ble_eq_true rfl) rfl ?_
  intro pP eE sS mM aA bB hM cC QQ AA E Rt
  refine s_iload_n E dX5_aheadOf_0 (i := 2) (j := 2) rfl rfl ?_
  refine s_iconst E dX5_aheadOf_1 (v := nI 1) (by decide) ?_
  refine s_isub_ E dX5_aheadOf_2 (v := m1I u) (by unfold m1I; split; (rename_i h; rw [h]; decide); exact nI_dec (by omega)) ?_
  refine s_istore_n E (L2 := [(3, .int (m1I u)), (0, .ref (ad 0)), (1, .int (nI S)), (2, .int (nI u))]) dX5_aheadOf_3 rfl (Nat.le_of_ble_eq_true rfl) rfl ?_
  have L4 : ∀ (fuel : Nat) (k : Nat), (k ≤ u) → (avF S k = avF S u) → k < fuel → Sm pP l eE { frames := 0, cells := 0, slots := 0, locals := 0 } sS mM aA bB hM cC QQ AA D 4 0 0 (wm ad ct σ) 4 [(0, .ref (ad 0)), (1, .int (nI S)), (3, .int (m1I k))] [] := by
    intro fuel
    induction fuel with
    | zero =>
      intro k hk he hf4
      exact absurd hf4 (Nat.not_lt_zero _)
    | succ fuel ih4 =>
      intro k hk he hf4
      have hbt := bit_01 S (k - 1)
      refine s_iload_n E dX5_aheadOf_4 (i := 3) (j := 2) rfl rfl ?_
      refine s_if_lt E dX5_aheadOf_5 (tgt := 22) rfl (fun c5 => ?_) (fun c5 => ?_)
      · have hz := m1I_n (by omega) c5
        refine s_iload_n E dX5_aheadOf_22 (i := 3) (j := 2) rfl rfl ?_
        exact Rt (m1I k) (σ) dX5_aheadOf_23 (⟨by rw [← he, hz]; rfl, rfl⟩) rfl (Nat.le_refl _) (Nat.le_refl _) rfl E.2.2.2.2.2.1
      · have hz := m1I_p c5
        refine s_iload_n E dX5_aheadOf_8 (i := 1) (j := 1) rfl rfl ?_
        refine s_iload_n E dX5_aheadOf_9 (i := 3) (j := 2) rfl rfl ?_
        refine s_ishr_ E dX5_aheadOf_10 (v := (nI S) >>> (nI (k - 1) &&& 31)) (by rw [hz.2]) ?_
        refine s_iconst E dX5_aheadOf_11 (v := nI 1) (by decide) ?_
        refine s_iand_ E dX5_aheadOf_12 (v := nI (bit S (k - 1))) (bit_at _ (by omega) _ (by omega)) ?_
        refine s_if_ne E dX5_aheadOf_13 (tgt := 22) rfl (fun c13 => ?_) (fun c13 => ?_)
        · have c13 : ¬ bit S (k - 1) = 0 := fun h => c13 ((nI_eq (a := bit S (k - 1)) (b := 0) (by omega) (by omega)).mpr h)
          refine s_iload_n E dX5_aheadOf_22 (i := 3) (j := 2) rfl rfl ?_
          exact Rt (m1I k) (σ) dX5_aheadOf_23 (⟨by rw [← he, av_stop hz.1 c13], rfl⟩) rfl (Nat.le_refl _) (Nat.le_refl _) rfl E.2.2.2.2.2.1
        · have c13 : bit S (k - 1) = 0 := (nI_eq (a := bit S (k - 1)) (b := 0) (by omega) (by omega)).mp c13
          refine s_iinc E (L2 := [(3, .int (m1I (k - 1))), (0, .ref (ad 0)), (1, .int (nI S))]) dX5_aheadOf_16 (k := 2) rfl (v := m1I (k - 1)) (m1I_d2 hz.1) (Nat.le_of_ble_eq_true rfl) rfl ?_
          refine s_goto E dX5_aheadOf_19 (tgt := 4) rfl ?_
          refine s_loc (L2 := [(0, .ref (ad 0)), (1, .int (nI S)), (3, .int (m1I (k - 1)))]) [1, 2, 0] rfl ?_
          exact ih4 (k - 1) (by omega) (by rw [← he, av_step hz.1 c13]) (by have := hz.1; omega)
  refine s_loc (L2 := [(0, .ref (ad 0)), (1, .int (nI S)), (3, .int (m1I u))]) [1, 2, 0] rfl ?_
  exact L4 (_ + 1) u (Nat.le_refl _) (rfl) (Nat.lt_succ_self _)
set_option maxHeartbeats 1000000 in
set_option maxRecDepth 100000 in
theorem mz_clears {σ : Nat → Nat → Int32} (n S : Nat) (hn : σ 3 7 = nI n) (hn6 : n ≤ 6) (hS : S < 64) : Cv l D gt yX5_clears cX5_clears 3 1 20 0 0 [.ref (ad 0), .int (nI S)] (wm ad ct σ) (tysA ct) (fun σ2 => zF σ S n = σ2) (fun σ2 => wm ad ct σ2) (fun _ => tysA ct) := by
  refine Cv.start RX5 (by decide) rfl (Nat.le_of_ble_eq_true rfl) rfl ?_
  intro pP eE sS mM aA bB hM cC QQ AA E Rt
  refine s_iconst E dX5_clears_0 (v := nI 0) (by decide) ?_
  refine s_istore_n E (L2 := [(2, .int (nI 0)), (0, .ref (ad 0)), (1, .int (nI S))]) dX5_clears_1 rfl (Nat.le_of_ble_eq_true rfl) rfl ?_
  have L2 : ∀ (fuel : Nat) (k : Nat), (k ≤ n) → (n - k) < fuel → Sm pP l eE { frames := 1, cells := 0, slots := 0, locals := 20 } sS mM aA bB hM cC QQ AA D 3 0 0 (wm ad ct (zF σ S k)) 2 [(0, .ref (ad 0)), (1, .int (nI S)), (2, .int (nI k))] [] := by
    intro fuel
    induction fuel with
    | zero =>
      intro k hk hf2
      exact absurd hf2 (Nat.not_lt_zero _)
    | succ fuel ih2 =>
      intro k hk hf2
      have hbt := bit_01 S k
      refine s_iload_n E dX5_clears_2 (i := 2) (j := 2) rfl rfl ?_
      refine s_aload_n E dX5_clears_3 (i := 0) (j := 0) rfl rfl ?_
      refine m_calli E (mz_users n (by rw [(zF_pl σ S n k hk).1 3 (by decide)]; exact hn)) K5_232 (Nat.le_of_ble_eq_true rfl) (Nat.le_of_ble_eq_true rfl) (Nat.zero_le _) (Nat.zero_le _) rfl rfl (Nat.le_of_ble_eq_true rfl) dX5_clears_4 (fun r4 w4 h4 => ?_)
      obtain ⟨rfl, rfl⟩ := h4
      refine s_icmp_ge E dX5_clears_7 (tgt := 34) rfl (fun c7 => ?_) (fun c7 => ?_)
      · have c7 : ¬ k < n := fun h => absurd c7 (Int32.not_le.mpr ((nI_ltI (a := k) (b := n) (by omega) (by omega)).mpr h))
        exact Rt (zF σ S k) dX5_clears_34 (by rw [show n = k by omega]) rfl (Nat.le_refl _) (Nat.le_refl _) E.2.2.2.2.2.1
      · have c7 : k < n := (nI_ltI (a := k) (b := n) (by omega) (by omega)).mp (Int32.not_le.mp c7)
        refine s_iload_n E dX5_clears_10 (i := 1) (j := 1) rfl rfl ?_
        refine s_iload_n E dX5_clears_11 (i := 2) (j := 2) rfl rfl ?_
        refine s_ishr E dX5_clears_12 ?_
        refine s_iconst E dX5_clears_13 (v := nI 1) (by decide) ?_
        refine s_iand_ E dX5_clears_14 (v := nI (bit S k)) (bit_at _ (by omega) _ (by omega)) ?_
        refine s_iconst E dX5_clears_15 (v := nI 1) (by decide) ?_
        refine s_icmp_ne E dX5_clears_16 (tgt := 28) rfl (fun c16 => ?_) (fun c16 => ?_)
        · have c16 : ¬ bit S k = 1 := fun h => c16 ((nI_eq (a := bit S k) (b := 1) (by omega) (by omega)).mpr h)
          refine s_iinc E (L2 := [(2, .int (nI (k + 1))), (0, .ref (ad 0)), (1, .int (nI S))]) dX5_clears_28 (k := 2) rfl (v := nI (k + 1)) (nI_inc _) (Nat.le_of_ble_eq_true rfl) rfl ?_
          refine s_goto E dX5_clears_31 (tgt := 2) rfl ?_
          refine s_ws (ws2 := wm ad ct (zF σ S (k + 1))) (congrArg (wm ad ct) (by rw [zF, if_neg c16])) ?_
          refine s_loc (L2 := [(0, .ref (ad 0)), (1, .int (nI S)), (2, .int (nI (k + 1)))]) [1, 2, 0] rfl ?_
          exact ih2 (k + 1) (by omega) (by omega)
        · have c16 : bit S k = 1 := (nI_eq (a := bit S k) (b := 1) (by omega) (by omega)).mp c16
          refine s_aload_n E dX5_clears_19 (i := 0) (j := 0) rfl rfl ?_
          refine mg25 E dX5_clears_20 ?_
          refine s_iconst E dX5_clears_23 (v := nI 0) (by decide) ?_
          refine s_iload_n E dX5_clears_24 (i := 2) (j := 2) rfl rfl ?_
          refine s_iadd_ E dX5_clears_25 (v := nI k) (nI_z _) ?_
          refine s_iconst E dX5_clears_26 (v := nI 0) (by decide) ?_
          refine ms25 E (k) (rfl) (by omega) dX5_clears_27 ?_
          refine s_iinc E (L2 := [(2, .int (nI (k + 1))), (0, .ref (ad 0)), (1, .int (nI S))]) dX5_clears_28 (k := 2) rfl (v := nI (k + 1)) (nI_inc _) (Nat.le_of_ble_eq_true rfl) rfl ?_
          refine s_goto E dX5_clears_31 (tgt := 2) rfl ?_
          refine s_ws (ws2 := wm ad ct (zF σ S (k + 1))) (congrArg (wm ad ct) (by rw [zF, if_pos c16])) ?_
          refine s_loc (L2 := [(0, .ref (ad 0)), (1, .int (nI S)), (2, .int (nI (k + 1)))]) [1, 2, 0] rfl ?_
          exact ih2 (k + 1) (by omega) (by omega)
  refine s_loc (L2 := [(0, .ref (ad 0)), (1, .int (nI S)), (2, .int (nI 0))]) [1, 2, 0] rfl ?_
  exact L2 (_ + 1) 0 (Nat.zero_le _) (Nat.lt_succ_self _)
set_option maxHeartbeats 1000000 in
set_option maxRecDepth 100000 in
theorem mz_withoutChannels {σ : Nat → Nat → Int32} (n : Nat) (hn : σ 3 7 = nI n) (hn6 : n ≤ 6) : Ct l D gt yX5_withoutChannels cX5_withoutChannels 3 .int 1 20 0 0 [.ref (ad 0)] (wm ad ct σ) (tysA ct) (fun r σ2 => nI (setN (freeF σ) n) = r ∧ σ = σ2) (fun σ2 => wm ad ct σ2) (fun _ => tysA ct) := by
  refine Ct.start RX5 (by decide) rfl (Nat.le_of_ble_eq_true rfl) rfl ?_
  intro pP eE sS mM aA bB hM cC QQ AA E Rt
  refine s_iconst E dX5_withoutChannels_0 (v := nI 0) (by decide) ?_
  refine s_istore_n E (L2 := [(1, .int (nI 0)), (0, .ref (ad 0))]) dX5_withoutChannels_1 rfl (Nat.le_of_ble_eq_true rfl) rfl ?_
  refine s_iconst E dX5_withoutChannels_2 (v := nI 0) (by decide) ?_
  refine s_istore_n E (L2 := [(2, .int (nI 0)), (1, .int (nI 0)), (0, .ref (ad 0))]) dX5_withoutChannels_3 rfl (Nat.le_of_ble_eq_true rfl) rfl ?_
  have L4 : ∀ (fuel : Nat) (i : Nat), (i ≤ n) → (n - i) < fuel → Sm pP l eE { frames := 1, cells := 0, slots := 0, locals := 20 } sS mM aA bB hM cC QQ AA D 3 0 0 (wm ad ct σ) 4 [(0, .ref (ad 0)), (1, .int (nI (setN (freeF σ) i))), (2, .int (nI i))] [] := by
    intro fuel
    induction fuel with
    | zero =>
      intro i hi hf4
      exact absurd hf4 (Nat.not_lt_zero _)
    | succ fuel ih4 =>
      intro i hi hf4
      refine s_iload_n E dX5_withoutChannels_4 (i := 2) (j := 2) rfl rfl ?_
      refine s_aload_n E dX5_withoutChannels_5 (i := 0) (j := 0) rfl rfl ?_
      refine m_calli E (mz_users n (hn)) K5_232 (Nat.le_of_ble_eq_true rfl) (Nat.le_of_ble_eq_true rfl) (Nat.zero_le _) (Nat.zero_le _) rfl rfl (Nat.le_of_ble_eq_true rfl) dX5_withoutChannels_6 (fun r6 w6 h6 => ?_)
      obtain ⟨rfl, rfl⟩ := h6
      refine s_icmp_ge E dX5_withoutChannels_9 (tgt := 35) rfl (fun c9 => ?_) (fun c9 => ?_)
      · have c9 : ¬ i < n := fun h => absurd c9 (Int32.not_le.mpr ((nI_ltI (a := i) (b := n) (by omega) (by omega)).mpr h))
        refine s_iload_n E dX5_withoutChannels_35 (i := 1) (j := 1) rfl rfl ?_
        exact Rt (nI (setN (freeF σ) i)) (σ) dX5_withoutChannels_36 (by obtain rfl : i = n := (by omega); exact ⟨rfl, rfl⟩) rfl (Nat.le_refl _) (Nat.le_refl _) rfl E.2.2.2.2.2.1
      · have c9 : i < n := (nI_ltI (a := i) (b := n) (by omega) (by omega)).mp (Int32.not_le.mp c9)
        refine s_aload_n E dX5_withoutChannels_12 (i := 0) (j := 0) rfl rfl ?_
        refine mg25 E dX5_withoutChannels_13 ?_
        refine s_iconst E dX5_withoutChannels_16 (v := nI 0) (by decide) ?_
        refine s_iload_n E dX5_withoutChannels_17 (i := 2) (j := 2) rfl rfl ?_
        refine s_iadd_ E dX5_withoutChannels_18 (v := nI i) (nI_z _) ?_
        refine ml25 E (v := σ 25 i) (i) (rfl) (by omega) (rfl) dX5_withoutChannels_19 ?_
        refine s_if_ne E dX5_withoutChannels_20 (tgt := 29) rfl (fun c20 => ?_) (fun c20 => ?_)
        · refine s_iinc E (L2 := [(2, .int (nI (i + 1))), (0, .ref (ad 0)), (1, .int (nI (setN (freeF σ) i)))]) dX5_withoutChannels_29 (k := 2) rfl (v := nI (i + 1)) (nI_inc _) (Nat.le_of_ble_eq_true rfl) rfl ?_
          refine s_goto E dX5_withoutChannels_32 (tgt := 4) rfl ?_
          refine s_loc (L2 := [(0, .ref (ad 0)), (1, .int (nI (setN (freeF σ) i))), (2, .int (nI (i + 1)))]) [1, 2, 0] rfl ?_
          refine s_L (L2 := [(0, .ref (ad 0)), (1, .int (nI (setN (freeF σ) (i + 1)))), (2, .int (nI (i + 1)))]) (by rw [setN_f (by simp [bI, freeF, c9, c20])]) ?_
          exact ih4 (i + 1) (by omega) (by omega)
        · refine s_iload_n E dX5_withoutChannels_23 (i := 1) (j := 1) rfl rfl ?_
          refine s_iconst E dX5_withoutChannels_24 (v := nI 1) (by decide) ?_
          refine s_iload_n E dX5_withoutChannels_25 (i := 2) (j := 2) rfl rfl ?_
          refine s_ishl E dX5_withoutChannels_26 ?_
          refine s_ior_ E dX5_withoutChannels_27 (v := nI (setN (freeF σ) (i + 1))) (setN_t (by omega) (by simp [bI, freeF, c9, c20])) ?_
          refine s_istore_n E (L2 := [(1, .int (nI (setN (freeF σ) (i + 1)))), (0, .ref (ad 0)), (2, .int (nI i))]) dX5_withoutChannels_28 rfl (Nat.le_of_ble_eq_true rfl) rfl ?_
          refine s_iinc E (L2 := [(2, .int (nI (i + 1))), (1, .int (nI (setN (freeF σ) (i + 1)))), (0, .ref (ad 0))]) dX5_withoutChannels_29 (k := 2) rfl (v := nI (i + 1)) (nI_inc _) (Nat.le_of_ble_eq_true rfl) rfl ?_
          refine s_goto E dX5_withoutChannels_32 (tgt := 4) rfl ?_
          refine s_loc (L2 := [(0, .ref (ad 0)), (1, .int (nI (setN (freeF σ) (i + 1)))), (2, .int (nI (i + 1)))]) [2, 1, 0] rfl ?_
          exact ih4 (i + 1) (by omega) (by omega)
  refine s_loc (L2 := [(0, .ref (ad 0)), (1, .int (nI 0)), (2, .int (nI 0))]) [2, 1, 0] rfl ?_
  exact L4 (_ + 1) 0 (Nat.zero_le _) (Nat.lt_succ_self _)
set_option maxHeartbeats 1000000 in
set_option maxRecDepth 100000 in
theorem mz_nextFit {σ : Nat → Nat → Int32} (n u k : Nat) (hC : CM σ n) (hl : LH σ n) (hu : u < n) (hk : σ 0 42 = nI k) (hk6 : k ≤ 600) : Ct l D gt yX5_nextFit cX5_nextFit 4 .int 5 117 0 0 [.ref (ad 0), .int (nI u)] (wm ad ct σ) (tysA ct) (fun r σ2 => nfV (nfR σ n u k) = r ∧ ∃ v, In v 61 ∧ HR (st1 (st1 σ 25 u v) 0 42 (nI (nfR σ n u k).2.2)) σ2) (fun σ2 => wm ad ct σ2) (fun _ => tysA ct) := by
  refine Ct.start RX5 (by decide) rfl (Nat.le_of_ble_eq_true rfl) rfl ?_
  intro pP eE sS mM aA bB hM cC QQ AA E Rt
  have hn6 := hC.2.1
  have hh := hl.high hu
  have hlo := hl.1 u hu
  have hch := hC.2.2.2 u hu
  have hb1 := hh.2
  have hb2 := hlo.1.2
  have hb3 := hch.2
  have hfr : fromF σ u ≤ 61 := by unfold fromF; split <;> omega
  refine s_aload_n E dX5_nextFit_0 (i := 0) (j := 0) rfl rfl ?_
  refine mg25 E dX5_nextFit_1 ?_
  refine s_iconst E dX5_nextFit_4 (v := nI 0) (by decide) ?_
  refine s_iload_n E dX5_nextFit_5 (i := 1) (j := 1) rfl rfl ?_
  refine s_iadd_ E dX5_nextFit_6 (v := nI u) (nI_z _) ?_
  refine ml25 E (v := σ 25 u) (u) (rfl) (by omega) (rfl) dX5_nextFit_7 ?_
  have J30 : Sm pP l eE { frames := 5, cells := 0, slots := 0, locals := 117 } sS mM aA bB hM cC QQ AA D 4 0 0 (wm ad ct σ) 30 [(0, .ref (ad 0)), (1, .int (nI u))] [.int (nI (fromF σ u))] := by
    refine s_istore_n E (L2 := [(2, .int (nI (fromF σ u))), (0, .ref (ad 0)), (1, .int (nI u))]) dX5_nextFit_30 rfl (Nat.le_of_ble_eq_true rfl) rfl ?_
    refine s_iload_n E dX5_nextFit_31 (i := 2) (j := 0) rfl rfl ?_
    refine s_istore_n E (L2 := [(3, .int (nI (fromF σ u))), (2, .int (nI (fromF σ u))), (0, .ref (ad 0)), (1, .int (nI u))]) dX5_nextFit_32 rfl (Nat.le_of_ble_eq_true rfl) rfl ?_
    have L33 : ∀ (fuel : Nat) (d : Nat) (q : Nat) (v : Int32) (w2 : Nat → Nat → Int32), (HR (st1 (st1 σ 25 u v) 0 42 (nI q)) w2) → (In v 61) → (q ≤ 600) → (d ≤ 61) → (nfF σ n u (tN (highF σ u) + 1 - d) d q = nfR σ n u k) → (61 - d) < fuel → Sm pP l eE { frames := 5, cells := 0, slots := 0, locals := 117 } sS mM aA bB hM cC QQ AA D 4 0 0 (wm ad ct w2) 33 [(0, .ref (ad 0)), (1, .int (nI u)), (3, .int (nI d))] [] := by
      intro fuel
      induction fuel with
      | zero =>
        intro d q v w2 hw hv hq hd hR hf33
        exact absurd hf33 (Nat.not_lt_zero _)
      | succ fuel ih33 =>
        intro d q v w2 hw hv hq hd hR hf33
        refine s_iload_n E dX5_nextFit_33 (i := 3) (j := 2) rfl rfl ?_
        refine s_aload_n E dX5_nextFit_34 (i := 0) (j := 0) rfl rfl ?_
        refine s_iload_n E dX5_nextFit_35 (i := 1) (j := 1) rfl rfl ?_
        refine m_calli E (mz_highOf u (by omega)) K5_320 (Nat.le_of_ble_eq_true rfl) (Nat.le_of_ble_eq_true rfl) (Nat.zero_le _) (Nat.zero_le _) rfl rfl (Nat.le_of_ble_eq_true rfl) dX5_nextFit_36 (fun r36 w36 h36 => ?_)
        obtain ⟨rfl, rfl⟩ := h36
        refine s_top (v2 := nI (tN (highF σ u))) (by rw [highF_pl (s0 := σ) hw.ce.2.2.2.2.2.1 hw.ce.2.2.2.2.2.2.1]; exact hh.1) ?_
        refine s_icmp_gt E dX5_nextFit_39 (tgt := 89) rfl (fun c39 => ?_) (fun c39 => ?_)
        · have c39 : tN (highF σ u) < d := (nI_ltI (a := tN (highF σ u)) (b := d) (by omega) (by omega)).mp c39
          refine s_iconst E dX5_nextFit_89 (v := nI 0) (by decide) ?_
          exact Rt (nI 0) (w2) dX5_nextFit_90 (⟨by rw [← hR, show tN (highF σ u) + 1 - d = 0 by omega]; rfl, v, hv, by rw [← hR, show tN (highF σ u) + 1 - d = 0 by omega]; exact hw⟩) rfl (Nat.le_refl _) (Nat.le_refl _) rfl E.2.2.2.2.2.1
        · have c39 : ¬ tN (highF σ u) < d := fun h => c39 ((nI_ltI (a := tN (highF σ u)) (b := d) (by omega) (by omega)).mpr h)
          have hfu : tN (highF σ u) + 1 - d = (tN (highF σ u) - d) + 1 := by omega
          refine s_aload_n E dX5_nextFit_42 (i := 0) (j := 0) rfl rfl ?_
          refine mg42 E (v := nI q) (by rw [hw.2 42 (by omega), st1_eq]) dX5_nextFit_43 ?_
          refine s_sipush E dX5_nextFit_46 (v := nI 600) (by decide) ?_
          refine s_icmp_ne E dX5_nextFit_49 (tgt := 55) rfl (fun c49 => ?_) (fun c49 => ?_)
          · have c49 : ¬ q = 600 := fun h => c49 ((nI_eq (a := q) (b := 600) (by omega) (by omega)).mpr h)
            refine s_aload_n E dX5_nextFit_55 (i := 0) (j := 0) rfl rfl ?_
            refine s_dup E dX5_nextFit_56 rfl ?_
            refine mg42 E (v := nI q) (by rw [hw.2 42 (by omega), st1_eq]) dX5_nextFit_57 ?_
            refine s_iconst E dX5_nextFit_60 (v := nI 1) (by decide) ?_
            refine s_iadd_ E dX5_nextFit_61 (v := nI (q + 1)) (nI_add _ _) ?_
            refine mp42 E dX5_nextFit_62 ?_
            refine s_aload_n E dX5_nextFit_65 (i := 0) (j := 0) rfl rfl ?_
            refine mg25 E dX5_nextFit_66 ?_
            refine s_iconst E dX5_nextFit_69 (v := nI 0) (by decide) ?_
            refine s_iload_n E dX5_nextFit_70 (i := 1) (j := 1) rfl rfl ?_
            refine s_iadd_ E dX5_nextFit_71 (v := nI u) (nI_z _) ?_
            refine s_iload_n E dX5_nextFit_72 (i := 3) (j := 2) rfl rfl ?_
            refine ms25 E (u) (rfl) (by omega) dX5_nextFit_73 ?_
            have hw3 : HR (st1 (st1 σ 25 u (nI d)) 0 42 (nI (q + 1))) (st1 (st1 w2 0 42 (nI (q + 1))) 25 u (nI d)) := by have h9 := HR.put (r := 25) (u := u) (v := nI d) (by omega) (by omega) (HR.putF (j := 42) (v := nI (q + 1)) hw); rwa [st1_2, st1_cm (by decide), st1_2] at h9
            have hce : CE (st1 σ 25 u (nI d)) (st1 (st1 w2 0 42 (nI (q + 1))) 25 u (nI d)) := CE.lk.tr hw3.ce
            refine s_aload_n E dX5_nextFit_74 (i := 0) (j := 0) rfl rfl ?_
            refine m_calli E (mz_isClean n ((CM.put hC (In.of (by omega) (by decide))).ce hce)) K5_332 (Nat.le_of_ble_eq_true rfl) (Nat.le_of_ble_eq_true rfl) (Nat.zero_le _) (Nat.zero_le _) rfl rfl (Nat.le_of_ble_eq_true rfl) dX5_nextFit_75 (fun r75 w75 h75 => ?_)
            obtain ⟨rfl, h75⟩ := h75
            have h75 := hw3.tr h75
            refine s_top (v2 := bI (cleanB (st1 σ 25 u (nI d)) n = true)) (by rw [cleanB_ce hce]) ?_
            refine s_if_eq E dX5_nextFit_78 (tgt := 83) rfl (fun c78 => ?_) (fun c78 => ?_)
            · have c78 := bI_0 c78
              refine s_iinc E (L2 := [(3, .int (nI (d + 1))), (0, .ref (ad 0)), (1, .int (nI u))]) dX5_nextFit_83 (k := 2) rfl (v := nI (d + 1)) (nI_inc _) (Nat.le_of_ble_eq_true rfl) rfl ?_
              refine s_goto E dX5_nextFit_86 (tgt := 33) rfl ?_
              refine s_loc (L2 := [(0, .ref (ad 0)), (1, .int (nI u)), (3, .int (nI (d + 1)))]) [1, 2, 0] rfl ?_
              exact ih33 (d + 1) (q + 1) (nI d) w75 (h75) (In.of (by omega) (by decide)) (by omega) (by omega) (by rw [← hR, hfu, nfF, if_neg c49, if_neg c78, show tN (highF σ u) + 1 - (d + 1) = tN (highF σ u) - d by omega]) (by omega)
            · have c78 := bI_n0 c78
              refine s_iload_n E dX5_nextFit_81 (i := 3) (j := 2) rfl rfl ?_
              exact Rt (nI d) (w75) dX5_nextFit_82 (⟨by rw [← hR, hfu, nfF, if_neg c49, if_pos c78]; rfl, nI d, In.of (by omega) (by decide), by rw [← hR, hfu, nfF, if_neg c49, if_pos c78]; exact h75⟩) rfl (Nat.le_refl _) (Nat.le_refl _) rfl E.2.2.2.2.2.1
          · have c49 : q = 600 := (nI_eq (a := q) (b := 600) (by omega) (by omega)).mp c49
            refine s_bipush E dX5_nextFit_52 (v := (-3)) (by decide) ?_
            exact Rt ((-3)) (w2) dX5_nextFit_54 (⟨by rw [← hR, hfu, nfF, if_pos c49]; rfl, v, hv, by rw [← hR, hfu, nfF, if_pos c49]; exact hw⟩) rfl (Nat.le_refl _) (Nat.le_refl _) rfl E.2.2.2.2.2.1
    refine s_loc (L2 := [(0, .ref (ad 0)), (1, .int (nI u)), (3, .int (nI (fromF σ u)))]) [2, 3, 0] rfl ?_
    exact L33 (_ + 1) (fromF σ u) k (σ 25 u) σ (by rw [st1_id, ← hk, st1_id]; exact HR.rf _) (hch) (hk6) (hfr) (rfl) (Nat.lt_succ_self _)
  refine s_if_ne E dX5_nextFit_8 (tgt := 20) rfl (fun c8 => ?_) (fun c8 => ?_)
  · refine s_aload_n E dX5_nextFit_20 (i := 0) (j := 0) rfl rfl ?_
    refine mg25 E dX5_nextFit_21 ?_
    refine s_iconst E dX5_nextFit_24 (v := nI 0) (by decide) ?_
    refine s_iload_n E dX5_nextFit_25 (i := 1) (j := 1) rfl rfl ?_
    refine s_iadd_ E dX5_nextFit_26 (v := nI u) (nI_z _) ?_
    refine ml25 E (v := σ 25 u) (u) (rfl) (by omega) (rfl) dX5_nextFit_27 ?_
    refine s_iconst E dX5_nextFit_28 (v := nI 1) (by decide) ?_
    refine s_iadd E dX5_nextFit_29 ?_
    refine s_top (v2 := nI (fromF σ u)) (by rw [fromF, if_neg c8, ← nI_add]; exact congrArg (fun z => z + nI 1) hch.1) ?_
    exact J30
  · refine s_aload_n E dX5_nextFit_11 (i := 0) (j := 0) rfl rfl ?_
    refine mg8 E dX5_nextFit_12 ?_
    refine s_iload_n E dX5_nextFit_15 (i := 1) (j := 1) rfl rfl ?_
    refine ml8 E (v := σ 8 u) (u) (rfl) (by omega) (rfl) dX5_nextFit_16 ?_
    refine s_goto E dX5_nextFit_17 (tgt := 30) rfl ?_
    refine s_top (v2 := nI (fromF σ u)) (by rw [fromF, if_pos c8]; exact hlo.1.1) ?_
    exact J30
end
