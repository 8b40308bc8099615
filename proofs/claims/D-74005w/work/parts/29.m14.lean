set_option maxRecDepth 100000
section
variable {l : Launch} {D : va_G} {gt ad : Nat → Nat} {ct : Nat → ClassId}
theorem mz_searchesL {σ : Nat → Nat → Int32} (s : Nat → Nat → Int32) (n S : Nat) (hce : CE s σ) (hC : CM s n) (hl : LH s n) (hS : Sub S n) : Ct l D gt yX5_searches cX5_searches 4 .int 6 140 0 0 [.ref (ad 0), .int (nI S)] (wm ad ct σ) (tysA ct) (fun r σ2 => srV s n S = r ∧ HS σ σ2 n S ∧ In25 σ2 n ∧ (¬ srV s n S < 0 → σ2 25 = foundP s n S)) (fun σ2 => wm ad ct σ2) (fun _ => tysA ct) := by
  intro sz
  refine met_mono (mz_searches n S (hC.ce hce) (hl.ce hce) hS sz) (fun a st o t h => ?_)
  obtain ⟨⟨r, u, h1, ⟨h2, s2, k2, h3, h4, h5, h6⟩, h7⟩, h8⟩ := h
  refine ⟨⟨r, u, h1, ⟨?_, HS.of h3 h4, ?_, ?_⟩, h7⟩, h8⟩
  · rw [← h2, srV_ce hce]
  · rw [show In25 u n = In25 s2 n by unfold In25; rw [h3.1 25 (by omega) (by omega), st1_ne (by decide)]]; exact h5
  · intro h9
    rw [← foundP_ce hce]
    exact HS.found h3 h4 h6 (by rw [srV_ce hce]; exact h9)
set_option maxHeartbeats 1000000 in
set_option maxRecDepth 100000 in
theorem mz_swapsIn {σ : Nat → Nat → Int32} (z : Nat → Nat → Int32) (K : Nat) (ha : AW z σ) (hz : TO z) (hK : z 0 28 = nI K) (hK2 : K ≤ 20) : Cv l D gt yX5_swapsIn cX5_swapsIn 3 2 43 0 0 [.ref (ad 0)] (wm ad ct σ) (tysA ct) (fun σ2 => HQ (doneF z K (σ 25)) σ2) (fun σ2 => wm ad ct σ2) (fun _ => tysA ct) := by
  refine Cv.start RX5 (by decide) rfl (Nat.le_of_ble_eq_true rfl) rfl ?_
  intro pP eE sS mM aA bB hM cC QQ AA E Rt
  refine s_iconst E dX5_swapsIn_0 (v := nI 0) (by decide) ?_
  refine s_istore_n E (L2 := [(1, .int (nI 0)), (0, .ref (ad 0))]) dX5_swapsIn_1 rfl (Nat.le_of_ble_eq_true rfl) rfl ?_
  have L2 : ∀ (fuel : Nat) (i : Nat), (i ≤ 79) → (79 - i) < fuel → Sm pP l eE { frames := 2, cells := 0, slots := 0, locals := 43 } sS mM aA bB hM cC QQ AA D 3 0 0 (wm ad ct (swpF σ i)) 2 [(0, .ref (ad 0)), (1, .int (nI i))] [] := by
    intro fuel
    induction fuel with
    | zero =>
      intro i hi hf2
      exact absurd hf2 (Nat.not_lt_zero _)
    | succ fuel ih2 =>
      intro i hi hf2
      refine s_iload_n E dX5_swapsIn_2 (i := 1) (j := 1) rfl rfl ?_
      refine s_bipush E dX5_swapsIn_3 (v := nI 79) (by decide) ?_
      refine s_icmp_ge E dX5_swapsIn_5 (tgt := 40) rfl (fun c5 => ?_) (fun c5 => ?_)
      · have c5 : ¬ i < 79 := fun h => absurd c5 (Int32.not_le.mpr ((nI_ltI (a := i) (b := 79) (by omega) (by omega)).mpr h))
        refine s_aload_n E dX5_swapsIn_40 (i := 0) (j := 0) rfl rfl ?_
        refine m_callv E (mz_remembers K (by rw [← hK]; show swpF σ i 0 28 = _; rw [show swpF σ i 0 = σ 0 from rfl]; exact ha.2.2.2 28 (by omega) (by omega) (by omega)) (hK2)) K5_265 (Nat.le_of_ble_eq_true rfl) (Nat.le_of_ble_eq_true rfl) (Nat.zero_le _) (Nat.zero_le _) rfl rfl (Nat.le_of_ble_eq_true rfl) dX5_swapsIn_41 (fun w41 h41 => ?_)
        subst h41
        refine s_aload_n E dX5_swapsIn_44 (i := 0) (j := 0) rfl rfl ?_
        refine m_callv E (mz_comesBack ) K5_357 (Nat.le_of_ble_eq_true rfl) (Nat.le_of_ble_eq_true rfl) (Nat.zero_le _) (Nat.zero_le _) rfl rfl (Nat.le_of_ble_eq_true rfl) dX5_swapsIn_45 (fun w45 h45 => ?_)
        subst h45
        exact Rt (comeF (remF (swpF σ i) K)) dX5_swapsIn_48 (by rw [show i = 79 by omega]; exact done_of ha hz) rfl (Nat.le_refl _) (Nat.le_refl _) E.2.2.2.2.2.1
      · have c5 : i < 79 := (nI_ltI (a := i) (b := 79) (by omega) (by omega)).mp (Int32.not_le.mp c5)
        refine s_aload_n E dX5_swapsIn_8 (i := 0) (j := 0) rfl rfl ?_
        refine mg25 E dX5_swapsIn_9 ?_
        refine s_iload_n E dX5_swapsIn_12 (i := 1) (j := 1) rfl rfl ?_
        refine ml25 E (v := σ 25 i) (i) (rfl) (by omega) (by unfold swpF; rw [upR_ne (by decide), upR_eq, pk_cpy_out (by omega)]) dX5_swapsIn_13 ?_
        refine s_istore_n E (L2 := [(2, .int (σ 25 i)), (0, .ref (ad 0)), (1, .int (nI i))]) dX5_swapsIn_14 rfl (Nat.le_of_ble_eq_true rfl) rfl ?_
        refine s_aload_n E dX5_swapsIn_15 (i := 0) (j := 1) rfl rfl ?_
        refine mg25 E dX5_swapsIn_16 ?_
        refine s_iload_n E dX5_swapsIn_19 (i := 1) (j := 2) rfl rfl ?_
        refine s_aload_n E dX5_swapsIn_20 (i := 0) (j := 1) rfl rfl ?_
        refine mg27 E dX5_swapsIn_21 ?_
        refine s_iload_n E dX5_swapsIn_24 (i := 1) (j := 2) rfl rfl ?_
        refine ml27 E (v := σ 27 i) (i) (rfl) (by omega) (by unfold swpF; rw [upR_eq, pk_cpy_out (by omega)]) dX5_swapsIn_25 ?_
        refine ms25 E (i) (rfl) (by omega) dX5_swapsIn_26 ?_
        refine s_aload_n E dX5_swapsIn_27 (i := 0) (j := 1) rfl rfl ?_
        refine mg27 E dX5_swapsIn_28 ?_
        refine s_iload_n E dX5_swapsIn_31 (i := 1) (j := 2) rfl rfl ?_
        refine s_iload_n E dX5_swapsIn_32 (i := 2) (j := 0) rfl rfl ?_
        refine ms27 E (i) (rfl) (by omega) dX5_swapsIn_33 ?_
        refine s_ws (ws2 := wm ad ct (swpF σ (i + 1))) (congrArg (wm ad ct) (swp_s)) ?_
        refine s_iinc E (L2 := [(1, .int (nI (i + 1))), (2, .int (σ 25 i)), (0, .ref (ad 0))]) dX5_swapsIn_34 (k := 2) rfl (v := nI (i + 1)) (nI_inc _) (Nat.le_of_ble_eq_true rfl) rfl ?_
        refine s_goto E dX5_swapsIn_37 (tgt := 2) rfl ?_
        refine s_loc (L2 := [(0, .ref (ad 0)), (1, .int (nI (i + 1)))]) [2, 0] rfl ?_
        exact ih2 (i + 1) (by omega) (by omega)
  refine s_ws (ws2 := wm ad ct (swpF σ 0)) (congrArg (wm ad ct) swp_0.symm) ?_
  refine s_loc (L2 := [(0, .ref (ad 0)), (1, .int (nI 0))]) [1, 0] rfl ?_
  exact L2 (_ + 1) 0 (Nat.zero_le _) (Nat.lt_succ_self _)
set_option maxHeartbeats 1000000 in
set_option maxRecDepth 100000 in
theorem mz_complete {σ : Nat → Nat → Int32} (n K : Nat) (hC : CM σ n) (hl : LH σ n) (ht : TO σ) (hK : σ 0 28 = nI K) (hK2 : K ≤ 20) : Ct l D gt yX5_complete cX5_complete 2 .int 7 163 0 0 [.ref (ad 0)] (wm ad ct σ) (tysA ct) (fun r σ2 => srV (zt σ) n (FS (zt σ) n) = r ∧ (¬ 0 < r → HQ (zt σ) σ2) ∧ (0 < r → HQ (doneF (zt σ) K (foundP (zt σ) n (FS (zt σ) n))) σ2)) (fun σ2 => wm ad ct σ2) (fun _ => tysA ct) := by
  refine Ct.start RX5 (by decide) rfl (Nat.le_of_ble_eq_true rfl) rfl ?_
  intro pP eE sS mM aA bB hM cC QQ AA E Rt
  have hn := hC.1
  have hn6 := hC.2.1
  refine s_aload_n E dX5_complete_0 (i := 0) (j := 0) rfl rfl ?_
  refine s_iconst E dX5_complete_1 (v := nI 0) (by decide) ?_
  refine mp0 E dX5_complete_2 ?_
  refine s_ws (ws2 := wm ad ct (zt σ)) (congrArg (wm ad ct) (rfl)) ?_
  refine s_aload_n E dX5_complete_5 (i := 0) (j := 0) rfl rfl ?_
  refine m_callv E (mz_goesAside ) K5_348 (Nat.le_of_ble_eq_true rfl) (Nat.le_of_ble_eq_true rfl) (Nat.zero_le _) (Nat.zero_le _) rfl rfl (Nat.le_of_ble_eq_true rfl) dX5_complete_6 (fun w6 h6 => ?_)
  subst h6
  refine s_aload_n E dX5_complete_9 (i := 0) (j := 0) rfl rfl ?_
  refine s_aload_n E dX5_complete_10 (i := 0) (j := 0) rfl rfl ?_
  refine m_calli E (mz_withoutChannels n (hn) (hn6)) K5_351 (Nat.le_of_ble_eq_true rfl) (Nat.le_of_ble_eq_true rfl) (Nat.zero_le _) (Nat.zero_le _) rfl rfl (Nat.le_of_ble_eq_true rfl) dX5_complete_11 (fun r11 w11 h11 => ?_)
  obtain ⟨rfl, rfl⟩ := h11
  refine s_top (v2 := nI (FS (zt σ) n)) (rfl) ?_
  refine m_calli E (mz_searchesL (zt σ) n (FS (zt σ) n) (CE.as) (hC) (hl) (FS_sub _ hn6)) K5_354 (Nat.le_of_ble_eq_true rfl) (Nat.le_of_ble_eq_true rfl) (Nat.zero_le _) (Nat.zero_le _) rfl rfl (Nat.le_of_ble_eq_true rfl) dX5_complete_14 (fun r14 w14 h14 => ?_)
  obtain ⟨hr, h1, h2, h3⟩ := h14
  have ha := (AW.of (zt σ)).hs hn6 h1
  subst hr
  refine s_istore_n E (L2 := [(1, .int (srV (zt σ) n (FS (zt σ) n))), (0, .ref (ad 0))]) dX5_complete_17 rfl (Nat.le_of_ble_eq_true rfl) rfl ?_
  refine s_iload_n E dX5_complete_18 (i := 1) (j := 0) rfl rfl ?_
  refine s_if_gt E dX5_complete_19 (tgt := 28) rfl (fun c19 => ?_) (fun c19 => ?_)
  · refine s_aload_n E dX5_complete_28 (i := 0) (j := 1) rfl rfl ?_
    refine m_callv E (mz_swapsIn (zt σ) K (ha) (ht) (hK) (hK2)) K5_360 (Nat.le_of_ble_eq_true rfl) (Nat.le_of_ble_eq_true rfl) (Nat.zero_le _) (Nat.zero_le _) rfl rfl (Nat.le_of_ble_eq_true rfl) dX5_complete_29 (fun w29 h29 => ?_)
    rw [h3 (Int32.not_lt.mpr (Int32.le_of_lt c19))] at h29
    refine s_iload_n E dX5_complete_32 (i := 1) (j := 0) rfl rfl ?_
    exact Rt (srV (zt σ) n (FS (zt σ) n)) (w29) dX5_complete_33 (⟨rfl, fun h9 => absurd c19 h9, fun _ => h29⟩) rfl (Nat.le_refl _) (Nat.le_refl _) rfl E.2.2.2.2.2.1
  · refine s_aload_n E dX5_complete_22 (i := 0) (j := 1) rfl rfl ?_
    refine m_callv E (mz_comesBack ) K5_357 (Nat.le_of_ble_eq_true rfl) (Nat.le_of_ble_eq_true rfl) (Nat.zero_le _) (Nat.zero_le _) rfl rfl (Nat.le_of_ble_eq_true rfl) dX5_complete_23 (fun w23 h23 => ?_)
    have hq := ha.back ht
    subst h23
    refine s_iload_n E dX5_complete_26 (i := 1) (j := 0) rfl rfl ?_
    exact Rt (srV (zt σ) n (FS (zt σ) n)) (comeF w14) dX5_complete_27 (⟨rfl, fun _ => hq, fun h9 => absurd h9 c19⟩) rfl (Nat.le_refl _) (Nat.le_refl _) rfl E.2.2.2.2.2.1
set_option maxHeartbeats 1000000 in
set_option maxRecDepth 100000 in
theorem mz_mends {σ : Nat → Nat → Int32} (n : Nat) (hC : CM σ n) (hl : LH σ n) (ht : TO σ) : Ct l D gt yX5_mends cX5_mends 4 .int 7 163 0 0 [.ref (ad 0)] (wm ad ct σ) (tysA ct) (fun r σ2 => optI (mdN σ n) = r ∧ AW σ σ2 ∧ (mdN σ n ≠ 0 → σ2 25 = foundP σ n (mdN σ n - 1)) ∧ (mdN σ n = 0 → σ2 25 = σ 25) ∧ ∀ j, 30 ≤ j ∧ j ≤ 33 → σ2 0 j = σ 0 j) (fun σ2 => wm ad ct σ2) (fun _ => tysA ct) := by
  refine Ct.start RX5 (by decide) rfl (Nat.le_of_ble_eq_true rfl) rfl ?_
  intro pP eE sS mM aA bB hM cC QQ AA E Rt
  have hn := hC.1
  have hn6 := hC.2.1
  have hFS := FS_sub σ hn6
  have hF64 := hFS.s64
  have h2p := Nat.two_pow_pos n
  have h2n : 2 ^ n ≤ 64 := Nat.pow_le_pow_right (n := 2) (by decide) (show n ≤ 6 from hn6)
  refine s_aload_n E dX5_mends_0 (i := 0) (j := 0) rfl rfl ?_
  refine m_callv E (mz_goesAside ) K5_348 (Nat.le_of_ble_eq_true rfl) (Nat.le_of_ble_eq_true rfl) (Nat.zero_le _) (Nat.zero_le _) rfl rfl (Nat.le_of_ble_eq_true rfl) dX5_mends_1 (fun w1 h1 => ?_)
  subst h1
  refine s_iconst E dX5_mends_4 (v := nI 1) (by decide) ?_
  refine s_aload_n E dX5_mends_5 (i := 0) (j := 0) rfl rfl ?_
  refine m_calli E (mz_users n (hn)) K5_232 (Nat.le_of_ble_eq_true rfl) (Nat.le_of_ble_eq_true rfl) (Nat.zero_le _) (Nat.zero_le _) rfl rfl (Nat.le_of_ble_eq_true rfl) dX5_mends_6 (fun r6 w6 h6 => ?_)
  obtain ⟨rfl, rfl⟩ := h6
  refine s_ishl E dX5_mends_9 ?_
  refine s_iconst E dX5_mends_10 (v := nI 1) (by decide) ?_
  refine s_isub E dX5_mends_11 ?_
  refine s_aload_n E dX5_mends_12 (i := 0) (j := 0) rfl rfl ?_
  refine m_calli E (mz_withoutChannels n (hn) (hn6)) K5_351 (Nat.le_of_ble_eq_true rfl) (Nat.le_of_ble_eq_true rfl) (Nat.zero_le _) (Nat.zero_le _) rfl rfl (Nat.le_of_ble_eq_true rfl) dX5_mends_13 (fun r13 w13 h13 => ?_)
  obtain ⟨rfl, rfl⟩ := h13
  refine s_top (v2 := nI (FS σ n)) (rfl) ?_
  refine s_iconst E dX5_mends_16 (v := (-1)) (by decide) ?_
  refine s_ixor E dX5_mends_17 ?_
  refine s_iand_ E dX5_mends_18 (v := nI ((2 ^ n - 1 - FS σ n))) (have_int n (by omega) _ hFS.1) ?_
  refine s_istore_n E (L2 := [(1, .int (nI ((2 ^ n - 1 - FS σ n)))), (0, .ref (ad 0))]) dX5_mends_19 rfl (Nat.le_of_ble_eq_true rfl) rfl ?_
  refine s_iconst E dX5_mends_20 (v := nI 0) (by decide) ?_
  refine s_istore_n E (L2 := [(2, .int (nI 0)), (1, .int (nI ((2 ^ n - 1 - FS σ n)))), (0, .ref (ad 0))]) dX5_mends_21 rfl (Nat.le_of_ble_eq_true rfl) rfl ?_
  have L22 : ∀ (fuel : Nat) (m : Nat) (w2 : Nat → Nat → Int32), (m ≤ n + 1) → (AW σ w2) → (CE σ w2) → (mdF σ n (2 ^ n - 1 - FS σ n) m = 0) → (n + 1 - m) < fuel → Sm pP l eE { frames := 7, cells := 0, slots := 0, locals := 163 } sS mM aA bB hM cC QQ AA D 4 0 0 (wm ad ct w2) 22 [(0, .ref (ad 0)), (1, .int (nI ((2 ^ n - 1 - FS σ n)))), (2, .int (nI m))] [] := by
    intro fuel
    induction fuel with
    | zero =>
      intro m w2 hm ha hce hf hf22
      exact absurd hf22 (Nat.not_lt_zero _)
    | succ fuel ih22 =>
      intro m w2 hm ha hce hf hf22
      refine s_iload_n E dX5_mends_22 (i := 2) (j := 2) rfl rfl ?_
      refine s_aload_n E dX5_mends_23 (i := 0) (j := 0) rfl rfl ?_
      refine m_calli E (mz_users n (by rw [hce.2.2.1]; exact hn)) K5_232 (Nat.le_of_ble_eq_true rfl) (Nat.le_of_ble_eq_true rfl) (Nat.zero_le _) (Nat.zero_le _) rfl rfl (Nat.le_of_ble_eq_true rfl) dX5_mends_24 (fun r24 w24 h24 => ?_)
      obtain ⟨rfl, rfl⟩ := h24
      refine s_icmp_gt E dX5_mends_27 (tgt := 82) rfl (fun c27 => ?_) (fun c27 => ?_)
      · have c27 : n < m := (nI_ltI (a := n) (b := m) (by omega) (by omega)).mp c27
        refine s_bipush E dX5_mends_82 (v := (-2)) (by decide) ?_
        exact Rt ((-2)) (w2) dX5_mends_84 (⟨by unfold mdN; rw [show n + 1 = m by omega, hf]; rfl, ha, fun h9 => absurd (by unfold mdN; rw [show n + 1 = m by omega, hf]) h9, fun _ => hce.1, hce.f⟩) rfl (Nat.le_refl _) (Nat.le_refl _) rfl E.2.2.2.2.2.1
      · have c27 : ¬ n < m := fun h => c27 ((nI_ltI (a := n) (b := m) (by omega) (by omega)).mpr h)
        refine s_iconst E dX5_mends_30 (v := nI 0) (by decide) ?_
        refine s_istore_n E (L2 := [(3, .int (nI 0)), (0, .ref (ad 0)), (1, .int (nI ((2 ^ n - 1 - FS σ n)))), (2, .int (nI m))]) dX5_mends_31 rfl (Nat.le_of_ble_eq_true rfl) rfl ?_
        have L32 : ∀ (fuel : Nat) (S : Nat) (w3 : Nat → Nat → Int32), (S ≤ (2 ^ n - 1 - FS σ n) + 1) → (AW σ w3) → (CE σ w3) → (firstN (candB σ n (2 ^ n - 1 - FS σ n) m) S = 0) → ((2 ^ n - 1 - FS σ n) + 1 - S) < fuel → Sm pP l eE { frames := 7, cells := 0, slots := 0, locals := 163 } sS mM aA bB hM cC QQ AA D 4 0 0 (wm ad ct w3) 32 [(0, .ref (ad 0)), (1, .int (nI ((2 ^ n - 1 - FS σ n)))), (2, .int (nI m)), (3, .int (nI S))] [] := by
          intro fuel
          induction fuel with
          | zero =>
            intro S w3 hs ha3 hce3 hg hf32
            exact absurd hf32 (Nat.not_lt_zero _)
          | succ fuel ih32 =>
            intro S w3 hs ha3 hce3 hg hf32
            refine s_iload_n E dX5_mends_32 (i := 3) (j := 3) rfl rfl ?_
            refine s_iload_n E dX5_mends_33 (i := 1) (j := 1) rfl rfl ?_
            refine s_icmp_gt E dX5_mends_34 (tgt := 76) rfl (fun c34 => ?_) (fun c34 => ?_)
            · have c34 : (2 ^ n - 1 - FS σ n) < S := (nI_ltI (a := (2 ^ n - 1 - FS σ n)) (b := S) (by omega) (by omega)).mp c34
              refine s_iinc E (L2 := [(2, .int (nI (m + 1))), (0, .ref (ad 0)), (1, .int (nI ((2 ^ n - 1 - FS σ n)))), (3, .int (nI S))]) dX5_mends_76 (k := 2) rfl (v := nI (m + 1)) (nI_inc _) (Nat.le_of_ble_eq_true rfl) rfl ?_
              refine s_goto E dX5_mends_79 (tgt := 22) rfl ?_
              refine s_loc (L2 := [(0, .ref (ad 0)), (1, .int (nI ((2 ^ n - 1 - FS σ n)))), (2, .int (nI (m + 1)))]) [1, 2, 0] rfl ?_
              exact ih22 (m + 1) w3 (by omega) (ha3) (hce3) (by rw [mdF, if_pos hf, show (2 ^ n - 1 - FS σ n) + 1 = S by omega]; exact hg) (by omega)
            · have c34 : ¬ (2 ^ n - 1 - FS σ n) < S := fun h => c34 ((nI_ltI (a := (2 ^ n - 1 - FS σ n)) (b := S) (by omega) (by omega)).mpr h)
              refine s_iload_n E dX5_mends_37 (i := 3) (j := 3) rfl rfl ?_
              refine s_iload_n E dX5_mends_38 (i := 1) (j := 1) rfl rfl ?_
              refine s_iconst E dX5_mends_39 (v := (-1)) (by decide) ?_
              refine s_ixor E dX5_mends_40 ?_
              refine s_iand E dX5_mends_41 ?_
              refine s_if_ne E dX5_mends_42 (tgt := 70) rfl (fun c42 => ?_) (fun c42 => ?_)
              · have hsub : subB S (2 ^ n - 1 - FS σ n) = false := decide_eq_false c42
                refine s_iinc E (L2 := [(3, .int (nI (S + 1))), (0, .ref (ad 0)), (1, .int (nI ((2 ^ n - 1 - FS σ n)))), (2, .int (nI m))]) dX5_mends_70 (k := 3) rfl (v := nI (S + 1)) (nI_inc _) (Nat.le_of_ble_eq_true rfl) rfl ?_
                refine s_goto E dX5_mends_73 (tgt := 32) rfl ?_
                refine s_loc (L2 := [(0, .ref (ad 0)), (1, .int (nI ((2 ^ n - 1 - FS σ n)))), (2, .int (nI m)), (3, .int (nI (S + 1)))]) [1, 2, 3, 0] rfl ?_
                exact ih32 (S + 1) w3 (by omega) (ha3) (hce3) (firstN_next hg (by simp [bI, candB, c27, c34, c42, hsub])) (by omega)
              · have hsub : subB S (2 ^ n - 1 - FS σ n) = true := decide_eq_true c42
                refine s_iload_n E dX5_mends_45 (i := 3) (j := 3) rfl rfl ?_
                refine m_calls E (mz_bits S (by omega)) K5_311 (Nat.le_of_ble_eq_true rfl) (Nat.le_of_ble_eq_true rfl) (Nat.zero_le _) (Nat.zero_le _) rfl rfl (Nat.le_of_ble_eq_true rfl) dX5_mends_46 (fun r46 h46 => ?_)
                subst h46
                have hp46 := pop_le S
                refine s_iload_n E dX5_mends_49 (i := 2) (j := 2) rfl rfl ?_
                refine s_icmp_eq E dX5_mends_50 (tgt := 56) rfl (fun c50 => ?_) (fun c50 => ?_)
                · have c50 : pop S = m := (nI_eq (a := pop S) (b := m) (by omega) (by omega)).mp c50
                  refine s_aload_n E dX5_mends_56 (i := 0) (j := 0) rfl rfl ?_
                  refine s_iload_n E dX5_mends_57 (i := 3) (j := 3) rfl rfl ?_
                  refine m_calli E (mz_searchesL σ n S (hce3) (hC) (hl) (⟨by omega, hn6⟩)) K5_354 (Nat.le_of_ble_eq_true rfl) (Nat.le_of_ble_eq_true rfl) (Nat.zero_le _) (Nat.zero_le _) rfl rfl (Nat.le_of_ble_eq_true rfl) dX5_mends_58 (fun r58 w58 h58 => ?_)
                  obtain ⟨hr, h1, h2, h3⟩ := h58
                  have ha58 := ha3.hs hn6 h1
                  subst hr
                  refine s_if_lt E dX5_mends_61 (tgt := 66) rfl (fun c61 => ?_) (fun c61 => ?_)
                  · refine s_aload_n E dX5_mends_66 (i := 0) (j := 0) rfl rfl ?_
                    refine m_callv E (mz_comesBack ) K5_357 (Nat.le_of_ble_eq_true rfl) (Nat.le_of_ble_eq_true rfl) (Nat.zero_le _) (Nat.zero_le _) rfl rfl (Nat.le_of_ble_eq_true rfl) dX5_mends_67 (fun w67 h67 => ?_)
                    have hcm := ha58.come ht
                    subst h67
                    refine s_iinc E (L2 := [(3, .int (nI (S + 1))), (0, .ref (ad 0)), (1, .int (nI ((2 ^ n - 1 - FS σ n)))), (2, .int (nI m))]) dX5_mends_70 (k := 3) rfl (v := nI (S + 1)) (nI_inc _) (Nat.le_of_ble_eq_true rfl) rfl ?_
                    refine s_goto E dX5_mends_73 (tgt := 32) rfl ?_
                    refine s_loc (L2 := [(0, .ref (ad 0)), (1, .int (nI ((2 ^ n - 1 - FS σ n)))), (2, .int (nI m)), (3, .int (nI (S + 1)))]) [1, 2, 3, 0] rfl ?_
                    exact ih32 (S + 1) (comeF w58) (by omega) (hcm.1) (hcm.2.2) (firstN_next hg (by simp [bI, candB, c27, c34, c42, hsub, c50, c61])) (by omega)
                  · refine s_iload_n E dX5_mends_64 (i := 3) (j := 3) rfl rfl ?_
                    exact Rt (nI S) (w58) dX5_mends_65 (by have e := mdF_keep (s := σ) (n := n) (H := (2 ^ n - 1 - FS σ n)) (m := m) (k := n + 1) (by omega) hf (by rw [firstN_keep (p := S) (by omega) hg (by simp [bI, candB, c27, c34, c42, hsub, c50, c61])]; omega); rw [firstN_keep (p := S) (by omega) hg (by simp [bI, candB, c27, c34, c42, hsub, c50, c61])] at e; exact ⟨by unfold mdN; rw [e]; rfl, ha58, fun _ => by unfold mdN; rw [e]; exact h3 c61, fun h9 => by unfold mdN at h9; rw [e] at h9; omega, fun j hj => (h1.2.1 j (by omega) (by omega)).trans (hce3.f j hj)⟩) rfl (Nat.le_refl _) (Nat.le_refl _) rfl E.2.2.2.2.2.1
                · have c50 : ¬ pop S = m := fun h => c50 ((nI_eq (a := pop S) (b := m) (by omega) (by omega)).mpr h)
                  refine s_goto E dX5_mends_53 (tgt := 70) rfl ?_
                  refine s_iinc E (L2 := [(3, .int (nI (S + 1))), (0, .ref (ad 0)), (1, .int (nI ((2 ^ n - 1 - FS σ n)))), (2, .int (nI m))]) dX5_mends_70 (k := 3) rfl (v := nI (S + 1)) (nI_inc _) (Nat.le_of_ble_eq_true rfl) rfl ?_
                  refine s_goto E dX5_mends_73 (tgt := 32) rfl ?_
                  refine s_loc (L2 := [(0, .ref (ad 0)), (1, .int (nI ((2 ^ n - 1 - FS σ n)))), (2, .int (nI m)), (3, .int (nI (S + 1)))]) [1, 2, 3, 0] rfl ?_
                  exact ih32 (S + 1) w3 (by omega) (ha3) (hce3) (firstN_next hg (by simp [bI, candB, c27, c34, c42, hsub, c50])) (by omega)
        refine s_loc (L2 := [(0, .ref (ad 0)), (1, .int (nI ((2 ^ n - 1 - FS σ n)))), (2, .int (nI m)), (3, .int (nI 0))]) [1, 2, 3, 0] rfl ?_
        exact L32 (_ + 1) 0 w2 (Nat.zero_le _) (ha) (hce) (rfl) (Nat.lt_succ_self _)
  refine s_loc (L2 := [(0, .ref (ad 0)), (1, .int (nI ((2 ^ n - 1 - FS σ n)))), (2, .int (nI 0))]) [2, 1, 0] rfl ?_
  exact L22 (_ + 1) 0 (asideF σ) (Nat.zero_le _) (AW.of σ) (CE.as) (rfl) (Nat.lt_succ_self _)
set_option maxHeartbeats 1000000 in
set_option maxRecDepth 100000 in
theorem mz_mend {σ : Nat → Nat → Int32} (n K : Nat) (hC : CM σ n) (hl : LH σ n) (ht : TO σ) (hK : σ 0 28 = nI K) (hK2 : K ≤ 20) : Ct l D gt yX5_mend cX5_mend 2 .int 8 186 0 0 [.ref (ad 0)] (wm ad ct σ) (tysA ct) (fun r σ2 => optI (mdN (zt σ) n) = r ∧ (¬ 0 < r → HQ (zt σ) σ2) ∧ (0 < r → HQ (doneF (zt σ) K (foundP (zt σ) n (mdN (zt σ) n - 1))) σ2)) (fun σ2 => wm ad ct σ2) (fun _ => tysA ct) := by
  refine Ct.start RX5 (by decide) rfl (Nat.le_of_ble_eq_true rfl) rfl ?_
  intro pP eE sS mM aA bB hM cC QQ AA E Rt
  have hn := hC.1
  have hn6 := hC.2.1
  refine s_aload_n E dX5_mend_0 (i := 0) (j := 0) rfl rfl ?_
  refine s_iconst E dX5_mend_1 (v := nI 0) (by decide) ?_
  refine mp0 E dX5_mend_2 ?_
  refine s_ws (ws2 := wm ad ct (zt σ)) (congrArg (wm ad ct) (rfl)) ?_
  refine s_aload_n E dX5_mend_5 (i := 0) (j := 0) rfl rfl ?_
  refine m_calli E (mz_mends n (hC) (hl) (ht)) K5_363 (Nat.le_of_ble_eq_true rfl) (Nat.le_of_ble_eq_true rfl) (Nat.zero_le _) (Nat.zero_le _) rfl rfl (Nat.le_of_ble_eq_true rfl) dX5_mend_6 (fun r6 w6 h6 => ?_)
  obtain ⟨hr, ha, h1, h2, h3⟩ := h6
  subst hr
  refine s_istore_n E (L2 := [(1, .int (optI (mdN (zt σ) n))), (0, .ref (ad 0))]) dX5_mend_9 rfl (Nat.le_of_ble_eq_true rfl) rfl ?_
  refine s_iload_n E dX5_mend_10 (i := 1) (j := 0) rfl rfl ?_
  refine s_if_gt E dX5_mend_11 (tgt := 16) rfl (fun c11 => ?_) (fun c11 => ?_)
  · refine s_aload_n E dX5_mend_16 (i := 0) (j := 1) rfl rfl ?_
    refine m_callv E (mz_swapsIn (zt σ) K (ha) (ht) (hK) (hK2)) K5_360 (Nat.le_of_ble_eq_true rfl) (Nat.le_of_ble_eq_true rfl) (Nat.zero_le _) (Nat.zero_le _) rfl rfl (Nat.le_of_ble_eq_true rfl) dX5_mend_17 (fun w17 h17 => ?_)
    rw [h1 (by intro h9; rw [h9] at c11; exact absurd c11 (by decide))] at h17
    refine s_iload_n E dX5_mend_20 (i := 1) (j := 0) rfl rfl ?_
    exact Rt (optI (mdN (zt σ) n)) (w17) dX5_mend_21 (⟨rfl, fun h9 => absurd c11 h9, fun _ => h17⟩) rfl (Nat.le_refl _) (Nat.le_refl _) rfl E.2.2.2.2.2.1
  · refine s_iload_n E dX5_mend_14 (i := 1) (j := 0) rfl rfl ?_
    exact Rt (optI (mdN (zt σ) n)) (w6) dX5_mend_15 (⟨rfl, fun _ => ha.hq (md_row hn6 h1 h2 c11) h3, fun h9 => absurd h9 c11⟩) rfl (Nat.le_refl _) (Nat.le_refl _) rfl E.2.2.2.2.2.1
set_option maxHeartbeats 1000000 in
set_option maxRecDepth 100000 in
theorem mz_mended {σ : Nat → Nat → Int32} (n : Nat) (hC : CM σ n) (hl : LH σ n) (ht : TO σ) : Ct l D gt yX5_mended cX5_mended 2 .int 8 186 0 0 [.ref (ad 0)] (wm ad ct σ) (tysA ct) (fun r σ2 => optI (mdN (zt σ) n) = r ∧ HQ (zt σ) σ2) (fun σ2 => wm ad ct σ2) (fun _ => tysA ct) := by
  refine Ct.start RX5 (by decide) rfl (Nat.le_of_ble_eq_true rfl) rfl ?_
  intro pP eE sS mM aA bB hM cC QQ AA E Rt
  refine s_aload_n E dX5_mended_0 (i := 0) (j := 0) rfl rfl ?_
  refine s_iconst E dX5_mended_1 (v := nI 0) (by decide) ?_
  refine mp0 E dX5_mended_2 ?_
  refine s_ws (ws2 := wm ad ct (zt σ)) (congrArg (wm ad ct) (rfl)) ?_
  refine s_aload_n E dX5_mended_5 (i := 0) (j := 0) rfl rfl ?_
  refine m_calli E (mz_mends n (hC) (hl) (ht)) K5_363 (Nat.le_of_ble_eq_true rfl) (Nat.le_of_ble_eq_true rfl) (Nat.zero_le _) (Nat.zero_le _) rfl rfl (Nat.le_of_ble_eq_true rfl) dX5_mended_6 (fun r6 w6 h6 => ?_)
  obtain ⟨hr, ha, h1, h2, h3⟩ := h6
  subst hr
  refine s_istore_n E (L2 := [(1, .int (optI (mdN (zt σ) n))), (0, .ref (ad 0))]) dX5_mended_9 rfl (Nat.le_of_ble_eq_true rfl) rfl ?_
  refine s_aload_n E dX5_mended_10 (i := 0) (j := 1) rfl rfl ?_
  refine m_callv E (mz_comesBack ) K5_357 (Nat.le_of_ble_eq_true rfl) (Nat.le_of_ble_eq_true rfl) (Nat.zero_le _) (Nat.zero_le _) rfl rfl (Nat.le_of_ble_eq_true rfl) dX5_mended_11 (fun w11 h11 => ?_)
  have hq := ha.back ht
  subst h11
  refine s_iload_n E dX5_mended_14 (i := 1) (j := 0) rfl rfl ?_
  exact Rt (optI (mdN (zt σ) n)) (comeF w6) dX5_mended_15 (⟨rfl, hq⟩) rfl (Nat.le_refl _) (Nat.le_refl _) rfl E.2.2.2.2.2.1
set_option maxHeartbeats 1000000 in
set_option maxRecDepth 100000 in
theorem mz_planned {σ : Nat → Nat → Int32} (n : Nat) (u : Int32) (hC : CM σ n) (hl : LH σ n) (ht : TO σ) : Ct l D gt yX5_planned cX5_planned 4 .int 7 163 0 0 [.ref (ad 0), .int (u)] (wm ad ct σ) (tysA ct) (fun r σ2 => (if isU n u = false then -1 else if 0 < zt σ 25 (tN u) then -2 else if srV (zt σ) n (FS (zt σ) n) < 0 then srV (zt σ) n (FS (zt σ) n) else foundP (zt σ) n (FS (zt σ) n) (tN u)) = r ∧ HQ (zt σ) σ2) (fun σ2 => wm ad ct σ2) (fun _ => tysA ct) := by
  refine Ct.start RX5 (by decide) rfl (Nat.le_of_ble_eq_true rfl) rfl ?_
  intro pP eE sS mM aA bB hM cC QQ AA E Rt
  have hn := hC.1
  have hn6 := hC.2.1
  refine s_aload_n E dX5_planned_0 (i := 0) (j := 0) rfl rfl ?_
  refine s_iconst E dX5_planned_1 (v := nI 0) (by decide) ?_
  refine mp0 E dX5_planned_2 ?_
  refine s_ws (ws2 := wm ad ct (zt σ)) (congrArg (wm ad ct) (rfl)) ?_
  refine s_aload_n E dX5_planned_5 (i := 0) (j := 0) rfl rfl ?_
  refine s_iload_n E dX5_planned_6 (i := 1) (j := 1) rfl rfl ?_
  refine m_calli E (mz_isUser n u (hn)) K5_259 (Nat.le_of_ble_eq_true rfl) (Nat.le_of_ble_eq_true rfl) (Nat.zero_le _) (Nat.zero_le _) rfl rfl (Nat.le_of_ble_eq_true rfl) dX5_planned_7 (fun r7 w7 h7 => ?_)
  obtain ⟨rfl, rfl⟩ := h7
  refine s_if_ne E dX5_planned_10 (tgt := 15) rfl (fun c10 => ?_) (fun c10 => ?_)
  · have c10 := bI_n0 c10
    have hU := isU_t c10
    obtain ⟨j, hj, rfl⟩ := us_of c10 hn6
    refine s_aload_n E dX5_planned_15 (i := 0) (j := 0) rfl rfl ?_
    refine mg25 E dX5_planned_16 ?_
    refine s_iconst E dX5_planned_19 (v := nI 0) (by decide) ?_
    refine s_iload_n E dX5_planned_20 (i := 1) (j := 1) rfl rfl ?_
    refine s_iadd_ E dX5_planned_21 (v := nI j) (nI_z _) ?_
    refine ml25 E (v := zt σ 25 j) (j) (rfl) (by omega) (rfl) dX5_planned_22 ?_
    refine s_if_le E dX5_planned_23 (tgt := 29) rfl (fun c23 => ?_) (fun c23 => ?_)
    · have c23 := Int32.not_lt.mpr c23
      refine s_aload_n E dX5_planned_29 (i := 0) (j := 0) rfl rfl ?_
      refine m_callv E (mz_goesAside ) K5_348 (Nat.le_of_ble_eq_true rfl) (Nat.le_of_ble_eq_true rfl) (Nat.zero_le _) (Nat.zero_le _) rfl rfl (Nat.le_of_ble_eq_true rfl) dX5_planned_30 (fun w30 h30 => ?_)
      subst h30
      refine s_aload_n E dX5_planned_33 (i := 0) (j := 0) rfl rfl ?_
      refine s_aload_n E dX5_planned_34 (i := 0) (j := 0) rfl rfl ?_
      refine m_calli E (mz_withoutChannels n (hn) (hn6)) K5_351 (Nat.le_of_ble_eq_true rfl) (Nat.le_of_ble_eq_true rfl) (Nat.zero_le _) (Nat.zero_le _) rfl rfl (Nat.le_of_ble_eq_true rfl) dX5_planned_35 (fun r35 w35 h35 => ?_)
      obtain ⟨rfl, rfl⟩ := h35
      refine s_top (v2 := nI (FS (zt σ) n)) (rfl) ?_
      refine m_calli E (mz_searchesL (zt σ) n (FS (zt σ) n) (CE.as) (hC) (hl) (FS_sub _ hn6)) K5_354 (Nat.le_of_ble_eq_true rfl) (Nat.le_of_ble_eq_true rfl) (Nat.zero_le _) (Nat.zero_le _) rfl rfl (Nat.le_of_ble_eq_true rfl) dX5_planned_38 (fun r38 w38 h38 => ?_)
      obtain ⟨hr, h1, h2, h3⟩ := h38
      have ha := (AW.of (zt σ)).hs hn6 h1
      subst hr
      refine s_istore_n E (L2 := [(2, .int (srV (zt σ) n (FS (zt σ) n))), (0, .ref (ad 0)), (1, .int (nI j))]) dX5_planned_41 rfl (Nat.le_of_ble_eq_true rfl) rfl ?_
      refine s_aload_n E dX5_planned_42 (i := 0) (j := 1) rfl rfl ?_
      refine mg25 E dX5_planned_43 ?_
      refine s_iconst E dX5_planned_46 (v := nI 0) (by decide) ?_
      refine s_iload_n E dX5_planned_47 (i := 1) (j := 2) rfl rfl ?_
      refine s_iadd_ E dX5_planned_48 (v := nI j) (nI_z _) ?_
      refine ml25 E (v := w38 25 j) (j) (rfl) (by omega) (rfl) dX5_planned_49 ?_
      refine s_istore_n E (L2 := [(3, .int (w38 25 j)), (2, .int (srV (zt σ) n (FS (zt σ) n))), (0, .ref (ad 0)), (1, .int (nI j))]) dX5_planned_50 rfl (Nat.le_of_ble_eq_true rfl) rfl ?_
      refine s_aload_n E dX5_planned_51 (i := 0) (j := 2) rfl rfl ?_
      refine m_callv E (mz_comesBack ) K5_357 (Nat.le_of_ble_eq_true rfl) (Nat.le_of_ble_eq_true rfl) (Nat.zero_le _) (Nat.zero_le _) rfl rfl (Nat.le_of_ble_eq_true rfl) dX5_planned_52 (fun w52 h52 => ?_)
      have hq := ha.back ht
      subst h52
      refine s_iload_n E dX5_planned_55 (i := 2) (j := 1) rfl rfl ?_
      refine s_if_ge E dX5_planned_56 (tgt := 63) rfl (fun c56 => ?_) (fun c56 => ?_)
      · have c56 := Int32.not_lt.mpr c56
        refine s_iload_n E dX5_planned_63 (i := 3) (j := 0) rfl rfl ?_
        exact Rt (w38 25 j) (comeF w38) dX5_planned_64 (⟨by rw [if_neg (by simp [hU]), tN_nI (by omega), if_neg c23, if_neg c56, h3 c56], hq⟩) rfl (Nat.le_refl _) (Nat.le_refl _) rfl E.2.2.2.2.2.1
      · have c56 := Int32.not_le.mp c56
        refine s_iload_n E dX5_planned_59 (i := 2) (j := 1) rfl rfl ?_
        refine s_goto E dX5_planned_60 (tgt := 64) rfl ?_
        exact Rt (srV (zt σ) n (FS (zt σ) n)) (comeF w38) dX5_planned_64 (⟨by rw [if_neg (by simp [hU]), tN_nI (by omega), if_neg c23, if_pos c56], hq⟩) rfl (Nat.le_refl _) (Nat.le_refl _) rfl E.2.2.2.2.2.1
    · have c23 := Int32.not_le.mp c23
      refine s_bipush E dX5_planned_26 (v := (-2)) (by decide) ?_
      exact Rt ((-2)) (zt σ) dX5_planned_28 (⟨by rw [if_neg (by simp [hU]), tN_nI (by omega), if_pos c23], HQ.rf _⟩) rfl (Nat.le_refl _) (Nat.le_refl _) rfl E.2.2.2.2.2.1
  · have c10 := bI_0 c10
    have hU := isU_f c10
    refine s_iconst E dX5_planned_13 (v := (-1)) (by decide) ?_
    exact Rt ((-1)) (zt σ) dX5_planned_14 (⟨by rw [if_pos hU], HQ.rf _⟩) rfl (Nat.le_refl _) (Nat.le_refl _) rfl E.2.2.2.2.2.1
end
