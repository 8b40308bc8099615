set_option maxRecDepth 100000
section
variable {l : Launch} {D : va_G} {gt ad : Nat → Nat} {ct : Nat → ClassId}
theorem KM_137 : KV RX5 137 RJ0 yJ0_length cJ0_length 1 (some .int) 0 := ⟨q1411, q483, q484, q119, q485, by decide +kernel⟩
theorem KM_142 : KV RX5 142 RJ0 yJ0_charAt cJ0_charAt 2 (some .char) 1 := ⟨q1412, q566, q567, q119, q568, by decide +kernel⟩
set_option maxHeartbeats 1000000 in
set_option maxRecDepth 100000 in
theorem mz_here {σ : Nat → Nat → Int32} (n a : Nat) (hz : σ 0 16 = nI n) (ha : σ 0 17 = nI a) (hn7 : n ≤ 700) (ha7 : a ≤ 700) : Ct l D gt yX5_here cX5_here 1 .int 0 0 0 0 [.ref (ad 0)] (wm ad ct σ) (tysA ct) (fun r σ2 => see (σ 1) n a = r ∧ σ = σ2) (fun σ2 => wm ad ct σ2) (fun _ => tysA ct) := by
  refine Ct.start RX5 (by decide) rfl (Nat.le_of_ble_eq_true rfl) rfl ?_
  intro pP eE sS mM aA bB hM cC QQ AA E Rt
  refine s_aload_n E dX5_here_0 (i := 0) (j := 0) rfl rfl ?_
  refine mg17 E (v := nI a) (ha) dX5_here_1 ?_
  refine s_aload_n E dX5_here_4 (i := 0) (j := 0) rfl rfl ?_
  refine mg16 E (v := nI n) (hz) dX5_here_5 ?_
  refine s_icmp_ge E dX5_here_8 (tgt := 23) rfl (fun c8 => ?_) (fun c8 => ?_)
  · have c8 : ¬ a < n := fun h => absurd c8 (Int32.not_le.mpr ((nI_ltI (a := a) (b := n) (by omega) (by omega)).mpr h))
    refine s_iconst E dX5_here_23 (v := (-1)) (by decide) ?_
    exact Rt ((-1)) (σ) dX5_here_24 (⟨by simp [bI, see, c8], rfl⟩) rfl (Nat.le_refl _) (Nat.le_refl _) rfl E.2.2.2.2.2.1
  · have c8 : a < n := (nI_ltI (a := a) (b := n) (by omega) (by omega)).mp (Int32.not_le.mp c8)
    refine s_aload_n E dX5_here_11 (i := 0) (j := 0) rfl rfl ?_
    refine mg1 E dX5_here_12 ?_
    refine s_aload_n E dX5_here_15 (i := 0) (j := 0) rfl rfl ?_
    refine mg17 E (v := nI a) (ha) dX5_here_16 ?_
    refine ml1 E (v := σ 1 a) (a) (rfl) (by omega) (rfl) dX5_here_19 ?_
    refine s_goto E dX5_here_20 (tgt := 24) rfl ?_
    exact Rt (σ 1 a) (σ) dX5_here_24 (⟨by simp [bI, see, c8], rfl⟩) rfl (Nat.le_refl _) (Nat.le_refl _) rfl E.2.2.2.2.2.1
set_option maxHeartbeats 1000000 in
set_option maxRecDepth 100000 in
theorem mz_feed {σ : Nat → Nat → Int32} (n : Nat) (a b c d e : Int32) (ht : σ 0 2 = nI n) (hn7 : n ≤ 700) : Ct l D gt yX5_feed cX5_feed 8 .int 0 0 0 0 [.ref (ad 0), .int (a), .int (b), .int (c), .int (d), .int (e)] (wm ad ct σ) (tysA ct) (fun r σ2 => (if 680 < n then -1 else nI (n + 20)) = r ∧ (if 680 < n then zt σ else feedS (zt σ) n a b c d e) = σ2) (fun σ2 => wm ad ct σ2) (fun _ => tysA ct) := by
  refine Ct.start RX5 (by decide) rfl (Nat.le_of_ble_eq_true rfl) rfl ?_
  intro pP eE sS mM aA bB hM cC QQ AA E Rt
  refine s_aload_n E dX5_feed_0 (i := 0) (j := 0) rfl rfl ?_
  refine s_iconst E dX5_feed_1 (v := nI 0) (by decide) ?_
  refine mp0 E dX5_feed_2 ?_
  refine s_ws (ws2 := wm ad ct (zt σ)) (congrArg (wm ad ct) (rfl)) ?_
  refine s_aload_n E dX5_feed_5 (i := 0) (j := 0) rfl rfl ?_
  refine mg2 E (v := nI n) (ht) dX5_feed_6 ?_
  refine s_sipush E dX5_feed_9 (v := nI 680) (by decide) ?_
  refine s_icmp_le E dX5_feed_12 (tgt := 17) rfl (fun c12 => ?_) (fun c12 => ?_)
  · have c12 : ¬ 680 < n := fun h => absurd c12 (Int32.not_le.mpr ((nI_ltI (a := 680) (b := n) (by omega) (by omega)).mpr h))
    refine s_iconst E dX5_feed_17 (v := nI 0) (by decide) ?_
    refine s_istore E (L2 := [(6, .int (nI 0)), (0, .ref (ad 0)), (1, .int (a)), (2, .int (b)), (3, .int (c)), (4, .int (d)), (5, .int (e))]) dX5_feed_18 (Nat.le_of_ble_eq_true rfl) rfl ?_
    have L20 : ∀ (fuel : Nat) (k : Nat) (w20 : Nat → Nat → Int32), upR (zt σ) 1 (fedF (zt σ) n a b c d e k) = w20 → (k ≤ 20) → (20 - k) < fuel → Sm pP l eE { frames := 0, cells := 0, slots := 0, locals := 0 } sS mM aA bB hM cC QQ AA D 8 0 0 (wm ad ct w20) 20 [(0, .ref (ad 0)), (1, .int (a)), (2, .int (b)), (3, .int (c)), (4, .int (d)), (5, .int (e)), (6, .int (nI k))] [] := by
      intro fuel
      induction fuel with
      | zero =>
        intro k w20 ew20 hk hf20
        exact absurd hf20 (Nat.not_lt_zero _)
      | succ fuel ih20 =>
        intro k w20 ew20 hk hf20
        subst ew20
        refine s_iload E dX5_feed_20 (i := 6) (j := 6) rfl ?_
        refine s_bipush E dX5_feed_22 (v := nI 20) (by decide) ?_
        refine s_icmp_ge E dX5_feed_24 (tgt := 110) rfl (fun c24 => ?_) (fun c24 => ?_)
        · have c24 : ¬ k < 20 := fun h => absurd c24 (Int32.not_le.mpr ((nI_ltI (a := k) (b := 20) (by omega) (by omega)).mpr h))
          refine s_aload_n E dX5_feed_110 (i := 0) (j := 0) rfl rfl ?_
          refine s_dup E dX5_feed_111 rfl ?_
          refine mg2 E (v := nI n) (ht) dX5_feed_112 ?_
          refine s_bipush E dX5_feed_115 (v := nI 20) (by decide) ?_
          refine s_iadd_ E dX5_feed_117 (v := nI (n + 20)) (nI_add _ _) ?_
          refine mp2 E dX5_feed_118 ?_
          refine s_aload_n E dX5_feed_121 (i := 0) (j := 0) rfl rfl ?_
          refine mg2 E (v := nI (n + 20)) (st1_eq) dX5_feed_122 ?_
          exact Rt (nI (n + 20)) (st1 (upR (zt σ) 1 (fedF (zt σ) n a b c d e k)) 0 2 (nI (n + 20))) dX5_feed_125 (⟨if_neg c12, by rw [if_neg c12]; obtain rfl : k = 20 := (by omega); rfl⟩) rfl (Nat.le_refl _) (Nat.le_refl _) rfl E.2.2.2.2.2.1
        · have c24 : k < 20 := (nI_ltI (a := k) (b := 20) (by omega) (by omega)).mp (Int32.not_le.mp c24)
          refine s_iload E dX5_feed_27 (i := 6) (j := 6) rfl ?_
          refine s_iconst E dX5_feed_29 (v := nI 4) (by decide) ?_
          have J73 : Sm pP l eE { frames := 0, cells := 0, slots := 0, locals := 0 } sS mM aA bB hM cC QQ AA D 8 0 0 (wm ad ct (upR (zt σ) 1 (fedF (zt σ) n a b c d e k))) 73 [(0, .ref (ad 0)), (1, .int (a)), (2, .int (b)), (3, .int (c)), (4, .int (d)), (5, .int (e)), (6, .int (nI k))] [.int (if k < 4 then a else if k < 8 then b else if k < 12 then c else if k < 16 then d else e)] := by
            refine s_istore E (L2 := [(7, .int (if k < 4 then a else if k < 8 then b else if k < 12 then c else if k < 16 then d else e)), (0, .ref (ad 0)), (1, .int (a)), (2, .int (b)), (3, .int (c)), (4, .int (d)), (5, .int (e)), (6, .int (nI k))]) dX5_feed_73 (Nat.le_of_ble_eq_true rfl) rfl ?_
            refine s_aload_n E dX5_feed_75 (i := 0) (j := 1) rfl rfl ?_
            refine mg1 E dX5_feed_76 ?_
            refine s_aload_n E dX5_feed_79 (i := 0) (j := 1) rfl rfl ?_
            refine mg2 E (v := nI n) (ht) dX5_feed_80 ?_
            refine s_iload E dX5_feed_83 (i := 6) (j := 7) rfl ?_
            refine s_iadd_ E dX5_feed_85 (v := nI (n + k)) (nI_add _ _) ?_
            refine s_iload E dX5_feed_86 (i := 7) (j := 0) rfl ?_
            refine s_bipush E dX5_feed_88 (v := nI 24) (by decide) ?_
            refine s_bipush E dX5_feed_90 (v := nI 8) (by decide) ?_
            refine s_iload E dX5_feed_92 (i := 6) (j := 7) rfl ?_
            refine s_iconst E dX5_feed_94 (v := nI 4) (by decide) ?_
            refine s_irem_ E dX5_feed_95 (by decide) (v := nI (k % 4)) (pk_rem (by omega) (by decide) (by decide)) ?_
            refine s_imul_ E dX5_feed_96 (v := nI (8 * (k % 4))) (pk_mul _ _) ?_
            refine s_isub E dX5_feed_97 ?_
            refine s_ishr E dX5_feed_98 ?_
            refine s_sipush E dX5_feed_99 (v := nI 255) (by decide) ?_
            refine s_iand E dX5_feed_102 ?_
            refine ms1 E (n + k) (rfl) (by omega) dX5_feed_103 ?_
            refine s_ws (ws2 := wm ad ct (upR (zt σ) 1 (fedF (zt σ) n a b c d e (k + 1)))) (congrArg (wm ad ct) (fed_s rfl (by unfold byteOf; rw [pk_mul]))) ?_
            refine s_iinc E (L2 := [(6, .int (nI (k + 1))), (7, .int (if k < 4 then a else if k < 8 then b else if k < 12 then c else if k < 16 then d else e)), (0, .ref (ad 0)), (1, .int (a)), (2, .int (b)), (3, .int (c)), (4, .int (d)), (5, .int (e))]) dX5_feed_104 (k := 7) rfl (v := nI (k + 1)) (nI_inc _) (Nat.le_of_ble_eq_true rfl) rfl ?_
            refine s_goto E dX5_feed_107 (tgt := 20) rfl ?_
            refine s_loc (L2 := [(0, .ref (ad 0)), (1, .int (a)), (2, .int (b)), (3, .int (c)), (4, .int (d)), (5, .int (e)), (6, .int (nI (k + 1)))]) [2, 3, 4, 5, 6, 7, 0] rfl ?_
            exact ih20 (k + 1) _ (rfl) (by omega) (by omega)
          refine s_icmp_ge E dX5_feed_30 (tgt := 37) rfl (fun c30 => ?_) (fun c30 => ?_)
          · have c30 : ¬ k < 4 := fun h => absurd c30 (Int32.not_le.mpr ((nI_ltI (a := k) (b := 4) (by omega) (by omega)).mpr h))
            refine s_iload E dX5_feed_37 (i := 6) (j := 6) rfl ?_
            refine s_bipush E dX5_feed_39 (v := nI 8) (by decide) ?_
            refine s_icmp_ge E dX5_feed_41 (tgt := 48) rfl (fun c41 => ?_) (fun c41 => ?_)
            · have c41 : ¬ k < 8 := fun h => absurd c41 (Int32.not_le.mpr ((nI_ltI (a := k) (b := 8) (by omega) (by omega)).mpr h))
              refine s_iload E dX5_feed_48 (i := 6) (j := 6) rfl ?_
              refine s_bipush E dX5_feed_50 (v := nI 12) (by decide) ?_
              refine s_icmp_ge E dX5_feed_52 (tgt := 59) rfl (fun c52 => ?_) (fun c52 => ?_)
              · have c52 : ¬ k < 12 := fun h => absurd c52 (Int32.not_le.mpr ((nI_ltI (a := k) (b := 12) (by omega) (by omega)).mpr h))
                refine s_iload E dX5_feed_59 (i := 6) (j := 6) rfl ?_
                refine s_bipush E dX5_feed_61 (v := nI 16) (by decide) ?_
                refine s_icmp_ge E dX5_feed_63 (tgt := 71) rfl (fun c63 => ?_) (fun c63 => ?_)
                · have c63 : ¬ k < 16 := fun h => absurd c63 (Int32.not_le.mpr ((nI_ltI (a := k) (b := 16) (by omega) (by omega)).mpr h))
                  refine s_iload E dX5_feed_71 (i := 5) (j := 5) rfl ?_
                  refine s_top (v2 := if k < 4 then a else if k < 8 then b else if k < 12 then c else if k < 16 then d else e) (by simp [bI, c12, c24, c30, c41, c52, c63]) ?_
                  exact J73
                · have c63 : k < 16 := (nI_ltI (a := k) (b := 16) (by omega) (by omega)).mp (Int32.not_le.mp c63)
                  refine s_iload E dX5_feed_66 (i := 4) (j := 4) rfl ?_
                  refine s_goto E dX5_feed_68 (tgt := 73) rfl ?_
                  refine s_top (v2 := if k < 4 then a else if k < 8 then b else if k < 12 then c else if k < 16 then d else e) (by simp [bI, c12, c24, c30, c41, c52, c63]) ?_
                  exact J73
              · have c52 : k < 12 := (nI_ltI (a := k) (b := 12) (by omega) (by omega)).mp (Int32.not_le.mp c52)
                refine s_iload_n E dX5_feed_55 (i := 3) (j := 3) rfl rfl ?_
                refine s_goto E dX5_feed_56 (tgt := 73) rfl ?_
                refine s_top (v2 := if k < 4 then a else if k < 8 then b else if k < 12 then c else if k < 16 then d else e) (by simp [bI, c12, c24, c30, c41, c52]) ?_
                exact J73
            · have c41 : k < 8 := (nI_ltI (a := k) (b := 8) (by omega) (by omega)).mp (Int32.not_le.mp c41)
              refine s_iload_n E dX5_feed_44 (i := 2) (j := 2) rfl rfl ?_
              refine s_goto E dX5_feed_45 (tgt := 73) rfl ?_
              refine s_top (v2 := if k < 4 then a else if k < 8 then b else if k < 12 then c else if k < 16 then d else e) (by simp [bI, c12, c24, c30, c41]) ?_
              exact J73
          · have c30 : k < 4 := (nI_ltI (a := k) (b := 4) (by omega) (by omega)).mp (Int32.not_le.mp c30)
            refine s_iload_n E dX5_feed_33 (i := 1) (j := 1) rfl rfl ?_
            refine s_goto E dX5_feed_34 (tgt := 73) rfl ?_
            refine s_top (v2 := if k < 4 then a else if k < 8 then b else if k < 12 then c else if k < 16 then d else e) (by simp [bI, c12, c24, c30]) ?_
            exact J73
    refine s_loc (L2 := [(0, .ref (ad 0)), (1, .int (a)), (2, .int (b)), (3, .int (c)), (4, .int (d)), (5, .int (e)), (6, .int (nI 0))]) [1, 2, 3, 4, 5, 6, 0] rfl ?_
    exact L20 (_ + 1) 0 _ (fed_0) (Nat.zero_le _) (Nat.lt_succ_self _)
  · have c12 : 680 < n := (nI_ltI (a := 680) (b := n) (by omega) (by omega)).mp (Int32.not_le.mp c12)
    refine s_iconst E dX5_feed_15 (v := (-1)) (by decide) ?_
    exact Rt ((-1)) (zt σ) dX5_feed_16 (⟨if_pos c12, if_pos c12⟩) rfl (Nat.le_refl _) (Nat.le_refl _) rfl E.2.2.2.2.2.1
set_option maxHeartbeats 1000000 in
set_option maxRecDepth 100000 in
theorem mz_nameHere {σ : Nat → Nat → Int32} (b e : Nat) (hb : σ 0 18 = nI b) (he : σ 0 17 = nI e) (hb7 : b ≤ 700) (he7 : e ≤ 700) : Cv l D gt yX5_nameHere cX5_nameHere 2 0 0 0 0 [.ref (ad 0)] (wm ad ct σ) (tysA ct) (fun σ2 => st1 σ 0 20 (nmF (σ 1) b e 6) = σ2) (fun σ2 => wm ad ct σ2) (fun _ => tysA ct) := by
  refine Cv.start RX5 (by decide) rfl (Nat.le_of_ble_eq_true rfl) rfl ?_
  intro pP eE sS mM aA bB hM cC QQ AA E Rt
  refine s_aload_n E dX5_nameHere_0 (i := 0) (j := 0) rfl rfl ?_
  refine s_iconst E dX5_nameHere_1 (v := nI 0) (by decide) ?_
  refine mp20 E dX5_nameHere_2 ?_
  refine s_iconst E dX5_nameHere_5 (v := nI 0) (by decide) ?_
  refine s_istore_n E (L2 := [(1, .int (nI 0)), (0, .ref (ad 0))]) dX5_nameHere_6 rfl (Nat.le_of_ble_eq_true rfl) rfl ?_
  have L7 : ∀ (fuel : Nat) (k : Nat), (k ≤ 6) → (6 - k) < fuel → Sm pP l eE { frames := 0, cells := 0, slots := 0, locals := 0 } sS mM aA bB hM cC QQ AA D 2 0 0 (wm ad ct (st1 σ 0 20 (nmF (σ 1) b e k))) 7 [(0, .ref (ad 0)), (1, .int (nI k))] [] := by
    intro fuel
    induction fuel with
    | zero =>
      intro k hk hf7
      exact absurd hf7 (Nat.not_lt_zero _)
    | succ fuel ih7 =>
      intro k hk hf7
      refine s_iload_n E dX5_nameHere_7 (i := 1) (j := 1) rfl rfl ?_
      refine s_bipush E dX5_nameHere_8 (v := nI 6) (by decide) ?_
      refine s_icmp_ge E dX5_nameHere_10 (tgt := 63) rfl (fun c10 => ?_) (fun c10 => ?_)
      · have c10 : ¬ k < 6 := fun h => absurd c10 (Int32.not_le.mpr ((nI_ltI (a := k) (b := 6) (by omega) (by omega)).mpr h))
        exact Rt (st1 σ 0 20 (nmF (σ 1) b e k)) dX5_nameHere_63 (by obtain rfl : k = 6 := (by omega); rfl) rfl (Nat.le_refl _) (Nat.le_refl _) E.2.2.2.2.2.1
      · have c10 : k < 6 := (nI_ltI (a := k) (b := 6) (by omega) (by omega)).mp (Int32.not_le.mp c10)
        refine s_aload_n E dX5_nameHere_13 (i := 0) (j := 0) rfl rfl ?_
        refine s_aload_n E dX5_nameHere_14 (i := 0) (j := 0) rfl rfl ?_
        refine mg20 E (v := nmF (σ 1) b e k) (st1_eq) dX5_nameHere_15 ?_
        refine s_iconst E dX5_nameHere_18 (v := nI 5) (by decide) ?_
        refine s_ishl E dX5_nameHere_19 ?_
        refine s_aload_n E dX5_nameHere_20 (i := 0) (j := 0) rfl rfl ?_
        refine mg18 E (v := nI b) ((st1_nj (by decide)).trans (hb)) dX5_nameHere_21 ?_
        refine s_iload_n E dX5_nameHere_24 (i := 1) (j := 1) rfl rfl ?_
        refine s_iadd_ E dX5_nameHere_25 (v := nI (b + k)) (nI_add _ _) ?_
        refine s_aload_n E dX5_nameHere_26 (i := 0) (j := 0) rfl rfl ?_
        refine mg17 E (v := nI e) ((st1_nj (by decide)).trans (he)) dX5_nameHere_27 ?_
        have J53 : Sm pP l eE { frames := 0, cells := 0, slots := 0, locals := 0 } sS mM aA bB hM cC QQ AA D 2 0 0 (wm ad ct (st1 σ 0 20 (nmF (σ 1) b e k))) 53 [(0, .ref (ad 0)), (1, .int (nI k))] [.int (if b + k < e then σ 1 (b + k) - nI 97 + nI 1 else nI 0), .int ((nmF (σ 1) b e k) <<< ((nI 5) &&& 31)), .ref (ad 0)] := by
          refine s_ior E dX5_nameHere_53 ?_
          refine mp20 E dX5_nameHere_54 ?_
          refine s_ws (ws2 := wm ad ct (st1 σ 0 20 (nmF (σ 1) b e (k + 1)))) (congrArg (wm ad ct) (st1_2)) ?_
          refine s_iinc E (L2 := [(1, .int (nI (k + 1))), (0, .ref (ad 0))]) dX5_nameHere_57 (k := 1) rfl (v := nI (k + 1)) (nI_inc _) (Nat.le_of_ble_eq_true rfl) rfl ?_
          refine s_goto E dX5_nameHere_60 (tgt := 7) rfl ?_
          refine s_loc (L2 := [(0, .ref (ad 0)), (1, .int (nI (k + 1)))]) [1, 0] rfl ?_
          exact ih7 (k + 1) (by omega) (by omega)
        refine s_icmp_ge E dX5_nameHere_30 (tgt := 52) rfl (fun c30 => ?_) (fun c30 => ?_)
        · have c30 : ¬ b + k < e := fun h => absurd c30 (Int32.not_le.mpr ((nI_ltI (a := b + k) (b := e) (by omega) (by omega)).mpr h))
          refine s_iconst E dX5_nameHere_52 (v := nI 0) (by decide) ?_
          refine s_top (v2 := if b + k < e then σ 1 (b + k) - nI 97 + nI 1 else nI 0) (by simp [bI, c10, c30]) ?_
          exact J53
        · have c30 : b + k < e := (nI_ltI (a := b + k) (b := e) (by omega) (by omega)).mp (Int32.not_le.mp c30)
          refine s_aload_n E dX5_nameHere_33 (i := 0) (j := 0) rfl rfl ?_
          refine mg1 E dX5_nameHere_34 ?_
          refine s_aload_n E dX5_nameHere_37 (i := 0) (j := 0) rfl rfl ?_
          refine mg18 E (v := nI b) ((st1_nj (by decide)).trans (hb)) dX5_nameHere_38 ?_
          refine s_iload_n E dX5_nameHere_41 (i := 1) (j := 1) rfl rfl ?_
          refine s_iadd_ E dX5_nameHere_42 (v := nI (b + k)) (nI_add _ _) ?_
          refine ml1 E (v := σ 1 (b + k)) (b + k) (rfl) (by omega) (congrFun (st1_ne (by decide)) _) dX5_nameHere_43 ?_
          refine s_bipush E dX5_nameHere_44 (v := nI 97) (by decide) ?_
          refine s_isub E dX5_nameHere_46 ?_
          refine s_iconst E dX5_nameHere_47 (v := nI 1) (by decide) ?_
          refine s_iadd E dX5_nameHere_48 ?_
          refine s_goto E dX5_nameHere_49 (tgt := 53) rfl ?_
          refine s_top (v2 := if b + k < e then σ 1 (b + k) - nI 97 + nI 1 else nI 0) (by simp [bI, c10, c30]) ?_
          exact J53
  refine s_loc (L2 := [(0, .ref (ad 0)), (1, .int (nI 0))]) [1, 0] rfl ?_
  exact L7 (_ + 1) 0 (Nat.zero_le _) (Nat.lt_succ_self _)
set_option maxHeartbeats 1000000 in
set_option maxRecDepth 100000 in
theorem mz_wordHere {σ : Nat → Nat → Int32} (b e : Nat) (hb : σ 0 18 = nI b) (he : σ 0 17 = nI e) (hbe : b ≤ e) (he7 : e ≤ 700) : Ct l D gt yX5_wordHere cX5_wordHere 4 .int 4 85 0 0 [.ref (ad 0)] (wm ad ct σ) (tysA ct) (fun r σ2 => wordI (σ 1) b e = r ∧ σ = σ2) (fun σ2 => wm ad ct σ2) (fun _ => tysA ct) := by
  refine Ct.start RX5 (by decide) rfl (Nat.le_of_ble_eq_true rfl) rfl ?_
  intro pP eE sS mM aA bB hM cC QQ AA E Rt
  refine s_iconst E dX5_wordHere_0 (v := nI 0) (by decide) ?_
  refine s_istore_n E (L2 := [(1, .int (nI 0)), (0, .ref (ad 0))]) dX5_wordHere_1 rfl (Nat.le_of_ble_eq_true rfl) rfl ?_
  refine s_iconst E dX5_wordHere_2 (v := nI 0) (by decide) ?_
  refine s_istore_n E (L2 := [(2, .int (nI 0)), (1, .int (nI 0)), (0, .ref (ad 0))]) dX5_wordHere_3 rfl (Nat.le_of_ble_eq_true rfl) rfl ?_
  have L4 : ∀ (fuel : Nat) (w : Nat), (w ≤ 11) → (firstN (matchB (σ 1) b e) w = 0) → (11 - w) < fuel → Sm pP l eE { frames := 4, cells := 0, slots := 0, locals := 85 } sS mM aA bB hM cC QQ AA D 4 0 0 (wm ad ct σ) 4 [(0, .ref (ad 0)), (1, .int (nI w)), (2, .int (nI (wSt w)))] [] := by
    intro fuel
    induction fuel with
    | zero =>
      intro w hw hf hf4
      exact absurd hf4 (Nat.not_lt_zero _)
    | succ fuel ih4 =>
      intro w hw hf hf4
      have h62 := wSt_62 w hw
      refine s_iload_n E dX5_wordHere_4 (i := 2) (j := 2) rfl rfl ?_
      refine s_ldcS E (E.2.2.2.2.2.2.1 : GN gt _ _ _).2.2.1 rfl dX5_wordHere_5 ?_
      refine s_goi (ws2 := fun _ => wm ad ct σ) E cutM0 (rVK E cutM0 E.2.2.2.2.2.2.1 (i := 1) (by decide) (jJ0_length 1 (by decide)) KM_137 (Nat.le_of_ble_eq_true rfl) (Nat.le_of_ble_eq_true rfl) (Nat.le_refl _) (Nat.le_refl _) rfl rfl (Nat.le_of_ble_eq_true rfl) dX5_wordHere_7) ixM rfl (fun _ => rfl) (fun r7 u7 h7 _ => ?_)
      subst h7
      refine s_top (v2 := nI 62) rfl ?_
      refine s_icmp_ge E dX5_wordHere_10 (tgt := 123) rfl (fun c10 => ?_) (fun c10 => ?_)
      · have c10 : ¬ wSt w < 62 := fun h => absurd c10 (Int32.not_le.mpr ((nI_ltI (a := wSt w) (b := 62) (by omega) (by omega)).mpr h))
        have hw11 : w = 11 := by omega
        refine s_iconst E dX5_wordHere_123 (v := (-1)) (by decide) ?_
        exact Rt ((-1)) (σ) dX5_wordHere_124 (⟨by unfold wordI; rw [← hw11, hf]; rfl, rfl⟩) rfl (Nat.le_refl _) (Nat.le_refl _) rfl E.2.2.2.2.2.1
      · have c10 : wSt w < 62 := (nI_ltI (a := wSt w) (b := 62) (by omega) (by omega)).mp (Int32.not_le.mp c10)
        have hwl : w < 11 := by omega
        have hwf := w_facts w hwl
        have hw62 : wEn w < 62 := by have := wSt_62 (w + 1) (by omega); omega
        refine s_iconst E dX5_wordHere_13 (v := nI 0) (by decide) ?_
        refine s_istore_n E (L2 := [(3, .int (nI 0)), (0, .ref (ad 0)), (1, .int (nI w)), (2, .int (nI (wSt w)))]) dX5_wordHere_14 rfl (Nat.le_of_ble_eq_true rfl) rfl ?_
        have L15 : ∀ (fuel : Nat) (i : Nat), (wSt w + i ≤ wEn w) → (b + i ≤ e) → (allB (sameB (σ 1) b e w) i = true) → (62 - i) < fuel → Sm pP l eE { frames := 4, cells := 0, slots := 0, locals := 85 } sS mM aA bB hM cC QQ AA D 4 0 0 (wm ad ct σ) 15 [(0, .ref (ad 0)), (1, .int (nI w)), (2, .int (nI (wSt w))), (3, .int (nI i))] [] := by
          intro fuel
          induction fuel with
          | zero =>
            intro i hi hbi hm hf15
            exact absurd hf15 (Nat.not_lt_zero _)
          | succ fuel ih15 =>
            intro i hi hbi hm hf15
            refine s_ldcS E (E.2.2.2.2.2.2.1 : GN gt _ _ _).2.2.1 rfl dX5_wordHere_15 ?_
            refine s_iload_n E dX5_wordHere_17 (i := 2) (j := 2) rfl rfl ?_
            refine s_iload_n E dX5_wordHere_18 (i := 3) (j := 3) rfl rfl ?_
            refine s_iadd_ E dX5_wordHere_19 (v := nI ((wSt w) + i)) (nI_add _ _) ?_
            refine s_goi (ws2 := fun _ => wm ad ct σ) E cutM0 (rVK E cutM0 E.2.2.2.2.2.2.1 (i := 1) (by decide) (jJ0_charAt 1 ((wSt w) + i) (by decide) (by show _ < 62; omega)) KM_142 (Nat.le_of_ble_eq_true rfl) (Nat.le_of_ble_eq_true rfl) (Nat.le_refl _) (Nat.le_refl _) rfl rfl (Nat.le_of_ble_eq_true rfl) dX5_wordHere_20) ixM rfl (fun _ => rfl) (fun r20 u20 h20 _ => ?_)
            subst h20
            refine s_bipush E dX5_wordHere_23 (v := nI 32) (by decide) ?_
            refine s_icmp_eq E dX5_wordHere_25 (tgt := 69) rfl (fun c25 => ?_) (fun c25 => ?_)
            · have he5 : wSt w + i = wEn w := by by_cases h9 : wSt w + i < wEn w; exact absurd c25 (hwf.2.2.2.2 _ h9 (by omega)); omega
              have hst : ¬ (wSt w + i < wEn w ∧ b + i < e ∧ sameB (σ 1) b e w i = true) := by omega
              refine s_ldcS E (E.2.2.2.2.2.2.1 : GN gt _ _ _).2.2.1 rfl dX5_wordHere_69 ?_
              refine s_iload_n E dX5_wordHere_71 (i := 2) (j := 2) rfl rfl ?_
              refine s_iload_n E dX5_wordHere_72 (i := 3) (j := 3) rfl rfl ?_
              refine s_iadd_ E dX5_wordHere_73 (v := nI ((wSt w) + i)) (nI_add _ _) ?_
              refine s_goi (ws2 := fun _ => wm ad ct σ) E cutM0 (rVK E cutM0 E.2.2.2.2.2.2.1 (i := 1) (by decide) (jJ0_charAt 1 ((wSt w) + i) (by decide) (by show _ < 62; omega)) KM_142 (Nat.le_of_ble_eq_true rfl) (Nat.le_of_ble_eq_true rfl) (Nat.le_refl _) (Nat.le_refl _) rfl rfl (Nat.le_of_ble_eq_true rfl) dX5_wordHere_74) ixM rfl (fun _ => rfl) (fun r74 u74 h74 _ => ?_)
              subst h74
              refine s_bipush E dX5_wordHere_77 (v := nI 32) (by decide) ?_
              refine s_icmp_ne E dX5_wordHere_79 (tgt := 97) rfl (fun c79 => ?_) (fun c79 => ?_)
              · have hno : ¬ matchB (σ 1) b e w = true := match_f hst (fun h9 => c79 (by rw [h9.1]; exact hwf.2.2.1)) hm hi hbi
                have L97 : ∀ (fuel : Nat) (k : Nat), (wSt w ≤ k) → (k ≤ wEn w) → (62 - k) < fuel → Sm pP l eE { frames := 4, cells := 0, slots := 0, locals := 85 } sS mM aA bB hM cC QQ AA D 4 0 0 (wm ad ct σ) 97 [(0, .ref (ad 0)), (1, .int (nI w)), (2, .int (nI k))] [] := by
                  intro fuel
                  induction fuel with
                  | zero =>
                    intro k hk1 hk2 hf97
                    exact absurd hf97 (Nat.not_lt_zero _)
                  | succ fuel ih97 =>
                    intro k hk1 hk2 hf97
                    refine s_ldcS E (E.2.2.2.2.2.2.1 : GN gt _ _ _).2.2.1 rfl dX5_wordHere_97 ?_
                    refine s_iload_n E dX5_wordHere_99 (i := 2) (j := 2) rfl rfl ?_
                    refine s_goi (ws2 := fun _ => wm ad ct σ) E cutM0 (rVK E cutM0 E.2.2.2.2.2.2.1 (i := 1) (by decide) (jJ0_charAt 1 k (by decide) (by show _ < 62; omega)) KM_142 (Nat.le_of_ble_eq_true rfl) (Nat.le_of_ble_eq_true rfl) (Nat.le_refl _) (Nat.le_refl _) rfl rfl (Nat.le_of_ble_eq_true rfl) dX5_wordHere_100) ixM rfl (fun _ => rfl) (fun r100 u100 h100 _ => ?_)
                    subst h100
                    refine s_bipush E dX5_wordHere_103 (v := nI 32) (by decide) ?_
                    refine s_icmp_eq E dX5_wordHere_105 (tgt := 114) rfl (fun c105 => ?_) (fun c105 => ?_)
                    · have he7 : k = wEn w := by by_cases h9 : k < wEn w; exact absurd c105 (hwf.2.2.2.2 _ h9 (by omega)); omega
                      refine s_iinc E (L2 := [(2, .int (nI (wSt (w + 1)))), (0, .ref (ad 0)), (1, .int (nI w))]) dX5_wordHere_114 (k := 2) rfl (v := nI (wSt (w + 1))) (by rw [hwf.2.2.2.1, ← he7]; exact nI_inc _) (Nat.le_of_ble_eq_true rfl) rfl ?_
                      refine s_iinc E (L2 := [(1, .int (nI (w + 1))), (2, .int (nI (wSt (w + 1)))), (0, .ref (ad 0))]) dX5_wordHere_117 (k := 2) rfl (v := nI (w + 1)) (nI_inc _) (Nat.le_of_ble_eq_true rfl) rfl ?_
                      refine s_goto E dX5_wordHere_120 (tgt := 4) rfl ?_
                      refine s_loc (L2 := [(0, .ref (ad 0)), (1, .int (nI (w + 1))), (2, .int (nI (wSt (w + 1))))]) [2, 0, 1] rfl ?_
                      exact ih4 (w + 1) (by omega) (firstN_next hf hno) (by omega)
                    · have he7 : k < wEn w := by rcases Nat.lt_or_ge k (wEn w) with h9 | h9; exact h9; exact absurd (by rw [show k = wEn w by omega]; exact hwf.2.2.1) c105
                      refine s_iinc E (L2 := [(2, .int (nI (k + 1))), (0, .ref (ad 0)), (1, .int (nI w))]) dX5_wordHere_108 (k := 2) rfl (v := nI (k + 1)) (nI_inc _) (Nat.le_of_ble_eq_true rfl) rfl ?_
                      refine s_goto E dX5_wordHere_111 (tgt := 97) rfl ?_
                      refine s_loc (L2 := [(0, .ref (ad 0)), (1, .int (nI w)), (2, .int (nI (k + 1)))]) [1, 2, 0] rfl ?_
                      exact ih97 (k + 1) (by omega) (by omega) (by omega)
                refine s_loc (L2 := [(0, .ref (ad 0)), (1, .int (nI w)), (2, .int (nI (wSt w)))]) [0, 1, 2] rfl ?_
                exact L97 (_ + 1) (wSt w) (Nat.le_refl _) (hwf.1) (Nat.lt_succ_self _)
              · have he6 : wSt w + i = wEn w := by by_cases h9 : wSt w + i < wEn w; exact absurd c79 (hwf.2.2.2.2 _ h9 (by omega)); omega
                refine s_aload_n E dX5_wordHere_82 (i := 0) (j := 0) rfl rfl ?_
                refine mg18 E (v := nI b) (hb) dX5_wordHere_83 ?_
                refine s_iload_n E dX5_wordHere_86 (i := 3) (j := 3) rfl rfl ?_
                refine s_iadd_ E dX5_wordHere_87 (v := nI (b + i)) (nI_add _ _) ?_
                refine s_aload_n E dX5_wordHere_88 (i := 0) (j := 0) rfl rfl ?_
                refine mg17 E (v := nI e) (he) dX5_wordHere_89 ?_
                refine s_icmp_ne E dX5_wordHere_92 (tgt := 97) rfl (fun c92 => ?_) (fun c92 => ?_)
                · have c92 : ¬ b + i = e := fun h => c92 ((nI_eq (a := b + i) (b := e) (by omega) (by omega)).mpr h)
                  have hno : ¬ matchB (σ 1) b e w = true := match_f hst (fun h9 => c92 h9.2) hm hi hbi
                  have L97 : ∀ (fuel : Nat) (k : Nat), (wSt w ≤ k) → (k ≤ wEn w) → (62 - k) < fuel → Sm pP l eE { frames := 4, cells := 0, slots := 0, locals := 85 } sS mM aA bB hM cC QQ AA D 4 0 0 (wm ad ct σ) 97 [(0, .ref (ad 0)), (1, .int (nI w)), (2, .int (nI k))] [] := by
                    intro fuel
                    induction fuel with
                    | zero =>
                      intro k hk1 hk2 hf97
                      exact absurd hf97 (Nat.not_lt_zero _)
                    | succ fuel ih97 =>
                      intro k hk1 hk2 hf97
                      refine s_ldcS E (E.2.2.2.2.2.2.1 : GN gt _ _ _).2.2.1 rfl dX5_wordHere_97 ?_
                      refine s_iload_n E dX5_wordHere_99 (i := 2) (j := 2) rfl rfl ?_
                      refine s_goi (ws2 := fun _ => wm ad ct σ) E cutM0 (rVK E cutM0 E.2.2.2.2.2.2.1 (i := 1) (by decide) (jJ0_charAt 1 k (by decide) (by show _ < 62; omega)) KM_142 (Nat.le_of_ble_eq_true rfl) (Nat.le_of_ble_eq_true rfl) (Nat.le_refl _) (Nat.le_refl _) rfl rfl (Nat.le_of_ble_eq_true rfl) dX5_wordHere_100) ixM rfl (fun _ => rfl) (fun r100 u100 h100 _ => ?_)
                      subst h100
                      refine s_bipush E dX5_wordHere_103 (v := nI 32) (by decide) ?_
                      refine s_icmp_eq E dX5_wordHere_105 (tgt := 114) rfl (fun c105 => ?_) (fun c105 => ?_)
                      · have he7 : k = wEn w := by by_cases h9 : k < wEn w; exact absurd c105 (hwf.2.2.2.2 _ h9 (by omega)); omega
                        refine s_iinc E (L2 := [(2, .int (nI (wSt (w + 1)))), (0, .ref (ad 0)), (1, .int (nI w))]) dX5_wordHere_114 (k := 2) rfl (v := nI (wSt (w + 1))) (by rw [hwf.2.2.2.1, ← he7]; exact nI_inc _) (Nat.le_of_ble_eq_true rfl) rfl ?_
                        refine s_iinc E (L2 := [(1, .int (nI (w + 1))), (2, .int (nI (wSt (w + 1)))), (0, .ref (ad 0))]) dX5_wordHere_117 (k := 2) rfl (v := nI (w + 1)) (nI_inc _) (Nat.le_of_ble_eq_true rfl) rfl ?_
                        refine s_goto E dX5_wordHere_120 (tgt := 4) rfl ?_
                        refine s_loc (L2 := [(0, .ref (ad 0)), (1, .int (nI (w + 1))), (2, .int (nI (wSt (w + 1))))]) [2, 0, 1] rfl ?_
                        exact ih4 (w + 1) (by omega) (firstN_next hf hno) (by omega)
                      · have he7 : k < wEn w := by rcases Nat.lt_or_ge k (wEn w) with h9 | h9; exact h9; exact absurd (by rw [show k = wEn w by omega]; exact hwf.2.2.1) c105
                        refine s_iinc E (L2 := [(2, .int (nI (k + 1))), (0, .ref (ad 0)), (1, .int (nI w))]) dX5_wordHere_108 (k := 2) rfl (v := nI (k + 1)) (nI_inc _) (Nat.le_of_ble_eq_true rfl) rfl ?_
                        refine s_goto E dX5_wordHere_111 (tgt := 97) rfl ?_
                        refine s_loc (L2 := [(0, .ref (ad 0)), (1, .int (nI w)), (2, .int (nI (k + 1)))]) [1, 2, 0] rfl ?_
                        exact ih97 (k + 1) (by omega) (by omega) (by omega)
                  refine s_loc (L2 := [(0, .ref (ad 0)), (1, .int (nI w)), (2, .int (nI (wSt w)))]) [0, 1, 2] rfl ?_
                  exact L97 (_ + 1) (wSt w) (Nat.le_refl _) (hwf.1) (Nat.lt_succ_self _)
                · have c92 : b + i = e := (nI_eq (a := b + i) (b := e) (by omega) (by omega)).mp c92
                  refine s_iload_n E dX5_wordHere_95 (i := 1) (j := 1) rfl rfl ?_
                  exact Rt (nI w) (σ) dX5_wordHere_96 (⟨by unfold wordI; rw [firstN_keep (p := w) (by omega) hf (match_t he6 c92 hm hi)]; exact m1I_s, rfl⟩) rfl (Nat.le_refl _) (Nat.le_refl _) rfl E.2.2.2.2.2.1
            · have he5 : wSt w + i < wEn w := by rcases Nat.lt_or_ge (wSt w + i) (wEn w) with h9 | h9; exact h9; exact absurd (by rw [show wSt w + i = wEn w by omega]; exact hwf.2.2.1) c25
              refine s_aload_n E dX5_wordHere_28 (i := 0) (j := 0) rfl rfl ?_
              refine mg18 E (v := nI b) (hb) dX5_wordHere_29 ?_
              refine s_iload_n E dX5_wordHere_32 (i := 3) (j := 3) rfl rfl ?_
              refine s_iadd_ E dX5_wordHere_33 (v := nI (b + i)) (nI_add _ _) ?_
              refine s_aload_n E dX5_wordHere_34 (i := 0) (j := 0) rfl rfl ?_
              refine mg17 E (v := nI e) (he) dX5_wordHere_35 ?_
              refine s_icmp_ge E dX5_wordHere_38 (tgt := 69) rfl (fun c38 => ?_) (fun c38 => ?_)
              · have c38 : ¬ b + i < e := fun h => absurd c38 (Int32.not_le.mpr ((nI_ltI (a := b + i) (b := e) (by omega) (by omega)).mpr h))
                have hst : ¬ (wSt w + i < wEn w ∧ b + i < e ∧ sameB (σ 1) b e w i = true) := by omega
                refine s_ldcS E (E.2.2.2.2.2.2.1 : GN gt _ _ _).2.2.1 rfl dX5_wordHere_69 ?_
                refine s_iload_n E dX5_wordHere_71 (i := 2) (j := 2) rfl rfl ?_
                refine s_iload_n E dX5_wordHere_72 (i := 3) (j := 3) rfl rfl ?_
                refine s_iadd_ E dX5_wordHere_73 (v := nI ((wSt w) + i)) (nI_add _ _) ?_
                refine s_goi (ws2 := fun _ => wm ad ct σ) E cutM0 (rVK E cutM0 E.2.2.2.2.2.2.1 (i := 1) (by decide) (jJ0_charAt 1 ((wSt w) + i) (by decide) (by show _ < 62; omega)) KM_142 (Nat.le_of_ble_eq_true rfl) (Nat.le_of_ble_eq_true rfl) (Nat.le_refl _) (Nat.le_refl _) rfl rfl (Nat.le_of_ble_eq_true rfl) dX5_wordHere_74) ixM rfl (fun _ => rfl) (fun r74 u74 h74 _ => ?_)
                subst h74
                refine s_bipush E dX5_wordHere_77 (v := nI 32) (by decide) ?_
                refine s_icmp_ne E dX5_wordHere_79 (tgt := 97) rfl (fun c79 => ?_) (fun c79 => ?_)
                · have hno : ¬ matchB (σ 1) b e w = true := match_f hst (fun h9 => c79 (by rw [h9.1]; exact hwf.2.2.1)) hm hi hbi
                  have L97 : ∀ (fuel : Nat) (k : Nat), (wSt w ≤ k) → (k ≤ wEn w) → (62 - k) < fuel → Sm pP l eE { frames := 4, cells := 0, slots := 0, locals := 85 } sS mM aA bB hM cC QQ AA D 4 0 0 (wm ad ct σ) 97 [(0, .ref (ad 0)), (1, .int (nI w)), (2, .int (nI k))] [] := by
                    intro fuel
                    induction fuel with
                    | zero =>
                      intro k hk1 hk2 hf97
                      exact absurd hf97 (Nat.not_lt_zero _)
                    | succ fuel ih97 =>
                      intro k hk1 hk2 hf97
                      refine s_ldcS E (E.2.2.2.2.2.2.1 : GN gt _ _ _).2.2.1 rfl dX5_wordHere_97 ?_
                      refine s_iload_n E dX5_wordHere_99 (i := 2) (j := 2) rfl rfl ?_
                      refine s_goi (ws2 := fun _ => wm ad ct σ) E cutM0 (rVK E cutM0 E.2.2.2.2.2.2.1 (i := 1) (by decide) (jJ0_charAt 1 k (by decide) (by show _ < 62; omega)) KM_142 (Nat.le_of_ble_eq_true rfl) (Nat.le_of_ble_eq_true rfl) (Nat.le_refl _) (Nat.le_refl _) rfl rfl (Nat.le_of_ble_eq_true rfl) dX5_wordHere_100) ixM rfl (fun _ => rfl) (fun r100 u100 h100 _ => ?_)
                      subst h100
                      refine s_bipush E dX5_wordHere_103 (v := nI 32) (by decide) ?_
                      refine s_icmp_eq E dX5_wordHere_105 (tgt := 114) rfl (fun c105 => ?_) (fun c105 => ?_)
                      · have he7 : k = wEn w := by by_cases h9 : k < wEn w; exact absurd c105 (hwf.2.2.2.2 _ h9 (by omega)); omega
                        refine s_iinc E (L2 := [(2, .int (nI (wSt (w + 1)))), (0, .ref (ad 0)), (1, .int (nI w))]) dX5_wordHere_114 (k := 2) rfl (v := nI (wSt (w + 1))) (by rw [hwf.2.2.2.1, ← he7]; exact nI_inc _) (Nat.le_of_ble_eq_true rfl) rfl ?_
                        refine s_iinc E (L2 := [(1, .int (nI (w + 1))), (2, .int (nI (wSt (w + 1)))), (0, .ref (ad 0))]) dX5_wordHere_117 (k := 2) rfl (v := nI (w + 1)) (nI_inc _) (Nat.le_of_ble_eq_true rfl) rfl ?_
                        refine s_goto E dX5_wordHere_120 (tgt := 4) rfl ?_
                        refine s_loc (L2 := [(0, .ref (ad 0)), (1, .int (nI (w + 1))), (2, .int (nI (wSt (w + 1))))]) [2, 0, 1] rfl ?_
                        exact ih4 (w + 1) (by omega) (firstN_next hf hno) (by omega)
                      · have he7 : k < wEn w := by rcases Nat.lt_or_ge k (wEn w) with h9 | h9; exact h9; exact absurd (by rw [show k = wEn w by omega]; exact hwf.2.2.1) c105
                        refine s_iinc E (L2 := [(2, .int (nI (k + 1))), (0, .ref (ad 0)), (1, .int (nI w))]) dX5_wordHere_108 (k := 2) rfl (v := nI (k + 1)) (nI_inc _) (Nat.le_of_ble_eq_true rfl) rfl ?_
                        refine s_goto E dX5_wordHere_111 (tgt := 97) rfl ?_
                        refine s_loc (L2 := [(0, .ref (ad 0)), (1, .int (nI w)), (2, .int (nI (k + 1)))]) [1, 2, 0] rfl ?_
                        exact ih97 (k + 1) (by omega) (by omega) (by omega)
                  refine s_loc (L2 := [(0, .ref (ad 0)), (1, .int (nI w)), (2, .int (nI (wSt w)))]) [0, 1, 2] rfl ?_
                  exact L97 (_ + 1) (wSt w) (Nat.le_refl _) (hwf.1) (Nat.lt_succ_self _)
                · have he6 : wSt w + i = wEn w := by by_cases h9 : wSt w + i < wEn w; exact absurd c79 (hwf.2.2.2.2 _ h9 (by omega)); omega
                  refine s_aload_n E dX5_wordHere_82 (i := 0) (j := 0) rfl rfl ?_
                  refine mg18 E (v := nI b) (hb) dX5_wordHere_83 ?_
                  refine s_iload_n E dX5_wordHere_86 (i := 3) (j := 3) rfl rfl ?_
                  refine s_iadd_ E dX5_wordHere_87 (v := nI (b + i)) (nI_add _ _) ?_
                  refine s_aload_n E dX5_wordHere_88 (i := 0) (j := 0) rfl rfl ?_
                  refine mg17 E (v := nI e) (he) dX5_wordHere_89 ?_
                  refine s_icmp_ne E dX5_wordHere_92 (tgt := 97) rfl (fun c92 => ?_) (fun c92 => ?_)
                  · have c92 : ¬ b + i = e := fun h => c92 ((nI_eq (a := b + i) (b := e) (by omega) (by omega)).mpr h)
                    have hno : ¬ matchB (σ 1) b e w = true := match_f hst (fun h9 => c92 h9.2) hm hi hbi
                    have L97 : ∀ (fuel : Nat) (k : Nat), (wSt w ≤ k) → (k ≤ wEn w) → (62 - k) < fuel → Sm pP l eE { frames := 4, cells := 0, slots := 0, locals := 85 } sS mM aA bB hM cC QQ AA D 4 0 0 (wm ad ct σ) 97 [(0, .ref (ad 0)), (1, .int (nI w)), (2, .int (nI k))] [] := by
                      intro fuel
                      induction fuel with
                      | zero =>
                        intro k hk1 hk2 hf97
                        exact absurd hf97 (Nat.not_lt_zero _)
                      | succ fuel ih97 =>
                        intro k hk1 hk2 hf97
                        refine s_ldcS E (E.2.2.2.2.2.2.1 : GN gt _ _ _).2.2.1 rfl dX5_wordHere_97 ?_
                        refine s_iload_n E dX5_wordHere_99 (i := 2) (j := 2) rfl rfl ?_
                        refine s_goi (ws2 := fun _ => wm ad ct σ) E cutM0 (rVK E cutM0 E.2.2.2.2.2.2.1 (i := 1) (by decide) (jJ0_charAt 1 k (by decide) (by show _ < 62; omega)) KM_142 (Nat.le_of_ble_eq_true rfl) (Nat.le_of_ble_eq_true rfl) (Nat.le_refl _) (Nat.le_refl _) rfl rfl (Nat.le_of_ble_eq_true rfl) dX5_wordHere_100) ixM rfl (fun _ => rfl) (fun r100 u100 h100 _ => ?_)
                        subst h100
                        refine s_bipush E dX5_wordHere_103 (v := nI 32) (by decide) ?_
                        refine s_icmp_eq E dX5_wordHere_105 (tgt := 114) rfl (fun c105 => ?_) (fun c105 => ?_)
                        · have he7 : k = wEn w := by by_cases h9 : k < wEn w; exact absurd c105 (hwf.2.2.2.2 _ h9 (by omega)); omega
                          refine s_iinc E (L2 := [(2, .int (nI (wSt (w + 1)))), (0, .ref (ad 0)), (1, .int (nI w))]) dX5_wordHere_114 (k := 2) rfl (v := nI (wSt (w + 1))) (by rw [hwf.2.2.2.1, ← he7]; exact nI_inc _) (Nat.le_of_ble_eq_true rfl) rfl ?_
                          refine s_iinc E (L2 := [(1, .int (nI (w + 1))), (2, .int (nI (wSt (w + 1)))), (0, .ref (ad 0))]) dX5_wordHere_117 (k := 2) rfl (v := nI (w + 1)) (nI_inc _) (Nat.le_of_ble_eq_true rfl) rfl ?_
                          refine s_goto E dX5_wordHere_120 (tgt := 4) rfl ?_
                          refine s_loc (L2 := [(0, .ref (ad 0)), (1, .int (nI (w + 1))), (2, .int (nI (wSt (w + 1))))]) [2, 0, 1] rfl ?_
                          exact ih4 (w + 1) (by omega) (firstN_next hf hno) (by omega)
                        · have he7 : k < wEn w := by rcases Nat.lt_or_ge k (wEn w) with h9 | h9; exact h9; exact absurd (by rw [show k = wEn w by omega]; exact hwf.2.2.1) c105
                          refine s_iinc E (L2 := [(2, .int (nI (k + 1))), (0, .ref (ad 0)), (1, .int (nI w))]) dX5_wordHere_108 (k := 2) rfl (v := nI (k + 1)) (nI_inc _) (Nat.le_of_ble_eq_true rfl) rfl ?_
                          refine s_goto E dX5_wordHere_111 (tgt := 97) rfl ?_
                          refine s_loc (L2 := [(0, .ref (ad 0)), (1, .int (nI w)), (2, .int (nI (k + 1)))]) [1, 2, 0] rfl ?_
                          exact ih97 (k + 1) (by omega) (by omega) (by omega)
                    refine s_loc (L2 := [(0, .ref (ad 0)), (1, .int (nI w)), (2, .int (nI (wSt w)))]) [0, 1, 2] rfl ?_
                    exact L97 (_ + 1) (wSt w) (Nat.le_refl _) (hwf.1) (Nat.lt_succ_self _)
                  · have c92 : b + i = e := (nI_eq (a := b + i) (b := e) (by omega) (by omega)).mp c92
                    refine s_iload_n E dX5_wordHere_95 (i := 1) (j := 1) rfl rfl ?_
                    exact Rt (nI w) (σ) dX5_wordHere_96 (⟨by unfold wordI; rw [firstN_keep (p := w) (by omega) hf (match_t he6 c92 hm hi)]; exact m1I_s, rfl⟩) rfl (Nat.le_refl _) (Nat.le_refl _) rfl E.2.2.2.2.2.1
              · have c38 : b + i < e := (nI_ltI (a := b + i) (b := e) (by omega) (by omega)).mp (Int32.not_le.mp c38)
                refine s_aload_n E dX5_wordHere_41 (i := 0) (j := 0) rfl rfl ?_
                refine mg1 E dX5_wordHere_42 ?_
                refine s_aload_n E dX5_wordHere_45 (i := 0) (j := 0) rfl rfl ?_
                refine mg18 E (v := nI b) (hb) dX5_wordHere_46 ?_
                refine s_iload_n E dX5_wordHere_49 (i := 3) (j := 3) rfl rfl ?_
                refine s_iadd_ E dX5_wordHere_50 (v := nI (b + i)) (nI_add _ _) ?_
                refine ml1 E (v := σ 1 (b + i)) (b + i) (rfl) (by omega) (rfl) dX5_wordHere_51 ?_
                refine s_ldcS E (E.2.2.2.2.2.2.1 : GN gt _ _ _).2.2.1 rfl dX5_wordHere_52 ?_
                refine s_iload_n E dX5_wordHere_54 (i := 2) (j := 2) rfl rfl ?_
                refine s_iload_n E dX5_wordHere_55 (i := 3) (j := 3) rfl rfl ?_
                refine s_iadd_ E dX5_wordHere_56 (v := nI ((wSt w) + i)) (nI_add _ _) ?_
                refine s_goi (ws2 := fun _ => wm ad ct σ) E cutM0 (rVK E cutM0 E.2.2.2.2.2.2.1 (i := 1) (by decide) (jJ0_charAt 1 ((wSt w) + i) (by decide) (by show _ < 62; omega)) KM_142 (Nat.le_of_ble_eq_true rfl) (Nat.le_of_ble_eq_true rfl) (Nat.le_refl _) (Nat.le_refl _) rfl rfl (Nat.le_of_ble_eq_true rfl) dX5_wordHere_57) ixM rfl (fun _ => rfl) (fun r57 u57 h57 _ => ?_)
                subst h57
                refine s_icmp_ne E dX5_wordHere_60 (tgt := 69) rfl (fun c60 => ?_) (fun c60 => ?_)
                · have hst : ¬ (wSt w + i < wEn w ∧ b + i < e ∧ sameB (σ 1) b e w i = true) := fun h9 => c60 (by have := h9.2.2; simpa [sameB] using this)
                  refine s_ldcS E (E.2.2.2.2.2.2.1 : GN gt _ _ _).2.2.1 rfl dX5_wordHere_69 ?_
                  refine s_iload_n E dX5_wordHere_71 (i := 2) (j := 2) rfl rfl ?_
                  refine s_iload_n E dX5_wordHere_72 (i := 3) (j := 3) rfl rfl ?_
                  refine s_iadd_ E dX5_wordHere_73 (v := nI ((wSt w) + i)) (nI_add _ _) ?_
                  refine s_goi (ws2 := fun _ => wm ad ct σ) E cutM0 (rVK E cutM0 E.2.2.2.2.2.2.1 (i := 1) (by decide) (jJ0_charAt 1 ((wSt w) + i) (by decide) (by show _ < 62; omega)) KM_142 (Nat.le_of_ble_eq_true rfl) (Nat.le_of_ble_eq_true rfl) (Nat.le_refl _) (Nat.le_refl _) rfl rfl (Nat.le_of_ble_eq_true rfl) dX5_wordHere_74) ixM rfl (fun _ => rfl) (fun r74 u74 h74 _ => ?_)
                  subst h74
                  refine s_bipush E dX5_wordHere_77 (v := nI 32) (by decide) ?_
                  refine s_icmp_ne E dX5_wordHere_79 (tgt := 97) rfl (fun c79 => ?_) (fun c79 => ?_)
                  · have hno : ¬ matchB (σ 1) b e w = true := match_f hst (fun h9 => c79 (by rw [h9.1]; exact hwf.2.2.1)) hm hi hbi
                    have L97 : ∀ (fuel : Nat) (k : Nat), (wSt w ≤ k) → (k ≤ wEn w) → (62 - k) < fuel → Sm pP l eE { frames := 4, cells := 0, slots := 0, locals := 85 } sS mM aA bB hM cC QQ AA D 4 0 0 (wm ad ct σ) 97 [(0, .ref (ad 0)), (1, .int (nI w)), (2, .int (nI k))] [] := by
                      intro fuel
                      induction fuel with
                      | zero =>
                        intro k hk1 hk2 hf97
                        exact absurd hf97 (Nat.not_lt_zero _)
                      | succ fuel ih97 =>
                        intro k hk1 hk2 hf97
                        refine s_ldcS E (E.2.2.2.2.2.2.1 : GN gt _ _ _).2.2.1 rfl dX5_wordHere_97 ?_
                        refine s_iload_n E dX5_wordHere_99 (i := 2) (j := 2) rfl rfl ?_
                        refine s_goi (ws2 := fun _ => wm ad ct σ) E cutM0 (rVK E cutM0 E.2.2.2.2.2.2.1 (i := 1) (by decide) (jJ0_charAt 1 k (by decide) (by show _ < 62; omega)) KM_142 (Nat.le_of_ble_eq_true rfl) (Nat.le_of_ble_eq_true rfl) (Nat.le_refl _) (Nat.le_refl _) rfl rfl (Nat.le_of_ble_eq_true rfl) dX5_wordHere_100) ixM rfl (fun _ => rfl) (fun r100 u100 h100 _ => ?_)
                        subst h100
                        refine s_bipush E dX5_wordHere_103 (v := nI 32) (by decide) ?_
                        refine s_icmp_eq E dX5_wordHere_105 (tgt := 114) rfl (fun c105 => ?_) (fun c105 => ?_)
                        · have he7 : k = wEn w := by by_cases h9 : k < wEn w; exact absurd c105 (hwf.2.2.2.2 _ h9 (by omega)); omega
                          refine s_iinc E (L2 := [(2, .int (nI (wSt (w + 1)))), (0, .ref (ad 0)), (1, .int (nI w))]) dX5_wordHere_114 (k := 2) rfl (v := nI (wSt (w + 1))) (by rw [hwf.2.2.2.1, ← he7]; exact nI_inc _) (Nat.le_of_ble_eq_true rfl) rfl ?_
                          refine s_iinc E (L2 := [(1, .int (nI (w + 1))), (2, .int (nI (wSt (w + 1)))), (0, .ref (ad 0))]) dX5_wordHere_117 (k := 2) rfl (v := nI (w + 1)) (nI_inc _) (Nat.le_of_ble_eq_true rfl) rfl ?_
                          refine s_goto E dX5_wordHere_120 (tgt := 4) rfl ?_
                          refine s_loc (L2 := [(0, .ref (ad 0)), (1, .int (nI (w + 1))), (2, .int (nI (wSt (w + 1))))]) [2, 0, 1] rfl ?_
                          exact ih4 (w + 1) (by omega) (firstN_next hf hno) (by omega)
                        · have he7 : k < wEn w := by rcases Nat.lt_or_ge k (wEn w) with h9 | h9; exact h9; exact absurd (by rw [show k = wEn w by omega]; exact hwf.2.2.1) c105
                          refine s_iinc E (L2 := [(2, .int (nI (k + 1))), (0, .ref (ad 0)), (1, .int (nI w))]) dX5_wordHere_108 (k := 2) rfl (v := nI (k + 1)) (nI_inc _) (Nat.le_of_ble_eq_true rfl) rfl ?_
                          refine s_goto E dX5_wordHere_111 (tgt := 97) rfl ?_
                          refine s_loc (L2 := [(0, .ref (ad 0)), (1, .int (nI w)), (2, .int (nI (k + 1)))]) [1, 2, 0] rfl ?_
                          exact ih97 (k + 1) (by omega) (by omega) (by omega)
                    refine s_loc (L2 := [(0, .ref (ad 0)), (1, .int (nI w)), (2, .int (nI (wSt w)))]) [0, 1, 2] rfl ?_
                    exact L97 (_ + 1) (wSt w) (Nat.le_refl _) (hwf.1) (Nat.lt_succ_self _)
                  · have he6 : wSt w + i = wEn w := by by_cases h9 : wSt w + i < wEn w; exact absurd c79 (hwf.2.2.2.2 _ h9 (by omega)); omega
                    refine s_aload_n E dX5_wordHere_82 (i := 0) (j := 0) rfl rfl ?_
                    refine mg18 E (v := nI b) (hb) dX5_wordHere_83 ?_
                    refine s_iload_n E dX5_wordHere_86 (i := 3) (j := 3) rfl rfl ?_
                    refine s_iadd_ E dX5_wordHere_87 (v := nI (b + i)) (nI_add _ _) ?_
                    refine s_aload_n E dX5_wordHere_88 (i := 0) (j := 0) rfl rfl ?_
                    refine mg17 E (v := nI e) (he) dX5_wordHere_89 ?_
                    refine s_icmp_ne E dX5_wordHere_92 (tgt := 97) rfl (fun c92 => ?_) (fun c92 => ?_)
                    · have c92 : ¬ b + i = e := fun h => c92 ((nI_eq (a := b + i) (b := e) (by omega) (by omega)).mpr h)
                      have hno : ¬ matchB (σ 1) b e w = true := match_f hst (fun h9 => c92 h9.2) hm hi hbi
                      have L97 : ∀ (fuel : Nat) (k : Nat), (wSt w ≤ k) → (k ≤ wEn w) → (62 - k) < fuel → Sm pP l eE { frames := 4, cells := 0, slots := 0, locals := 85 } sS mM aA bB hM cC QQ AA D 4 0 0 (wm ad ct σ) 97 [(0, .ref (ad 0)), (1, .int (nI w)), (2, .int (nI k))] [] := by
                        intro fuel
                        induction fuel with
                        | zero =>
                          intro k hk1 hk2 hf97
                          exact absurd hf97 (Nat.not_lt_zero _)
                        | succ fuel ih97 =>
                          intro k hk1 hk2 hf97
                          refine s_ldcS E (E.2.2.2.2.2.2.1 : GN gt _ _ _).2.2.1 rfl dX5_wordHere_97 ?_
                          refine s_iload_n E dX5_wordHere_99 (i := 2) (j := 2) rfl rfl ?_
                          refine s_goi (ws2 := fun _ => wm ad ct σ) E cutM0 (rVK E cutM0 E.2.2.2.2.2.2.1 (i := 1) (by decide) (jJ0_charAt 1 k (by decide) (by show _ < 62; omega)) KM_142 (Nat.le_of_ble_eq_true rfl) (Nat.le_of_ble_eq_true rfl) (Nat.le_refl _) (Nat.le_refl _) rfl rfl (Nat.le_of_ble_eq_true rfl) dX5_wordHere_100) ixM rfl (fun _ => rfl) (fun r100 u100 h100 _ => ?_)
                          subst h100
                          refine s_bipush E dX5_wordHere_103 (v := nI 32) (by decide) ?_
                          refine s_icmp_eq E dX5_wordHere_105 (tgt := 114) rfl (fun c105 => ?_) (fun c105 => ?_)
                          · have he7 : k = wEn w := by by_cases h9 : k < wEn w; exact absurd c105 (hwf.2.2.2.2 _ h9 (by omega)); omega
                            refine s_iinc E (L2 := [(2, .int (nI (wSt (w + 1)))), (0, .ref (ad 0)), (1, .int (nI w))]) dX5_wordHere_114 (k := 2) rfl (v := nI (wSt (w + 1))) (by rw [hwf.2.2.2.1, ← he7]; exact nI_inc _) (Nat.le_of_ble_eq_true rfl) rfl ?_
                            refine s_iinc E (L2 := [(1, .int (nI (w + 1))), (2, .int (nI (wSt (w + 1)))), (0, .ref (ad 0))]) dX5_wordHere_117 (k := 2) rfl (v := nI (w + 1)) (nI_inc _) (Nat.le_of_ble_eq_true rfl) rfl ?_
                            refine s_goto E dX5_wordHere_120 (tgt := 4) rfl ?_
                            refine s_loc (L2 := [(0, .ref (ad 0)), (1, .int (nI (w + 1))), (2, .int (nI (wSt (w + 1))))]) [2, 0, 1] rfl ?_
                            exact ih4 (w + 1) (by omega) (firstN_next hf hno) (by omega)
                          · have he7 : k < wEn w := by rcases Nat.lt_or_ge k (wEn w) with h9 | h9; exact h9; exact absurd (by rw [show k = wEn w by omega]; exact hwf.2.2.1) c105
                            refine s_iinc E (L2 := [(2, .int (nI (k + 1))), (0, .ref (ad 0)), (1, .int (nI w))]) dX5_wordHere_108 (k := 2) rfl (v := nI (k + 1)) (nI_inc _) (Nat.le_of_ble_eq_true rfl) rfl ?_
                            refine s_goto E dX5_wordHere_111 (tgt := 97) rfl ?_
                            refine s_loc (L2 := [(0, .ref (ad 0)), (1, .int (nI w)), (2, .int (nI (k + 1)))]) [1, 2, 0] rfl ?_
                            exact ih97 (k + 1) (by omega) (by omega) (by omega)
                      refine s_loc (L2 := [(0, .ref (ad 0)), (1, .int (nI w)), (2, .int (nI (wSt w)))]) [0, 1, 2] rfl ?_
                      exact L97 (_ + 1) (wSt w) (Nat.le_refl _) (hwf.1) (Nat.lt_succ_self _)
                    · have c92 : b + i = e := (nI_eq (a := b + i) (b := e) (by omega) (by omega)).mp c92
                      refine s_iload_n E dX5_wordHere_95 (i := 1) (j := 1) rfl rfl ?_
                      exact Rt (nI w) (σ) dX5_wordHere_96 (⟨by unfold wordI; rw [firstN_keep (p := w) (by omega) hf (match_t he6 c92 hm hi)]; exact m1I_s, rfl⟩) rfl (Nat.le_refl _) (Nat.le_refl _) rfl E.2.2.2.2.2.1
                · refine s_iinc E (L2 := [(3, .int (nI (i + 1))), (0, .ref (ad 0)), (1, .int (nI w)), (2, .int (nI (wSt w)))]) dX5_wordHere_63 (k := 3) rfl (v := nI (i + 1)) (nI_inc _) (Nat.le_of_ble_eq_true rfl) rfl ?_
                  refine s_goto E dX5_wordHere_66 (tgt := 15) rfl ?_
                  refine s_loc (L2 := [(0, .ref (ad 0)), (1, .int (nI w)), (2, .int (nI (wSt w))), (3, .int (nI (i + 1)))]) [1, 2, 3, 0] rfl ?_
                  exact ih15 (i + 1) (by omega) (by omega) (allB_s hm (by simp [bI, sameB, c10, hwl, hwf, hw62, c25, he5, c38, c60])) (by omega)
        refine s_loc (L2 := [(0, .ref (ad 0)), (1, .int (nI w)), (2, .int (nI (wSt w))), (3, .int (nI 0))]) [1, 2, 3, 0] rfl ?_
        exact L15 (_ + 1) 0 (hwf.1) (by omega) (rfl) (Nat.lt_succ_self _)
  refine s_loc (L2 := [(0, .ref (ad 0)), (1, .int (nI 0)), (2, .int (nI 0))]) [2, 1, 0] rfl ?_
  exact L4 (_ + 1) 0 (Nat.zero_le _) (rfl) (Nat.lt_succ_self _)
end
