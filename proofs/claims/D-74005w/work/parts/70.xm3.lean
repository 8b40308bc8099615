set_option maxRecDepth 100000
set_option maxHeartbeats 1000000 in
set_option maxRecDepth 100000 in
theorem x1z_apart {l : Launch} {D : va_G} {gt : Nat → Nat} {ad : Nat → Nat} {ct : Nat → ClassId} {n : Nat} {τ σ : Nat → Nat → Int32} {T : va_W} (u v : Nat) (hn6 : n ≤ 6) (hu : u < n) (hv : v < n) : Ct l D gt yX1_apart cX1_apart 3 .int 1 21 0 0 [.ref (ad 0), .int (nI u), .int (nI v)] (iw ad ct n τ σ T) (tysA ct) (fun r σ2 => absI (σ 1 u - σ 1 v) = r ∧ σ = σ2) (fun σ2 : Nat → Nat → Int32 => iw ad ct n τ σ2 T) (fun _ => tysA ct) := by
  refine Ct.start RX1 (by decide) rfl (Nat.le_of_ble_eq_true rfl) rfl ?_
  intro pP eE sS mM aA bB hM cC QQ AA E Rt
  refine s_aload_n E dX1_apart_0 (i := 0) (j := 0) rfl rfl ?_
  refine iwX1_g0_5 E dX1_apart_1 ?_
  refine iwX1_g7_0 E dX1_apart_4 ?_
  refine s_iload_n E dX1_apart_7 (i := 1) (j := 1) rfl rfl ?_
  refine iw_l8 E (v := σ 1 u) (u) (rfl) (by omega) hn6 (rfl) dX1_apart_8 ?_
  refine s_aload_n E dX1_apart_9 (i := 0) (j := 0) rfl rfl ?_
  refine iwX1_g0_5 E dX1_apart_10 ?_
  refine iwX1_g7_0 E dX1_apart_13 ?_
  refine s_iload_n E dX1_apart_16 (i := 2) (j := 2) rfl rfl ?_
  refine iw_l8 E (v := σ 1 v) (v) (rfl) (by omega) hn6 (rfl) dX1_apart_17 ?_
  refine s_isub E dX1_apart_18 ?_
  refine s_mabs E (v := absI (σ 1 u - σ 1 v)) (abs_eq _) q1067 q912 q121 q913 (Nat.le_of_ble_eq_true rfl) (Nat.le_of_ble_eq_true rfl) (Nat.zero_le _) (Nat.zero_le _) dX1_apart_19 ?_
  exact Rt (absI (σ 1 u - σ 1 v)) (σ) dX1_apart_22 (⟨rfl, rfl⟩) rfl (Nat.le_refl _) (Nat.le_refl _) rfl E.2.2.2.2.2.1
theorem iwX1_gu1 {p : Program} {l : Launch} {e : Env} {R : Room} {s : State} {m : MethodId} {args : Array Value} {below : List Frame} {meth : Method} {c : Code} {Q : State → Prop} {A : Nat → Prop} {D : va_G} {nL cells slots : Nat} {pc : Nat} {L : List (Nat × Value)} {S : List Value} {cc : ByteArray} {ret : Option FieldType} {gt : Nat → Nat} {ad : Nat → Nat} {ct : Nat → ClassId} {n : Nat} {τ σ : Nat → Nat → Int32} {T : va_W} (E : En p s m args meth c A cc nL RX1 ret D (tysA ct) gt) {v : Int32} (k : Nat) (hk : k < n) (hT : UT ad n τ T) (hv : τ 6 k = v) (d : decode cc pc = .ok (.getfield 212, 3)) (K : Sm p l e R s m args below meth c Q A D nL cells slots (iw ad ct n τ σ T) (pc + 3) L (.int v :: S)) : Sm p l e R s m args below meth c Q A D nL cells slots (iw ad ct n τ σ T) pc L (.ref (ad (100 + k)) :: S) := s_getN E in_X8 (47 + k) (iw_u hT hk) rfl 1 (Nat.le_of_ble_eq_true rfl) q720 (congrArg (fun z => some (Value.int z)) hv) rfl d K
theorem K_X1_288 : KV RX1 288 RX1 yX1_apart cX1_apart 3 (some .int) 2 := ⟨q1063, q1065, qs37, q113, q1066, by decide +kernel⟩
set_option maxHeartbeats 1000000 in
set_option maxRecDepth 100000 in
theorem x1z_nearest {l : Launch} {D : va_G} {gt : Nat → Nat} {ad : Nat → Nat} {ct : Nat → ClassId} {n : Nat} {τ σ : Nat → Nat → Int32} {T : va_W} (u : Int32) (hX : XT τ n) (hT : UT ad n τ T) : Ct l D gt yX1_nearest cX1_nearest 4 .int 2 43 0 0 [.ref (ad 0), .int (u)] (iw ad ct n τ σ T) (tysA ct) (fun r σ2 => (if isU n u = true then optI (nearF (vw τ (σ 1)) (tN u) n) else -1) = r ∧ σ = σ2) (fun σ2 : Nat → Nat → Int32 => iw ad ct n τ σ2 T) (fun _ => tysA ct) := by
  refine Ct.start RX1 (by decide) rfl (Nat.le_of_ble_eq_true rfl) rfl ?_
  intro pP eE sS mM aA bB hM cC QQ AA E Rt
  have hn6 := hX.2.1
  refine s_aload_n E dX1_nearest_0 (i := 0) (j := 0) rfl rfl ?_
  refine s_iload_n E dX1_nearest_1 (i := 1) (j := 1) rfl rfl ?_
  refine c_goi0 E (rV E (cutS _ _) (x1z_isUser u (hX)) K_X1_132 (Nat.le_of_ble_eq_true rfl) (Nat.le_of_ble_eq_true rfl) (Nat.zero_le _) (Nat.zero_le _) 0 rfl rfl rfl rfl (Nat.le_of_ble_eq_true rfl) dX1_nearest_2) (fun r2 w2 h2 => ?_)
  obtain ⟨rfl, rfl⟩ := h2
  refine s_if_ne E dX1_nearest_5 (tgt := 10) rfl (fun c5 => ?_) (fun c5 => ?_)
  · have c5 := bI_n0 c5
    obtain ⟨j, hj, rfl⟩ := us_isU c5 hn6
    refine s_bipush E dX1_nearest_10 (v := (-2)) (by decide) ?_
    refine s_istore_n E (L2 := [(2, .int ((-2))), (0, .ref (ad 0)), (1, .int (nI j))]) dX1_nearest_12 rfl (Nat.le_of_ble_eq_true rfl) rfl ?_
    refine s_iconst E dX1_nearest_13 (v := nI 0) (by decide) ?_
    refine s_istore_n E (L2 := [(3, .int (nI 0)), (2, .int ((-2))), (0, .ref (ad 0)), (1, .int (nI j))]) dX1_nearest_14 rfl (Nat.le_of_ble_eq_true rfl) rfl ?_
    have L15 : ∀ (fuel : Nat) (o : Nat), (o ≤ n) → (n - o) < fuel → Sm pP l eE { frames := 2, cells := 0, slots := 0, locals := 43 } sS mM aA bB hM cC QQ AA D 4 0 0 (iw ad ct n τ σ T) 15 [(0, .ref (ad 0)), (1, .int (nI j)), (2, .int (optI (nearF (vw τ (σ 1)) j o))), (3, .int (nI o))] [] := by
      intro fuel
      induction fuel with
      | zero =>
        intro o ho hf15
        exact absurd hf15 (Nat.not_lt_zero _)
      | succ fuel ih15 =>
        intro o ho hf15
        have hle := nearF_le (vw τ (σ 1)) j o
        refine s_iload_n E dX1_nearest_15 (i := 3) (j := 3) rfl rfl ?_
        refine s_aload_n E dX1_nearest_16 (i := 0) (j := 0) rfl rfl ?_
        refine iwX1_g0_4 E dX1_nearest_17 ?_
        refine iwX1_g2_4 E (v := nI n) (hX.1) dX1_nearest_20 ?_
        refine s_icmp_ge E dX1_nearest_23 (tgt := 112) rfl (fun c23 => ?_) (fun c23 => ?_)
        · have c23 : ¬ o < n := fun h => absurd c23 (Int32.not_le.mpr ((nI_ltI (a := o) (b := n) (by omega) (by omega)).mpr h))
          refine s_iload_n E dX1_nearest_112 (i := 2) (j := 2) rfl rfl ?_
          exact Rt (optI (nearF (vw τ (σ 1)) j o)) (σ) dX1_nearest_113 (⟨by rw [if_pos c5, tN_nI (by omega), show n = o by omega], rfl⟩) rfl (Nat.le_refl _) (Nat.le_refl _) rfl E.2.2.2.2.2.1
        · have c23 : o < n := (nI_ltI (a := o) (b := n) (by omega) (by omega)).mp (Int32.not_le.mp c23)
          refine s_iload_n E dX1_nearest_26 (i := 3) (j := 3) rfl rfl ?_
          refine s_iload_n E dX1_nearest_27 (i := 1) (j := 1) rfl rfl ?_
          refine s_icmp_eq E dX1_nearest_28 (tgt := 106) rfl (fun c28 => ?_) (fun c28 => ?_)
          · have c28 : o = j := (nI_eq (a := o) (b := j) (by omega) (by omega)).mp c28
            refine s_iinc E (L2 := [(3, .int (nI (o + 1))), (0, .ref (ad 0)), (1, .int (nI j)), (2, .int (optI (nearF (vw τ (σ 1)) j o)))]) dX1_nearest_106 (k := 3) rfl (v := nI (o + 1)) (nI_inc _) (Nat.le_of_ble_eq_true rfl) rfl ?_
            refine s_goto E dX1_nearest_109 (tgt := 15) rfl ?_
            refine s_loc (L2 := [(0, .ref (ad 0)), (1, .int (nI j)), (2, .int (optI (nearF (vw τ (σ 1)) j o))), (3, .int (nI (o + 1)))]) [1, 2, 3, 0] rfl ?_
            refine s_L (L2 := [(0, .ref (ad 0)), (1, .int (nI j)), (2, .int (optI (nearF (vw τ (σ 1)) j (o + 1)))), (3, .int (nI (o + 1)))]) (by rw [nearF, if_neg (show ¬ nearK (vw τ (σ 1)) j o = true from by unfold nearK; simp only [Bool.and_eq_true, Bool.not_eq_true', decide_eq_false_iff_not, decide_eq_true_eq]; exact fun h => h.1.1.1 c28)]) ?_
            exact ih15 (o + 1) (by omega) (by omega)
          · have c28 : ¬ o = j := fun h => c28 ((nI_eq (a := o) (b := j) (by omega) (by omega)).mpr h)
            refine s_aload_n E dX1_nearest_31 (i := 0) (j := 0) rfl rfl ?_
            refine iwX1_g0_4 E dX1_nearest_32 ?_
            refine iwX1_g2_0 E dX1_nearest_35 ?_
            refine s_iload_n E dX1_nearest_38 (i := 3) (j := 3) rfl rfl ?_
            refine iwX1_l3 E (o) (rfl) (by omega) hn6 dX1_nearest_39 ?_
            refine iwX1_gu1 E (v := τ 6 o) (o) (by omega) hT (rfl) dX1_nearest_40 ?_
            refine s_aload_n E dX1_nearest_43 (i := 0) (j := 0) rfl rfl ?_
            refine iwX1_g0_4 E dX1_nearest_44 ?_
            refine iwX1_g2_0 E dX1_nearest_47 ?_
            refine s_iload_n E dX1_nearest_50 (i := 1) (j := 1) rfl rfl ?_
            refine iwX1_l3 E (j) (rfl) (by omega) hn6 dX1_nearest_51 ?_
            refine iwX1_gu1 E (v := τ 6 j) (j) (by omega) hT (rfl) dX1_nearest_52 ?_
            refine s_icmp_ne E dX1_nearest_55 (tgt := 106) rfl (fun c55 => ?_) (fun c55 => ?_)
            · refine s_iinc E (L2 := [(3, .int (nI (o + 1))), (0, .ref (ad 0)), (1, .int (nI j)), (2, .int (optI (nearF (vw τ (σ 1)) j o)))]) dX1_nearest_106 (k := 3) rfl (v := nI (o + 1)) (nI_inc _) (Nat.le_of_ble_eq_true rfl) rfl ?_
              refine s_goto E dX1_nearest_109 (tgt := 15) rfl ?_
              refine s_loc (L2 := [(0, .ref (ad 0)), (1, .int (nI j)), (2, .int (optI (nearF (vw τ (σ 1)) j o))), (3, .int (nI (o + 1)))]) [1, 2, 3, 0] rfl ?_
              refine s_L (L2 := [(0, .ref (ad 0)), (1, .int (nI j)), (2, .int (optI (nearF (vw τ (σ 1)) j (o + 1)))), (3, .int (nI (o + 1)))]) (by rw [nearF, if_neg (show ¬ nearK (vw τ (σ 1)) j o = true from by unfold nearK; simp only [Bool.and_eq_true, Bool.not_eq_true', decide_eq_false_iff_not, decide_eq_true_eq]; exact fun h => c55 h.1.1.2)]) ?_
              exact ih15 (o + 1) (by omega) (by omega)
            · refine s_aload_n E dX1_nearest_58 (i := 0) (j := 0) rfl rfl ?_
              refine iwX1_g0_5 E dX1_nearest_59 ?_
              refine iwX1_g7_0 E dX1_nearest_62 ?_
              refine s_iload_n E dX1_nearest_65 (i := 3) (j := 3) rfl rfl ?_
              refine iw_l8 E (v := σ 1 o) (o) (rfl) (by omega) hn6 (rfl) dX1_nearest_66 ?_
              refine s_if_eq E dX1_nearest_67 (tgt := 106) rfl (fun c67 => ?_) (fun c67 => ?_)
              · refine s_iinc E (L2 := [(3, .int (nI (o + 1))), (0, .ref (ad 0)), (1, .int (nI j)), (2, .int (optI (nearF (vw τ (σ 1)) j o)))]) dX1_nearest_106 (k := 3) rfl (v := nI (o + 1)) (nI_inc _) (Nat.le_of_ble_eq_true rfl) rfl ?_
                refine s_goto E dX1_nearest_109 (tgt := 15) rfl ?_
                refine s_loc (L2 := [(0, .ref (ad 0)), (1, .int (nI j)), (2, .int (optI (nearF (vw τ (σ 1)) j o))), (3, .int (nI (o + 1)))]) [1, 2, 3, 0] rfl ?_
                refine s_L (L2 := [(0, .ref (ad 0)), (1, .int (nI j)), (2, .int (optI (nearF (vw τ (σ 1)) j (o + 1)))), (3, .int (nI (o + 1)))]) (by rw [nearF, if_neg (show ¬ nearK (vw τ (σ 1)) j o = true from by unfold nearK; simp only [Bool.and_eq_true, Bool.not_eq_true', decide_eq_false_iff_not, decide_eq_true_eq]; exact fun h => h.1.2 c67)]) ?_
                exact ih15 (o + 1) (by omega) (by omega)
              · refine s_aload_n E dX1_nearest_70 (i := 0) (j := 0) rfl rfl ?_
                refine iwX1_g0_5 E dX1_nearest_71 ?_
                refine iwX1_g7_0 E dX1_nearest_74 ?_
                refine s_iload_n E dX1_nearest_77 (i := 1) (j := 1) rfl rfl ?_
                refine iw_l8 E (v := σ 1 j) (j) (rfl) (by omega) hn6 (rfl) dX1_nearest_78 ?_
                refine s_if_ne E dX1_nearest_79 (tgt := 85) rfl (fun c79 => ?_) (fun c79 => ?_)
                · refine s_iload_n E dX1_nearest_85 (i := 2) (j := 2) rfl rfl ?_
                  refine s_if_lt E dX1_nearest_86 (tgt := 104) rfl (fun c86 => ?_) (fun c86 => ?_)
                  · have hz := (optI_neg (by omega)).mp c86
                    refine s_iload_n E dX1_nearest_104 (i := 3) (j := 3) rfl rfl ?_
                    refine s_istore_n E (L2 := [(2, .int (nI o)), (0, .ref (ad 0)), (1, .int (nI j)), (3, .int (nI o))]) dX1_nearest_105 rfl (Nat.le_of_ble_eq_true rfl) rfl ?_
                    refine s_iinc E (L2 := [(3, .int (nI (o + 1))), (2, .int (nI o)), (0, .ref (ad 0)), (1, .int (nI j))]) dX1_nearest_106 (k := 3) rfl (v := nI (o + 1)) (nI_inc _) (Nat.le_of_ble_eq_true rfl) rfl ?_
                    refine s_goto E dX1_nearest_109 (tgt := 15) rfl ?_
                    refine s_loc (L2 := [(0, .ref (ad 0)), (1, .int (nI j)), (2, .int (nI o)), (3, .int (nI (o + 1)))]) [2, 3, 1, 0] rfl ?_
                    refine s_L (L2 := [(0, .ref (ad 0)), (1, .int (nI j)), (2, .int (optI (nearF (vw τ (σ 1)) j (o + 1)))), (3, .int (nI (o + 1)))]) (by rw [nearF, if_pos (show nearK (vw τ (σ 1)) j o = true from by unfold nearK; simp only [Bool.and_eq_true, Bool.not_eq_true', decide_eq_false_iff_not, decide_eq_true_eq]; exact ⟨⟨⟨c28, c55⟩, c67⟩, c79⟩), if_pos hz]; rfl) ?_
                    exact ih15 (o + 1) (by omega) (by omega)
                  · have hz := optI_s (k := nearF (vw τ (σ 1)) j o) (by intro e; rw [e] at c86; exact c86 (by decide))
                    refine s_aload_n E dX1_nearest_89 (i := 0) (j := 0) rfl rfl ?_
                    refine s_iload_n E dX1_nearest_90 (i := 3) (j := 3) rfl rfl ?_
                    refine s_iload_n E dX1_nearest_91 (i := 1) (j := 1) rfl rfl ?_
                    refine c_goi0 E (rV E (cutS _ _) (x1z_apart o j (hn6) (by omega) (hj)) K_X1_288 (Nat.le_of_ble_eq_true rfl) (Nat.le_of_ble_eq_true rfl) (Nat.zero_le _) (Nat.zero_le _) 0 rfl rfl rfl rfl (Nat.le_of_ble_eq_true rfl) dX1_nearest_92) (fun r92 w92 h92 => ?_)
                    obtain ⟨rfl, rfl⟩ := h92
                    refine s_aload_n E dX1_nearest_95 (i := 0) (j := 0) rfl rfl ?_
                    refine s_iload_n E dX1_nearest_96 (i := 2) (j := 2) rfl rfl ?_
                    refine s_top (v2 := nI (nearF (vw τ (σ 1)) j o - 1)) (hz.2) ?_
                    refine s_iload_n E dX1_nearest_97 (i := 1) (j := 1) rfl rfl ?_
                    refine c_goi0 E (rV E (cutS _ _) (x1z_apart (nearF (vw τ (σ 1)) j o - 1) j (hn6) (by have := hz.1; omega) (hj)) K_X1_288 (Nat.le_of_ble_eq_true rfl) (Nat.le_of_ble_eq_true rfl) (Nat.zero_le _) (Nat.zero_le _) 0 rfl rfl rfl rfl (Nat.le_of_ble_eq_true rfl) dX1_nearest_98) (fun r98 w98 h98 => ?_)
                    obtain ⟨rfl, rfl⟩ := h98
                    refine s_icmp_ge E dX1_nearest_101 (tgt := 106) rfl (fun c101 => ?_) (fun c101 => ?_)
                    · have c101 := Int32.not_lt.mpr c101
                      refine s_iinc E (L2 := [(3, .int (nI (o + 1))), (0, .ref (ad 0)), (1, .int (nI j)), (2, .int (optI (nearF (vw τ (σ 1)) j o)))]) dX1_nearest_106 (k := 3) rfl (v := nI (o + 1)) (nI_inc _) (Nat.le_of_ble_eq_true rfl) rfl ?_
                      refine s_goto E dX1_nearest_109 (tgt := 15) rfl ?_
                      refine s_loc (L2 := [(0, .ref (ad 0)), (1, .int (nI j)), (2, .int (optI (nearF (vw τ (σ 1)) j o))), (3, .int (nI (o + 1)))]) [1, 2, 3, 0] rfl ?_
                      refine s_L (L2 := [(0, .ref (ad 0)), (1, .int (nI j)), (2, .int (optI (nearF (vw τ (σ 1)) j (o + 1)))), (3, .int (nI (o + 1)))]) (by rw [nearF, if_pos (show nearK (vw τ (σ 1)) j o = true from by unfold nearK; simp only [Bool.and_eq_true, Bool.not_eq_true', decide_eq_false_iff_not, decide_eq_true_eq]; exact ⟨⟨⟨c28, c55⟩, c67⟩, c79⟩), if_neg (by have := hz.1; omega), if_neg (show ¬ absI ((vw τ (σ 1)) 25 o - (vw τ (σ 1)) 25 j) < absI ((vw τ (σ 1)) 25 (nearF (vw τ (σ 1)) j o - 1) - (vw τ (σ 1)) 25 j) from c101)]) ?_
                      exact ih15 (o + 1) (by omega) (by omega)
                    · have c101 := Int32.not_le.mp c101
                      refine s_iload_n E dX1_nearest_104 (i := 3) (j := 3) rfl rfl ?_
                      refine s_istore_n E (L2 := [(2, .int (nI o)), (0, .ref (ad 0)), (1, .int (nI j)), (3, .int (nI o))]) dX1_nearest_105 rfl (Nat.le_of_ble_eq_true rfl) rfl ?_
                      refine s_iinc E (L2 := [(3, .int (nI (o + 1))), (2, .int (nI o)), (0, .ref (ad 0)), (1, .int (nI j))]) dX1_nearest_106 (k := 3) rfl (v := nI (o + 1)) (nI_inc _) (Nat.le_of_ble_eq_true rfl) rfl ?_
                      refine s_goto E dX1_nearest_109 (tgt := 15) rfl ?_
                      refine s_loc (L2 := [(0, .ref (ad 0)), (1, .int (nI j)), (2, .int (nI o)), (3, .int (nI (o + 1)))]) [2, 3, 1, 0] rfl ?_
                      refine s_L (L2 := [(0, .ref (ad 0)), (1, .int (nI j)), (2, .int (optI (nearF (vw τ (σ 1)) j (o + 1)))), (3, .int (nI (o + 1)))]) (by rw [nearF, if_pos (show nearK (vw τ (σ 1)) j o = true from by unfold nearK; simp only [Bool.and_eq_true, Bool.not_eq_true', decide_eq_false_iff_not, decide_eq_true_eq]; exact ⟨⟨⟨c28, c55⟩, c67⟩, c79⟩), if_neg (by have := hz.1; omega), if_pos (show absI ((vw τ (σ 1)) 25 o - (vw τ (σ 1)) 25 j) < absI ((vw τ (σ 1)) 25 (nearF (vw τ (σ 1)) j o - 1) - (vw τ (σ 1)) 25 j) from c101)]; rfl) ?_
                      exact ih15 (o + 1) (by omega) (by omega)
                · refine s_goto E dX1_nearest_82 (tgt := 106) rfl ?_
                  refine s_iinc E (L2 := [(3, .int (nI (o + 1))), (0, .ref (ad 0)), (1, .int (nI j)), (2, .int (optI (nearF (vw τ (σ 1)) j o)))]) dX1_nearest_106 (k := 3) rfl (v := nI (o + 1)) (nI_inc _) (Nat.le_of_ble_eq_true rfl) rfl ?_
                  refine s_goto E dX1_nearest_109 (tgt := 15) rfl ?_
                  refine s_loc (L2 := [(0, .ref (ad 0)), (1, .int (nI j)), (2, .int (optI (nearF (vw τ (σ 1)) j o))), (3, .int (nI (o + 1)))]) [1, 2, 3, 0] rfl ?_
                  refine s_L (L2 := [(0, .ref (ad 0)), (1, .int (nI j)), (2, .int (optI (nearF (vw τ (σ 1)) j (o + 1)))), (3, .int (nI (o + 1)))]) (by rw [nearF, if_neg (show ¬ nearK (vw τ (σ 1)) j o = true from by unfold nearK; simp only [Bool.and_eq_true, Bool.not_eq_true', decide_eq_false_iff_not, decide_eq_true_eq]; exact fun h => h.2 c79)]) ?_
                  exact ih15 (o + 1) (by omega) (by omega)
    refine s_loc (L2 := [(0, .ref (ad 0)), (1, .int (nI j)), (2, .int ((-2))), (3, .int (nI 0))]) [2, 3, 1, 0] rfl ?_
    exact L15 (_ + 1) 0 (Nat.zero_le _) (Nat.lt_succ_self _)
  · have c5 := bI_0 c5
    refine s_iconst E dX1_nearest_8 (v := (-1)) (by decide) ?_
    exact Rt ((-1)) (σ) dX1_nearest_9 (⟨by rw [if_neg c5], rfl⟩) rfl (Nat.le_refl _) (Nat.le_refl _) rfl E.2.2.2.2.2.1
theorem K_X1_139 : KV RX1 139 RX1 yX1_isChannel cX1_isChannel 2 (some .boolean) 1 := ⟨q818, q820, qs20, q113, q821, by decide +kernel⟩
set_option maxHeartbeats 1000000 in
set_option maxRecDepth 100000 in
theorem x1z_blocked {l : Launch} {D : va_G} {gt : Nat → Nat} {ad : Nat → Nat} {ct : Nat → ClassId} {n : Nat} {τ σ : Nat → Nat → Int32} {T : va_W} (v : Int32) (hX : XT τ n) (hb : BB (σ 1)) : Ct l D gt yX1_blocked cX1_blocked 2 .int 2 43 0 0 [.ref (ad 0), .int (v)] (iw ad ct n τ σ T) (tysA ct) (fun r σ2 => (if isC τ v = true then σ 1 (12 + tN v) else -1) = r ∧ σ = σ2) (fun σ2 : Nat → Nat → Int32 => iw ad ct n τ σ2 T) (fun _ => tysA ct) := by
  refine Ct.start RX1 (by decide) rfl (Nat.le_of_ble_eq_true rfl) rfl ?_
  intro pP eE sS mM aA bB hM cC QQ AA E Rt
  have hB1 := hX.2.2.2.2.1
  refine s_aload_n E dX1_blocked_0 (i := 0) (j := 0) rfl rfl ?_
  refine s_iload_n E dX1_blocked_1 (i := 1) (j := 1) rfl rfl ?_
  refine c_goi0 E (rV E (cutS _ _) (x1z_isChannel v) K_X1_139 (Nat.le_of_ble_eq_true rfl) (Nat.le_of_ble_eq_true rfl) (Nat.zero_le _) (Nat.zero_le _) 0 rfl rfl rfl rfl (Nat.le_of_ble_eq_true rfl) dX1_blocked_2) (fun r2 w2 h2 => ?_)
  obtain ⟨rfl, rfl⟩ := h2
  refine s_if_ne E dX1_blocked_5 (tgt := 12) rfl (fun c5 => ?_) (fun c5 => ?_)
  · have c5 := bI_n0 c5
    obtain ⟨j, hj1, hj, rfl⟩ := ch_of (isC_iff.mp c5) hB1.1 (by have := hB1.2; omega)
    refine s_aload_n E dX1_blocked_12 (i := 0) (j := 0) rfl rfl ?_
    refine iwX1_g0_5 E dX1_blocked_13 ?_
    refine iwX1_g7_3 E dX1_blocked_16 ?_
    refine s_iload_n E dX1_blocked_19 (i := 1) (j := 1) rfl rfl ?_
    refine iw_l11 E (v := σ 1 (12 + j)) (j) (rfl) (by have := hB1.2; omega) (rfl) dX1_blocked_20 ?_
    refine s_if_eq E dX1_blocked_21 (tgt := 28) rfl (fun c21 => ?_) (fun c21 => ?_)
    · refine s_iconst E dX1_blocked_28 (v := nI 0) (by decide) ?_
      exact Rt (nI 0) (σ) dX1_blocked_29 (⟨by rw [if_pos c5, tN_nI (by have := hB1.2; omega)]; exact c21, rfl⟩) rfl (Nat.le_refl _) (Nat.le_refl _) rfl E.2.2.2.2.2.1
    · refine s_iconst E dX1_blocked_24 (v := nI 1) (by decide) ?_
      refine s_goto E dX1_blocked_25 (tgt := 29) rfl ?_
      exact Rt (nI 1) (σ) dX1_blocked_29 (⟨by rw [if_pos c5, tN_nI (by have := hB1.2; omega)]; rcases hb j (by have := hB1.2; omega) with e | e; exact absurd e c21; exact e, rfl⟩) rfl (Nat.le_refl _) (Nat.le_refl _) rfl E.2.2.2.2.2.1
  · have c5 := bI_0 c5
    refine s_iconst E dX1_blocked_8 (v := (-1)) (by decide) ?_
    refine s_goto E dX1_blocked_9 (tgt := 29) rfl ?_
    exact Rt ((-1)) (σ) dX1_blocked_29 (⟨by rw [if_neg c5], rfl⟩) rfl (Nat.le_refl _) (Nat.le_refl _) rfl E.2.2.2.2.2.1
theorem iwX1_g2_3 {p : Program} {l : Launch} {e : Env} {R : Room} {s : State} {m : MethodId} {args : Array Value} {below : List Frame} {meth : Method} {c : Code} {Q : State → Prop} {A : Nat → Prop} {D : va_G} {nL cells slots : Nat} {pc : Nat} {L : List (Nat × Value)} {S : List Value} {cc : ByteArray} {ret : Option FieldType} {gt : Nat → Nat} {ad : Nat → Nat} {ct : Nat → ClassId} {n : Nat} {τ σ : Nat → Nat → Int32} {T : va_W} (E : En p s m args meth c A cc nL RX1 ret D (tysA ct) gt) (d : decode cc pc = .ok (.getfield 302, 3)) (K : Sm p l e R s m args below meth c Q A D nL cells slots (iw ad ct n τ σ T) (pc + 3) L (.ref (ad 6) :: S)) : Sm p l e R s m args below meth c Q A D nL cells slots (iw ad ct n τ σ T) pc L (.ref (ad 2) :: S) := s_getN E in_X2 2 rfl rfl 3 (Nat.le_of_ble_eq_true rfl) q167 rfl rfl d K
theorem iw_l6 {p : Program} {l : Launch} {e : Env} {R : Room} {s : State} {m : MethodId} {args : Array Value} {below : List Frame} {meth : Method} {c : Code} {Q : State → Prop} {A : Nat → Prop} {D : va_G} {nL cells slots : Nat} {pc : Nat} {L : List (Nat × Value)} {S : List Value} {cc : ByteArray} {ret : Option FieldType} {gt : Nat → Nat} {ad : Nat → Nat} {ct : Nat → ClassId} {n : Nat} {τ σ : Nat → Nat → Int32} {T : va_W} {own : String} (E : En p s m args meth c A cc nL own ret D (tysA ct) gt) {i v : Int32} (N : Nat) (hi : i = nI N) (hN : N < 9) (hv : lnkF τ N = v) (d : decode cc pc = .ok (.iaload, 1)) (K : Sm p l e R s m args below meth c Q A D nL cells slots (iw ad ct n τ σ T) (pc + 1) L (.int v :: S)) : Sm p l e R s m args below meth c Q A D nL cells slots (iw ad ct n τ σ T) pc L (.int i :: .ref (ad 6) :: S) := s_iald E 6 0 rfl rfl N hi hN (Nat.le_of_ble_eq_true rfl) hv d K
set_option maxHeartbeats 1000000 in
set_option maxRecDepth 100000 in
theorem x1z_linked {l : Launch} {D : va_G} {gt : Nat → Nat} {ad : Nat → Nat} {ct : Nat → ClassId} {n : Nat} {τ σ : Nat → Nat → Int32} {T : va_W} (a b : Int32)  : Ct l D gt yX1_linked cX1_linked 3 .int 1 22 0 0 [.ref (ad 0), .int (a), .int (b)] (iw ad ct n τ σ T) (tysA ct) (fun r σ2 => linkedF τ a b = r ∧ σ = σ2) (fun σ2 : Nat → Nat → Int32 => iw ad ct n τ σ2 T) (fun _ => tysA ct) := by
  refine Ct.start RX1 (by decide) rfl (Nat.le_of_ble_eq_true rfl) rfl ?_
  intro pP eE sS mM aA bB hM cC QQ AA E Rt
  refine s_iload_n E dX1_linked_0 (i := 1) (j := 1) rfl rfl ?_
  refine s_iconst E dX1_linked_1 (v := nI 0) (by decide) ?_
  refine s_iconst E dX1_linked_2 (v := nI 2) (by decide) ?_
  refine c_gos E (rS E (cutZ _ _) (x1z_isIn a (nI 0) (nI 2)) K_X1_75 (Nat.le_of_ble_eq_true rfl) (Nat.le_of_ble_eq_true rfl) (Nat.zero_le _) (Nat.zero_le _) rfl rfl (Nat.le_of_ble_eq_true rfl) dX1_linked_3) (fun r3 h3 => ?_)
  subst h3
  refine s_if_eq E dX1_linked_6 (tgt := 23) rfl (fun c6 => ?_) (fun c6 => ?_)
  · have c6 := bI_0 c6
    refine s_iconst E dX1_linked_23 (v := (-1)) (by decide) ?_
    refine s_goto E dX1_linked_24 (tgt := 40) rfl ?_
    exact Rt ((-1)) (σ) dX1_linked_40 (⟨linked_o (Or.inl c6), rfl⟩) rfl (Nat.le_refl _) (Nat.le_refl _) rfl E.2.2.2.2.2.1
  · have c6 := bI_n0 c6
    obtain ⟨i, hi, rfl⟩ := in_rng c6 (by decide)
    refine s_iload_n E dX1_linked_9 (i := 2) (j := 2) rfl rfl ?_
    refine s_iconst E dX1_linked_10 (v := nI 0) (by decide) ?_
    refine s_iconst E dX1_linked_11 (v := nI 2) (by decide) ?_
    refine c_gos E (rS E (cutZ _ _) (x1z_isIn b (nI 0) (nI 2)) K_X1_75 (Nat.le_of_ble_eq_true rfl) (Nat.le_of_ble_eq_true rfl) (Nat.zero_le _) (Nat.zero_le _) rfl rfl (Nat.le_of_ble_eq_true rfl) dX1_linked_12) (fun r12 h12 => ?_)
    subst h12
    refine s_if_eq E dX1_linked_15 (tgt := 23) rfl (fun c15 => ?_) (fun c15 => ?_)
    · have c15 := bI_0 c15
      refine s_iconst E dX1_linked_23 (v := (-1)) (by decide) ?_
      refine s_goto E dX1_linked_24 (tgt := 40) rfl ?_
      exact Rt ((-1)) (σ) dX1_linked_40 (⟨linked_o (Or.inr (Or.inl c15)), rfl⟩) rfl (Nat.le_refl _) (Nat.le_refl _) rfl E.2.2.2.2.2.1
    · have c15 := bI_n0 c15
      obtain ⟨j, hj, rfl⟩ := in_rng c15 (by decide)
      refine s_iload_n E dX1_linked_18 (i := 1) (j := 1) rfl rfl ?_
      refine s_iload_n E dX1_linked_19 (i := 2) (j := 2) rfl rfl ?_
      refine s_icmp_ne E dX1_linked_20 (tgt := 27) rfl (fun c20 => ?_) (fun c20 => ?_)
      · have c20 : ¬ i = j := fun h => c20 ((nI_eq (a := i) (b := j) (by omega) (by omega)).mpr h)
        refine s_aload_n E dX1_linked_27 (i := 0) (j := 0) rfl rfl ?_
        refine iwX1_g0_4 E dX1_linked_28 ?_
        refine iwX1_g2_3 E dX1_linked_31 ?_
        refine s_iconst E dX1_linked_34 (v := nI 3) (by decide) ?_
        refine s_iload_n E dX1_linked_35 (i := 1) (j := 1) rfl rfl ?_
        refine s_imul_ E dX1_linked_36 (v := nI (3 * i)) (pk_mul _ _) ?_
        refine s_iload_n E dX1_linked_37 (i := 2) (j := 2) rfl rfl ?_
        refine s_iadd_ E dX1_linked_38 (v := nI ((3 * i) + j)) (nI_add _ _) ?_
        refine iw_l6 E (v := linkedF τ (nI i) (nI j)) ((3 * i) + j) (rfl) (by omega) (by rw [linked_i hi hj c20]; exact lnk_ne hi hj c20) dX1_linked_39 ?_
        exact Rt (linkedF τ (nI i) (nI j)) (σ) dX1_linked_40 (⟨rfl, rfl⟩) rfl (Nat.le_refl _) (Nat.le_refl _) rfl E.2.2.2.2.2.1
      · have c20 : i = j := (nI_eq (a := i) (b := j) (by omega) (by omega)).mp c20
        refine s_iconst E dX1_linked_23 (v := (-1)) (by decide) ?_
        refine s_goto E dX1_linked_24 (tgt := 40) rfl ?_
        exact Rt ((-1)) (σ) dX1_linked_40 (⟨linked_o (Or.inr (Or.inr (by rw [c20]))), rfl⟩) rfl (Nat.le_refl _) (Nat.le_refl _) rfl E.2.2.2.2.2.1
