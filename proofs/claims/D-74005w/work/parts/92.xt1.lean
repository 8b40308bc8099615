set_option maxRecDepth 100000
theorem iwX1_p0_1 {p : Program} {l : Launch} {e : Env} {R : Room} {s : State} {m : MethodId} {args : Array Value} {below : List Frame} {meth : Method} {c : Code} {Q : State → Prop} {A : Nat → Prop} {D : va_G} {nL cells slots : Nat} {pc : Nat} {L : List (Nat × Value)} {S : List Value} {cc : ByteArray} {ret : Option FieldType} {gt : Nat → Nat} {ad : Nat → Nat} {ct : Nat → ClassId} {n : Nat} {τ σ : Nat → Nat → Int32} {T : va_W} (E : En p s m args meth c A cc nL RX1 ret D (tysA ct) gt) {v : Int32} (d : decode cc pc = .ok (.putfield 72, 3)) (K : Sm p l e R s m args below meth c Q A D nL cells slots (iw ad ct n τ (st1 σ 0 1 v) T) (pc + 3) L S) : Sm p l e R s m args below meth c Q A D nL cells slots (iw ad ct n τ σ T) pc L (.int v :: .ref (ad 0) :: S) := s_put E in_X1 tyX1 tyX1_ok nmX1 0 rfl rfl 1 (Nat.le_of_ble_eq_true rfl) q390 rfl rfl rfl rfl (Nat.le_of_ble_eq_true rfl) rfl d K
theorem iwX1_g0_0 {p : Program} {l : Launch} {e : Env} {R : Room} {s : State} {m : MethodId} {args : Array Value} {below : List Frame} {meth : Method} {c : Code} {Q : State → Prop} {A : Nat → Prop} {D : va_G} {nL cells slots : Nat} {pc : Nat} {L : List (Nat × Value)} {S : List Value} {cc : ByteArray} {ret : Option FieldType} {gt : Nat → Nat} {ad : Nat → Nat} {ct : Nat → ClassId} {n : Nat} {τ σ : Nat → Nat → Int32} {T : va_W} (E : En p s m args meth c A cc nL RX1 ret D (tysA ct) gt) (d : decode cc pc = .ok (.getfield 22, 3)) (K : Sm p l e R s m args below meth c Q A D nL cells slots (iw ad ct n τ σ T) (pc + 3) L (.ref (ad 1) :: S)) : Sm p l e R s m args below meth c Q A D nL cells slots (iw ad ct n τ σ T) pc L (.ref (ad 0) :: S) := s_get E in_X1 0 rfl rfl 0 (Nat.le_of_ble_eq_true rfl) q388 rfl rfl d K
theorem iw_s1 {p : Program} {l : Launch} {e : Env} {R : Room} {s : State} {m : MethodId} {args : Array Value} {below : List Frame} {meth : Method} {c : Code} {Q : State → Prop} {A : Nat → Prop} {D : va_G} {nL cells slots : Nat} {pc : Nat} {L : List (Nat × Value)} {S : List Value} {cc : ByteArray} {ret : Option FieldType} {gt : Nat → Nat} {ad : Nat → Nat} {ct : Nat → ClassId} {n : Nat} {τ σ : Nat → Nat → Int32} {T : va_W} {own : String} (E : En p s m args meth c A cc nL own ret D (tysA ct) gt) {i v : Int32} (hy : vp_nar .byte v = v) (N : Nat) (hi : i = nI N) (hN : N < 700) (d : decode cc pc = .ok (.bastore, 1)) (K : Sm p l e R s m args below meth c Q A D nL cells slots (iw ad ct n τ (st1 σ 9 N v) T) (pc + 1) L S) : Sm p l e R s m args below meth c Q A D nL cells slots (iw ad ct n τ σ T) pc L (.int v :: .int i :: .ref (ad 1) :: S) := s_bast E 1 2 rfl rfl hy N hi hN (Nat.le_of_ble_eq_true rfl) rfl d K
set_option maxHeartbeats 1000000 in
set_option maxRecDepth 100000 in
theorem x1z_feed {l : Launch} {D : va_G} {gt : Nat → Nat} {ad : Nat → Nat} {ct : Nat → ClassId} {n : Nat} {τ σ : Nat → Nat → Int32} {T : va_W} (n7 : Nat) (a b c d e : Int32) (ht : σ 0 1 = nI n7) (hn7 : n7 ≤ 700) : Ct l D gt yX1_feed cX1_feed 8 .int 0 0 0 0 [.ref (ad 0), .int (a), .int (b), .int (c), .int (d), .int (e)] (iw ad ct n τ σ T) (tysA ct) (fun r σ2 => (if 680 < n7 then -1 else nI (n7 + 20)) = r ∧ (if 680 < n7 then σ else feedX σ n7 a b c d e) = σ2) (fun σ2 : Nat → Nat → Int32 => iw ad ct n τ σ2 T) (fun _ => tysA ct) := by
  refine Ct.start RX1 (by decide) rfl (Nat.le_of_ble_eq_true rfl) rfl ?_
  intro pP eE sS mM aA bB hM cC QQ AA E Rt
  refine s_aload_n E dX1_feed_0 (i := 0) (j := 0) rfl rfl ?_
  refine iwX1_g0_1 E (v := nI n7) (ht) dX1_feed_1 ?_
  refine s_bipush E dX1_feed_4 (v := nI 20) (by decide) ?_
  refine s_iadd_ E dX1_feed_6 (v := nI (n7 + 20)) (nI_add _ _) ?_
  refine s_sipush E dX1_feed_7 (v := nI 700) (by decide) ?_
  refine s_icmp_le E dX1_feed_10 (tgt := 15) rfl (fun c10 => ?_) (fun c10 => ?_)
  · have c10 : ¬ 700 < n7 + 20 := fun h => absurd c10 (Int32.not_le.mpr ((nI_ltI (a := 700) (b := n7 + 20) (by omega) (by omega)).mpr h))
    refine s_iconst E dX1_feed_15 (v := nI 0) (by decide) ?_
    refine s_istore E (L2 := [(6, .int (nI 0)), (0, .ref (ad 0)), (1, .int (a)), (2, .int (b)), (3, .int (c)), (4, .int (d)), (5, .int (e))]) dX1_feed_16 (Nat.le_of_ble_eq_true rfl) rfl ?_
    have L18 : ∀ (fuel : Nat) (k : Nat), (k ≤ 20) → (20 - k) < fuel → Sm pP l eE { frames := 0, cells := 0, slots := 0, locals := 0 } sS mM aA bB hM cC QQ AA D 8 0 0 (iw ad ct n τ (upR σ 9 (fdR σ n7 a b c d e k)) T) 18 [(0, .ref (ad 0)), (1, .int (a)), (2, .int (b)), (3, .int (c)), (4, .int (d)), (5, .int (e)), (6, .int (nI k))] [] := by
      intro fuel
      induction fuel with
      | zero =>
        intro k hk hf18
        exact absurd hf18 (Nat.not_lt_zero _)
      | succ fuel ih18 =>
        intro k hk hf18
        refine s_iload E dX1_feed_18 (i := 6) (j := 6) rfl ?_
        refine s_bipush E dX1_feed_20 (v := nI 20) (by decide) ?_
        refine s_icmp_ge E dX1_feed_22 (tgt := 105) rfl (fun c22 => ?_) (fun c22 => ?_)
        · have c22 : ¬ k < 20 := fun h => absurd c22 (Int32.not_le.mpr ((nI_ltI (a := k) (b := 20) (by omega) (by omega)).mpr h))
          refine s_aload_n E dX1_feed_105 (i := 0) (j := 0) rfl rfl ?_
          refine s_dup E dX1_feed_106 rfl ?_
          refine iwX1_g0_1 E (v := nI n7) (ht) dX1_feed_107 ?_
          refine s_bipush E dX1_feed_110 (v := nI 20) (by decide) ?_
          refine s_iadd_ E dX1_feed_112 (v := nI (n7 + 20)) (nI_add _ _) ?_
          refine iwX1_p0_1 E dX1_feed_113 ?_
          refine s_aload_n E dX1_feed_116 (i := 0) (j := 0) rfl rfl ?_
          refine iwX1_g0_1 E (v := nI (n7 + 20)) (rfl) dX1_feed_117 ?_
          exact Rt (nI (n7 + 20)) (st1 (upR σ 9 (fdR σ n7 a b c d e k)) 0 1 (nI (n7 + 20))) dX1_feed_120 (⟨if_neg (by omega), by rw [if_neg (by omega)]; obtain rfl : k = 20 := (by omega); rfl⟩) rfl (Nat.le_refl _) (Nat.le_refl _) rfl E.2.2.2.2.2.1
        · have c22 : k < 20 := (nI_ltI (a := k) (b := 20) (by omega) (by omega)).mp (Int32.not_le.mp c22)
          refine s_iload E dX1_feed_25 (i := 6) (j := 6) rfl ?_
          refine s_iconst E dX1_feed_27 (v := nI 4) (by decide) ?_
          have J71 : Sm pP l eE { frames := 0, cells := 0, slots := 0, locals := 0 } sS mM aA bB hM cC QQ AA D 8 0 0 (iw ad ct n τ (upR σ 9 (fdR σ n7 a b c d e k)) T) 71 [(0, .ref (ad 0)), (1, .int (a)), (2, .int (b)), (3, .int (c)), (4, .int (d)), (5, .int (e)), (6, .int (nI k))] [.int (if k < 4 then a else if k < 8 then b else if k < 12 then c else if k < 16 then d else e)] := by
            refine s_istore E (L2 := [(7, .int (if k < 4 then a else if k < 8 then b else if k < 12 then c else if k < 16 then d else e)), (0, .ref (ad 0)), (1, .int (a)), (2, .int (b)), (3, .int (c)), (4, .int (d)), (5, .int (e)), (6, .int (nI k))]) dX1_feed_71 (Nat.le_of_ble_eq_true rfl) rfl ?_
            refine s_aload_n E dX1_feed_73 (i := 0) (j := 1) rfl rfl ?_
            refine iwX1_g0_0 E dX1_feed_74 ?_
            refine s_aload_n E dX1_feed_77 (i := 0) (j := 1) rfl rfl ?_
            refine iwX1_g0_1 E (v := nI n7) (ht) dX1_feed_78 ?_
            refine s_iload E dX1_feed_81 (i := 6) (j := 7) rfl ?_
            refine s_iadd_ E dX1_feed_83 (v := nI (n7 + k)) (nI_add _ _) ?_
            refine s_iload E dX1_feed_84 (i := 7) (j := 0) rfl ?_
            refine s_bipush E dX1_feed_86 (v := nI 24) (by decide) ?_
            refine s_bipush E dX1_feed_88 (v := nI 8) (by decide) ?_
            refine s_iload E dX1_feed_90 (i := 6) (j := 7) rfl ?_
            refine s_iconst E dX1_feed_92 (v := nI 4) (by decide) ?_
            refine s_irem_ E dX1_feed_93 (by decide) (v := nI (k % 4)) (pk_rem (by omega) (by decide) (by decide)) ?_
            refine s_imul_ E dX1_feed_94 (v := nI (8 * (k % 4))) (pk_mul _ _) ?_
            refine s_isub E dX1_feed_95 ?_
            refine s_ishr E dX1_feed_96 ?_
            refine s_i2b E dX1_feed_97 (v := byteW a b c d e k) (by unfold byteW; rw [pk_mul]) ?_
            refine iw_s1 E (nar_b _) (n7 + k) (rfl) (by omega) dX1_feed_98 ?_
            refine s_ws (ws2 := iw ad ct n τ (upR σ 9 (fdR σ n7 a b c d e (k + 1))) T) (congrArg (fun z => iw ad ct n τ z T) (fdR_s rfl rfl)) ?_
            refine s_iinc E (L2 := [(6, .int (nI (k + 1))), (7, .int (if k < 4 then a else if k < 8 then b else if k < 12 then c else if k < 16 then d else e)), (0, .ref (ad 0)), (1, .int (a)), (2, .int (b)), (3, .int (c)), (4, .int (d)), (5, .int (e))]) dX1_feed_99 (k := 7) rfl (v := nI (k + 1)) (nI_inc _) (Nat.le_of_ble_eq_true rfl) rfl ?_
            refine s_goto E dX1_feed_102 (tgt := 18) rfl ?_
            refine s_loc (L2 := [(0, .ref (ad 0)), (1, .int (a)), (2, .int (b)), (3, .int (c)), (4, .int (d)), (5, .int (e)), (6, .int (nI (k + 1)))]) [2, 3, 4, 5, 6, 7, 0] rfl ?_
            exact ih18 (k + 1) (by omega) (by omega)
          refine s_icmp_ge E dX1_feed_28 (tgt := 35) rfl (fun c28 => ?_) (fun c28 => ?_)
          · have c28 : ¬ k < 4 := fun h => absurd c28 (Int32.not_le.mpr ((nI_ltI (a := k) (b := 4) (by omega) (by omega)).mpr h))
            refine s_iload E dX1_feed_35 (i := 6) (j := 6) rfl ?_
            refine s_bipush E dX1_feed_37 (v := nI 8) (by decide) ?_
            refine s_icmp_ge E dX1_feed_39 (tgt := 46) rfl (fun c39 => ?_) (fun c39 => ?_)
            · have c39 : ¬ k < 8 := fun h => absurd c39 (Int32.not_le.mpr ((nI_ltI (a := k) (b := 8) (by omega) (by omega)).mpr h))
              refine s_iload E dX1_feed_46 (i := 6) (j := 6) rfl ?_
              refine s_bipush E dX1_feed_48 (v := nI 12) (by decide) ?_
              refine s_icmp_ge E dX1_feed_50 (tgt := 57) rfl (fun c50 => ?_) (fun c50 => ?_)
              · have c50 : ¬ k < 12 := fun h => absurd c50 (Int32.not_le.mpr ((nI_ltI (a := k) (b := 12) (by omega) (by omega)).mpr h))
                refine s_iload E dX1_feed_57 (i := 6) (j := 6) rfl ?_
                refine s_bipush E dX1_feed_59 (v := nI 16) (by decide) ?_
                refine s_icmp_ge E dX1_feed_61 (tgt := 69) rfl (fun c61 => ?_) (fun c61 => ?_)
                · have c61 : ¬ k < 16 := fun h => absurd c61 (Int32.not_le.mpr ((nI_ltI (a := k) (b := 16) (by omega) (by omega)).mpr h))
                  refine s_iload E dX1_feed_69 (i := 5) (j := 5) rfl ?_
                  refine s_top (v2 := if k < 4 then a else if k < 8 then b else if k < 12 then c else if k < 16 then d else e) (by simp [bI, c10, c22, c28, c39, c50, c61]) ?_
                  exact J71
                · have c61 : k < 16 := (nI_ltI (a := k) (b := 16) (by omega) (by omega)).mp (Int32.not_le.mp c61)
                  refine s_iload E dX1_feed_64 (i := 4) (j := 4) rfl ?_
                  refine s_goto E dX1_feed_66 (tgt := 71) rfl ?_
                  refine s_top (v2 := if k < 4 then a else if k < 8 then b else if k < 12 then c else if k < 16 then d else e) (by simp [bI, c10, c22, c28, c39, c50, c61]) ?_
                  exact J71
              · have c50 : k < 12 := (nI_ltI (a := k) (b := 12) (by omega) (by omega)).mp (Int32.not_le.mp c50)
                refine s_iload_n E dX1_feed_53 (i := 3) (j := 3) rfl rfl ?_
                refine s_goto E dX1_feed_54 (tgt := 71) rfl ?_
                refine s_top (v2 := if k < 4 then a else if k < 8 then b else if k < 12 then c else if k < 16 then d else e) (by simp [bI, c10, c22, c28, c39, c50]) ?_
                exact J71
            · have c39 : k < 8 := (nI_ltI (a := k) (b := 8) (by omega) (by omega)).mp (Int32.not_le.mp c39)
              refine s_iload_n E dX1_feed_42 (i := 2) (j := 2) rfl rfl ?_
              refine s_goto E dX1_feed_43 (tgt := 71) rfl ?_
              refine s_top (v2 := if k < 4 then a else if k < 8 then b else if k < 12 then c else if k < 16 then d else e) (by simp [bI, c10, c22, c28, c39]) ?_
              exact J71
          · have c28 : k < 4 := (nI_ltI (a := k) (b := 4) (by omega) (by omega)).mp (Int32.not_le.mp c28)
            refine s_iload_n E dX1_feed_31 (i := 1) (j := 1) rfl rfl ?_
            refine s_goto E dX1_feed_32 (tgt := 71) rfl ?_
            refine s_top (v2 := if k < 4 then a else if k < 8 then b else if k < 12 then c else if k < 16 then d else e) (by simp [bI, c10, c22, c28]) ?_
            exact J71
    refine s_ws (ws2 := iw ad ct n τ (upR σ 9 (fdR σ n7 a b c d e 0)) T) (congrArg (fun z => iw ad ct n τ z T) fdR_0.symm) ?_
    refine s_loc (L2 := [(0, .ref (ad 0)), (1, .int (a)), (2, .int (b)), (3, .int (c)), (4, .int (d)), (5, .int (e)), (6, .int (nI 0))]) [1, 2, 3, 4, 5, 6, 0] rfl ?_
    exact L18 (_ + 1) 0 (Nat.zero_le _) (Nat.lt_succ_self _)
  · have c10 : 700 < n7 + 20 := (nI_ltI (a := 700) (b := n7 + 20) (by omega) (by omega)).mp (Int32.not_le.mp c10)
    refine s_iconst E dX1_feed_13 (v := (-1)) (by decide) ?_
    exact Rt ((-1)) (σ) dX1_feed_14 (⟨if_pos (by omega), if_pos (by omega)⟩) rfl (Nat.le_refl _) (Nat.le_refl _) rfl E.2.2.2.2.2.1
