set_option maxRecDepth 100000
theorem K_X6_53 : KV RX6 53 RX6 yX6_isSmall cX6_isSmall 2 (some .boolean) 1 := ⟨q468, q470, qs3, q118, q471, by decide +kernel⟩
theorem K_X6_73 : KV RX6 73 RX6 yX6_key cX6_key 6 (some .int) 0 := ⟨q477, q479, qs5, q118, q480, by decide +kernel⟩
theorem rwX6_pR_4 {p : Program} {l : Launch} {e : Env} {R : Room} {s : State} {m : MethodId} {args : Array Value} {below : List Frame} {meth : Method} {c : Code} {Q : State → Prop} {A : Nat → Prop} {D : va_G} {nL cells slots : Nat} {pc : Nat} {L : List (Nat × Value)} {S : List Value} {cc : ByteArray} {ret : Option FieldType} {gt : Nat → Nat} {ad ra : Nat → Nat} {ct : Nat → ClassId} {ξ σ : Nat → Nat → Int32} {T : va_W} (E : En p s m args meth c A cc nL RX6 ret D (tysA ct) gt) {v : Int32} (d : decode cc pc = .ok (.putfield 63, 3)) (K : Sm p l e R s m args below meth c Q A D nL cells slots (rw ad ra ct ξ (st1 σ 0 20 v) T) (pc + 3) L S) : Sm p l e R s m args below meth c Q A D nL cells slots (rw ad ra ct ξ σ T) pc L (.int v :: .ref (ra 0) :: S) := s_put E in_X6 tyX6 tyX6_ok nmX6 0 rfl rfl 4 (Nat.le_of_ble_eq_true rfl) q595 rfl rfl rfl rfl (Nat.le_of_ble_eq_true rfl) rfl d K
theorem rwX6_gR_4 {p : Program} {l : Launch} {e : Env} {R : Room} {s : State} {m : MethodId} {args : Array Value} {below : List Frame} {meth : Method} {c : Code} {Q : State → Prop} {A : Nat → Prop} {D : va_G} {nL cells slots : Nat} {pc : Nat} {L : List (Nat × Value)} {S : List Value} {cc : ByteArray} {ret : Option FieldType} {gt : Nat → Nat} {ad ra : Nat → Nat} {ct : Nat → ClassId} {ξ σ : Nat → Nat → Int32} {T : va_W} (E : En p s m args meth c A cc nL RX6 ret D (tysA ct) gt) {v : Int32} (hv : σ 0 20 = v) (d : decode cc pc = .ok (.getfield 63, 3)) (K : Sm p l e R s m args below meth c Q A D nL cells slots (rw ad ra ct ξ σ T) (pc + 3) L (.int v :: S)) : Sm p l e R s m args below meth c Q A D nL cells slots (rw ad ra ct ξ σ T) pc L (.ref (ra 0) :: S) := s_get E in_X6 0 rfl rfl 4 (Nat.le_of_ble_eq_true rfl) q595 (congrArg (fun z => some (Value.int z)) hv) rfl d K
theorem rwX6_pR_3 {p : Program} {l : Launch} {e : Env} {R : Room} {s : State} {m : MethodId} {args : Array Value} {below : List Frame} {meth : Method} {c : Code} {Q : State → Prop} {A : Nat → Prop} {D : va_G} {nL cells slots : Nat} {pc : Nat} {L : List (Nat × Value)} {S : List Value} {cc : ByteArray} {ret : Option FieldType} {gt : Nat → Nat} {ad ra : Nat → Nat} {ct : Nat → ClassId} {ξ σ : Nat → Nat → Int32} {T : va_W} (E : En p s m args meth c A cc nL RX6 ret D (tysA ct) gt) {v : Int32} (d : decode cc pc = .ok (.putfield 50, 3)) (K : Sm p l e R s m args below meth c Q A D nL cells slots (rw ad ra ct ξ (st1 σ 0 19 v) T) (pc + 3) L S) : Sm p l e R s m args below meth c Q A D nL cells slots (rw ad ra ct ξ σ T) pc L (.int v :: .ref (ra 0) :: S) := s_put E in_X6 tyX6 tyX6_ok nmX6 0 rfl rfl 3 (Nat.le_of_ble_eq_true rfl) q594 rfl rfl rfl rfl (Nat.le_of_ble_eq_true rfl) rfl d K
theorem rwX6_gR_3 {p : Program} {l : Launch} {e : Env} {R : Room} {s : State} {m : MethodId} {args : Array Value} {below : List Frame} {meth : Method} {c : Code} {Q : State → Prop} {A : Nat → Prop} {D : va_G} {nL cells slots : Nat} {pc : Nat} {L : List (Nat × Value)} {S : List Value} {cc : ByteArray} {ret : Option FieldType} {gt : Nat → Nat} {ad ra : Nat → Nat} {ct : Nat → ClassId} {ξ σ : Nat → Nat → Int32} {T : va_W} (E : En p s m args meth c A cc nL RX6 ret D (tysA ct) gt) {v : Int32} (hv : σ 0 19 = v) (d : decode cc pc = .ok (.getfield 50, 3)) (K : Sm p l e R s m args below meth c Q A D nL cells slots (rw ad ra ct ξ σ T) (pc + 3) L (.int v :: S)) : Sm p l e R s m args below meth c Q A D nL cells slots (rw ad ra ct ξ σ T) pc L (.ref (ra 0) :: S) := s_get E in_X6 0 rfl rfl 3 (Nat.le_of_ble_eq_true rfl) q594 (congrArg (fun z => some (Value.int z)) hv) rfl d K
theorem rwX6_pR_2 {p : Program} {l : Launch} {e : Env} {R : Room} {s : State} {m : MethodId} {args : Array Value} {below : List Frame} {meth : Method} {c : Code} {Q : State → Prop} {A : Nat → Prop} {D : va_G} {nL cells slots : Nat} {pc : Nat} {L : List (Nat × Value)} {S : List Value} {cc : ByteArray} {ret : Option FieldType} {gt : Nat → Nat} {ad ra : Nat → Nat} {ct : Nat → ClassId} {ξ σ : Nat → Nat → Int32} {T : va_W} (E : En p s m args meth c A cc nL RX6 ret D (tysA ct) gt) {v : Int32} (d : decode cc pc = .ok (.putfield 44, 3)) (K : Sm p l e R s m args below meth c Q A D nL cells slots (rw ad ra ct ξ (st1 σ 0 17 v) T) (pc + 3) L S) : Sm p l e R s m args below meth c Q A D nL cells slots (rw ad ra ct ξ σ T) pc L (.int v :: .ref (ra 0) :: S) := s_put E in_X6 tyX6 tyX6_ok nmX6 0 rfl rfl 2 (Nat.le_of_ble_eq_true rfl) q593 rfl rfl rfl rfl (Nat.le_of_ble_eq_true rfl) rfl d K
set_option maxHeartbeats 2000000 in
set_option maxRecDepth 100000 in
theorem x6z_takeWord {l : Launch} {D : va_G} {gt : Nat → Nat} {ad ra : Nat → Nat} {ct : Nat → ClassId} {ξ σ : Nat → Nat → Int32} {T : va_W} (t : Nat → Int32) (n b : Nat) (hb : BT ξ t) (hz : σ 0 16 = nI n) (hn7 : n ≤ 700) (h17 : σ 0 17 = nI b) (h18 : σ 0 18 = nI b) (hbn : b ≤ n) : Cv l D gt yX6_takeWord cX6_takeWord 2 5 110 0 0 [.ref (ra 0)] (rw ad ra ct ξ σ T) (tysA ct) (fun σ2 => st1 (st1 (st1 σ 0 17 (nI (scan smB t n b))) 0 19 (twX t b (scan smB t n b)).1) 0 20 (twX t b (scan smB t n b)).2 = σ2) (fun σ2 : Nat → Nat → Int32 => rw ad ra ct ξ σ2 T) (fun _ => tysA ct) := by
  refine Cv.start RX6 (by decide) rfl (Nat.le_of_ble_eq_true rfl) rfl ?_
  intro pP eE sS mM aA bB hM cC QQ AA E Rt
  have L0 : ∀ (fuel : Nat) (k : Nat), (b ≤ k) → (k ≤ n) → (scan smB t n k = scan smB t n b) → (n - k) < fuel → Sm pP l eE { frames := 5, cells := 0, slots := 0, locals := 110 } sS mM aA bB hM cC QQ AA D 2 0 0 (rw ad ra ct ξ (st1 σ 0 17 (nI k)) T) 0 [(0, .ref (ra 0))] [] := by
    intro fuel
    induction fuel with
    | zero =>
      intro k hbk hkn hs hf0
      exact absurd hf0 (Nat.not_lt_zero _)
    | succ fuel ih0 =>
      intro k hbk hkn hs hf0
      refine s_aload_n E dX6_takeWord_0 (i := 0) (j := 0) rfl rfl ?_
      refine s_aload_n E dX6_takeWord_1 (i := 0) (j := 0) rfl rfl ?_
      refine rwX6_gR_2 E (v := nI k) (st1_eq) dX6_takeWord_2 ?_
      refine c_goi0 E (rV E (cutS _ _) (x6z_isSmall t n k (hb) (by rw [st1_nj (by decide)]; exact hz) (hn7) (by omega)) K_X6_53 (Nat.le_of_ble_eq_true rfl) (Nat.le_of_ble_eq_true rfl) (Nat.zero_le _) (Nat.zero_le _) 0 rfl rfl rfl rfl (Nat.le_of_ble_eq_true rfl) dX6_takeWord_5) (fun r5 w5 h5 => ?_)
      obtain ⟨rfl, rfl⟩ := h5
      refine s_if_eq E dX6_takeWord_8 (tgt := 24) rfl (fun c8 => ?_) (fun c8 => ?_)
      · have c8 := bI_0 c8
        have hke : scan smB t n b = k := by rw [← hs, scan_e c8 hkn]
        refine s_aload_n E dX6_takeWord_24 (i := 0) (j := 0) rfl rfl ?_
        refine s_aload_n E dX6_takeWord_25 (i := 0) (j := 0) rfl rfl ?_
        refine c_goi0 E (rV E (cutS _ _) (x6z_key t n b k (hb) (by rw [st1_nj (by decide)]; exact hz) (hn7) (st1_eq) (by rw [st1_nj (by decide)]; exact h18) (hbk) (hkn)) K_X6_73 (Nat.le_of_ble_eq_true rfl) (Nat.le_of_ble_eq_true rfl) (Nat.zero_le _) (Nat.zero_le _) 0 rfl rfl rfl rfl (Nat.le_of_ble_eq_true rfl) dX6_takeWord_26) (fun r26 w26 h26 => ?_)
        obtain ⟨rfl, rfl⟩ := h26
        refine rwX6_pR_4 E dX6_takeWord_29 ?_
        refine s_aload_n E dX6_takeWord_32 (i := 0) (j := 0) rfl rfl ?_
        refine s_aload_n E dX6_takeWord_33 (i := 0) (j := 0) rfl rfl ?_
        refine rwX6_gR_4 E (v := keyI t b k) (st1_eq) dX6_takeWord_34 ?_
        refine s_if_lt E dX6_takeWord_37 (tgt := 44) rfl (fun c37 => ?_) (fun c37 => ?_)
        · refine s_aload_n E dX6_takeWord_44 (i := 0) (j := 0) rfl rfl ?_
          refine rwX6_gR_2 E (v := nI k) (by rw [st1_nj (by decide), st1_eq]) dX6_takeWord_45 ?_
          refine s_aload_n E dX6_takeWord_48 (i := 0) (j := 0) rfl rfl ?_
          refine rwX6_gR_5 E (v := nI b) (by rw [st1_nj (by decide), st1_nj (by decide)]; exact h18) dX6_takeWord_49 ?_
          refine s_isub_ E dX6_takeWord_52 (v := nI (k - b)) (pk_sub hbk) ?_
          refine s_bipush E dX6_takeWord_53 (v := nI 6) (by decide) ?_
          refine s_icmp_le E dX6_takeWord_55 (tgt := 62) rfl (fun c55 => ?_) (fun c55 => ?_)
          · have c55 : ¬ 6 < k - b := fun h => absurd c55 (Int32.not_le.mpr ((nI_ltI (a := 6) (b := k - b) (by omega) (by omega)).mpr h))
            refine s_iconst E dX6_takeWord_62 (v := nI 2) (by decide) ?_
            refine rwX6_pR_3 E dX6_takeWord_63 ?_
            refine s_aload_n E dX6_takeWord_66 (i := 0) (j := 0) rfl rfl ?_
            refine rwX6_gR_3 E (v := nI 2) (st1_eq) dX6_takeWord_67 ?_
            refine s_iconst E dX6_takeWord_70 (v := nI 2) (by decide) ?_
            refine s_icmp_eq E dX6_takeWord_71 (tgt := 75) rfl (fun c71 => ?_) (fun c71 => absurd c71 (by decide))
            refine s_aload_n E dX6_takeWord_75 (i := 0) (j := 0) rfl rfl ?_
            refine s_iconst E dX6_takeWord_76 (v := nI 0) (by decide) ?_
            refine rwX6_pR_4 E dX6_takeWord_77 ?_
            refine s_ws (ws2 := rw ad ra ct ξ (st1 (st1 (st1 σ 0 17 (nI k)) 0 19 (nI 2)) 0 20 (nI 0)) T) (congrArg (fun z => rw ad ra ct ξ z T) (by rw [st1_3 (by decide), st1_cmj (i := 20) (by decide)])) ?_
            refine s_aload_n E dX6_takeWord_80 (i := 0) (j := 0) rfl rfl ?_
            refine rwX6_gR_5 E (v := nI b) (by rw [st1_nj (by decide), st1_nj (by decide), st1_nj (by decide)]; exact h18) dX6_takeWord_81 ?_
            refine s_istore_n E (L2 := [(1, .int (nI b)), (0, .ref (ra 0))]) dX6_takeWord_84 rfl (Nat.le_of_ble_eq_true rfl) rfl ?_
            have L85 : ∀ (fuel : Nat) (j : Nat), (j ≤ 6) → (6 - j) < fuel → Sm pP l eE { frames := 5, cells := 0, slots := 0, locals := 110 } sS mM aA bB hM cC QQ AA D 2 0 0 (rw ad ra ct ξ (st1 (st1 (st1 σ 0 17 (nI k)) 0 19 (nI 2)) 0 20 (nmF t b k j)) T) 85 [(0, .ref (ra 0)), (1, .int (nI (b + j)))] [] := by
              intro fuel
              induction fuel with
              | zero =>
                intro j hj hf85
                exact absurd hf85 (Nat.not_lt_zero _)
              | succ fuel ih85 =>
                intro j hj hf85
                refine s_iload_n E dX6_takeWord_85 (i := 1) (j := 1) rfl rfl ?_
                refine s_aload_n E dX6_takeWord_86 (i := 0) (j := 0) rfl rfl ?_
                refine rwX6_gR_5 E (v := nI b) (by rw [st1_nj (by decide), st1_nj (by decide), st1_nj (by decide)]; exact h18) dX6_takeWord_87 ?_
                refine s_bipush E dX6_takeWord_90 (v := nI 6) (by decide) ?_
                refine s_iadd_ E dX6_takeWord_92 (v := nI (b + 6)) (nI_add _ _) ?_
                refine s_icmp_ge E dX6_takeWord_93 (tgt := 133) rfl (fun c93 => ?_) (fun c93 => ?_)
                · have c93 : ¬ b + j < b + 6 := fun h => absurd c93 (Int32.not_le.mpr ((nI_ltI (a := b + j) (b := b + 6) (by omega) (by omega)).mpr h))
                  exact Rt (st1 (st1 (st1 σ 0 17 (nI k)) 0 19 (nI 2)) 0 20 (nmF t b k j)) dX6_takeWord_133 (by rw [hke, twX_n c37 c55, show j = 6 by omega]) rfl (Nat.le_refl _) (Nat.le_refl _) E.2.2.2.2.2.1
                · have c93 : b + j < b + 6 := (nI_ltI (a := b + j) (b := b + 6) (by omega) (by omega)).mp (Int32.not_le.mp c93)
                  refine s_aload_n E dX6_takeWord_96 (i := 0) (j := 0) rfl rfl ?_
                  refine s_aload_n E dX6_takeWord_97 (i := 0) (j := 0) rfl rfl ?_
                  refine rwX6_gR_4 E (v := nmF t b k j) (st1_eq) dX6_takeWord_98 ?_
                  refine s_iconst E dX6_takeWord_101 (v := nI 5) (by decide) ?_
                  refine s_ishl E dX6_takeWord_102 ?_
                  refine s_iload_n E dX6_takeWord_103 (i := 1) (j := 1) rfl rfl ?_
                  refine s_aload_n E dX6_takeWord_104 (i := 0) (j := 0) rfl rfl ?_
                  refine rwX6_gR_2 E (v := nI k) (by rw [st1_nj (by decide), st1_nj (by decide), st1_eq]) dX6_takeWord_105 ?_
                  have J123 : Sm pP l eE { frames := 5, cells := 0, slots := 0, locals := 110 } sS mM aA bB hM cC QQ AA D 2 0 0 (rw ad ra ct ξ (st1 (st1 (st1 σ 0 17 (nI k)) 0 19 (nI 2)) 0 20 (nmF t b k j)) T) 123 [(0, .ref (ra 0)), (1, .int (nI (b + j)))] [.int ((if b + j < k then t (b + j) - nI 97 + nI 1 else nI 0)), .int ((nmF t b k j) <<< ((nI 5) &&& 31)), .ref (ra 0)] := by
                    refine s_ior_ E dX6_takeWord_123 (v := nmF t b k (j + 1)) (rfl) ?_
                    refine rwX6_pR_4 E dX6_takeWord_124 ?_
                    refine s_ws (ws2 := rw ad ra ct ξ (st1 (st1 (st1 σ 0 17 (nI k)) 0 19 (nI 2)) 0 20 (nmF t b k (j + 1))) T) (congrArg (fun z => rw ad ra ct ξ z T) (st1_2)) ?_
                    refine s_iinc E (L2 := [(1, .int (nI (b + j + 1))), (0, .ref (ra 0))]) dX6_takeWord_127 (k := 1) rfl (v := nI (b + j + 1)) (nI_inc _) (Nat.le_of_ble_eq_true rfl) rfl ?_
                    refine s_goto E dX6_takeWord_130 (tgt := 85) rfl ?_
                    refine s_loc (L2 := [(0, .ref (ra 0)), (1, .int (nI (b + j + 1)))]) [1, 0] rfl ?_
                    exact ih85 (j + 1) (by omega) (by omega)
                  refine s_icmp_ge E dX6_takeWord_108 (tgt := 122) rfl (fun c108 => ?_) (fun c108 => ?_)
                  · have c108 : ¬ b + j < k := fun h => absurd c108 (Int32.not_le.mpr ((nI_ltI (a := b + j) (b := k) (by omega) (by omega)).mpr h))
                    refine s_iconst E dX6_takeWord_122 (v := nI 0) (by decide) ?_
                    refine s_top (v2 := (if b + j < k then t (b + j) - nI 97 + nI 1 else nI 0)) ((if_neg c108).symm) ?_
                    exact J123
                  · have c108 : b + j < k := (nI_ltI (a := b + j) (b := k) (by omega) (by omega)).mp (Int32.not_le.mp c108)
                    refine s_aload_n E dX6_takeWord_111 (i := 0) (j := 0) rfl rfl ?_
                    refine s_iload_n E dX6_takeWord_112 (i := 1) (j := 1) rfl rfl ?_
                    refine c_goi0 E (rV E (cutS _ _) (x6z_see t n (b + j) (hb) (by rw [st1_nj (by decide), st1_nj (by decide), st1_nj (by decide)]; exact hz) (hn7) (by omega)) K_X6_36 (Nat.le_of_ble_eq_true rfl) (Nat.le_of_ble_eq_true rfl) (Nat.zero_le _) (Nat.zero_le _) 0 rfl rfl rfl rfl (Nat.le_of_ble_eq_true rfl) dX6_takeWord_113) (fun r113 w113 h113 => ?_)
                    obtain ⟨rfl, rfl⟩ := h113
                    refine s_top (v2 := t (b + j)) (if_pos (by omega)) ?_
                    refine s_bipush E dX6_takeWord_116 (v := nI 96) (by decide) ?_
                    refine s_isub_ E dX6_takeWord_118 (v := t (b + j) - nI 97 + nI 1) (sub_96 _) ?_
                    refine s_goto E dX6_takeWord_119 (tgt := 123) rfl ?_
                    refine s_top (v2 := (if b + j < k then t (b + j) - nI 97 + nI 1 else nI 0)) ((if_pos c108).symm) ?_
                    exact J123
            refine s_loc (L2 := [(0, .ref (ra 0)), (1, .int (nI b))]) [1, 0] rfl ?_
            exact L85 (_ + 1) 0 (Nat.zero_le _) (Nat.lt_succ_self _)
          · have c55 : 6 < k - b := (nI_ltI (a := 6) (b := k - b) (by omega) (by omega)).mp (Int32.not_le.mp c55)
            refine s_iconst E dX6_takeWord_58 (v := nI 5) (by decide) ?_
            refine s_goto E dX6_takeWord_59 (tgt := 63) rfl ?_
            refine rwX6_pR_3 E dX6_takeWord_63 ?_
            refine s_aload_n E dX6_takeWord_66 (i := 0) (j := 0) rfl rfl ?_
            refine rwX6_gR_3 E (v := nI 5) (st1_eq) dX6_takeWord_67 ?_
            refine s_iconst E dX6_takeWord_70 (v := nI 2) (by decide) ?_
            refine s_icmp_eq E dX6_takeWord_71 (tgt := 75) rfl (fun c71 => absurd c71 (by decide)) (fun c71 => ?_)
            exact Rt (st1 (st1 (st1 σ 0 17 (nI k)) 0 20 (keyI t b k)) 0 19 (nI 5)) dX6_takeWord_74 (by rw [hke, twX_b c37 c55]; dsimp only; rw [st1_cmj (i := 20) (j := 19) (by decide)]) rfl (Nat.le_refl _) (Nat.le_refl _) E.2.2.2.2.2.1
        · refine s_iconst E dX6_takeWord_40 (v := nI 1) (by decide) ?_
          refine s_goto E dX6_takeWord_41 (tgt := 63) rfl ?_
          refine rwX6_pR_3 E dX6_takeWord_63 ?_
          refine s_aload_n E dX6_takeWord_66 (i := 0) (j := 0) rfl rfl ?_
          refine rwX6_gR_3 E (v := nI 1) (st1_eq) dX6_takeWord_67 ?_
          refine s_iconst E dX6_takeWord_70 (v := nI 2) (by decide) ?_
          refine s_icmp_eq E dX6_takeWord_71 (tgt := 75) rfl (fun c71 => absurd c71 (by decide)) (fun c71 => ?_)
          exact Rt (st1 (st1 (st1 σ 0 17 (nI k)) 0 20 (keyI t b k)) 0 19 (nI 1)) dX6_takeWord_74 (by rw [hke, twX_k c37]; dsimp only; rw [st1_cmj (i := 20) (j := 19) (by decide)]) rfl (Nat.le_refl _) (Nat.le_refl _) E.2.2.2.2.2.1
      · have c8 := bI_n0 c8
        refine s_aload_n E dX6_takeWord_11 (i := 0) (j := 0) rfl rfl ?_
        refine s_dup E dX6_takeWord_12 rfl ?_
        refine rwX6_gR_2 E (v := nI k) (st1_eq) dX6_takeWord_13 ?_
        refine s_iconst E dX6_takeWord_16 (v := nI 1) (by decide) ?_
        refine s_iadd_ E dX6_takeWord_17 (v := nI (k + 1)) (nI_add _ _) ?_
        refine rwX6_pR_2 E dX6_takeWord_18 ?_
        refine s_ws (ws2 := rw ad ra ct ξ (st1 σ 0 17 (nI (k + 1))) T) (congrArg (fun z => rw ad ra ct ξ z T) (st1_2)) ?_
        refine s_goto E dX6_takeWord_21 (tgt := 0) rfl ?_
        exact ih0 (k + 1) (by omega) (by omega) (by rw [← hs]; exact (scan_s c8.1 c8.2).symm) (by omega)
  refine s_ws (ws2 := rw ad ra ct ξ (st1 σ 0 17 (nI b)) T) (congrArg (fun z => rw ad ra ct ξ z T) (st1_self h17).symm) ?_
  exact L0 (_ + 1) b (Nat.le_refl _) (hbn) (rfl) (Nat.lt_succ_self _)
