set_option maxRecDepth 100000
theorem KX_79 : KV RX6 79 RJ0 yJ0_length cJ0_length 1 (some .int) 0 := ⟨q482, q483, q484, q119, q485, by decide +kernel⟩
theorem KX_84 : KV RX6 84 RJ0 yJ0_indexOf cJ0_indexOf 3 (some .int) 2 := ⟨q492, q493, q494, q119, q495, by decide +kernel⟩
theorem KX_87 : KV RX6 87 RJ0 yJ0_charAt cJ0_charAt 2 (some .char) 1 := ⟨q565, q566, q567, q119, q568, by decide +kernel⟩
theorem rwX6_gR_2 {p : Program} {l : Launch} {e : Env} {R : Room} {s : State} {m : MethodId} {args : Array Value} {below : List Frame} {meth : Method} {c : Code} {Q : State → Prop} {A : Nat → Prop} {D : va_G} {nL cells slots : Nat} {pc : Nat} {L : List (Nat × Value)} {S : List Value} {cc : ByteArray} {ret : Option FieldType} {gt : Nat → Nat} {ad ra : Nat → Nat} {ct : Nat → ClassId} {ξ σ : Nat → Nat → Int32} {T : va_W} (E : En p s m args meth c A cc nL RX6 ret D (tysA ct) gt) {v : Int32} (hv : σ 0 17 = v) (d : decode cc pc = .ok (.getfield 44, 3)) (K : Sm p l e R s m args below meth c Q A D nL cells slots (rw ad ra ct ξ σ T) (pc + 3) L (.int v :: S)) : Sm p l e R s m args below meth c Q A D nL cells slots (rw ad ra ct ξ σ T) pc L (.ref (ra 0) :: S) := s_get E in_X6 0 rfl rfl 2 (Nat.le_of_ble_eq_true rfl) q593 (congrArg (fun z => some (Value.int z)) hv) rfl d K
theorem rwX6_gR_5 {p : Program} {l : Launch} {e : Env} {R : Room} {s : State} {m : MethodId} {args : Array Value} {below : List Frame} {meth : Method} {c : Code} {Q : State → Prop} {A : Nat → Prop} {D : va_G} {nL cells slots : Nat} {pc : Nat} {L : List (Nat × Value)} {S : List Value} {cc : ByteArray} {ret : Option FieldType} {gt : Nat → Nat} {ad ra : Nat → Nat} {ct : Nat → ClassId} {ξ σ : Nat → Nat → Int32} {T : va_W} (E : En p s m args meth c A cc nL RX6 ret D (tysA ct) gt) {v : Int32} (hv : σ 0 18 = v) (d : decode cc pc = .ok (.getfield 47, 3)) (K : Sm p l e R s m args below meth c Q A D nL cells slots (rw ad ra ct ξ σ T) (pc + 3) L (.int v :: S)) : Sm p l e R s m args below meth c Q A D nL cells slots (rw ad ra ct ξ σ T) pc L (.ref (ra 0) :: S) := s_get E in_X6 0 rfl rfl 5 (Nat.le_of_ble_eq_true rfl) q596 (congrArg (fun z => some (Value.int z)) hv) rfl d K
set_option maxHeartbeats 2000000 in
set_option maxRecDepth 100000 in
theorem x6z_key {l : Launch} {D : va_G} {gt : Nat → Nat} {ad ra : Nat → Nat} {ct : Nat → ClassId} {ξ σ : Nat → Nat → Int32} {T : va_W} (t : Nat → Int32) (n b e : Nat) (hb : BT ξ t) (hz : σ 0 16 = nI n) (hn7 : n ≤ 700) (h17 : σ 0 17 = nI e) (h18 : σ 0 18 = nI b) (hbe : b ≤ e) (hen : e ≤ n) : Ct l D gt yX6_key cX6_key 6 .int 4 85 0 0 [.ref (ra 0)] (rw ad ra ct ξ σ T) (tysA ct) (fun r σ2 => keyI t b e = r ∧ σ = σ2) (fun σ2 : Nat → Nat → Int32 => rw ad ra ct ξ σ2 T) (fun _ => tysA ct) := by
  refine Ct.start RX6 (by decide) rfl (Nat.le_of_ble_eq_true rfl) rfl ?_
  intro pP eE sS mM aA bB hM cC QQ AA E Rt
  refine s_iconst E dX6_key_0 (v := nI 0) (by decide) ?_
  refine s_istore_n E (L2 := [(1, .int (nI 0)), (0, .ref (ra 0))]) dX6_key_1 rfl (Nat.le_of_ble_eq_true rfl) rfl ?_
  refine s_iconst E dX6_key_2 (v := nI 0) (by decide) ?_
  refine s_istore_n E (L2 := [(2, .int (nI 0)), (1, .int (nI 0)), (0, .ref (ra 0))]) dX6_key_3 rfl (Nat.le_of_ble_eq_true rfl) rfl ?_
  have L4 : ∀ (fuel : Nat) (w : Nat), (w ≤ 11) → (firstN (matchK t b e) w = 0) → (11 - w) < fuel → Sm pP l eE { frames := 4, cells := 0, slots := 0, locals := 85 } sS mM aA bB hM cC QQ AA D 6 0 0 (rw ad ra ct ξ σ T) 4 [(0, .ref (ra 0)), (1, .int (nI (kSt w))), (2, .int (nI w))] [] := by
    intro fuel
    induction fuel with
    | zero =>
      intro w hw hf hf4
      exact absurd hf4 (Nat.not_lt_zero _)
    | succ fuel ih4 =>
      intro w hw hf hf4
      have h62 := kSt_61 w hw
      refine s_iload_n E dX6_key_4 (i := 1) (j := 1) rfl rfl ?_
      refine s_ldcS E (E.2.2.2.2.2.2.1 : GN gt _ _ _).2.1 rfl dX6_key_5 ?_
      refine c_gos E (rVK E (cutZ _ _) E.2.2.2.2.2.2.1 (i := 0) (by decide) (jJ0_length 0 (by decide)) KX_79 (Nat.le_of_ble_eq_true rfl) (Nat.le_of_ble_eq_true rfl) (Nat.zero_le _) (Nat.zero_le _) rfl rfl (Nat.le_of_ble_eq_true rfl) dX6_key_7) (fun r7 h7 => ?_)
      subst h7
      refine s_top (v2 := nI 61) rfl ?_
      refine s_icmp_ge E dX6_key_10 (tgt := 123) rfl (fun c10 => ?_) (fun c10 => ?_)
      · have c10 : ¬ kSt w < 61 := fun h => absurd c10 (Int32.not_le.mpr ((nI_ltI (a := kSt w) (b := 61) (by omega) (by omega)).mpr h))
        have hw11 : w = 11 := by omega
        refine s_iconst E dX6_key_123 (v := (-1)) (by decide) ?_
        exact Rt ((-1)) (σ) dX6_key_124 (⟨by unfold keyI; rw [← hw11, hf]; rfl, rfl⟩) rfl (Nat.le_refl _) (Nat.le_refl _) rfl E.2.2.2.2.2.1
      · have c10 : kSt w < 61 := (nI_ltI (a := kSt w) (b := 61) (by omega) (by omega)).mp (Int32.not_le.mp c10)
        have hwl : w < 11 := by omega
        have hwf := k_facts w hwl
        refine s_ldcS E (E.2.2.2.2.2.2.1 : GN gt _ _ _).2.1 rfl dX6_key_13 ?_
        refine s_bipush E dX6_key_15 (v := nI 32) (by decide) ?_
        refine s_iload_n E dX6_key_17 (i := 1) (j := 1) rfl rfl ?_
        refine c_gos E (rVK E (cutZ _ _) E.2.2.2.2.2.2.1 (i := 0) (by decide) (jJ0_indexOf 0 (kSt w) (by decide) (by show _ ≤ 61; omega)) KX_84 (Nat.le_of_ble_eq_true rfl) (Nat.le_of_ble_eq_true rfl) (Nat.zero_le _) (Nat.zero_le _) rfl rfl (Nat.le_of_ble_eq_true rfl) dX6_key_18) (fun r18 h18 => ?_)
        subst h18
        refine s_top (v2 := kxI w) (rfl) ?_
        refine s_istore_n E (L2 := [(3, .int (kxI w)), (0, .ref (ra 0)), (1, .int (nI (kSt w))), (2, .int (nI w))]) dX6_key_21 rfl (Nat.le_of_ble_eq_true rfl) rfl ?_
        refine s_iload_n E dX6_key_22 (i := 3) (j := 0) rfl rfl ?_
        have J32 : Sm pP l eE { frames := 4, cells := 0, slots := 0, locals := 85 } sS mM aA bB hM cC QQ AA D 6 0 0 (rw ad ra ct ξ σ T) 32 [(0, .ref (ra 0)), (1, .int (nI (kSt w))), (2, .int (nI w)), (3, .int (nI (kEn w)))] [] := by
          refine s_iload_n E dX6_key_32 (i := 3) (j := 3) rfl rfl ?_
          refine s_iload_n E dX6_key_33 (i := 1) (j := 1) rfl rfl ?_
          refine s_isub_ E dX6_key_34 (v := nI (kEn w - kSt w)) (nI_minus (show kSt w ≤ kEn w from hwf.1)) ?_
          refine s_aload_n E dX6_key_35 (i := 0) (j := 0) rfl rfl ?_
          refine rwX6_gR_2 E (v := nI e) (h17) dX6_key_36 ?_
          refine s_aload_n E dX6_key_39 (i := 0) (j := 0) rfl rfl ?_
          refine rwX6_gR_5 E (v := nI b) (h18) dX6_key_40 ?_
          refine s_isub_ E dX6_key_43 (v := nI (e - b)) (nI_minus (by omega)) ?_
          have J52 : Sm pP l eE { frames := 4, cells := 0, slots := 0, locals := 85 } sS mM aA bB hM cC QQ AA D 6 0 0 (rw ad ra ct ξ σ T) 52 [(0, .ref (ra 0)), (1, .int (nI (kSt w))), (2, .int (nI w)), (3, .int (nI (kEn w)))] [.int (bI (kEn w - kSt w = e - b))] := by
            refine s_istore E (L2 := [(4, .int (bI (kEn w - kSt w = e - b))), (0, .ref (ra 0)), (1, .int (nI (kSt w))), (2, .int (nI w)), (3, .int (nI (kEn w)))]) dX6_key_52 (Nat.le_of_ble_eq_true rfl) rfl ?_
            refine s_iconst E dX6_key_54 (v := nI 0) (by decide) ?_
            refine s_istore E (L2 := [(5, .int (nI 0)), (4, .int (bI (kEn w - kSt w = e - b))), (0, .ref (ra 0)), (1, .int (nI (kSt w))), (2, .int (nI w)), (3, .int (nI (kEn w)))]) dX6_key_55 (Nat.le_of_ble_eq_true rfl) rfl ?_
            have L57 : ∀ (fuel : Nat) (i : Nat), (i ≤ kEn w - kSt w) → (kEn w - kSt w - i) < fuel → Sm pP l eE { frames := 4, cells := 0, slots := 0, locals := 85 } sS mM aA bB hM cC QQ AA D 6 0 0 (rw ad ra ct ξ σ T) 57 [(0, .ref (ra 0)), (1, .int (nI (kSt w))), (2, .int (nI w)), (3, .int (nI (kEn w))), (4, .int (bI (kEn w - kSt w = e - b ∧ allB (sameK t b w) i = true))), (5, .int (nI i))] [] := by
              intro fuel
              induction fuel with
              | zero =>
                intro i hi hf57
                exact absurd hf57 (Nat.not_lt_zero _)
              | succ fuel ih57 =>
                intro i hi hf57
                refine s_iload E dX6_key_57 (i := 5) (j := 5) rfl ?_
                refine s_iload_n E dX6_key_59 (i := 3) (j := 3) rfl rfl ?_
                refine s_iload_n E dX6_key_60 (i := 1) (j := 1) rfl rfl ?_
                refine s_isub_ E dX6_key_61 (v := nI (kEn w - kSt w)) (nI_minus (show kSt w ≤ kEn w from hwf.1)) ?_
                refine s_icmp_ge E dX6_key_62 (tgt := 106) rfl (fun c62 => ?_) (fun c62 => ?_)
                · have c62 : ¬ i < kEn w - kSt w := fun h => absurd c62 (Int32.not_le.mpr ((nI_ltI (a := i) (b := kEn w - kSt w) (by omega) (by omega)).mpr h))
                  refine s_iload E dX6_key_106 (i := 4) (j := 4) rfl ?_
                  refine s_if_eq E dX6_key_108 (tgt := 113) rfl (fun c108 => ?_) (fun c108 => ?_)
                  · have c108 := bI_0 c108
                    have hno : ¬ matchK t b e w = true := by unfold matchK; rw [Bool.and_eq_true, decide_eq_true_eq]; exact fun h9 => c108 ⟨h9.1, allB_pre h9.2 (by omega)⟩
                    refine s_iload_n E dX6_key_113 (i := 3) (j := 3) rfl rfl ?_
                    refine s_iconst E dX6_key_114 (v := nI 1) (by decide) ?_
                    refine s_iadd_ E dX6_key_115 (v := nI (kSt (w + 1))) (by rw [hwf.2.2.2.1]; exact nI_inc _) ?_
                    refine s_istore_n E (L2 := [(1, .int (nI (kSt (w + 1)))), (0, .ref (ra 0)), (2, .int (nI w)), (3, .int (nI (kEn w))), (4, .int (bI (kEn w - kSt w = e - b ∧ allB (sameK t b w) i = true))), (5, .int (nI i))]) dX6_key_116 rfl (Nat.le_of_ble_eq_true rfl) rfl ?_
                    refine s_iinc E (L2 := [(2, .int (nI (w + 1))), (1, .int (nI (kSt (w + 1)))), (0, .ref (ra 0)), (3, .int (nI (kEn w))), (4, .int (bI (kEn w - kSt w = e - b ∧ allB (sameK t b w) i = true))), (5, .int (nI i))]) dX6_key_117 (k := 2) rfl (v := nI (w + 1)) (nI_inc _) (Nat.le_of_ble_eq_true rfl) rfl ?_
                    refine s_goto E dX6_key_120 (tgt := 4) rfl ?_
                    refine s_loc (L2 := [(0, .ref (ra 0)), (1, .int (nI (kSt (w + 1)))), (2, .int (nI (w + 1)))]) [2, 1, 0] rfl ?_
                    exact ih4 (w + 1) (by omega) (firstN_next hf hno) (by omega)
                  · have c108 := bI_n0 c108
                    refine s_iload_n E dX6_key_111 (i := 2) (j := 2) rfl rfl ?_
                    exact Rt (nI w) (σ) dX6_key_112 (⟨by unfold keyI; rw [firstN_keep (p := w) (by omega) hf (by unfold matchK; rw [Bool.and_eq_true, decide_eq_true_eq]; exact ⟨c108.1, by rw [show e - b = i by omega]; exact c108.2⟩)]; exact m1I_s, rfl⟩) rfl (Nat.le_refl _) (Nat.le_refl _) rfl E.2.2.2.2.2.1
                · have c62 : i < kEn w - kSt w := (nI_ltI (a := i) (b := kEn w - kSt w) (by omega) (by omega)).mp (Int32.not_le.mp c62)
                  refine s_iload E dX6_key_65 (i := 4) (j := 4) rfl ?_
                  refine s_if_eq E dX6_key_67 (tgt := 106) rfl (fun c67 => ?_) (fun c67 => ?_)
                  · have c67 := bI_0 c67
                    refine s_iload E dX6_key_106 (i := 4) (j := 4) rfl ?_
                    refine s_if_eq E dX6_key_108 (tgt := 113) rfl (fun c108 => ?_) (fun c108 => ?_)
                    · have c108 := bI_0 c108
                      have hno : ¬ matchK t b e w = true := by unfold matchK; rw [Bool.and_eq_true, decide_eq_true_eq]; exact fun h9 => c108 ⟨h9.1, allB_pre h9.2 (by omega)⟩
                      refine s_iload_n E dX6_key_113 (i := 3) (j := 3) rfl rfl ?_
                      refine s_iconst E dX6_key_114 (v := nI 1) (by decide) ?_
                      refine s_iadd_ E dX6_key_115 (v := nI (kSt (w + 1))) (by rw [hwf.2.2.2.1]; exact nI_inc _) ?_
                      refine s_istore_n E (L2 := [(1, .int (nI (kSt (w + 1)))), (0, .ref (ra 0)), (2, .int (nI w)), (3, .int (nI (kEn w))), (4, .int (bI (kEn w - kSt w = e - b ∧ allB (sameK t b w) i = true))), (5, .int (nI i))]) dX6_key_116 rfl (Nat.le_of_ble_eq_true rfl) rfl ?_
                      refine s_iinc E (L2 := [(2, .int (nI (w + 1))), (1, .int (nI (kSt (w + 1)))), (0, .ref (ra 0)), (3, .int (nI (kEn w))), (4, .int (bI (kEn w - kSt w = e - b ∧ allB (sameK t b w) i = true))), (5, .int (nI i))]) dX6_key_117 (k := 2) rfl (v := nI (w + 1)) (nI_inc _) (Nat.le_of_ble_eq_true rfl) rfl ?_
                      refine s_goto E dX6_key_120 (tgt := 4) rfl ?_
                      refine s_loc (L2 := [(0, .ref (ra 0)), (1, .int (nI (kSt (w + 1)))), (2, .int (nI (w + 1)))]) [2, 1, 0] rfl ?_
                      exact ih4 (w + 1) (by omega) (firstN_next hf hno) (by omega)
                    · have c108 := bI_n0 c108
                      refine s_iload_n E dX6_key_111 (i := 2) (j := 2) rfl rfl ?_
                      exact Rt (nI w) (σ) dX6_key_112 (absurd c108 c67) rfl (Nat.le_refl _) (Nat.le_refl _) rfl E.2.2.2.2.2.1
                  · have c67 := bI_n0 c67
                    refine s_ldcS E (E.2.2.2.2.2.2.1 : GN gt _ _ _).2.1 rfl dX6_key_70 ?_
                    refine s_iload_n E dX6_key_72 (i := 1) (j := 1) rfl rfl ?_
                    refine s_iload E dX6_key_73 (i := 5) (j := 5) rfl ?_
                    refine s_iadd_ E dX6_key_75 (v := nI ((kSt w) + i)) (nI_add _ _) ?_
                    refine c_gos E (rVK E (cutZ _ _) E.2.2.2.2.2.2.1 (i := 0) (by decide) (jJ0_charAt 0 ((kSt w) + i) (by decide) (by show _ < 61; omega)) KX_87 (Nat.le_of_ble_eq_true rfl) (Nat.le_of_ble_eq_true rfl) (Nat.zero_le _) (Nat.zero_le _) rfl rfl (Nat.le_of_ble_eq_true rfl) dX6_key_76) (fun r76 h76 => ?_)
                    subst h76
                    refine s_aload_n E dX6_key_79 (i := 0) (j := 0) rfl rfl ?_
                    refine s_aload_n E dX6_key_80 (i := 0) (j := 0) rfl rfl ?_
                    refine rwX6_gR_5 E (v := nI b) (h18) dX6_key_81 ?_
                    refine s_iload E dX6_key_84 (i := 5) (j := 5) rfl ?_
                    refine s_iadd_ E dX6_key_86 (v := nI (b + i)) (nI_add _ _) ?_
                    refine c_goi0 E (rV E (cutS _ _) (x6z_see t n (b + i) (hb) (hz) (hn7) (by omega)) K_X6_36 (Nat.le_of_ble_eq_true rfl) (Nat.le_of_ble_eq_true rfl) (Nat.zero_le _) (Nat.zero_le _) 0 rfl rfl rfl rfl (Nat.le_of_ble_eq_true rfl) dX6_key_87) (fun r87 w87 h87 => ?_)
                    obtain ⟨rfl, rfl⟩ := h87
                    refine s_top (v2 := t (b + i)) (if_pos (by omega)) ?_
                    have J98 : Sm pP l eE { frames := 4, cells := 0, slots := 0, locals := 85 } sS mM aA bB hM cC QQ AA D 6 0 0 (rw ad ra ct ξ σ T) 98 [(0, .ref (ra 0)), (1, .int (nI (kSt w))), (2, .int (nI w)), (3, .int (nI (kEn w))), (4, .int (bI (kEn w - kSt w = e - b ∧ allB (sameK t b w) i = true))), (5, .int (nI i))] [.int (bI (kEn w - kSt w = e - b ∧ allB (sameK t b w) (i + 1) = true))] := by
                      refine s_istore E (L2 := [(4, .int (bI (kEn w - kSt w = e - b ∧ allB (sameK t b w) (i + 1) = true))), (0, .ref (ra 0)), (1, .int (nI (kSt w))), (2, .int (nI w)), (3, .int (nI (kEn w))), (5, .int (nI i))]) dX6_key_98 (Nat.le_of_ble_eq_true rfl) rfl ?_
                      refine s_iinc E (L2 := [(5, .int (nI (i + 1))), (4, .int (bI (kEn w - kSt w = e - b ∧ allB (sameK t b w) (i + 1) = true))), (0, .ref (ra 0)), (1, .int (nI (kSt w))), (2, .int (nI w)), (3, .int (nI (kEn w)))]) dX6_key_100 (k := 5) rfl (v := nI (i + 1)) (nI_inc _) (Nat.le_of_ble_eq_true rfl) rfl ?_
                      refine s_goto E dX6_key_103 (tgt := 57) rfl ?_
                      refine s_loc (L2 := [(0, .ref (ra 0)), (1, .int (nI (kSt w))), (2, .int (nI w)), (3, .int (nI (kEn w))), (4, .int (bI (kEn w - kSt w = e - b ∧ allB (sameK t b w) (i + 1) = true))), (5, .int (nI (i + 1)))]) [2, 3, 4, 5, 1, 0] rfl ?_
                      exact ih57 (i + 1) (by omega) (by omega)
                    refine s_icmp_ne E dX6_key_90 (tgt := 97) rfl (fun c90 => ?_) (fun c90 => ?_)
                    · refine s_iconst E dX6_key_97 (v := nI 0) (by decide) ?_
                      refine s_top (v2 := bI (kEn w - kSt w = e - b ∧ allB (sameK t b w) (i + 1) = true)) ((bI_f (fun h => absurd h.2 (allB_f (f := sameK t b w) (i := i) (n := i + 1) (by omega) (by unfold sameK; rw [decide_eq_false c90]; decide)))).symm) ?_
                      exact J98
                    · refine s_iconst E dX6_key_93 (v := nI 1) (by decide) ?_
                      refine s_goto E dX6_key_94 (tgt := 98) rfl ?_
                      refine s_top (v2 := bI (kEn w - kSt w = e - b ∧ allB (sameK t b w) (i + 1) = true)) ((bI_t ⟨c67.1, allB_s c67.2 (by unfold sameK; rw [decide_eq_true c90])⟩).symm) ?_
                      exact J98
            refine s_loc (L2 := [(0, .ref (ra 0)), (1, .int (nI (kSt w))), (2, .int (nI w)), (3, .int (nI (kEn w))), (4, .int (bI (kEn w - kSt w = e - b))), (5, .int (nI 0))]) [2, 3, 4, 5, 1, 0] rfl ?_
            refine s_L (L2 := [(0, .ref (ra 0)), (1, .int (nI (kSt w))), (2, .int (nI w)), (3, .int (nI (kEn w))), (4, .int (bI (kEn w - kSt w = e - b ∧ allB (sameK t b w) 0 = true))), (5, .int (nI 0))]) (by rw [show bI (kEn w - kSt w = e - b ∧ allB (sameK t b w) 0 = true) = bI (kEn w - kSt w = e - b) from bI_cg ⟨fun h => h.1, fun h => ⟨h, rfl⟩⟩]) ?_
            exact L57 (_ + 1) 0 (Nat.zero_le _) (Nat.lt_succ_self _)
          refine s_icmp_ne E dX6_key_44 (tgt := 51) rfl (fun c44 => ?_) (fun c44 => ?_)
          · have c44 : ¬ kEn w - kSt w = e - b := fun h => c44 ((nI_eq (a := kEn w - kSt w) (b := e - b) (by omega) (by omega)).mpr h)
            refine s_iconst E dX6_key_51 (v := nI 0) (by decide) ?_
            refine s_top (v2 := bI (kEn w - kSt w = e - b)) ((bI_f c44).symm) ?_
            exact J52
          · have c44 : kEn w - kSt w = e - b := (nI_eq (a := kEn w - kSt w) (b := e - b) (by omega) (by omega)).mp c44
            refine s_iconst E dX6_key_47 (v := nI 1) (by decide) ?_
            refine s_goto E dX6_key_48 (tgt := 52) rfl ?_
            refine s_top (v2 := bI (kEn w - kSt w = e - b)) ((bI_t c44).symm) ?_
            exact J52
        refine s_if_ge E dX6_key_23 (tgt := 32) rfl (fun c23 => ?_) (fun c23 => ?_)
        · have c23 := Int32.not_lt.mpr c23
          have hk3 := hwf.2.2.2.2.1 c23
          refine s_loc (L2 := [(0, .ref (ra 0)), (1, .int (nI (kSt w))), (2, .int (nI w)), (3, .int (kxI w))]) [1, 2, 3, 0] rfl ?_
          refine s_L (L2 := [(0, .ref (ra 0)), (1, .int (nI (kSt w))), (2, .int (nI w)), (3, .int (nI (kEn w)))]) (by rw [hk3]) ?_
          exact J32
        · have c23 := Int32.not_le.mp c23
          have hk3 := hwf.2.2.2.2.2 c23
          refine s_ldcS E (E.2.2.2.2.2.2.1 : GN gt _ _ _).2.1 rfl dX6_key_26 ?_
          refine c_gos E (rVK E (cutZ _ _) E.2.2.2.2.2.2.1 (i := 0) (by decide) (jJ0_length 0 (by decide)) KX_79 (Nat.le_of_ble_eq_true rfl) (Nat.le_of_ble_eq_true rfl) (Nat.zero_le _) (Nat.zero_le _) rfl rfl (Nat.le_of_ble_eq_true rfl) dX6_key_28) (fun r28 h28 => ?_)
          subst h28
          refine s_top (v2 := nI 61) rfl ?_
          refine s_istore_n E (L2 := [(3, .int (nI 61)), (0, .ref (ra 0)), (1, .int (nI (kSt w))), (2, .int (nI w))]) dX6_key_31 rfl (Nat.le_of_ble_eq_true rfl) rfl ?_
          refine s_loc (L2 := [(0, .ref (ra 0)), (1, .int (nI (kSt w))), (2, .int (nI w)), (3, .int (nI 61))]) [1, 2, 3, 0] rfl ?_
          refine s_L (L2 := [(0, .ref (ra 0)), (1, .int (nI (kSt w))), (2, .int (nI w)), (3, .int (nI (kEn w)))]) (by rw [hk3]) ?_
          exact J32
  refine s_loc (L2 := [(0, .ref (ra 0)), (1, .int (nI 0)), (2, .int (nI 0))]) [2, 1, 0] rfl ?_
  exact L4 (_ + 1) 0 (Nat.zero_le _) (rfl) (Nat.lt_succ_self _)
