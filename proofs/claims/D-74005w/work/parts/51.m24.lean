set_option maxRecDepth 100000
section
variable {l : Launch} {D : va_G} {gt ad : Nat → Nat} {ct : Nat → ClassId}
set_option maxHeartbeats 1000000 in
set_option maxRecDepth 100000 in
theorem mz_begins {σ : Nat → Nat → Int32} (n : Nat) (hn : σ 3 7 = nI n) (hn6 : n ≤ 6) : Cv l D gt yX5_begins cX5_begins 2 1 20 0 0 [.ref (ad 0)] (wm ad ct σ) (tysA ct) (fun σ2 => begS n σ = σ2) (fun σ2 => wm ad ct σ2) (fun _ => tysA ct) := by
  refine Cv.start RX5 (by decide) rfl (Nat.le_of_ble_eq_true rfl) rfl ?_
  intro pP eE sS mM aA bB hM cC QQ AA E Rt
  refine s_iconst E dX5_begins_0 (v := nI 0) (by decide) ?_
  refine s_istore_n E (L2 := [(1, .int (nI 0)), (0, .ref (ad 0))]) dX5_begins_1 rfl (Nat.le_of_ble_eq_true rfl) rfl ?_
  have L2 : ∀ (fuel : Nat) (k : Nat) (w2 : Nat → Nat → Int32), upR σ 25 (bgF σ 0 1 k) = w2 → (k ≤ 79) → (79 - k) < fuel → Sm pP l eE { frames := 1, cells := 0, slots := 0, locals := 20 } sS mM aA bB hM cC QQ AA D 2 0 0 (wm ad ct w2) 2 [(0, .ref (ad 0)), (1, .int (nI k))] [] := by
    intro fuel
    induction fuel with
    | zero =>
      intro k w2 ew2 hk hf2
      exact absurd hf2 (Nat.not_lt_zero _)
    | succ fuel ih2 =>
      intro k w2 ew2 hk hf2
      subst ew2
      refine s_iload_n E dX5_begins_2 (i := 1) (j := 1) rfl rfl ?_
      refine s_bipush E dX5_begins_3 (v := nI 79) (by decide) ?_
      refine s_icmp_ge E dX5_begins_5 (tgt := 21) rfl (fun c5 => ?_) (fun c5 => ?_)
      · have c5 : ¬ k < 79 := fun h => absurd c5 (Int32.not_le.mpr ((nI_ltI (a := k) (b := 79) (by omega) (by omega)).mpr h))
        refine s_ws (ws2 := wm ad ct (upR σ 25 (bgF σ 0 1 79))) (by rw [show k = 79 by omega]) ?_
        refine s_iconst E dX5_begins_21 (v := nI 0) (by decide) ?_
        refine s_istore_n E (L2 := [(1, .int (nI 0)), (0, .ref (ad 0))]) dX5_begins_22 rfl (Nat.le_of_ble_eq_true rfl) rfl ?_
        have L23 : ∀ (fuel : Nat) (u : Nat), (u ≤ n) → (n - u) < fuel → Sm pP l eE { frames := 1, cells := 0, slots := 0, locals := 20 } sS mM aA bB hM cC QQ AA D 2 0 0 (wm ad ct (upR σ 25 (bgF σ u 1 79))) 23 [(0, .ref (ad 0)), (1, .int (nI u))] [] := by
          intro fuel
          induction fuel with
          | zero =>
            intro u hu hf23
            exact absurd hf23 (Nat.not_lt_zero _)
          | succ fuel ih23 =>
            intro u hu hf23
            refine s_iload_n E dX5_begins_23 (i := 1) (j := 1) rfl rfl ?_
            refine s_aload_n E dX5_begins_24 (i := 0) (j := 0) rfl rfl ?_
            refine m_calli E (mz_users n (hn)) K5_232 (Nat.le_of_ble_eq_true rfl) (Nat.le_of_ble_eq_true rfl) (Nat.zero_le _) (Nat.zero_le _) rfl rfl (Nat.le_of_ble_eq_true rfl) dX5_begins_25 (fun r25 w25 h25 => ?_)
            obtain ⟨rfl, rfl⟩ := h25
            refine s_icmp_ge E dX5_begins_28 (tgt := 96) rfl (fun c28 => ?_) (fun c28 => ?_)
            · have c28 : ¬ u < n := fun h => absurd c28 (Int32.not_le.mpr ((nI_ltI (a := u) (b := n) (by omega) (by omega)).mpr h))
              refine s_ws (ws2 := wm ad ct (upR σ 25 (bgF σ n 1 79))) (by rw [show u = n by omega]) ?_
              refine s_iconst E dX5_begins_96 (v := nI 1) (by decide) ?_
              refine s_istore_n E (L2 := [(1, .int (nI 1)), (0, .ref (ad 0))]) dX5_begins_97 rfl (Nat.le_of_ble_eq_true rfl) rfl ?_
              have L98 : ∀ (fuel : Nat) (c : Nat), (1 ≤ c) → (c ≤ 61) → (61 - c) < fuel → Sm pP l eE { frames := 1, cells := 0, slots := 0, locals := 20 } sS mM aA bB hM cC QQ AA D 2 0 0 (wm ad ct (upR σ 25 (bgF σ n c 79))) 98 [(0, .ref (ad 0)), (1, .int (nI c))] [] := by
                intro fuel
                induction fuel with
                | zero =>
                  intro c hc1 hc hf98
                  exact absurd hf98 (Nat.not_lt_zero _)
                | succ fuel ih98 =>
                  intro c hc1 hc hf98
                  refine s_iload_n E dX5_begins_98 (i := 1) (j := 1) rfl rfl ?_
                  refine s_bipush E dX5_begins_99 (v := nI 60) (by decide) ?_
                  refine s_icmp_gt E dX5_begins_101 (tgt := 133) rfl (fun c101 => ?_) (fun c101 => ?_)
                  · have c101 : 60 < c := (nI_ltI (a := 60) (b := c) (by omega) (by omega)).mp c101
                    refine s_ws (ws2 := wm ad ct (upR σ 25 (bgF σ n 61 79))) (by rw [show c = 61 by omega]) ?_
                    refine s_aload_n E dX5_begins_133 (i := 0) (j := 0) rfl rfl ?_
                    refine m_callv E (mz_asTold ) K5_235 (Nat.le_of_ble_eq_true rfl) (Nat.le_of_ble_eq_true rfl) (Nat.zero_le _) (Nat.zero_le _) rfl rfl (Nat.le_of_ble_eq_true rfl) dX5_begins_134 (fun w134 h134 => ?_)
                    subst h134
                    exact Rt (toldF (upR σ 25 (bgF σ n 61 79))) dX5_begins_137 (rfl) rfl (Nat.le_refl _) (Nat.le_refl _) E.2.2.2.2.2.1
                  · have c101 : ¬ 60 < c := fun h => c101 ((nI_ltI (a := 60) (b := c) (by omega) (by omega)).mpr h)
                    refine s_aload_n E dX5_begins_104 (i := 0) (j := 0) rfl rfl ?_
                    refine mg25 E dX5_begins_105 ?_
                    refine s_bipush E dX5_begins_108 (v := nI 12) (by decide) ?_
                    refine s_iload_n E dX5_begins_110 (i := 1) (j := 1) rfl rfl ?_
                    refine s_iadd_ E dX5_begins_111 (v := nI (12 + c)) (nI_add _ _) ?_
                    refine s_aload_n E dX5_begins_112 (i := 0) (j := 0) rfl rfl ?_
                    refine mg13 E dX5_begins_113 ?_
                    refine s_iload_n E dX5_begins_116 (i := 1) (j := 1) rfl rfl ?_
                    refine ml13 E (v := σ 13 c) (c) (rfl) (by omega) (rfl) dX5_begins_117 ?_
                    have J126 : Sm pP l eE { frames := 1, cells := 0, slots := 0, locals := 20 } sS mM aA bB hM cC QQ AA D 2 0 0 (wm ad ct (upR σ 25 (bgF σ n c 79))) 126 [(0, .ref (ad 0)), (1, .int (nI c))] [.int (if σ 13 c = 0 then nI 0 else nI 1), .int (nI (12 + c)), .ref (ad 25)] := by
                      refine ms25 E (12 + c) (rfl) (by omega) dX5_begins_126 ?_
                      refine s_ws (ws2 := wm ad ct (upR σ 25 (bgF σ n (c + 1) 79))) (congrArg (wm ad ct) (bg_c hn6 (by omega) (by omega) rfl)) ?_
                      refine s_iinc E (L2 := [(1, .int (nI (c + 1))), (0, .ref (ad 0))]) dX5_begins_127 (k := 1) rfl (v := nI (c + 1)) (nI_inc _) (Nat.le_of_ble_eq_true rfl) rfl ?_
                      refine s_goto E dX5_begins_130 (tgt := 98) rfl ?_
                      refine s_loc (L2 := [(0, .ref (ad 0)), (1, .int (nI (c + 1)))]) [1, 0] rfl ?_
                      exact ih98 (c + 1) (by omega) (by omega) (by omega)
                    refine s_if_eq E dX5_begins_118 (tgt := 125) rfl (fun c118 => ?_) (fun c118 => ?_)
                    · refine s_iconst E dX5_begins_125 (v := nI 0) (by decide) ?_
                      refine s_top (v2 := if σ 13 c = 0 then nI 0 else nI 1) (by simp [bI, c5, c28, c101, c118]) ?_
                      exact J126
                    · refine s_iconst E dX5_begins_121 (v := nI 1) (by decide) ?_
                      refine s_goto E dX5_begins_122 (tgt := 126) rfl ?_
                      refine s_top (v2 := if σ 13 c = 0 then nI 0 else nI 1) (by simp [bI, c5, c28, c101, c118]) ?_
                      exact J126
              refine s_loc (L2 := [(0, .ref (ad 0)), (1, .int (nI 1))]) [1, 0] rfl ?_
              exact L98 (_ + 1) 1 (Nat.le_refl _) (by omega) (Nat.lt_succ_self _)
            · have c28 : u < n := (nI_ltI (a := u) (b := n) (by omega) (by omega)).mp (Int32.not_le.mp c28)
              refine s_aload_n E dX5_begins_31 (i := 0) (j := 0) rfl rfl ?_
              refine mg25 E dX5_begins_32 ?_
              refine s_iconst E dX5_begins_35 (v := nI 0) (by decide) ?_
              refine s_iload_n E dX5_begins_36 (i := 1) (j := 1) rfl rfl ?_
              refine s_iadd_ E dX5_begins_37 (v := nI u) (nI_z _) ?_
              refine s_aload_n E dX5_begins_38 (i := 0) (j := 0) rfl rfl ?_
              refine mg10 E dX5_begins_39 ?_
              refine s_iload_n E dX5_begins_42 (i := 1) (j := 1) rfl rfl ?_
              refine ml10 E (v := σ 10 u) (u) (rfl) (by omega) (rfl) dX5_begins_43 ?_
              refine ms25 E (u) (rfl) (by omega) dX5_begins_44 ?_
              refine s_aload_n E dX5_begins_45 (i := 0) (j := 0) rfl rfl ?_
              refine mg25 E dX5_begins_46 ?_
              refine s_bipush E dX5_begins_49 (v := nI 6) (by decide) ?_
              refine s_iload_n E dX5_begins_51 (i := 1) (j := 1) rfl rfl ?_
              refine s_iadd_ E dX5_begins_52 (v := nI (6 + u)) (nI_add _ _) ?_
              refine s_aload_n E dX5_begins_53 (i := 0) (j := 0) rfl rfl ?_
              refine mg7 E dX5_begins_54 ?_
              refine s_iload_n E dX5_begins_57 (i := 1) (j := 1) rfl rfl ?_
              refine ml7 E (v := σ 7 u) (u) (rfl) (by omega) (congrFun (st1_ne (by decide)) _) dX5_begins_58 ?_
              refine ms25 E (6 + u) (rfl) (by omega) dX5_begins_59 ?_
              refine s_aload_n E dX5_begins_60 (i := 0) (j := 0) rfl rfl ?_
              refine mg25 E dX5_begins_61 ?_
              refine s_bipush E dX5_begins_64 (v := nI 73) (by decide) ?_
              refine s_iload_n E dX5_begins_66 (i := 1) (j := 1) rfl rfl ?_
              refine s_iadd_ E dX5_begins_67 (v := nI (73 + u)) (nI_add _ _) ?_
              refine s_aload_n E dX5_begins_68 (i := 0) (j := 0) rfl rfl ?_
              refine mg11 E dX5_begins_69 ?_
              refine s_iload_n E dX5_begins_72 (i := 1) (j := 1) rfl rfl ?_
              refine ml11 E (v := σ 11 u) (u) (rfl) (by omega) ((congrFun (st1_ne (by decide)) _).trans (congrFun (st1_ne (by decide)) _)) dX5_begins_73 ?_
              have J89 : Sm pP l eE { frames := 1, cells := 0, slots := 0, locals := 20 } sS mM aA bB hM cC QQ AA D 2 0 0 (wm ad ct (st1 (st1 (upR σ 25 (bgF σ u 1 79)) 25 u (σ 10 u)) 25 (6 + u) (σ 7 u))) 89 [(0, .ref (ad 0)), (1, .int (nI u))] [.int (if σ 11 u = 0 then nI 255 else σ 11 u), .int (nI (73 + u)), .ref (ad 25)] := by
                refine ms25 E (73 + u) (rfl) (by omega) dX5_begins_89 ?_
                refine s_ws (ws2 := wm ad ct (upR σ 25 (bgF σ (u + 1) 1 79))) (congrArg (wm ad ct) (bg_u (by omega))) ?_
                refine s_iinc E (L2 := [(1, .int (nI (u + 1))), (0, .ref (ad 0))]) dX5_begins_90 (k := 1) rfl (v := nI (u + 1)) (nI_inc _) (Nat.le_of_ble_eq_true rfl) rfl ?_
                refine s_goto E dX5_begins_93 (tgt := 23) rfl ?_
                refine s_loc (L2 := [(0, .ref (ad 0)), (1, .int (nI (u + 1)))]) [1, 0] rfl ?_
                exact ih23 (u + 1) (by omega) (by omega)
              refine s_if_ne E dX5_begins_74 (tgt := 83) rfl (fun c74 => ?_) (fun c74 => ?_)
              · refine s_aload_n E dX5_begins_83 (i := 0) (j := 0) rfl rfl ?_
                refine mg11 E dX5_begins_84 ?_
                refine s_iload_n E dX5_begins_87 (i := 1) (j := 1) rfl rfl ?_
                refine ml11 E (v := σ 11 u) (u) (rfl) (by omega) ((congrFun (st1_ne (by decide)) _).trans (congrFun (st1_ne (by decide)) _)) dX5_begins_88 ?_
                refine s_top (v2 := if σ 11 u = 0 then nI 255 else σ 11 u) (by simp [bI, c5, c28, c74]) ?_
                exact J89
              · refine s_sipush E dX5_begins_77 (v := nI 255) (by decide) ?_
                refine s_goto E dX5_begins_80 (tgt := 89) rfl ?_
                refine s_top (v2 := if σ 11 u = 0 then nI 255 else σ 11 u) (by simp [bI, c5, c28, c74]) ?_
                exact J89
        refine s_loc (L2 := [(0, .ref (ad 0)), (1, .int (nI 0))]) [1, 0] rfl ?_
        exact L23 (_ + 1) 0 (Nat.zero_le _) (Nat.lt_succ_self _)
      · have c5 : k < 79 := (nI_ltI (a := k) (b := 79) (by omega) (by omega)).mp (Int32.not_le.mp c5)
        refine s_aload_n E dX5_begins_8 (i := 0) (j := 0) rfl rfl ?_
        refine mg25 E dX5_begins_9 ?_
        refine s_iload_n E dX5_begins_12 (i := 1) (j := 1) rfl rfl ?_
        refine s_iconst E dX5_begins_13 (v := nI 0) (by decide) ?_
        refine ms25 E (k) (rfl) (by omega) dX5_begins_14 ?_
        refine s_ws (ws2 := wm ad ct (upR σ 25 (bgF σ 0 1 (k + 1)))) (congrArg (wm ad ct) (bg_z)) ?_
        refine s_iinc E (L2 := [(1, .int (nI (k + 1))), (0, .ref (ad 0))]) dX5_begins_15 (k := 1) rfl (v := nI (k + 1)) (nI_inc _) (Nat.le_of_ble_eq_true rfl) rfl ?_
        refine s_goto E dX5_begins_18 (tgt := 2) rfl ?_
        refine s_loc (L2 := [(0, .ref (ad 0)), (1, .int (nI (k + 1)))]) [1, 0] rfl ?_
        exact ih2 (k + 1) _ (rfl) (by omega) (by omega)
  refine s_loc (L2 := [(0, .ref (ad 0)), (1, .int (nI 0))]) [1, 0] rfl ?_
  exact L2 (_ + 1) 0 _ (bg_0) (Nat.zero_le _) (Nat.lt_succ_self _)
end
