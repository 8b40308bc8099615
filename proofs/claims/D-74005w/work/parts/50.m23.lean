set_option maxRecDepth 100000
section
variable {l : Launch} {D : va_G} {gt ad : Nat → Nat} {ct : Nat → ClassId}
set_option maxHeartbeats 1000000 in
set_option maxRecDepth 100000 in
theorem mz_readText {σ : Nat → Nat → Int32} (n : Nat) (hn7 : n ≤ 700) (hb : BY σ) : Cv l D gt yX5_readText cX5_readText 2 11 236 0 0 [.ref (ad 0), .int (nI n)] (wm ad ct σ) (tysA ct) (fun σ2 => readTextS n σ = σ2) (fun σ2 => wm ad ct σ2) (fun _ => tysA ct) := by
  refine Cv.start RX5 (by decide) rfl (Nat.le_of_ble_eq_true rfl) rfl ?_
  intro pP eE sS mM aA bB hM cC QQ AA E Rt
  refine s_aload_n E dX5_readText_0 (i := 0) (j := 0) rfl rfl ?_
  refine s_iload_n E dX5_readText_1 (i := 1) (j := 1) rfl rfl ?_
  refine mp16 E dX5_readText_2 ?_
  refine s_aload_n E dX5_readText_5 (i := 0) (j := 0) rfl rfl ?_
  refine s_iconst E dX5_readText_6 (v := nI 0) (by decide) ?_
  refine mp17 E dX5_readText_7 ?_
  refine s_aload_n E dX5_readText_10 (i := 0) (j := 0) rfl rfl ?_
  refine s_iconst E dX5_readText_11 (v := nI 0) (by decide) ?_
  refine mp21 E dX5_readText_12 ?_
  refine s_aload_n E dX5_readText_15 (i := 0) (j := 0) rfl rfl ?_
  refine s_iconst E dX5_readText_16 (v := nI 0) (by decide) ?_
  refine mp15 E dX5_readText_17 ?_
  refine s_aload_n E dX5_readText_20 (i := 0) (j := 0) rfl rfl ?_
  refine m_callv E (mz_freshText ) K5_87 (Nat.le_of_ble_eq_true rfl) (Nat.le_of_ble_eq_true rfl) (Nat.zero_le _) (Nat.zero_le _) rfl rfl (Nat.le_of_ble_eq_true rfl) dX5_readText_21 (fun w21 h21 => ?_)
  subst h21
  refine s_aload_n E dX5_readText_24 (i := 0) (j := 0) rfl rfl ?_
  refine m_callv E (mz_tokenR (rt0_R0 hn7 hb)) K5_152 (Nat.le_of_ble_eq_true rfl) (Nat.le_of_ble_eq_true rfl) (Nat.zero_le _) (Nat.zero_le _) rfl rfl (Nat.le_of_ble_eq_true rfl) dX5_readText_25 (fun w25 h25 => ?_)
  subst h25
  have L28 : ∀ (fuel : Nat) (f : Nat) (w1 : Nat → Nat → Int32), (RI w1) → (TB w1) → (w1 0 16 = nI n) → (lnF f w1 = readTextS n σ) → (w1 0 21 = 0 → n + 1 - tN (w1 0 17) ≤ f) → f < fuel → Sm pP l eE { frames := 11, cells := 0, slots := 0, locals := 236 } sS mM aA bB hM cC QQ AA D 2 0 0 (wm ad ct w1) 28 [(0, .ref (ad 0)), (1, .int (nI n))] [] := by
    intro fuel
    induction fuel with
    | zero =>
      intro f w1 hr ht hz hl hf hf28
      exact absurd hf28 (Nat.not_lt_zero _)
    | succ fuel ih28 =>
      intro f w1 hr ht hz hl hf hf28
      refine s_aload_n E dX5_readText_28 (i := 0) (j := 0) rfl rfl ?_
      refine mg21 E (v := w1 0 21) (rfl) dX5_readText_29 ?_
      refine s_if_ne E dX5_readText_32 (tgt := 50) rfl (fun c32 => ?_) (fun c32 => ?_)
      · exact Rt (w1) dX5_readText_50 (by rw [← hl]; exact lnF_stop (fun h => c32 h.1)) rfl (Nat.le_refl _) (Nat.le_refl _) E.2.2.2.2.2.1
      · refine s_aload_n E dX5_readText_35 (i := 0) (j := 0) rfl rfl ?_
        refine mg19 E (v := w1 0 19) (rfl) dX5_readText_36 ?_
        refine s_iconst E dX5_readText_39 (v := nI 4) (by decide) ?_
        refine s_icmp_eq E dX5_readText_40 (tgt := 50) rfl (fun c40 => ?_) (fun c40 => ?_)
        · exact Rt (w1) dX5_readText_50 (by rw [← hl]; exact lnF_stop (fun h => h.2 c40)) rfl (Nat.le_refl _) (Nat.le_refl _) E.2.2.2.2.2.1
        · refine s_aload_n E dX5_readText_43 (i := 0) (j := 0) rfl rfl ?_
          refine m_callv E (mz_readLine (tN (w1 3 17)) (ht.1) (ht.2.1) (ht.2.2.1.1) (by have := ht.2.2.1.2; omega) (hr)) K5_217 (Nat.le_of_ble_eq_true rfl) (Nat.le_of_ble_eq_true rfl) (Nat.zero_le _) (Nat.zero_le _) rfl rfl (Nat.le_of_ble_eq_true rfl) dX5_readText_44 (fun w44 h44 => ?_)
          subst h44
          refine s_goto E dX5_readText_47 (tgt := 28) rfl ?_
          have hpos : 0 < f := by have := hf c32; have h8 := hr.1.2.1.2; rw [hz, tN_nI (by omega)] at h8; omega
          exact ih28 (f - 1) (lineS (tN (w1 3 17)) w1) ((Re.line.2 hr).1) (ht.line ht.2.2.1.1 (by have := ht.2.2.1.2; omega)) ((Re.line.2 hr).2.2.trans hz) (by obtain ⟨q, rfl⟩ : ∃ q, f = q + 1 := ⟨f - 1, by omega⟩; rw [lnF, if_pos ⟨c32, c40⟩] at hl; exact hl) (fun h9 => by have := line_go hr h9; have := hf c32; omega) (by omega)
  exact L28 (_ + 1) (n + 1) (rt1 n σ) ((rt1_of hn7 hb).1) ((rt1_of hn7 hb).2.1) ((rt1_of hn7 hb).2.2) (rfl) (fun _ => by omega) (Nat.lt_succ_self _)
set_option maxHeartbeats 1000000 in
set_option maxRecDepth 100000 in
theorem mz_takeText {σ : Nat → Nat → Int32}  (hbo : BO σ) : Cv l D gt yX5_takeText cX5_takeText 2 1 21 0 0 [.ref (ad 0)] (wm ad ct σ) (tysA ct) (fun σ2 => takeS σ = σ2) (fun σ2 => wm ad ct σ2) (fun _ => tysA ct) := by
  refine Cv.start RX5 (by decide) rfl (Nat.le_of_ble_eq_true rfl) rfl ?_
  intro pP eE sS mM aA bB hM cC QQ AA E Rt
  refine s_iconst E dX5_takeText_0 (v := nI 0) (by decide) ?_
  refine s_istore_n E (L2 := [(1, .int (nI 0)), (0, .ref (ad 0))]) dX5_takeText_1 rfl (Nat.le_of_ble_eq_true rfl) rfl ?_
  have L2 : ∀ (fuel : Nat) (k : Nat) (w2 : Nat → Nat → Int32), upR σ 3 (tkR 10 (σ 3) k) = w2 → (k ≤ 10) → (10 - k) < fuel → Sm pP l eE { frames := 1, cells := 0, slots := 0, locals := 21 } sS mM aA bB hM cC QQ AA D 2 0 0 (wm ad ct w2) 2 [(0, .ref (ad 0)), (1, .int (nI k))] [] := by
    intro fuel
    induction fuel with
    | zero =>
      intro k w2 ew2 hk hf2
      exact absurd hf2 (Nat.not_lt_zero _)
    | succ fuel ih2 =>
      intro k w2 ew2 hk hf2
      subst ew2
      refine s_iload_n E dX5_takeText_2 (i := 1) (j := 1) rfl rfl ?_
      refine s_bipush E dX5_takeText_3 (v := nI 10) (by decide) ?_
      refine s_icmp_ge E dX5_takeText_5 (tgt := 25) rfl (fun c5 => ?_) (fun c5 => ?_)
      · have c5 : ¬ k < 10 := fun h => absurd c5 (Int32.not_le.mpr ((nI_ltI (a := k) (b := 10) (by omega) (by omega)).mpr h))
        obtain rfl : k = 10 := by omega
        refine s_ws (ws2 := wm ad ct (T1 σ)) (rfl) ?_
        refine s_iconst E dX5_takeText_25 (v := nI 0) (by decide) ?_
        refine s_istore_n E (L2 := [(1, .int (nI 0)), (0, .ref (ad 0))]) dX5_takeText_26 rfl (Nat.le_of_ble_eq_true rfl) rfl ?_
        have L27 : ∀ (fuel : Nat) (k : Nat) (w27 : Nat → Nat → Int32), tk7 (T1 σ) k = w27 → (k ≤ 6) → (6 - k) < fuel → Sm pP l eE { frames := 1, cells := 0, slots := 0, locals := 21 } sS mM aA bB hM cC QQ AA D 2 0 0 (wm ad ct w27) 27 [(0, .ref (ad 0)), (1, .int (nI k))] [] := by
          intro fuel
          induction fuel with
          | zero =>
            intro k w27 ew27 hk hf27
            exact absurd hf27 (Nat.not_lt_zero _)
          | succ fuel ih27 =>
            intro k w27 ew27 hk hf27
            subst ew27
            refine s_iload_n E dX5_takeText_27 (i := 1) (j := 1) rfl rfl ?_
            refine s_bipush E dX5_takeText_28 (v := nI 6) (by decide) ?_
            refine s_icmp_ge E dX5_takeText_30 (tgt := 144) rfl (fun c30 => ?_) (fun c30 => ?_)
            · have c30 : ¬ k < 6 := fun h => absurd c30 (Int32.not_le.mpr ((nI_ltI (a := k) (b := 6) (by omega) (by omega)).mpr h))
              obtain rfl : k = 6 := by omega
              refine s_ws (ws2 := wm ad ct (T2 σ)) (rfl) ?_
              refine s_iconst E dX5_takeText_144 (v := nI 0) (by decide) ?_
              refine s_istore_n E (L2 := [(1, .int (nI 0)), (0, .ref (ad 0))]) dX5_takeText_145 rfl (Nat.le_of_ble_eq_true rfl) rfl ?_
              have L146 : ∀ (fuel : Nat) (k : Nat) (w146 : Nat → Nat → Int32), upR (T2 σ) 12 (tkR 9 (T2 σ 12) k) = w146 → (k ≤ 9) → (9 - k) < fuel → Sm pP l eE { frames := 1, cells := 0, slots := 0, locals := 21 } sS mM aA bB hM cC QQ AA D 2 0 0 (wm ad ct w146) 146 [(0, .ref (ad 0)), (1, .int (nI k))] [] := by
                intro fuel
                induction fuel with
                | zero =>
                  intro k w146 ew146 hk hf146
                  exact absurd hf146 (Nat.not_lt_zero _)
                | succ fuel ih146 =>
                  intro k w146 ew146 hk hf146
                  subst ew146
                  refine s_iload_n E dX5_takeText_146 (i := 1) (j := 1) rfl rfl ?_
                  refine s_bipush E dX5_takeText_147 (v := nI 9) (by decide) ?_
                  refine s_icmp_ge E dX5_takeText_149 (tgt := 173) rfl (fun c149 => ?_) (fun c149 => ?_)
                  · have c149 : ¬ k < 9 := fun h => absurd c149 (Int32.not_le.mpr ((nI_ltI (a := k) (b := 9) (by omega) (by omega)).mpr h))
                    obtain rfl : k = 9 := by omega
                    refine s_ws (ws2 := wm ad ct (T3 σ)) (rfl) ?_
                    refine s_iconst E dX5_takeText_173 (v := nI 0) (by decide) ?_
                    refine s_istore_n E (L2 := [(1, .int (nI 0)), (0, .ref (ad 0))]) dX5_takeText_174 rfl (Nat.le_of_ble_eq_true rfl) rfl ?_
                    have L175 : ∀ (fuel : Nat) (k : Nat) (w175 : Nat → Nat → Int32), upR (T3 σ) 13 (tkR 61 (T3 σ 13) k) = w175 → (k ≤ 61) → (61 - k) < fuel → Sm pP l eE { frames := 1, cells := 0, slots := 0, locals := 21 } sS mM aA bB hM cC QQ AA D 2 0 0 (wm ad ct w175) 175 [(0, .ref (ad 0)), (1, .int (nI k))] [] := by
                      intro fuel
                      induction fuel with
                      | zero =>
                        intro k w175 ew175 hk hf175
                        exact absurd hf175 (Nat.not_lt_zero _)
                      | succ fuel ih175 =>
                        intro k w175 ew175 hk hf175
                        subst ew175
                        refine s_iload_n E dX5_takeText_175 (i := 1) (j := 1) rfl rfl ?_
                        refine s_bipush E dX5_takeText_176 (v := nI 61) (by decide) ?_
                        refine s_icmp_ge E dX5_takeText_178 (tgt := 202) rfl (fun c178 => ?_) (fun c178 => ?_)
                        · have c178 : ¬ k < 61 := fun h => absurd c178 (Int32.not_le.mpr ((nI_ltI (a := k) (b := 61) (by omega) (by omega)).mpr h))
                          exact Rt (upR (T3 σ) 13 (tkR 61 (T3 σ 13) k)) dX5_takeText_202 (by obtain rfl : k = 61 := (by omega); rfl) rfl (Nat.le_refl _) (Nat.le_refl _) E.2.2.2.2.2.1
                        · have c178 : k < 61 := (nI_ltI (a := k) (b := 61) (by omega) (by omega)).mp (Int32.not_le.mp c178)
                          refine s_aload_n E dX5_takeText_181 (i := 0) (j := 0) rfl rfl ?_
                          refine mg13 E dX5_takeText_182 ?_
                          refine s_iload_n E dX5_takeText_185 (i := 1) (j := 1) rfl rfl ?_
                          refine s_aload_n E dX5_takeText_186 (i := 0) (j := 0) rfl rfl ?_
                          refine mg13 E dX5_takeText_187 ?_
                          refine s_bipush E dX5_takeText_190 (v := nI 61) (by decide) ?_
                          refine s_iload_n E dX5_takeText_192 (i := 1) (j := 1) rfl rfl ?_
                          refine s_iadd_ E dX5_takeText_193 (v := nI (61 + k)) (nI_add _ _) ?_
                          refine ml13 E (v := T3 σ 13 (61 + k)) (61 + k) (rfl) (by omega) (tkR_rd (by omega)) dX5_takeText_194 ?_
                          refine ms13 E (BO.nar hbo (by omega)) (k) (rfl) (by omega) dX5_takeText_195 ?_
                          refine s_ws (ws2 := wm ad ct (upR (T3 σ) 13 (tkR 61 (T3 σ 13) (k + 1)))) (congrArg (wm ad ct) (tkR_s)) ?_
                          refine s_iinc E (L2 := [(1, .int (nI (k + 1))), (0, .ref (ad 0))]) dX5_takeText_196 (k := 1) rfl (v := nI (k + 1)) (nI_inc _) (Nat.le_of_ble_eq_true rfl) rfl ?_
                          refine s_goto E dX5_takeText_199 (tgt := 175) rfl ?_
                          refine s_loc (L2 := [(0, .ref (ad 0)), (1, .int (nI (k + 1)))]) [1, 0] rfl ?_
                          exact ih175 (k + 1) _ (rfl) (by omega) (by omega)
                    refine s_loc (L2 := [(0, .ref (ad 0)), (1, .int (nI 0))]) [1, 0] rfl ?_
                    exact L175 (_ + 1) 0 _ (tkR_0) (Nat.zero_le _) (Nat.lt_succ_self _)
                  · have c149 : k < 9 := (nI_ltI (a := k) (b := 9) (by omega) (by omega)).mp (Int32.not_le.mp c149)
                    refine s_aload_n E dX5_takeText_152 (i := 0) (j := 0) rfl rfl ?_
                    refine mg12 E dX5_takeText_153 ?_
                    refine s_iload_n E dX5_takeText_156 (i := 1) (j := 1) rfl rfl ?_
                    refine s_aload_n E dX5_takeText_157 (i := 0) (j := 0) rfl rfl ?_
                    refine mg12 E dX5_takeText_158 ?_
                    refine s_bipush E dX5_takeText_161 (v := nI 9) (by decide) ?_
                    refine s_iload_n E dX5_takeText_163 (i := 1) (j := 1) rfl rfl ?_
                    refine s_iadd_ E dX5_takeText_164 (v := nI (9 + k)) (nI_add _ _) ?_
                    refine ml12 E (v := T2 σ 12 (9 + k)) (9 + k) (rfl) (by omega) (tkR_rd (by omega)) dX5_takeText_165 ?_
                    refine ms12 E (k) (rfl) (by omega) dX5_takeText_166 ?_
                    refine s_ws (ws2 := wm ad ct (upR (T2 σ) 12 (tkR 9 (T2 σ 12) (k + 1)))) (congrArg (wm ad ct) (tkR_s)) ?_
                    refine s_iinc E (L2 := [(1, .int (nI (k + 1))), (0, .ref (ad 0))]) dX5_takeText_167 (k := 1) rfl (v := nI (k + 1)) (nI_inc _) (Nat.le_of_ble_eq_true rfl) rfl ?_
                    refine s_goto E dX5_takeText_170 (tgt := 146) rfl ?_
                    refine s_loc (L2 := [(0, .ref (ad 0)), (1, .int (nI (k + 1)))]) [1, 0] rfl ?_
                    exact ih146 (k + 1) _ (rfl) (by omega) (by omega)
              refine s_loc (L2 := [(0, .ref (ad 0)), (1, .int (nI 0))]) [1, 0] rfl ?_
              exact L146 (_ + 1) 0 _ (tkR_0) (Nat.zero_le _) (Nat.lt_succ_self _)
            · have c30 : k < 6 := (nI_ltI (a := k) (b := 6) (by omega) (by omega)).mp (Int32.not_le.mp c30)
              refine s_aload_n E dX5_takeText_33 (i := 0) (j := 0) rfl rfl ?_
              refine mg5 E dX5_takeText_34 ?_
              refine s_iload_n E dX5_takeText_37 (i := 1) (j := 1) rfl rfl ?_
              refine s_aload_n E dX5_takeText_38 (i := 0) (j := 0) rfl rfl ?_
              refine mg5 E dX5_takeText_39 ?_
              refine s_bipush E dX5_takeText_42 (v := nI 6) (by decide) ?_
              refine s_iload_n E dX5_takeText_44 (i := 1) (j := 1) rfl rfl ?_
              refine s_iadd_ E dX5_takeText_45 (v := nI (6 + k)) (nI_add _ _) ?_
              refine ml5 E (v := T1 σ 5 (6 + k)) (6 + k) (rfl) (by omega) (tk7_rd (by omega)) dX5_takeText_46 ?_
              refine ms5 E (k) (rfl) (by omega) dX5_takeText_47 ?_
              refine s_aload_n E dX5_takeText_48 (i := 0) (j := 0) rfl rfl ?_
              refine mg6 E dX5_takeText_49 ?_
              refine s_iload_n E dX5_takeText_52 (i := 1) (j := 1) rfl rfl ?_
              refine s_aload_n E dX5_takeText_53 (i := 0) (j := 0) rfl rfl ?_
              refine mg6 E dX5_takeText_54 ?_
              refine s_bipush E dX5_takeText_57 (v := nI 6) (by decide) ?_
              refine s_iload_n E dX5_takeText_59 (i := 1) (j := 1) rfl rfl ?_
              refine s_iadd_ E dX5_takeText_60 (v := nI (6 + k)) (nI_add _ _) ?_
              refine ml6 E (v := T1 σ 6 (6 + k)) (6 + k) (rfl) (by omega) ((congrFun (st1_ne (by decide)) _).trans (tk7_rd (by omega))) dX5_takeText_61 ?_
              refine ms6 E (k) (rfl) (by omega) dX5_takeText_62 ?_
              refine s_aload_n E dX5_takeText_63 (i := 0) (j := 0) rfl rfl ?_
              refine mg7 E dX5_takeText_64 ?_
              refine s_iload_n E dX5_takeText_67 (i := 1) (j := 1) rfl rfl ?_
              refine s_aload_n E dX5_takeText_68 (i := 0) (j := 0) rfl rfl ?_
              refine mg7 E dX5_takeText_69 ?_
              refine s_bipush E dX5_takeText_72 (v := nI 6) (by decide) ?_
              refine s_iload_n E dX5_takeText_74 (i := 1) (j := 1) rfl rfl ?_
              refine s_iadd_ E dX5_takeText_75 (v := nI (6 + k)) (nI_add _ _) ?_
              refine ml7 E (v := T1 σ 7 (6 + k)) (6 + k) (rfl) (by omega) ((congrFun (st1_ne (by decide)) _).trans ((congrFun (st1_ne (by decide)) _).trans (tk7_rd (by omega)))) dX5_takeText_76 ?_
              refine ms7 E (k) (rfl) (by omega) dX5_takeText_77 ?_
              refine s_aload_n E dX5_takeText_78 (i := 0) (j := 0) rfl rfl ?_
              refine mg8 E dX5_takeText_79 ?_
              refine s_iload_n E dX5_takeText_82 (i := 1) (j := 1) rfl rfl ?_
              refine s_aload_n E dX5_takeText_83 (i := 0) (j := 0) rfl rfl ?_
              refine mg8 E dX5_takeText_84 ?_
              refine s_bipush E dX5_takeText_87 (v := nI 6) (by decide) ?_
              refine s_iload_n E dX5_takeText_89 (i := 1) (j := 1) rfl rfl ?_
              refine s_iadd_ E dX5_takeText_90 (v := nI (6 + k)) (nI_add _ _) ?_
              refine ml8 E (v := T1 σ 8 (6 + k)) (6 + k) (rfl) (by omega) ((congrFun (st1_ne (by decide)) _).trans ((congrFun (st1_ne (by decide)) _).trans ((congrFun (st1_ne (by decide)) _).trans (tk7_rd (by omega))))) dX5_takeText_91 ?_
              refine ms8 E (k) (rfl) (by omega) dX5_takeText_92 ?_
              refine s_aload_n E dX5_takeText_93 (i := 0) (j := 0) rfl rfl ?_
              refine mg9 E dX5_takeText_94 ?_
              refine s_iload_n E dX5_takeText_97 (i := 1) (j := 1) rfl rfl ?_
              refine s_aload_n E dX5_takeText_98 (i := 0) (j := 0) rfl rfl ?_
              refine mg9 E dX5_takeText_99 ?_
              refine s_bipush E dX5_takeText_102 (v := nI 6) (by decide) ?_
              refine s_iload_n E dX5_takeText_104 (i := 1) (j := 1) rfl rfl ?_
              refine s_iadd_ E dX5_takeText_105 (v := nI (6 + k)) (nI_add _ _) ?_
              refine ml9 E (v := T1 σ 9 (6 + k)) (6 + k) (rfl) (by omega) ((congrFun (st1_ne (by decide)) _).trans ((congrFun (st1_ne (by decide)) _).trans ((congrFun (st1_ne (by decide)) _).trans ((congrFun (st1_ne (by decide)) _).trans (tk7_rd (by omega)))))) dX5_takeText_106 ?_
              refine ms9 E (k) (rfl) (by omega) dX5_takeText_107 ?_
              refine s_aload_n E dX5_takeText_108 (i := 0) (j := 0) rfl rfl ?_
              refine mg10 E dX5_takeText_109 ?_
              refine s_iload_n E dX5_takeText_112 (i := 1) (j := 1) rfl rfl ?_
              refine s_aload_n E dX5_takeText_113 (i := 0) (j := 0) rfl rfl ?_
              refine mg10 E dX5_takeText_114 ?_
              refine s_bipush E dX5_takeText_117 (v := nI 6) (by decide) ?_
              refine s_iload_n E dX5_takeText_119 (i := 1) (j := 1) rfl rfl ?_
              refine s_iadd_ E dX5_takeText_120 (v := nI (6 + k)) (nI_add _ _) ?_
              refine ml10 E (v := T1 σ 10 (6 + k)) (6 + k) (rfl) (by omega) ((congrFun (st1_ne (by decide)) _).trans ((congrFun (st1_ne (by decide)) _).trans ((congrFun (st1_ne (by decide)) _).trans ((congrFun (st1_ne (by decide)) _).trans ((congrFun (st1_ne (by decide)) _).trans (tk7_rd (by omega))))))) dX5_takeText_121 ?_
              refine ms10 E (k) (rfl) (by omega) dX5_takeText_122 ?_
              refine s_aload_n E dX5_takeText_123 (i := 0) (j := 0) rfl rfl ?_
              refine mg11 E dX5_takeText_124 ?_
              refine s_iload_n E dX5_takeText_127 (i := 1) (j := 1) rfl rfl ?_
              refine s_aload_n E dX5_takeText_128 (i := 0) (j := 0) rfl rfl ?_
              refine mg11 E dX5_takeText_129 ?_
              refine s_bipush E dX5_takeText_132 (v := nI 6) (by decide) ?_
              refine s_iload_n E dX5_takeText_134 (i := 1) (j := 1) rfl rfl ?_
              refine s_iadd_ E dX5_takeText_135 (v := nI (6 + k)) (nI_add _ _) ?_
              refine ml11 E (v := T1 σ 11 (6 + k)) (6 + k) (rfl) (by omega) ((congrFun (st1_ne (by decide)) _).trans ((congrFun (st1_ne (by decide)) _).trans ((congrFun (st1_ne (by decide)) _).trans ((congrFun (st1_ne (by decide)) _).trans ((congrFun (st1_ne (by decide)) _).trans ((congrFun (st1_ne (by decide)) _).trans (tk7_rd (by omega)))))))) dX5_takeText_136 ?_
              refine ms11 E (k) (rfl) (by omega) dX5_takeText_137 ?_
              refine s_ws (ws2 := wm ad ct (tk7 (T1 σ) (k + 1))) (congrArg (wm ad ct) (tk7_s)) ?_
              refine s_iinc E (L2 := [(1, .int (nI (k + 1))), (0, .ref (ad 0))]) dX5_takeText_138 (k := 1) rfl (v := nI (k + 1)) (nI_inc _) (Nat.le_of_ble_eq_true rfl) rfl ?_
              refine s_goto E dX5_takeText_141 (tgt := 27) rfl ?_
              refine s_loc (L2 := [(0, .ref (ad 0)), (1, .int (nI (k + 1)))]) [1, 0] rfl ?_
              exact ih27 (k + 1) _ (rfl) (by omega) (by omega)
        refine s_loc (L2 := [(0, .ref (ad 0)), (1, .int (nI 0))]) [1, 0] rfl ?_
        exact L27 (_ + 1) 0 _ (tk7_0) (Nat.zero_le _) (Nat.lt_succ_self _)
      · have c5 : k < 10 := (nI_ltI (a := k) (b := 10) (by omega) (by omega)).mp (Int32.not_le.mp c5)
        refine s_aload_n E dX5_takeText_8 (i := 0) (j := 0) rfl rfl ?_
        refine mg3 E dX5_takeText_9 ?_
        refine s_iload_n E dX5_takeText_12 (i := 1) (j := 1) rfl rfl ?_
        refine s_aload_n E dX5_takeText_13 (i := 0) (j := 0) rfl rfl ?_
        refine s_iload_n E dX5_takeText_14 (i := 1) (j := 1) rfl rfl ?_
        refine m_calli E (mz_reading k (by omega)) K5_181 (Nat.le_of_ble_eq_true rfl) (Nat.le_of_ble_eq_true rfl) (Nat.zero_le _) (Nat.zero_le _) rfl rfl (Nat.le_of_ble_eq_true rfl) dX5_takeText_15 (fun r15 w15 h15 => ?_)
        obtain ⟨rfl, rfl⟩ := h15
        refine s_top (v2 := σ 3 (10 + k)) (tkR_rd (by omega)) ?_
        refine ms3 E (k) (rfl) (by omega) dX5_takeText_18 ?_
        refine s_ws (ws2 := wm ad ct (upR σ 3 (tkR 10 (σ 3) (k + 1)))) (congrArg (wm ad ct) (tkR_s)) ?_
        refine s_iinc E (L2 := [(1, .int (nI (k + 1))), (0, .ref (ad 0))]) dX5_takeText_19 (k := 1) rfl (v := nI (k + 1)) (nI_inc _) (Nat.le_of_ble_eq_true rfl) rfl ?_
        refine s_goto E dX5_takeText_22 (tgt := 2) rfl ?_
        refine s_loc (L2 := [(0, .ref (ad 0)), (1, .int (nI (k + 1)))]) [1, 0] rfl ?_
        exact ih2 (k + 1) _ (rfl) (by omega) (by omega)
  refine s_loc (L2 := [(0, .ref (ad 0)), (1, .int (nI 0))]) [1, 0] rfl ?_
  exact L2 (_ + 1) 0 _ (tkR_0) (Nat.zero_le _) (Nat.lt_succ_self _)
end
