set_option maxRecDepth 100000
section
variable {l : Launch} {D : va_G} {gt ad : Nat → Nat} {ct : Nat → ClassId}
set_option maxHeartbeats 3000000 in
set_option maxRecDepth 100000 in
theorem mz_token {σ : Nat → Nat → Int32} (n a : Nat) (hz : σ 0 16 = nI n) (ha : σ 0 17 = nI a) (hn7 : n ≤ 700) (han : a ≤ n) (hby : BY σ) : Cv l D gt yX5_token cX5_token 2 5 108 0 0 [.ref (ad 0)] (wm ad ct σ) (tysA ct) (fun σ2 => setT σ (tokF (σ 1) n a (σ 0 20)) = σ2) (fun σ2 => wm ad ct σ2) (fun _ => tysA ct) := by
  refine Cv.start RX5 (by decide) rfl (Nat.le_of_ble_eq_true rfl) rfl ?_
  intro pP eE sS mM aA bB hM cC QQ AA E Rt
  have L0 : ∀ (fuel : Nat) (k : Nat) (w0 : Nat → Nat → Int32), st1 σ 0 17 (nI k) = w0 → (a ≤ k) → (k ≤ n) → (scan wsB (σ 1) n a = scan wsB (σ 1) n k) → (n - k) < fuel → Sm pP l eE { frames := 5, cells := 0, slots := 0, locals := 108 } sS mM aA bB hM cC QQ AA D 2 0 0 (wm ad ct w0) 0 [(0, .ref (ad 0))] [] := by
    intro fuel
    induction fuel with
    | zero =>
      intro k w0 ew0 hak hkn hsk hf0
      exact absurd hf0 (Nat.not_lt_zero _)
    | succ fuel ih0 =>
      intro k w0 ew0 hak hkn hsk hf0
      subst ew0
      refine s_aload_n E dX5_token_0 (i := 0) (j := 0) rfl rfl ?_
      refine m_calli E (mz_here n k (hz) (rfl) (hn7) (by omega)) K5_108 (Nat.le_of_ble_eq_true rfl) (Nat.le_of_ble_eq_true rfl) (Nat.zero_le _) (Nat.zero_le _) rfl rfl (Nat.le_of_ble_eq_true rfl) dX5_token_1 (fun r1 w1 h1 => ?_)
      obtain ⟨rfl, rfl⟩ := h1
      refine s_top (v2 := see (σ 1) n k) (rfl) ?_
      refine s_bipush E dX5_token_4 (v := nI 10) (by decide) ?_
      refine s_icmp_eq E dX5_token_6 (tgt := 18) rfl (fun c6 => ?_) (fun c6 => ?_)
      · have hk1 := see_v c6 (by decide)
        refine s_aload_n E dX5_token_18 (i := 0) (j := 0) rfl rfl ?_
        refine s_dup E dX5_token_19 rfl ?_
        refine mg17 E (v := nI k) (st1_eq) dX5_token_20 ?_
        refine s_iconst E dX5_token_23 (v := nI 1) (by decide) ?_
        refine s_iadd_ E dX5_token_24 (v := nI (k + 1)) (nI_add _ _) ?_
        refine mp17 E dX5_token_25 ?_
        refine s_ws (ws2 := wm ad ct (st1 σ 0 17 (nI (k + 1)))) (congrArg (wm ad ct) (st1_2)) ?_
        refine s_goto E dX5_token_28 (tgt := 0) rfl ?_
        exact ih0 (k + 1) _ (rfl) (by omega) (by omega) (by rw [hsk]; exact scan_s hk1.1 (by rw [hk1.2]; rfl)) (by omega)
      · refine s_aload_n E dX5_token_9 (i := 0) (j := 0) rfl rfl ?_
        refine m_calli E (mz_here n k (hz) (rfl) (hn7) (by omega)) K5_108 (Nat.le_of_ble_eq_true rfl) (Nat.le_of_ble_eq_true rfl) (Nat.zero_le _) (Nat.zero_le _) rfl rfl (Nat.le_of_ble_eq_true rfl) dX5_token_10 (fun r10 w10 h10 => ?_)
        obtain ⟨rfl, rfl⟩ := h10
        refine s_top (v2 := see (σ 1) n k) (rfl) ?_
        refine s_bipush E dX5_token_13 (v := nI 32) (by decide) ?_
        refine s_icmp_ne E dX5_token_15 (tgt := 31) rfl (fun c15 => ?_) (fun c15 => ?_)
        · have hsc : scan wsB (σ 1) n a = k := by rw [hsk]; exact scan_e (see_ws c6 c15) hkn
          refine s_aload_n E dX5_token_31 (i := 0) (j := 0) rfl rfl ?_
          refine s_aload_n E dX5_token_32 (i := 0) (j := 0) rfl rfl ?_
          refine mg17 E (v := nI k) (st1_eq) dX5_token_33 ?_
          refine mp18 E dX5_token_36 ?_
          refine s_aload_n E dX5_token_39 (i := 0) (j := 0) rfl rfl ?_
          refine m_calli E (mz_here n k (hz) (rfl) (hn7) (by omega)) K5_108 (Nat.le_of_ble_eq_true rfl) (Nat.le_of_ble_eq_true rfl) (Nat.zero_le _) (Nat.zero_le _) rfl rfl (Nat.le_of_ble_eq_true rfl) dX5_token_40 (fun r40 w40 h40 => ?_)
          obtain ⟨rfl, rfl⟩ := h40
          refine s_top (v2 := see (σ 1) n k) (rfl) ?_
          refine s_istore_n E (L2 := [(1, .int (see (σ 1) n k)), (0, .ref (ad 0))]) dX5_token_43 rfl (Nat.le_of_ble_eq_true rfl) rfl ?_
          refine s_iload_n E dX5_token_44 (i := 1) (j := 0) rfl rfl ?_
          refine s_iconst E dX5_token_45 (v := (-1)) (by decide) ?_
          refine s_icmp_ne E dX5_token_46 (tgt := 57) rfl (fun c46 => ?_) (fun c46 => ?_)
          · obtain ⟨hkl, hse⟩ := see_lt c46
            rw [show (see (σ 1) n k : Int32) = σ 1 k from hse]
            refine s_iload_n E dX5_token_57 (i := 1) (j := 0) rfl rfl ?_
            refine m_calls E (mz_isSmall (σ 1 k)) K5_118 (Nat.le_of_ble_eq_true rfl) (Nat.le_of_ble_eq_true rfl) (Nat.zero_le _) (Nat.zero_le _) rfl rfl (Nat.le_of_ble_eq_true rfl) dX5_token_58 (fun r58 h58 => ?_)
            subst h58
            refine s_top (v2 := bI (smB (σ 1 k) = true)) (by simp [bI, smB]) ?_
            refine s_if_eq E dX5_token_61 (tgt := 145) rfl (fun c61 => ?_) (fun c61 => ?_)
            · have c61 := bI_0 c61
              have hsm := c61
              refine s_iload_n E dX5_token_145 (i := 1) (j := 0) rfl rfl ?_
              refine m_calls E (mz_isDigit (σ 1 k)) K5_131 (Nat.le_of_ble_eq_true rfl) (Nat.le_of_ble_eq_true rfl) (Nat.zero_le _) (Nat.zero_le _) rfl rfl (Nat.le_of_ble_eq_true rfl) dX5_token_146 (fun r146 h146 => ?_)
              subst h146
              refine s_top (v2 := bI (dgB (σ 1 k) = true)) (by simp [bI, dgB]) ?_
              refine s_if_eq E dX5_token_149 (tgt := 220) rfl (fun c149 => ?_) (fun c149 => ?_)
              · have c149 := bI_0 c149
                have hdg := c149
                refine s_aload_n E dX5_token_220 (i := 0) (j := 1) rfl rfl ?_
                refine s_iload_n E dX5_token_221 (i := 1) (j := 0) rfl rfl ?_
                refine s_bipush E dX5_token_222 (v := nI 59) (by decide) ?_
                refine s_icmp_ne E dX5_token_224 (tgt := 231) rfl (fun c224 => ?_) (fun c224 => ?_)
                · refine s_iconst E dX5_token_231 (v := nI 5) (by decide) ?_
                  refine mp19 E dX5_token_232 ?_
                  refine s_aload_n E dX5_token_235 (i := 0) (j := 1) rfl rfl ?_
                  refine s_dup E dX5_token_236 rfl ?_
                  refine mg17 E (v := nI k) ((st1_nj (by decide)).trans ((st1_nj (by decide)).trans (st1_eq))) dX5_token_237 ?_
                  refine s_iconst E dX5_token_240 (v := nI 1) (by decide) ?_
                  refine s_iadd_ E dX5_token_241 (v := nI (k + 1)) (nI_add _ _) ?_
                  refine mp17 E dX5_token_242 ?_
                  exact Rt (st1 (st1 (st1 (st1 σ 0 17 (nI k)) 0 18 (nI k)) 0 19 (nI 5)) 0 17 (nI (k + 1))) dX5_token_245 ((by rw [show tokF (σ 1) n a (σ 0 20) = (k + 1, k, (if σ 1 k = nI 59 then nI 3 else nI 5), σ 0 20) from by unfold tokF; rw [hsc, if_neg (show ¬ k = n by omega), if_neg hsm, if_neg hdg]]; exact setT_of (fun r hr => by simp only [st1_ne hr]) (fun j hj => by simp only [st1_nj (show j ≠ 17 by omega), st1_nj (show j ≠ 18 by omega), st1_nj (show j ≠ 19 by omega), st1_nj (show j ≠ 20 by omega)]) (by simp [st1, upR, upd]) (by simp [st1, upR, upd]) (by simp [st1, upR, upd, c224]) (by simp [st1, upR, upd]))) rfl (Nat.le_refl _) (Nat.le_refl _) E.2.2.2.2.2.1
                · refine s_iconst E dX5_token_227 (v := nI 3) (by decide) ?_
                  refine s_goto E dX5_token_228 (tgt := 232) rfl ?_
                  refine mp19 E dX5_token_232 ?_
                  refine s_aload_n E dX5_token_235 (i := 0) (j := 1) rfl rfl ?_
                  refine s_dup E dX5_token_236 rfl ?_
                  refine mg17 E (v := nI k) ((st1_nj (by decide)).trans ((st1_nj (by decide)).trans (st1_eq))) dX5_token_237 ?_
                  refine s_iconst E dX5_token_240 (v := nI 1) (by decide) ?_
                  refine s_iadd_ E dX5_token_241 (v := nI (k + 1)) (nI_add _ _) ?_
                  refine mp17 E dX5_token_242 ?_
                  exact Rt (st1 (st1 (st1 (st1 σ 0 17 (nI k)) 0 18 (nI k)) 0 19 (nI 3)) 0 17 (nI (k + 1))) dX5_token_245 ((by rw [show tokF (σ 1) n a (σ 0 20) = (k + 1, k, (if σ 1 k = nI 59 then nI 3 else nI 5), σ 0 20) from by unfold tokF; rw [hsc, if_neg (show ¬ k = n by omega), if_neg hsm, if_neg hdg]]; exact setT_of (fun r hr => by simp only [st1_ne hr]) (fun j hj => by simp only [st1_nj (show j ≠ 17 by omega), st1_nj (show j ≠ 18 by omega), st1_nj (show j ≠ 19 by omega), st1_nj (show j ≠ 20 by omega)]) (by simp [st1, upR, upd]) (by simp [st1, upR, upd]) (by simp [st1, upR, upd, c224]) (by simp [st1, upR, upd]))) rfl (Nat.le_refl _) (Nat.le_refl _) E.2.2.2.2.2.1
              · have c149 := bI_n0 c149
                have hdg := c149
                refine s_aload_n E dX5_token_152 (i := 0) (j := 1) rfl rfl ?_
                refine s_iconst E dX5_token_153 (v := nI 2) (by decide) ?_
                refine mp19 E dX5_token_154 ?_
                refine s_aload_n E dX5_token_157 (i := 0) (j := 1) rfl rfl ?_
                refine s_iconst E dX5_token_158 (v := nI 0) (by decide) ?_
                refine mp20 E dX5_token_159 ?_
                have L162 : ∀ (fuel : Nat) (u : Nat), (k + u ≤ n) → (scan dgB (σ 1) n k = scan dgB (σ 1) n (k + u)) → (n - (k + u)) < fuel → Sm pP l eE { frames := 5, cells := 0, slots := 0, locals := 108 } sS mM aA bB hM cC QQ AA D 2 0 0 (wm ad ct (st1 (st1 (st1 (st1 σ 0 17 (nI (k + u))) 0 18 (nI k)) 0 19 (nI 2)) 0 20 (nuF (σ 1) k u))) 162 [(0, .ref (ad 0)), (1, .int (σ 1 k))] [] := by
                  intro fuel
                  induction fuel with
                  | zero =>
                    intro u hun hsu hf162
                    exact absurd hf162 (Nat.not_lt_zero _)
                  | succ fuel ih162 =>
                    intro u hun hsu hf162
                    refine s_aload_n E dX5_token_162 (i := 0) (j := 0) rfl rfl ?_
                    refine m_calli E (mz_here n (k + u) (hz) (rfl) (hn7) (by omega)) K5_108 (Nat.le_of_ble_eq_true rfl) (Nat.le_of_ble_eq_true rfl) (Nat.zero_le _) (Nat.zero_le _) rfl rfl (Nat.le_of_ble_eq_true rfl) dX5_token_163 (fun r163 w163 h163 => ?_)
                    obtain ⟨rfl, rfl⟩ := h163
                    refine s_top (v2 := see (σ 1) n (k + u)) (rfl) ?_
                    refine m_calls E (mz_isDigit (see (σ 1) n (k + u))) K5_131 (Nat.le_of_ble_eq_true rfl) (Nat.le_of_ble_eq_true rfl) (Nat.zero_le _) (Nat.zero_le _) rfl rfl (Nat.le_of_ble_eq_true rfl) dX5_token_166 (fun r166 h166 => ?_)
                    subst h166
                    refine s_top (v2 := bI (k + u < n ∧ dgB (σ 1 (k + u)) = true)) (by rw [bI, bI]; simp only [see_dg]) ?_
                    refine s_if_eq E dX5_token_169 (tgt := 245) rfl (fun c169 => ?_) (fun c169 => ?_)
                    · have c169 := bI_0 c169
                      have t2 := c169
                      replace hsu : scan dgB (σ 1) n k = k + u := by rw [hsu]; exact scan_e c169 hun
                      exact Rt (st1 (st1 (st1 (st1 σ 0 17 (nI (k + u))) 0 18 (nI k)) 0 19 (nI 2)) 0 20 (nuF (σ 1) k u)) dX5_token_245 ((by rw [show tokF (σ 1) n a (σ 0 20) = (k + u, k, nI 2, nuF (σ 1) k u) from by unfold tokF; rw [hsc, if_neg (show ¬ k = n by omega), if_neg hsm, if_pos hdg, hsu, show k + u - k = u by omega]]; exact setT_of (fun r hr => by simp only [st1_ne hr]) (fun j hj => by simp only [st1_nj (show j ≠ 17 by omega), st1_nj (show j ≠ 18 by omega), st1_nj (show j ≠ 19 by omega), st1_nj (show j ≠ 20 by omega)]) (by simp [st1, upR, upd]) (by simp [st1, upR, upd]) (by simp [st1, upR, upd]) (by simp [st1, upR, upd]))) rfl (Nat.le_refl _) (Nat.le_refl _) E.2.2.2.2.2.1
                    · have c169 := bI_n0 c169
                      refine s_aload_n E dX5_token_172 (i := 0) (j := 0) rfl rfl ?_
                      refine s_aload_n E dX5_token_173 (i := 0) (j := 0) rfl rfl ?_
                      refine mg20 E (v := nuF (σ 1) k u) (st1_eq) dX5_token_174 ?_
                      refine s_ldc E (v := nI 99999) dX5_token_177 q1420 ?_
                      have J204 : Sm pP l eE { frames := 5, cells := 0, slots := 0, locals := 108 } sS mM aA bB hM cC QQ AA D 2 0 0 (wm ad ct (st1 (st1 (st1 (st1 σ 0 17 (nI (k + u))) 0 18 (nI k)) 0 19 (nI 2)) 0 20 (nuF (σ 1) k u))) 204 [(0, .ref (ad 0)), (1, .int (σ 1 k))] [.int (nuF (σ 1) k (u + 1)), .ref (ad 0)] := by
                        refine mp20 E dX5_token_204 ?_
                        refine s_ws (ws2 := wm ad ct (st1 (st1 (st1 (st1 σ 0 17 (nI (k + u))) 0 18 (nI k)) 0 19 (nI 2)) 0 20 (nuF (σ 1) k (u + 1)))) (congrArg (wm ad ct) (st1_2)) ?_
                        refine s_aload_n E dX5_token_207 (i := 0) (j := 0) rfl rfl ?_
                        refine s_dup E dX5_token_208 rfl ?_
                        refine mg17 E (v := nI (k + u)) ((st1_nj (by decide)).trans ((st1_nj (by decide)).trans ((st1_nj (by decide)).trans (st1_eq)))) dX5_token_209 ?_
                        refine s_iconst E dX5_token_212 (v := nI 1) (by decide) ?_
                        refine s_iadd_ E dX5_token_213 (v := nI ((k + u) + 1)) (nI_add _ _) ?_
                        refine mp17 E dX5_token_214 ?_
                        refine s_goto E dX5_token_217 (tgt := 162) rfl ?_
                        exact ih162 (u + 1) (by omega) (by rw [hsu]; exact scan_s c169.1 c169.2) (by omega)
                      refine s_icmp_le E dX5_token_179 (tgt := 189) rfl (fun c179 => ?_) (fun c179 => ?_)
                      · have c179 := Int32.not_lt.mpr c179
                        refine s_bipush E dX5_token_189 (v := nI 10) (by decide) ?_
                        refine s_aload_n E dX5_token_191 (i := 0) (j := 0) rfl rfl ?_
                        refine mg20 E (v := nuF (σ 1) k u) (st1_eq) dX5_token_192 ?_
                        refine s_imul E dX5_token_195 ?_
                        refine s_aload_n E dX5_token_196 (i := 0) (j := 0) rfl rfl ?_
                        refine m_calli E (mz_here n (k + u) (hz) (rfl) (hn7) (by omega)) K5_108 (Nat.le_of_ble_eq_true rfl) (Nat.le_of_ble_eq_true rfl) (Nat.zero_le _) (Nat.zero_le _) rfl rfl (Nat.le_of_ble_eq_true rfl) dX5_token_197 (fun r197 w197 h197 => ?_)
                        obtain ⟨rfl, rfl⟩ := h197
                        refine s_top (v2 := σ 1 (k + u)) (by show see (σ 1) n (k + u) = _; unfold see; rw [if_pos c169.1]) ?_
                        refine s_iadd E dX5_token_200 ?_
                        refine s_bipush E dX5_token_201 (v := nI 48) (by decide) ?_
                        refine s_isub E dX5_token_203 ?_
                        refine s_top (v2 := nuF (σ 1) k (u + 1)) (by simp [bI, nuF, c6, c15, hsc, c46, c61, hsm, c149, hdg, c169, c179]) ?_
                        exact J204
                      · have c179 := Int32.not_le.mp c179
                        refine s_aload_n E dX5_token_182 (i := 0) (j := 0) rfl rfl ?_
                        refine mg20 E (v := nuF (σ 1) k u) (st1_eq) dX5_token_183 ?_
                        refine s_goto E dX5_token_186 (tgt := 204) rfl ?_
                        refine s_top (v2 := nuF (σ 1) k (u + 1)) (by simp [bI, nuF, c6, c15, hsc, c46, c61, hsm, c149, hdg, c169, c179]) ?_
                        exact J204
                refine s_loc (L2 := [(0, .ref (ad 0)), (1, .int (σ 1 k))]) [1, 0] rfl ?_
                exact L162 (_ + 1) 0 (by omega) (rfl) (Nat.lt_succ_self _)
            · have c61 := bI_n0 c61
              have hsm := c61
              have L64 : ∀ (fuel : Nat) (j : Nat), (k ≤ j) → (j ≤ n) → (scan smB (σ 1) n k = scan smB (σ 1) n j) → (n - j) < fuel → Sm pP l eE { frames := 5, cells := 0, slots := 0, locals := 108 } sS mM aA bB hM cC QQ AA D 2 0 0 (wm ad ct (st1 (st1 σ 0 17 (nI j)) 0 18 (nI k))) 64 [(0, .ref (ad 0)), (1, .int (σ 1 k))] [] := by
                intro fuel
                induction fuel with
                | zero =>
                  intro j hkj hjn hsj hf64
                  exact absurd hf64 (Nat.not_lt_zero _)
                | succ fuel ih64 =>
                  intro j hkj hjn hsj hf64
                  refine s_aload_n E dX5_token_64 (i := 0) (j := 0) rfl rfl ?_
                  refine m_calli E (mz_here n j (hz) (rfl) (hn7) (by omega)) K5_108 (Nat.le_of_ble_eq_true rfl) (Nat.le_of_ble_eq_true rfl) (Nat.zero_le _) (Nat.zero_le _) rfl rfl (Nat.le_of_ble_eq_true rfl) dX5_token_65 (fun r65 w65 h65 => ?_)
                  obtain ⟨rfl, rfl⟩ := h65
                  refine s_top (v2 := see (σ 1) n j) (rfl) ?_
                  refine m_calls E (mz_isSmall (see (σ 1) n j)) K5_118 (Nat.le_of_ble_eq_true rfl) (Nat.le_of_ble_eq_true rfl) (Nat.zero_le _) (Nat.zero_le _) rfl rfl (Nat.le_of_ble_eq_true rfl) dX5_token_68 (fun r68 h68 => ?_)
                  subst h68
                  refine s_top (v2 := bI (j < n ∧ smB (σ 1 j) = true)) (by rw [bI, bI]; simp only [see_sm]) ?_
                  refine s_if_eq E dX5_token_71 (tgt := 87) rfl (fun c71 => ?_) (fun c71 => ?_)
                  · have c71 := bI_0 c71
                    replace hsj : scan smB (σ 1) n k = j := by rw [hsj]; exact scan_e c71 hjn
                    refine s_aload_n E dX5_token_87 (i := 0) (j := 0) rfl rfl ?_
                    refine s_aload_n E dX5_token_88 (i := 0) (j := 0) rfl rfl ?_
                    refine m_calli E (mz_wordHere k j (rfl) (rfl) (by omega) (by omega)) K5_122 (Nat.le_of_ble_eq_true rfl) (Nat.le_of_ble_eq_true rfl) (Nat.zero_le _) (Nat.zero_le _) rfl rfl (Nat.le_of_ble_eq_true rfl) dX5_token_89 (fun r89 w89 h89 => ?_)
                    obtain ⟨rfl, rfl⟩ := h89
                    refine s_top (v2 := wordI (σ 1) k j) (rfl) ?_
                    refine mp20 E dX5_token_92 ?_
                    refine s_aload_n E dX5_token_95 (i := 0) (j := 0) rfl rfl ?_
                    refine s_aload_n E dX5_token_96 (i := 0) (j := 0) rfl rfl ?_
                    refine mg20 E (v := wordI (σ 1) k j) (st1_eq) dX5_token_97 ?_
                    refine s_iconst E dX5_token_100 (v := (-1)) (by decide) ?_
                    refine s_icmp_eq E dX5_token_101 (tgt := 108) rfl (fun c101 => ?_) (fun c101 => ?_)
                    · have t0 := c101
                      refine s_aload_n E dX5_token_108 (i := 0) (j := 0) rfl rfl ?_
                      refine mg17 E (v := nI j) ((st1_nj (by decide)).trans ((st1_nj (by decide)).trans (st1_eq))) dX5_token_109 ?_
                      refine s_aload_n E dX5_token_112 (i := 0) (j := 0) rfl rfl ?_
                      refine mg18 E (v := nI k) ((st1_nj (by decide)).trans (st1_eq)) dX5_token_113 ?_
                      refine s_isub_ E dX5_token_116 (v := nI (j - k)) (pk_sub hkj) ?_
                      refine s_bipush E dX5_token_117 (v := nI 6) (by decide) ?_
                      refine s_icmp_le E dX5_token_119 (tgt := 126) rfl (fun c119 => ?_) (fun c119 => ?_)
                      · have c119 : ¬ 6 < j - k := fun h => absurd c119 (Int32.not_le.mpr ((nI_ltI (a := 6) (b := j - k) (by omega) (by omega)).mpr h))
                        have t1 := c119
                        refine s_iconst E dX5_token_126 (v := nI 1) (by decide) ?_
                        refine mp19 E dX5_token_127 ?_
                        refine s_aload_n E dX5_token_130 (i := 0) (j := 0) rfl rfl ?_
                        refine mg19 E (v := nI 1) (st1_eq) dX5_token_131 ?_
                        refine s_iconst E dX5_token_134 (v := nI 1) (by decide) ?_
                        refine s_icmp_ne E dX5_token_135 (tgt := 245) rfl (fun c135 => absurd c135 (by decide)) (fun c135 => ?_)
                        refine s_aload_n E dX5_token_138 (i := 0) (j := 0) rfl rfl ?_
                        refine m_callv E (mz_nameHere k j (rfl) (rfl) (by omega) (by omega)) K5_128 (Nat.le_of_ble_eq_true rfl) (Nat.le_of_ble_eq_true rfl) (Nat.zero_le _) (Nat.zero_le _) rfl rfl (Nat.le_of_ble_eq_true rfl) dX5_token_139 (fun w139 h139 => ?_)
                        subst h139
                        refine s_goto E dX5_token_142 (tgt := 245) rfl ?_
                        exact Rt (st1 (st1 (st1 (st1 (st1 σ 0 17 (nI j)) 0 18 (nI k)) 0 20 (wordI (σ 1) k j)) 0 19 (nI 1)) 0 20 (nmF ((st1 (st1 (st1 (st1 σ 0 17 (nI j)) 0 18 (nI k)) 0 20 (wordI (σ 1) k j)) 0 19 (nI 1)) 1) k j 6)) dX5_token_245 ((by rw [show tokF (σ 1) n a (σ 0 20) = (j, k, nI 1, nmF (σ 1) k j 6) from by unfold tokF; rw [hsc, if_neg (show ¬ k = n by omega), if_pos hsm, hsj, if_neg (fun h9 => h9 c101), if_neg c119]]; exact setT_of (fun r hr => by simp only [st1_ne hr]) (fun j hj => by simp only [st1_nj (show j ≠ 17 by omega), st1_nj (show j ≠ 18 by omega), st1_nj (show j ≠ 19 by omega), st1_nj (show j ≠ 20 by omega)]) (by simp [st1, upR, upd]) (by simp [st1, upR, upd]) (by simp [st1, upR, upd]) (by simp [st1, upR, upd]))) rfl (Nat.le_refl _) (Nat.le_refl _) E.2.2.2.2.2.1
                      · have c119 : 6 < j - k := (nI_ltI (a := 6) (b := j - k) (by omega) (by omega)).mp (Int32.not_le.mp c119)
                        have t5 := c119
                        refine s_iconst E dX5_token_122 (v := nI 5) (by decide) ?_
                        refine s_goto E dX5_token_123 (tgt := 127) rfl ?_
                        refine mp19 E dX5_token_127 ?_
                        refine s_aload_n E dX5_token_130 (i := 0) (j := 0) rfl rfl ?_
                        refine mg19 E (v := nI 5) (st1_eq) dX5_token_131 ?_
                        refine s_iconst E dX5_token_134 (v := nI 1) (by decide) ?_
                        refine s_icmp_ne E dX5_token_135 (tgt := 245) rfl (fun c135 => ?_) (fun c135 => absurd c135 (by decide))
                        exact Rt (st1 (st1 (st1 (st1 σ 0 17 (nI j)) 0 18 (nI k)) 0 20 (wordI (σ 1) k j)) 0 19 (nI 5)) dX5_token_245 ((by rw [show tokF (σ 1) n a (σ 0 20) = (j, k, nI 5, -1) from by unfold tokF; rw [hsc, if_neg (show ¬ k = n by omega), if_pos hsm, hsj, if_neg (fun h9 => h9 c101), if_pos c119]]; exact setT_of (fun r hr => by simp only [st1_ne hr]) (fun j hj => by simp only [st1_nj (show j ≠ 17 by omega), st1_nj (show j ≠ 18 by omega), st1_nj (show j ≠ 19 by omega), st1_nj (show j ≠ 20 by omega)]) (by simp [st1, upR, upd]) (by simp [st1, upR, upd]) (by simp [st1, upR, upd]) (by simp [st1, upR, upd]; exact c101))) rfl (Nat.le_refl _) (Nat.le_refl _) E.2.2.2.2.2.1
                    · have tw := c101
                      refine s_iconst E dX5_token_104 (v := nI 0) (by decide) ?_
                      refine s_goto E dX5_token_105 (tgt := 127) rfl ?_
                      refine mp19 E dX5_token_127 ?_
                      refine s_aload_n E dX5_token_130 (i := 0) (j := 0) rfl rfl ?_
                      refine mg19 E (v := nI 0) (st1_eq) dX5_token_131 ?_
                      refine s_iconst E dX5_token_134 (v := nI 1) (by decide) ?_
                      refine s_icmp_ne E dX5_token_135 (tgt := 245) rfl (fun c135 => ?_) (fun c135 => absurd c135 (by decide))
                      exact Rt (st1 (st1 (st1 (st1 σ 0 17 (nI j)) 0 18 (nI k)) 0 20 (wordI (σ 1) k j)) 0 19 (nI 0)) dX5_token_245 ((by rw [show tokF (σ 1) n a (σ 0 20) = (j, k, nI 0, wordI (σ 1) k j) from by unfold tokF; rw [hsc, if_neg (show ¬ k = n by omega), if_pos hsm, hsj, if_pos c101]]; exact setT_of (fun r hr => by simp only [st1_ne hr]) (fun j hj => by simp only [st1_nj (show j ≠ 17 by omega), st1_nj (show j ≠ 18 by omega), st1_nj (show j ≠ 19 by omega), st1_nj (show j ≠ 20 by omega)]) (by simp [st1, upR, upd]) (by simp [st1, upR, upd]) (by simp [st1, upR, upd]) (by simp [st1, upR, upd]))) rfl (Nat.le_refl _) (Nat.le_refl _) E.2.2.2.2.2.1
                  · have c71 := bI_n0 c71
                    refine s_aload_n E dX5_token_74 (i := 0) (j := 0) rfl rfl ?_
                    refine s_dup E dX5_token_75 rfl ?_
                    refine mg17 E (v := nI j) ((st1_nj (by decide)).trans (st1_eq)) dX5_token_76 ?_
                    refine s_iconst E dX5_token_79 (v := nI 1) (by decide) ?_
                    refine s_iadd_ E dX5_token_80 (v := nI (j + 1)) (nI_add _ _) ?_
                    refine mp17 E dX5_token_81 ?_
                    refine s_ws (ws2 := wm ad ct (st1 (st1 σ 0 17 (nI (j + 1))) 0 18 (nI k))) (congrArg (wm ad ct) (st1_3 (by decide))) ?_
                    refine s_goto E dX5_token_84 (tgt := 64) rfl ?_
                    exact ih64 (j + 1) (by omega) (by omega) (by rw [hsj]; exact scan_s c71.1 c71.2) (by omega)
              refine s_loc (L2 := [(0, .ref (ad 0)), (1, .int (σ 1 k))]) [1, 0] rfl ?_
              exact L64 (_ + 1) k (Nat.le_refl _) (by omega) (rfl) (Nat.lt_succ_self _)
          · have hkn : k = n := see_end hkn c46 (fun h9 => hby k (by omega))
            refine s_aload_n E dX5_token_49 (i := 0) (j := 1) rfl rfl ?_
            refine s_iconst E dX5_token_50 (v := nI 4) (by decide) ?_
            refine mp19 E dX5_token_51 ?_
            refine s_goto E dX5_token_54 (tgt := 245) rfl ?_
            exact Rt (st1 (st1 (st1 σ 0 17 (nI k)) 0 18 (nI k)) 0 19 (nI 4)) dX5_token_245 ((by rw [show tokF (σ 1) n a (σ 0 20) = (n, n, nI 4, σ 0 20) from by unfold tokF; rw [hsc, hkn, if_pos rfl]]; rw [← hkn]; exact setT_of (fun r hr => by simp only [st1_ne hr]) (fun j hj => by simp only [st1_nj (show j ≠ 17 by omega), st1_nj (show j ≠ 18 by omega), st1_nj (show j ≠ 19 by omega), st1_nj (show j ≠ 20 by omega)]) (by simp [st1, upR, upd]) (by simp [st1, upR, upd]) (by simp [st1, upR, upd]) (by simp [st1, upR, upd]))) rfl (Nat.le_refl _) (Nat.le_refl _) E.2.2.2.2.2.1
        · have hk1 := see_v c15 (by decide)
          refine s_aload_n E dX5_token_18 (i := 0) (j := 0) rfl rfl ?_
          refine s_dup E dX5_token_19 rfl ?_
          refine mg17 E (v := nI k) (st1_eq) dX5_token_20 ?_
          refine s_iconst E dX5_token_23 (v := nI 1) (by decide) ?_
          refine s_iadd_ E dX5_token_24 (v := nI (k + 1)) (nI_add _ _) ?_
          refine mp17 E dX5_token_25 ?_
          refine s_ws (ws2 := wm ad ct (st1 σ 0 17 (nI (k + 1)))) (congrArg (wm ad ct) (st1_2)) ?_
          refine s_goto E dX5_token_28 (tgt := 0) rfl ?_
          exact ih0 (k + 1) _ (rfl) (by omega) (by omega) (by rw [hsk]; exact scan_s hk1.1 (by rw [hk1.2]; rfl)) (by omega)
  exact L0 (_ + 1) a _ (st1_self ha) (Nat.le_refl _) (han) (rfl) (Nat.lt_succ_self _)
end
