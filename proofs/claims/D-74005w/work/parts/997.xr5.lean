set_option maxRecDepth 100000
theorem rwX6_pR_5 {p : Program} {l : Launch} {e : Env} {R : Room} {s : State} {m : MethodId} {args : Array Value} {below : List Frame} {meth : Method} {c : Code} {Q : State → Prop} {A : Nat → Prop} {D : va_G} {nL cells slots : Nat} {pc : Nat} {L : List (Nat × Value)} {S : List Value} {cc : ByteArray} {ret : Option FieldType} {gt : Nat → Nat} {ad ra : Nat → Nat} {ct : Nat → ClassId} {ξ σ : Nat → Nat → Int32} {T : va_W} (E : En p s m args meth c A cc nL RX6 ret D (tysA ct) gt) {v : Int32} (d : decode cc pc = .ok (.putfield 47, 3)) (K : Sm p l e R s m args below meth c Q A D nL cells slots (rw ad ra ct ξ (st1 σ 0 18 v) T) (pc + 3) L S) : Sm p l e R s m args below meth c Q A D nL cells slots (rw ad ra ct ξ σ T) pc L (.int v :: .ref (ra 0) :: S) := s_put E in_X6 tyX6 tyX6_ok nmX6 0 rfl rfl 5 (Nat.le_of_ble_eq_true rfl) q596 rfl rfl rfl rfl (Nat.le_of_ble_eq_true rfl) rfl d K
theorem K_X6_60 : KV RX6 60 RX6 yX6_isDigit cX6_isDigit 2 (some .boolean) 1 := ⟨q585, q587, qs6, q118, q588, by decide +kernel⟩
theorem K_X6_57 : KV RX6 57 RX6 yX6_takeWord cX6_takeWord 2 none 0 := ⟨q473, q475, qs4, q118, q476, by decide +kernel⟩
set_option maxHeartbeats 3000000 in
set_option maxRecDepth 100000 in
theorem x6z_take {l : Launch} {D : va_G} {gt : Nat → Nat} {ad ra : Nat → Nat} {ct : Nat → ClassId} {ξ σ : Nat → Nat → Int32} {T : va_W} (t : Nat → Int32) (n a : Nat) (hb : BT ξ t) (hz : σ 0 16 = nI n) (hn7 : n ≤ 700) (h17 : σ 0 17 = nI a) (han : a ≤ n) : Cv l D gt yX6_take cX6_take 1 6 131 0 0 [.ref (ra 0)] (rw ad ra ct ξ σ T) (tysA ct) (fun σ2 => setT σ (tokX t n a (σ 0 20)) = σ2) (fun σ2 : Nat → Nat → Int32 => rw ad ra ct ξ σ2 T) (fun _ => tysA ct) := by
  refine Cv.start RX6 (by decide) rfl (Nat.le_of_ble_eq_true rfl) rfl ?_
  intro pP eE sS mM aA bB hM cC QQ AA E Rt
  have L0 : ∀ (fuel : Nat) (k : Nat), (a ≤ k) → (k ≤ n) → (scan wsB t n a = scan wsB t n k) → (n - k) < fuel → Sm pP l eE { frames := 6, cells := 0, slots := 0, locals := 131 } sS mM aA bB hM cC QQ AA D 1 0 0 (rw ad ra ct ξ (st1 σ 0 17 (nI k)) T) 0 [(0, .ref (ra 0))] [] := by
    intro fuel
    induction fuel with
    | zero =>
      intro k hak hkn hsk hf0
      exact absurd hf0 (Nat.not_lt_zero _)
    | succ fuel ih0 =>
      intro k hak hkn hsk hf0
      refine s_aload_n E dX6_take_0 (i := 0) (j := 0) rfl rfl ?_
      refine s_aload_n E dX6_take_1 (i := 0) (j := 0) rfl rfl ?_
      refine rwX6_gR_2 E (v := nI k) (st1_eq) dX6_take_2 ?_
      refine c_goi0 E (rV E (cutS _ _) (x6z_see t n k (hb) (by rw [st1_nj (by decide)]; exact hz) (hn7) (by omega)) K_X6_36 (Nat.le_of_ble_eq_true rfl) (Nat.le_of_ble_eq_true rfl) (Nat.zero_le _) (Nat.zero_le _) 0 rfl rfl rfl rfl (Nat.le_of_ble_eq_true rfl) dX6_take_5) (fun r5 w5 h5 => ?_)
      obtain ⟨rfl, rfl⟩ := h5
      refine s_bipush E dX6_take_8 (v := nI 10) (by decide) ?_
      refine s_icmp_eq E dX6_take_10 (tgt := 26) rfl (fun c10 => ?_) (fun c10 => ?_)
      · have hk1 := see_v c10 (by decide)
        refine s_aload_n E dX6_take_26 (i := 0) (j := 0) rfl rfl ?_
        refine s_dup E dX6_take_27 rfl ?_
        refine rwX6_gR_2 E (v := nI k) (st1_eq) dX6_take_28 ?_
        refine s_iconst E dX6_take_31 (v := nI 1) (by decide) ?_
        refine s_iadd_ E dX6_take_32 (v := nI (k + 1)) (nI_add _ _) ?_
        refine rwX6_pR_2 E dX6_take_33 ?_
        refine s_ws (ws2 := rw ad ra ct ξ (st1 σ 0 17 (nI (k + 1))) T) (congrArg (fun z => rw ad ra ct ξ z T) (st1_2)) ?_
        refine s_goto E dX6_take_36 (tgt := 0) rfl ?_
        exact ih0 (k + 1) (by omega) (by omega) (by rw [hsk]; exact scan_s hk1.1 (by rw [hk1.2]; rfl)) (by omega)
      · refine s_aload_n E dX6_take_13 (i := 0) (j := 0) rfl rfl ?_
        refine s_aload_n E dX6_take_14 (i := 0) (j := 0) rfl rfl ?_
        refine rwX6_gR_2 E (v := nI k) (st1_eq) dX6_take_15 ?_
        refine c_goi0 E (rV E (cutS _ _) (x6z_see t n k (hb) (by rw [st1_nj (by decide)]; exact hz) (hn7) (by omega)) K_X6_36 (Nat.le_of_ble_eq_true rfl) (Nat.le_of_ble_eq_true rfl) (Nat.zero_le _) (Nat.zero_le _) 0 rfl rfl rfl rfl (Nat.le_of_ble_eq_true rfl) dX6_take_18) (fun r18 w18 h18 => ?_)
        obtain ⟨rfl, rfl⟩ := h18
        refine s_bipush E dX6_take_21 (v := nI 32) (by decide) ?_
        refine s_icmp_ne E dX6_take_23 (tgt := 39) rfl (fun c23 => ?_) (fun c23 => ?_)
        · have hsc : scan wsB t n a = k := by rw [hsk]; exact scan_e (see_ws c10 c23) hkn
          refine s_aload_n E dX6_take_39 (i := 0) (j := 0) rfl rfl ?_
          refine s_aload_n E dX6_take_40 (i := 0) (j := 0) rfl rfl ?_
          refine rwX6_gR_2 E (v := nI k) (st1_eq) dX6_take_41 ?_
          refine rwX6_pR_5 E dX6_take_44 ?_
          refine s_aload_n E dX6_take_47 (i := 0) (j := 0) rfl rfl ?_
          refine rwX6_gR_2 E (v := nI k) (by rw [st1_nj (by decide), st1_eq]) dX6_take_48 ?_
          refine s_aload_n E dX6_take_51 (i := 0) (j := 0) rfl rfl ?_
          refine rwX6_gR_0 E (v := nI n) (by rw [st1_nj (by decide), st1_nj (by decide)]; exact hz) dX6_take_52 ?_
          refine s_icmp_lt E dX6_take_55 (tgt := 66) rfl (fun c55 => ?_) (fun c55 => ?_)
          · have c55 : k < n := (nI_ltI (a := k) (b := n) (by omega) (by omega)).mp c55
            refine s_aload_n E dX6_take_66 (i := 0) (j := 0) rfl rfl ?_
            refine s_aload_n E dX6_take_67 (i := 0) (j := 0) rfl rfl ?_
            refine rwX6_gR_2 E (v := nI k) (by rw [st1_nj (by decide), st1_eq]) dX6_take_68 ?_
            refine c_goi0 E (rV E (cutS _ _) (x6z_isSmall t n k (hb) (by rw [st1_nj (by decide), st1_nj (by decide)]; exact hz) (hn7) (by omega)) K_X6_53 (Nat.le_of_ble_eq_true rfl) (Nat.le_of_ble_eq_true rfl) (Nat.zero_le _) (Nat.zero_le _) 0 rfl rfl rfl rfl (Nat.le_of_ble_eq_true rfl) dX6_take_71) (fun r71 w71 h71 => ?_)
            obtain ⟨rfl, rfl⟩ := h71
            refine s_if_eq E dX6_take_74 (tgt := 84) rfl (fun c74 => ?_) (fun c74 => ?_)
            · have c74 := bI_0 c74
              have hnsm : ¬ smB (t k) = true := fun h9 => c74 ⟨c55, h9⟩
              refine s_aload_n E dX6_take_84 (i := 0) (j := 0) rfl rfl ?_
              refine s_aload_n E dX6_take_85 (i := 0) (j := 0) rfl rfl ?_
              refine rwX6_gR_2 E (v := nI k) (by rw [st1_nj (by decide), st1_eq]) dX6_take_86 ?_
              refine c_goi0 E (rV E (cutS _ _) (x6z_isDigit t n k (hb) (by rw [st1_nj (by decide), st1_nj (by decide)]; exact hz) (hn7) (by omega)) K_X6_60 (Nat.le_of_ble_eq_true rfl) (Nat.le_of_ble_eq_true rfl) (Nat.zero_le _) (Nat.zero_le _) 0 rfl rfl rfl rfl (Nat.le_of_ble_eq_true rfl) dX6_take_89) (fun r89 w89 h89 => ?_)
              obtain ⟨rfl, rfl⟩ := h89
              refine s_if_eq E dX6_take_92 (tgt := 157) rfl (fun c92 => ?_) (fun c92 => ?_)
              · have c92 := bI_0 c92
                have hndg : ¬ dgB (t k) = true := fun h9 => c92 ⟨c55, h9⟩
                refine s_aload_n E dX6_take_157 (i := 0) (j := 0) rfl rfl ?_
                refine s_aload_n E dX6_take_158 (i := 0) (j := 0) rfl rfl ?_
                refine s_aload_n E dX6_take_159 (i := 0) (j := 0) rfl rfl ?_
                refine rwX6_gR_2 E (v := nI k) (by rw [st1_nj (by decide), st1_eq]) dX6_take_160 ?_
                refine c_goi0 E (rV E (cutS _ _) (x6z_see t n k (hb) (by rw [st1_nj (by decide), st1_nj (by decide)]; exact hz) (hn7) (by omega)) K_X6_36 (Nat.le_of_ble_eq_true rfl) (Nat.le_of_ble_eq_true rfl) (Nat.zero_le _) (Nat.zero_le _) 0 rfl rfl rfl rfl (Nat.le_of_ble_eq_true rfl) dX6_take_163) (fun r163 w163 h163 => ?_)
                obtain ⟨rfl, rfl⟩ := h163
                refine s_top (v2 := t k) (if_pos c55) ?_
                refine s_bipush E dX6_take_166 (v := nI 59) (by decide) ?_
                refine s_icmp_ne E dX6_take_168 (tgt := 175) rfl (fun c168 => ?_) (fun c168 => ?_)
                · refine s_iconst E dX6_take_175 (v := nI 5) (by decide) ?_
                  refine rwX6_pR_3 E dX6_take_176 ?_
                  refine s_aload_n E dX6_take_179 (i := 0) (j := 0) rfl rfl ?_
                  refine s_dup E dX6_take_180 rfl ?_
                  refine rwX6_gR_2 E (v := nI k) (by rw [st1_nj (by decide), st1_nj (by decide), st1_eq]) dX6_take_181 ?_
                  refine s_iconst E dX6_take_184 (v := nI 1) (by decide) ?_
                  refine s_iadd_ E dX6_take_185 (v := nI (k + 1)) (nI_add _ _) ?_
                  refine rwX6_pR_2 E dX6_take_186 ?_
                  exact Rt (st1 (st1 (st1 (st1 σ 0 17 (nI k)) 0 18 (nI k)) 0 19 (nI 5)) 0 17 (nI (k + 1))) dX6_take_189 ((by rw [show tokX t n a (σ 0 20) = (k + 1, k, (if t k = nI 59 then nI 4 else nI 5), σ 0 20) from by unfold tokX; rw [hsc, if_neg (show ¬ k = n by omega), if_neg hnsm, if_neg hndg]]; exact setT_of (fun r hr => by simp only [st1_ne hr]) (fun j hj => by simp only [st1_nj (show j ≠ 17 by omega), st1_nj (show j ≠ 18 by omega), st1_nj (show j ≠ 19 by omega), st1_nj (show j ≠ 20 by omega)]) (by simp [st1, upR, upd]) (by simp [st1, upR, upd]) (by simp [st1, upR, upd, c168]) (by simp [st1, upR, upd]))) rfl (Nat.le_refl _) (Nat.le_refl _) E.2.2.2.2.2.1
                · refine s_iconst E dX6_take_171 (v := nI 4) (by decide) ?_
                  refine s_goto E dX6_take_172 (tgt := 176) rfl ?_
                  refine rwX6_pR_3 E dX6_take_176 ?_
                  refine s_aload_n E dX6_take_179 (i := 0) (j := 0) rfl rfl ?_
                  refine s_dup E dX6_take_180 rfl ?_
                  refine rwX6_gR_2 E (v := nI k) (by rw [st1_nj (by decide), st1_nj (by decide), st1_eq]) dX6_take_181 ?_
                  refine s_iconst E dX6_take_184 (v := nI 1) (by decide) ?_
                  refine s_iadd_ E dX6_take_185 (v := nI (k + 1)) (nI_add _ _) ?_
                  refine rwX6_pR_2 E dX6_take_186 ?_
                  exact Rt (st1 (st1 (st1 (st1 σ 0 17 (nI k)) 0 18 (nI k)) 0 19 (nI 4)) 0 17 (nI (k + 1))) dX6_take_189 ((by rw [show tokX t n a (σ 0 20) = (k + 1, k, (if t k = nI 59 then nI 4 else nI 5), σ 0 20) from by unfold tokX; rw [hsc, if_neg (show ¬ k = n by omega), if_neg hnsm, if_neg hndg]]; exact setT_of (fun r hr => by simp only [st1_ne hr]) (fun j hj => by simp only [st1_nj (show j ≠ 17 by omega), st1_nj (show j ≠ 18 by omega), st1_nj (show j ≠ 19 by omega), st1_nj (show j ≠ 20 by omega)]) (by simp [st1, upR, upd]) (by simp [st1, upR, upd]) (by simp [st1, upR, upd, c168]) (by simp [st1, upR, upd]))) rfl (Nat.le_refl _) (Nat.le_refl _) E.2.2.2.2.2.1
              · have c92 := bI_n0 c92
                have hdg := c92.2
                refine s_aload_n E dX6_take_95 (i := 0) (j := 0) rfl rfl ?_
                refine s_iconst E dX6_take_96 (v := nI 3) (by decide) ?_
                refine rwX6_pR_3 E dX6_take_97 ?_
                refine s_aload_n E dX6_take_100 (i := 0) (j := 0) rfl rfl ?_
                refine s_iconst E dX6_take_101 (v := nI 0) (by decide) ?_
                refine rwX6_pR_4 E dX6_take_102 ?_
                have L105 : ∀ (fuel : Nat) (u : Nat), (k + u ≤ n) → (scan dgB t n k = scan dgB t n (k + u)) → (n - (k + u)) < fuel → Sm pP l eE { frames := 6, cells := 0, slots := 0, locals := 131 } sS mM aA bB hM cC QQ AA D 1 0 0 (rw ad ra ct ξ (st1 (st1 (st1 (st1 σ 0 17 (nI (k + u))) 0 18 (nI k)) 0 19 (nI 3)) 0 20 (nuX t k u)) T) 105 [(0, .ref (ra 0))] [] := by
                  intro fuel
                  induction fuel with
                  | zero =>
                    intro u hun hsu hf105
                    exact absurd hf105 (Nat.not_lt_zero _)
                  | succ fuel ih105 =>
                    intro u hun hsu hf105
                    refine s_aload_n E dX6_take_105 (i := 0) (j := 0) rfl rfl ?_
                    refine s_aload_n E dX6_take_106 (i := 0) (j := 0) rfl rfl ?_
                    refine rwX6_gR_2 E (v := nI (k + u)) (by rw [st1_nj (by decide), st1_nj (by decide), st1_nj (by decide), st1_eq]) dX6_take_107 ?_
                    refine c_goi0 E (rV E (cutS _ _) (x6z_isDigit t n (k + u) (hb) (by rw [st1_nj (by decide), st1_nj (by decide), st1_nj (by decide), st1_nj (by decide)]; exact hz) (hn7) (by omega)) K_X6_60 (Nat.le_of_ble_eq_true rfl) (Nat.le_of_ble_eq_true rfl) (Nat.zero_le _) (Nat.zero_le _) 0 rfl rfl rfl rfl (Nat.le_of_ble_eq_true rfl) dX6_take_110) (fun r110 w110 h110 => ?_)
                    obtain ⟨rfl, rfl⟩ := h110
                    refine s_if_eq E dX6_take_113 (tgt := 189) rfl (fun c113 => ?_) (fun c113 => ?_)
                    · have c113 := bI_0 c113
                      have tdg := c113
                      replace hsu : scan dgB t n k = k + u := by rw [hsu]; exact scan_e c113 hun
                      exact Rt (st1 (st1 (st1 (st1 σ 0 17 (nI (k + u))) 0 18 (nI k)) 0 19 (nI 3)) 0 20 (nuX t k u)) dX6_take_189 ((by rw [show tokX t n a (σ 0 20) = (k + u, k, nI 3, nuX t k u) from by unfold tokX; rw [hsc, if_neg (show ¬ k = n by omega), if_neg hnsm, if_pos hdg, hsu, show k + u - k = u by omega]]; exact setT_of (fun r hr => by simp only [st1_ne hr]) (fun j hj => by simp only [st1_nj (show j ≠ 17 by omega), st1_nj (show j ≠ 18 by omega), st1_nj (show j ≠ 19 by omega), st1_nj (show j ≠ 20 by omega)]) (by simp [st1, upR, upd]) (by simp [st1, upR, upd]) (by simp [st1, upR, upd]) (by simp [st1, upR, upd]))) rfl (Nat.le_refl _) (Nat.le_refl _) E.2.2.2.2.2.1
                    · have c113 := bI_n0 c113
                      refine s_aload_n E dX6_take_116 (i := 0) (j := 0) rfl rfl ?_
                      refine s_bipush E dX6_take_117 (v := nI 10) (by decide) ?_
                      refine s_aload_n E dX6_take_119 (i := 0) (j := 0) rfl rfl ?_
                      refine rwX6_gR_4 E (v := nuX t k u) (st1_eq) dX6_take_120 ?_
                      refine s_imul E dX6_take_123 ?_
                      refine s_aload_n E dX6_take_124 (i := 0) (j := 0) rfl rfl ?_
                      refine s_aload_n E dX6_take_125 (i := 0) (j := 0) rfl rfl ?_
                      refine rwX6_gR_2 E (v := nI (k + u)) (by rw [st1_nj (by decide), st1_nj (by decide), st1_nj (by decide), st1_eq]) dX6_take_126 ?_
                      refine c_goi0 E (rV E (cutS _ _) (x6z_see t n (k + u) (hb) (by rw [st1_nj (by decide), st1_nj (by decide), st1_nj (by decide), st1_nj (by decide)]; exact hz) (hn7) (by omega)) K_X6_36 (Nat.le_of_ble_eq_true rfl) (Nat.le_of_ble_eq_true rfl) (Nat.zero_le _) (Nat.zero_le _) 0 rfl rfl rfl rfl (Nat.le_of_ble_eq_true rfl) dX6_take_129) (fun r129 w129 h129 => ?_)
                      obtain ⟨rfl, rfl⟩ := h129
                      refine s_top (v2 := t (k + u)) (if_pos c113.1) ?_
                      refine s_iadd E dX6_take_132 ?_
                      refine s_bipush E dX6_take_133 (v := nI 48) (by decide) ?_
                      refine s_isub E dX6_take_135 ?_
                      refine s_ldc E (v := nI 100000) dX6_take_136 q589 ?_
                      refine s_mmin E (v := nuX t k (u + 1)) (rfl) q590 q511 q121 q512 (Nat.le_of_ble_eq_true rfl) (Nat.le_of_ble_eq_true rfl) (Nat.zero_le _) (Nat.zero_le _) dX6_take_138 ?_
                      refine rwX6_pR_4 E dX6_take_141 ?_
                      refine s_ws (ws2 := rw ad ra ct ξ (st1 (st1 (st1 (st1 σ 0 17 (nI (k + u))) 0 18 (nI k)) 0 19 (nI 3)) 0 20 (nuX t k (u + 1))) T) (congrArg (fun z => rw ad ra ct ξ z T) (st1_2)) ?_
                      refine s_aload_n E dX6_take_144 (i := 0) (j := 0) rfl rfl ?_
                      refine s_dup E dX6_take_145 rfl ?_
                      refine rwX6_gR_2 E (v := nI (k + u)) (by rw [st1_nj (by decide), st1_nj (by decide), st1_nj (by decide), st1_eq]) dX6_take_146 ?_
                      refine s_iconst E dX6_take_149 (v := nI 1) (by decide) ?_
                      refine s_iadd_ E dX6_take_150 (v := nI ((k + u) + 1)) (nI_add _ _) ?_
                      refine rwX6_pR_2 E dX6_take_151 ?_
                      refine s_ws (ws2 := rw ad ra ct ξ (st1 (st1 (st1 (st1 σ 0 17 (nI (k + (u + 1)))) 0 18 (nI k)) 0 19 (nI 3)) 0 20 (nuX t k (u + 1))) T) (congrArg (fun z => rw ad ra ct ξ z T) (by rw [st1_cmj (i := 20) (by decide), st1_cmj (i := 19) (by decide), st1_3 (by decide)]; rfl)) ?_
                      refine s_goto E dX6_take_154 (tgt := 105) rfl ?_
                      exact ih105 (u + 1) (by omega) (by rw [hsu]; exact scan_s c113.1 c113.2) (by omega)
                exact L105 (_ + 1) 0 (by omega) (rfl) (Nat.lt_succ_self _)
            · have c74 := bI_n0 c74
              have tsm := c74
              refine s_aload_n E dX6_take_77 (i := 0) (j := 0) rfl rfl ?_
              refine c_gov0 E (rV E (cutS _ _) (x6z_takeWord t n k (hb) (by rw [st1_nj (by decide), st1_nj (by decide)]; exact hz) (hn7) (by rw [st1_nj (by decide), st1_eq]) (st1_eq) (hkn)) K_X6_57 (Nat.le_of_ble_eq_true rfl) (Nat.le_of_ble_eq_true rfl) (Nat.zero_le _) (Nat.zero_le _) 0 rfl rfl rfl rfl (Nat.le_of_ble_eq_true rfl) dX6_take_78) (fun w78 h78 => ?_)
              subst h78
              refine s_goto E dX6_take_81 (tgt := 189) rfl ?_
              exact Rt (st1 (st1 (st1 (st1 (st1 σ 0 17 (nI k)) 0 18 (nI k)) 0 17 (nI (scan smB t n k))) 0 19 (twX t k (scan smB t n k)).1) 0 20 (twX t k (scan smB t n k)).2) dX6_take_189 ((by rw [show tokX t n a (σ 0 20) = (scan smB t n k, k, (twX t k (scan smB t n k)).1, (twX t k (scan smB t n k)).2) from by unfold tokX; rw [hsc, if_neg (show ¬ k = n by omega), if_pos c74.2]]; exact setT_of (fun r hr => by simp only [st1_ne hr]) (fun j hj => by simp only [st1_nj (show j ≠ 17 by omega), st1_nj (show j ≠ 18 by omega), st1_nj (show j ≠ 19 by omega), st1_nj (show j ≠ 20 by omega)]) (by simp [st1, upR, upd]) (by simp [st1, upR, upd]) (by simp [st1, upR, upd]) (by simp [st1, upR, upd]))) rfl (Nat.le_refl _) (Nat.le_refl _) E.2.2.2.2.2.1
          · have c55 : ¬ k < n := fun h => c55 ((nI_ltI (a := k) (b := n) (by omega) (by omega)).mpr h)
            have hkn2 : k = n := by omega
            refine s_aload_n E dX6_take_58 (i := 0) (j := 0) rfl rfl ?_
            refine s_iconst E dX6_take_59 (v := nI 0) (by decide) ?_
            refine rwX6_pR_3 E dX6_take_60 ?_
            refine s_goto E dX6_take_63 (tgt := 189) rfl ?_
            exact Rt (st1 (st1 (st1 σ 0 17 (nI k)) 0 18 (nI k)) 0 19 (nI 0)) dX6_take_189 ((by rw [show tokX t n a (σ 0 20) = (k, k, nI 0, σ 0 20) from by unfold tokX; rw [hsc, if_pos hkn2, hkn2]]; exact setT_of (fun r hr => by simp only [st1_ne hr]) (fun j hj => by simp only [st1_nj (show j ≠ 17 by omega), st1_nj (show j ≠ 18 by omega), st1_nj (show j ≠ 19 by omega), st1_nj (show j ≠ 20 by omega)]) (by simp [st1, upR, upd]) (by simp [st1, upR, upd]) (by simp [st1, upR, upd]) (by simp [st1, upR, upd]))) rfl (Nat.le_refl _) (Nat.le_refl _) E.2.2.2.2.2.1
        · have hk1 := see_v c23 (by decide)
          refine s_aload_n E dX6_take_26 (i := 0) (j := 0) rfl rfl ?_
          refine s_dup E dX6_take_27 rfl ?_
          refine rwX6_gR_2 E (v := nI k) (st1_eq) dX6_take_28 ?_
          refine s_iconst E dX6_take_31 (v := nI 1) (by decide) ?_
          refine s_iadd_ E dX6_take_32 (v := nI (k + 1)) (nI_add _ _) ?_
          refine rwX6_pR_2 E dX6_take_33 ?_
          refine s_ws (ws2 := rw ad ra ct ξ (st1 σ 0 17 (nI (k + 1))) T) (congrArg (fun z => rw ad ra ct ξ z T) (st1_2)) ?_
          refine s_goto E dX6_take_36 (tgt := 0) rfl ?_
          exact ih0 (k + 1) (by omega) (by omega) (by rw [hsk]; exact scan_s hk1.1 (by rw [hk1.2]; rfl)) (by omega)
  refine s_ws (ws2 := rw ad ra ct ξ (st1 σ 0 17 (nI a)) T) (congrArg (fun z => rw ad ra ct ξ z T) (st1_self h17).symm) ?_
  exact L0 (_ + 1) a (Nat.le_refl _) (han) (rfl) (Nat.lt_succ_self _)
