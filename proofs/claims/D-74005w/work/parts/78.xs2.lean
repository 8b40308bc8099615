set_option maxRecDepth 100000
theorem swX9_gS_3 {p : Program} {l : Launch} {e : Env} {R : Room} {s : State} {m : MethodId} {args : Array Value} {below : List Frame} {meth : Method} {c : Code} {Q : State → Prop} {A : Nat → Prop} {D : va_G} {nL cells slots : Nat} {pc : Nat} {L : List (Nat × Value)} {S : List Value} {cc : ByteArray} {ret : Option FieldType} {gt : Nat → Nat} {ad : Nat → Nat} {ct : Nat → ClassId} {n sa fa : Nat} {τ σ : Nat → Nat → Int32} {T : va_W} (E : En p s m args meth c A cc nL RX9 ret D (tysA ct) gt) {v : Int32} (hv : σ 40 0 = v) (d : decode cc pc = .ok (.getfield 40, 3)) (K : Sm p l e R s m args below meth c Q A D nL cells slots (iw ad ct n τ σ (T ++ sce ad sa fa ct σ)) (pc + 3) L (.int v :: S)) : Sm p l e R s m args below meth c Q A D nL cells slots (iw ad ct n τ σ (T ++ sce ad sa fa ct σ)) pc L (.ref (sa) :: S) := s_get E in_X9 (47 + T.length + 0) ((iw_len (k := 0)).trans rfl) rfl 3 (Nat.le_of_ble_eq_true rfl) q850 (congrArg (fun z => some (Value.int z)) hv) rfl d K
theorem swX9_gS_2 {p : Program} {l : Launch} {e : Env} {R : Room} {s : State} {m : MethodId} {args : Array Value} {below : List Frame} {meth : Method} {c : Code} {Q : State → Prop} {A : Nat → Prop} {D : va_G} {nL cells slots : Nat} {pc : Nat} {L : List (Nat × Value)} {S : List Value} {cc : ByteArray} {ret : Option FieldType} {gt : Nat → Nat} {ad : Nat → Nat} {ct : Nat → ClassId} {n sa fa : Nat} {τ σ : Nat → Nat → Int32} {T : va_W} (E : En p s m args meth c A cc nL RX9 ret D (tysA ct) gt) (d : decode cc pc = .ok (.getfield 28, 3)) (K : Sm p l e R s m args below meth c Q A D nL cells slots (iw ad ct n τ σ (T ++ sce ad sa fa ct σ)) (pc + 3) L (.ref (fa) :: S)) : Sm p l e R s m args below meth c Q A D nL cells slots (iw ad ct n τ σ (T ++ sce ad sa fa ct σ)) pc L (.ref (sa) :: S) := s_get E in_X9 (47 + T.length + 0) ((iw_len (k := 0)).trans rfl) rfl 2 (Nat.le_of_ble_eq_true rfl) q849 rfl rfl d K
theorem sw_lF {p : Program} {l : Launch} {e : Env} {R : Room} {s : State} {m : MethodId} {args : Array Value} {below : List Frame} {meth : Method} {c : Code} {Q : State → Prop} {A : Nat → Prop} {D : va_G} {nL cells slots : Nat} {pc : Nat} {L : List (Nat × Value)} {S : List Value} {cc : ByteArray} {ret : Option FieldType} {gt : Nat → Nat} {ad : Nat → Nat} {ct : Nat → ClassId} {n sa fa : Nat} {τ σ : Nat → Nat → Int32} {T : va_W} {own : String} (E : En p s m args meth c A cc nL own ret D (tysA ct) gt) {i v : Int32} (N : Nat) (hi : i = nI N) (hN : N < 6) (hv : σ 41 N = v) (d : decode cc pc = .ok (.iaload, 1)) (K : Sm p l e R s m args below meth c Q A D nL cells slots (iw ad ct n τ σ (T ++ sce ad sa fa ct σ)) (pc + 1) L (.int v :: S)) : Sm p l e R s m args below meth c Q A D nL cells slots (iw ad ct n τ σ (T ++ sce ad sa fa ct σ)) pc L (.int i :: .ref (fa) :: S) := s_iald E (47 + T.length + 1) 0 ((iw_len (k := 1)).trans rfl) rfl N hi hN (Nat.le_of_ble_eq_true rfl) hv d K
theorem K_X9_50 : KV RX9 50 RX9 yX9_takes cX9_takes 5 (some .int) 1 := ⟨q940, q942, qs30, q130, q943, by decide +kernel⟩
set_option maxHeartbeats 2000000 in
set_option maxRecDepth 100000 in
theorem x9z_goes {l : Launch} {D : va_G} {gt : Nat → Nat} {ad : Nat → Nat} {ct : Nat → ClassId} {n sa fa : Nat} {τ σ : Nat → Nat → Int32} {T : va_W} (bd : Int32) (P0 : Nat → Int32) (S : Nat) (hX : XT τ n) (hT : UT ad n τ T) (hP : PC P0 n) (hbd : In bd 61) (hRC : RC τ (zP P0 S n) n bd) (hS : Sub S n) (h2 : σ 40 2 = bd) (h0 : σ 40 0 = nI (el S).length) (h1 : σ 40 1 = nI 0) (hel : ∀ a, a < (el S).length → σ 41 a = nI ((el S).getD a 0)) (hz : σ 3 = zP P0 S n) : Ct l D gt yX9_goes cX9_goes 3 .int 8 197 0 0 [.ref (sa)] (iw ad ct n τ σ (T ++ sce ad sa fa ct σ)) (tysA ct) (fun r σ2 => goV (vwB τ P0 bd) n S = r ∧ XR σ σ2 ∧ (goV (vwB τ P0 bd) n S = nI 0 → σ2 40 1 = srV (vwB τ P0 bd) n S ∧ σ2 3 = foundP (vwB τ P0 bd) n S)) (fun σ2 : Nat → Nat → Int32 => iw ad ct n τ σ2 (T ++ sce ad sa fa ct σ2)) (fun _ => tysA ct) := by
  refine Ct.start RX9 (by decide) rfl (Nat.le_of_ble_eq_true rfl) rfl ?_
  intro pP eE sS mM aA bB hM cC QQ AA E Rt
  have hn6 := hX.2.1
  have hs64 := hS.s64
  have hl6 := (pos_f1 S hs64).2
  refine s_aload_n E dX9_goes_0 (i := 0) (j := 0) rfl rfl ?_
  refine swX9_gS_3 E (v := nI ((el S).length)) (h0) dX9_goes_1 ?_
  refine s_if_ne E dX9_goes_4 (tgt := 32) rfl (fun c4 => ?_) (fun c4 => ?_)
  · have c4 : ¬ (el S).length = 0 := fun h => c4 ((nI_eq (a := (el S).length) (b := 0) (by omega) (by omega)).mpr h)
    have hS0 : S ≠ 0 := fun e => c4 ((pos_f0 S hs64).mpr e)
    refine s_iconst E dX9_goes_32 (v := nI 0) (by decide) ?_
    refine s_istore_n E (L2 := [(1, .int (nI 0)), (0, .ref (sa))]) dX9_goes_33 rfl (Nat.le_of_ble_eq_true rfl) rfl ?_
    have L34 : ∀ (fuel : Nat) (a : Nat) (q : Nat) (f : Nat) (w34 : Nat → Nat → Int32), (XR σ w34) → (a ≤ (el S).length + 1) → (q ≤ 600) → (w34 40 1 = nI q) → (∀ j, j ≠ 1 → w34 40 j = σ 40 j) → (PC (w34 3) n) → (RC τ (w34 3) n bd) → (GE τ (w34 3) n S) → (srF n S (f + 1) (posP S a) (vwB τ (w34 3) bd) q = srR (vwB τ P0 bd) n S) → (8 * (601 - q) + posP S a ≤ f) → f < fuel → Sm pP l eE { frames := 8, cells := 0, slots := 0, locals := 197 } sS mM aA bB hM cC QQ AA D 3 0 0 (iw ad ct n τ w34 (T ++ sce ad sa fa ct w34)) 34 [(0, .ref (sa)), (1, .int (m1I a))] [] := by
      intro fuel
      induction fuel with
      | zero =>
        intro a q f w34 hw ha hq hq1 hj hPw hRCw hG hR hf hf34
        exact absurd hf34 (Nat.not_lt_zero _)
      | succ fuel ih34 =>
        intro a q f w34 hw ha hq hq1 hj hPw hRCw hG hR hf hf34
        refine s_iload_n E dX9_goes_34 (i := 1) (j := 1) rfl rfl ?_
        refine s_if_lt E dX9_goes_35 (tgt := 81) rfl (fun c35 => ?_) (fun c35 => ?_)
        · have ha0 := m1I_n (by omega) c35
          refine s_iload_n E dX9_goes_81 (i := 1) (j := 1) rfl rfl ?_
          refine s_if_ge E dX9_goes_82 (tgt := 90) rfl (fun c82 => absurd c35 (Int32.not_lt.mpr c82)) (fun c82 => ?_)
          have c82 := Int32.not_le.mp c82
          refine s_bipush E dX9_goes_85 (v := (-2)) (by decide) ?_
          refine s_goto E dX9_goes_87 (tgt := 91) rfl ?_
          exact Rt ((-2)) (w34) dX9_goes_91 ((fun (hR0 : srR (vwB τ P0 bd) n S = (2, vwB τ (w34 3) bd, q)) => (fun (e : goV (vwB τ P0 bd) n S = -2) => ⟨e, hw, fun h => absurd (e.symm.trans h) (by decide)⟩) (by unfold goV; rw [if_neg hS0, hR0, if_neg (by show ¬ (2 : Nat) = 0; decide), if_pos rfl])) (by rw [← hR, ha0, posP_0, srF, if_pos rfl])) rfl (Nat.le_refl _) (Nat.le_refl _) rfl E.2.2.2.2.2.1
        · have hk := m1I_p c35
          rw [show (m1I a : Int32) = nI (a - 1) from hk.2]
          refine s_iload_n E dX9_goes_38 (i := 1) (j := 1) rfl rfl ?_
          refine s_aload_n E dX9_goes_39 (i := 0) (j := 0) rfl rfl ?_
          refine swX9_gS_3 E (v := nI ((el S).length)) (by rw [hj 0 (by decide)]; exact h0) dX9_goes_40 ?_
          refine s_icmp_ge E dX9_goes_43 (tgt := 81) rfl (fun c43 => ?_) (fun c43 => ?_)
          · have c43 : ¬ a - 1 < (el S).length := fun h => absurd c43 (Int32.not_le.mpr ((nI_ltI (a := a - 1) (b := (el S).length) (by omega) (by omega)).mpr h))
            refine s_iload_n E dX9_goes_81 (i := 1) (j := 1) rfl rfl ?_
            refine s_if_ge E dX9_goes_82 (tgt := 90) rfl (fun c82 => ?_) (fun c82 => absurd (Int32.not_lt.mp (nI_pos (by omega))) c82)
            have c82 : ¬ a - 1 < 0 := fun h => absurd c82 (Int32.not_le.mpr ((nI_ltI (a := a - 1) (b := 0) (by omega) (by omega)).mpr h))
            refine s_iconst E dX9_goes_90 (v := nI 0) (by decide) ?_
            exact Rt (nI 0) (w34) dX9_goes_91 ((fun (hR0 : srR (vwB τ P0 bd) n S = (0, vwB τ (w34 3) bd, q)) => ⟨by unfold goV; rw [if_neg hS0, hR0, if_pos rfl], hw, fun _ => ⟨by rw [hq1]; unfold srV; rw [if_neg hS0, hR0, if_pos rfl], found_P hS0 hR0⟩⟩) (by rw [← hR, posP_e (by omega), srF, if_neg (by decide), if_pos rfl])) rfl (Nat.le_refl _) (Nat.le_refl _) rfl E.2.2.2.2.2.1
          · have c43 : a - 1 < (el S).length := (nI_ltI (a := a - 1) (b := (el S).length) (by omega) (by omega)).mp (Int32.not_le.mp c43)
            obtain ⟨u, hp, hu6, hbu, hgd, hnx, hav⟩ := posP_m hs64 hk.1 (by omega)
            have hun := hS.lt hbu
            refine s_aload_n E dX9_goes_46 (i := 0) (j := 0) rfl rfl ?_
            refine s_aload_n E dX9_goes_47 (i := 0) (j := 0) rfl rfl ?_
            refine swX9_gS_2 E dX9_goes_48 ?_
            refine s_iload_n E dX9_goes_51 (i := 1) (j := 1) rfl rfl ?_
            refine sw_lF E (v := nI u) (a - 1) (rfl) (by omega) (by rw [hw 41 (by decide) (by decide) (by decide), hel (a - 1) c43, hgd]) dX9_goes_52 ?_
            refine c_goi0 E (rV E (cutS _ _) (x9z_takes bd u q (hX) (hT) (hPw) (hbd) (hRCw) (hG u hun hbu) (hun) (hq) (by rw [hj 2 (by decide)]; exact h2) (hq1)) K_X9_50 (Nat.le_of_ble_eq_true rfl) (Nat.le_of_ble_eq_true rfl) (Nat.zero_le _) (Nat.zero_le _) (47 + T.length + 0) ((iw_len (k := 0)).trans rfl) rfl rfl rfl (Nat.le_of_ble_eq_true rfl) dX9_goes_53) (fun r53 w53 h53 => ?_)
            obtain ⟨e53, x53, k53, j53, ⟨x, hx, hxb, hx3⟩, f53, n53⟩ := h53
            subst e53
            have h600 : (nxtR τ (w34 3) bd n u q).2.2 ≤ 600 := (nfR_q hq).2
            have hqq : q ≤ (nxtR τ (w34 3) bd n u q).2.2 := (nfR_q hq).1
            refine s_istore_n E (L2 := [(2, .int (tkV (nxtR τ (w34 3) bd n u q))), (0, .ref (sa)), (1, .int (nI (a - 1)))]) dX9_goes_56 rfl (Nat.le_of_ble_eq_true rfl) rfl ?_
            refine s_iload_n E dX9_goes_57 (i := 2) (j := 0) rfl rfl ?_
            refine s_bipush E dX9_goes_58 (v := (-3)) (by decide) ?_
            refine s_icmp_ne E dX9_goes_60 (tgt := 66) rfl (fun c60 => ?_) (fun c60 => ?_)
            · have hr3 := tkV_n3 c60
              refine s_iload_n E dX9_goes_66 (i := 1) (j := 2) rfl rfl ?_
              refine s_iload_n E dX9_goes_67 (i := 2) (j := 0) rfl rfl ?_
              refine s_if_ne E dX9_goes_68 (tgt := 75) rfl (fun c68 => ?_) (fun c68 => ?_)
              · have hr0 := tkV_n0 c68
                refine s_iconst E dX9_goes_75 (v := (-1)) (by decide) ?_
                refine s_iadd_ E dX9_goes_76 (v := m1I (a - 1)) (by rw [← hk.2]; exact m1_dn hk.1) ?_
                refine s_istore_n E (L2 := [(1, .int (m1I (a - 1))), (2, .int (tkV (nxtR τ (w34 3) bd n u q))), (0, .ref (sa))]) dX9_goes_77 rfl (Nat.le_of_ble_eq_true rfl) rfl ?_
                refine s_goto E dX9_goes_78 (tgt := 34) rfl ?_
                have h7 := (avF_p S u).1
                refine s_loc (L2 := [(0, .ref (sa)), (1, .int (m1I (a - 1)))]) [2, 0] rfl ?_
                exact ih34 (a - 1) ((nxtR τ (w34 3) bd n u q).2.2) (f - 1) w53 (hw.tr x53) (by omega) (h600) (k53) (fun j h => (j53 j h).trans (hj j h)) (by rw [hx3]; exact PC.put hPw hx) (by rw [hx3]; exact hRCw.put2 hxb) (by rw [n53 hr0 hr3]; exact hG.put0) (by rw [n53 hr0 hr3, vwB_upd]; exact srF_dn hp hu6 hav hr3 hr0 (by omega) hR) (by omega) (by omega)
              · have hr1 := tkV_0 c68
                refine s_iconst E dX9_goes_71 (v := nI 1) (by decide) ?_
                refine s_goto E dX9_goes_72 (tgt := 76) rfl ?_
                refine s_iadd_ E dX9_goes_76 (v := m1I (a + 1)) (by rw [← hk.2]; exact m1_up) ?_
                refine s_istore_n E (L2 := [(1, .int (m1I (a + 1))), (2, .int (tkV (nxtR τ (w34 3) bd n u q))), (0, .ref (sa))]) dX9_goes_77 rfl (Nat.le_of_ble_eq_true rfl) rfl ?_
                refine s_goto E dX9_goes_78 (tgt := 34) rfl ?_
                have h9 : q < (nxtR τ (w34 3) bd n u q).2.2 := (nfR_1 hq (hX.lh hbd) hun hr1).2.2
                have h7 := posP_7 hs64 (show a + 1 ≤ (el S).length + 1 by omega)
                refine s_loc (L2 := [(0, .ref (sa)), (1, .int (m1I (a + 1)))]) [2, 0] rfl ?_
                exact ih34 (a + 1) ((nxtR τ (w34 3) bd n u q).2.2) (f - 1) w53 (hw.tr x53) (by omega) (h600) (k53) (fun j h => (j53 j h).trans (hj j h)) (by rw [hx3]; exact PC.put hPw hx) (by rw [hx3]; exact hRCw.put2 hxb) (by rw [f53 hr1]; exact hG.putR hun hbu hq hX hbd hr1) (by rw [f53 hr1, vwB_upd]; exact srF_up hp hu6 hnx hr3 hr1 (by omega) hR) (by omega) (by omega)
            · have hr3 := tkV_3 c60
              refine s_bipush E dX9_goes_63 (v := (-3)) (by decide) ?_
              exact Rt ((-3)) (w53) dX9_goes_65 ((fun (hR0 : srR (vwB τ P0 bd) n S = (3, vwB τ (w34 3) bd, (nxtR τ (w34 3) bd n u q).2.2)) => (fun (e : goV (vwB τ P0 bd) n S = -3) => ⟨e, hw.tr x53, fun h => absurd (e.symm.trans h) (by decide)⟩) (by unfold goV; rw [if_neg hS0, hR0, if_neg (by show ¬ (3 : Nat) = 0; decide), if_neg (by show ¬ (3 : Nat) = 2; decide)])) (by rw [← hR, hp, srF, if_neg (by omega), if_neg (by omega), Nat.add_sub_cancel]; exact if_pos hr3)) rfl (Nat.le_refl _) (Nat.le_refl _) rfl E.2.2.2.2.2.1
    refine s_loc (L2 := [(0, .ref (sa)), (1, .int (nI 0))]) [1, 0] rfl ?_
    refine s_L (L2 := [(0, .ref (sa)), (1, .int (m1I (0 + 1)))]) (by rw [m1I_s]) ?_
    exact L34 (_ + 1) (0 + 1) 0 4999 σ (XR.rf _) (by omega) (by omega) (h1) (fun _ _ => rfl) (by rw [hz]; exact zP_PC hP n) (by rw [hz]; exact hRC) (by rw [hz]; exact zP_GE) (by rw [hz, zP_vw]; unfold srR; rw [(pos_f1 S hs64).1]) (by have := posP_7 hs64 (show 0 + 1 ≤ (el S).length + 1 by omega); omega) (Nat.lt_succ_self _)
  · have c4 : (el S).length = 0 := (nI_eq (a := (el S).length) (b := 0) (by omega) (by omega)).mp c4
    have hSz : S = 0 := (pos_f0 S hs64).mp c4
    have hz0 : σ 3 = P0 := by rw [hz, hSz]; exact (by have h9 := congrFun (zF_0 (s := vwB τ P0 bd) n) 25; rw [← zP_vw, vwB_25, vwB_25] at h9; exact h9)
    refine s_aload_n E dX9_goes_7 (i := 0) (j := 0) rfl rfl ?_
    refine swX9_gS_5 E dX9_goes_8 ?_
    refine s_aload_n E dX9_goes_11 (i := 0) (j := 0) rfl rfl ?_
    refine swX9_gS_0 E dX9_goes_12 ?_
    refine s_aload_n E dX9_goes_15 (i := 0) (j := 0) rfl rfl ?_
    refine swX9_gS_1 E (v := bd) (h2) dX9_goes_16 ?_
    refine c_goi0 E (rVN E (cutS _ _) (x1z_isClean2B bd (hX) (UT.app hT) (by rw [hz0]; exact hP) (hbd) (by rw [hz]; exact hRC)) K_X9_46 (Nat.le_of_ble_eq_true rfl) (Nat.le_of_ble_eq_true rfl) (Nat.zero_le _) (Nat.zero_le _) 0 rfl rfl rfl rfl (Nat.le_of_ble_eq_true rfl) dX9_goes_19) (fun r19 w19 h19 => ?_)
    rw [hz0] at h19
    obtain ⟨e19, x19⟩ := h19
    subst e19
    refine s_ws (ws2 := iw ad ct n τ w19 (T ++ sce ad sa fa ct w19)) (by rw [sce_cg (x19 40 (by decide)) (x19 41 (by decide))]) ?_
    refine s_if_eq E dX9_goes_22 (tgt := 29) rfl (fun c22 => ?_) (fun c22 => ?_)
    · have c22 := bI_0 c22
      refine s_bipush E dX9_goes_29 (v := (-2)) (by decide) ?_
      exact Rt ((-2)) (w19) dX9_goes_31 ((fun (e : goV (vwB τ P0 bd) n S = -2) => ⟨e, x19.xr, fun h => absurd (e.symm.trans h) (by decide)⟩) (by unfold goV; rw [if_pos hSz, if_neg c22])) rfl (Nat.le_refl _) (Nat.le_refl _) rfl E.2.2.2.2.2.1
    · have c22 := bI_n0 c22
      refine s_iconst E dX9_goes_25 (v := nI 0) (by decide) ?_
      refine s_goto E dX9_goes_26 (tgt := 31) rfl ?_
      exact Rt (nI 0) (w19) dX9_goes_31 (⟨by unfold goV; rw [if_pos hSz, if_pos c22], x19.xr, fun _ => ⟨by unfold srV; rw [if_pos hSz, if_pos c22, x19 40 (by decide)]; exact h1, by unfold foundP; rw [if_pos hSz, vwB_25, x19 3 (by decide)]; exact hz0⟩⟩) rfl (Nat.le_refl _) (Nat.le_refl _) rfl E.2.2.2.2.2.1
