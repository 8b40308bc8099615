set_option maxRecDepth 100000
theorem swX1_gS_4 {p : Program} {l : Launch} {e : Env} {R : Room} {s : State} {m : MethodId} {args : Array Value} {below : List Frame} {meth : Method} {c : Code} {Q : State → Prop} {A : Nat → Prop} {D : va_G} {nL cells slots : Nat} {pc : Nat} {L : List (Nat × Value)} {S : List Value} {cc : ByteArray} {ret : Option FieldType} {gt : Nat → Nat} {ad : Nat → Nat} {ct : Nat → ClassId} {n sa fa : Nat} {τ σ : Nat → Nat → Int32} {T : va_W} (E : En p s m args meth c A cc nL RX1 ret D (tysA ct) gt) {v : Int32} (hv : σ 40 1 = v) (d : decode cc pc = .ok (.getfield 195, 3)) (K : Sm p l e R s m args below meth c Q A D nL cells slots (iw ad ct n τ σ (T ++ sce ad sa fa ct σ)) (pc + 3) L (.int v :: S)) : Sm p l e R s m args below meth c Q A D nL cells slots (iw ad ct n τ σ (T ++ sce ad sa fa ct σ)) pc L (.ref (sa) :: S) := s_getN E in_X9 (47 + T.length + 0) ((iw_len (k := 0)).trans rfl) rfl 4 (Nat.le_of_ble_eq_true rfl) q852 (congrArg (fun z => some (Value.int z)) hv) rfl d K
set_option maxHeartbeats 1000000 in
set_option maxRecDepth 100000 in
theorem x1z_complete {l : Launch} {D : va_G} {gt : Nat → Nat} {ad : Nat → Nat} {ct : Nat → ClassId} {n : Nat} {τ σ : Nat → Nat → Int32} {U : va_W} {pl : List KP} (K : Nat) (hX : XT τ n) (hT : UT ad n τ (U ++ kpW (ad 47) ct n pl)) (hP : PC (σ 1) n) (hbb : BB (σ 1)) (hK : σ 0 9 = nI K) (hK2 : K ≤ pl.length) (hpl : pl.length ≤ 20) : Ct l D gt yX1_complete cX1_complete 3 .int 9 219 10 100 [.ref (ad 0)] (iw ad ct n τ σ (U ++ kpW (ad 47) ct n pl)) (tysA ct) (fun r u => srV (vw τ (σ 1)) n (FS (vw τ (σ 1)) n) = r ∧ (¬ 0 < r → u.1 = pl ∧ XS σ u.2) ∧ (0 < r → KU K pl (σ 1) u.1 ∧ XN σ u.2 ∧ u.2 0 9 = nI (upK K) ∧ u.2 1 = foundP (vw τ (σ 1)) n (FS (vw τ (σ 1)) n))) (fun u : List KP × (Nat → Nat → Int32) => iw ad ct n τ u.2 (U ++ kpW (ad 47) ct n u.1)) (fun _ => tysA ct) := by
  refine Ct.start RX1 (by decide) rfl (Nat.le_of_ble_eq_true rfl) rfl ?_
  intro pP eE sS mM aA bB hM cC QQ AA E Rt
  have hn6 := hX.2.1
  refine s_new E in_X9 tyX9 tyX9_ok q834 q835 q130 (ci := 8) (fs := [.null, .int 0, .null, .int 0, .int 0, .null]) rfl df_X9 (by show _ ≤ 10; omega) (by show _ ≤ 100; omega) dX1_complete_0 (fun sa => ?_)
  refine s_ws (ws2 := iw ad ct n τ σ ((U ++ kpW (ad 47) ct n pl) ++ [(sa, .inr (8, [.null, .int 0, .null, .int 0, .int 0, .null]))])) iw_snoc ?_
  refine s_dup E dX1_complete_3 rfl ?_
  refine s_aload_n E dX1_complete_4 (i := 0) (j := 0) rfl rfl ?_
  refine s_aload_n E dX1_complete_5 (i := 0) (j := 0) rfl rfl ?_
  refine iwX1_g0_7 E dX1_complete_6 ?_
  refine s_aload_n E dX1_complete_9 (i := 0) (j := 0) rfl rfl ?_
  refine iwX1_g0_5 E dX1_complete_10 ?_
  refine c_gor0 E (rV E (cutS _ _) (x3z_like20 (hn6) (hbb)) K_X1_115 (Nat.le_of_ble_eq_true rfl) (Nat.le_of_ble_eq_true rfl) (by show _ ≤ 10; omega) (by show _ ≤ 100; omega) 17 rfl rfl rfl rfl (Nat.le_of_ble_eq_true rfl) dX1_complete_13) (fun w13 h13 => ?_)
  subst h13
  refine s_aload_n E dX1_complete_16 (i := 0) (j := 0) rfl rfl ?_
  refine s_aload_n E dX1_complete_17 (i := 0) (j := 0) rfl rfl ?_
  refine iwX1_g0_5 E dX1_complete_18 ?_
  refine c_goi0 E (rV E (cutS _ _) (x1z_untuned0 (hX)) K_X1_186 (Nat.le_of_ble_eq_true rfl) (Nat.le_of_ble_eq_true rfl) (by show _ ≤ 10; omega) (by show _ ≤ 100; omega) 0 rfl rfl rfl rfl (Nat.le_of_ble_eq_true rfl) dX1_complete_21) (fun r21 w21 h21 => ?_)
  obtain ⟨rfl, rfl⟩ := h21
  refine s_top (v2 := nI (FS (vw τ (σ 1)) n)) (rfl) ?_
  refine c_gov E (rI E (cutS _ _) (x9z_init (S := FS (vw τ (σ 1)) n) hX (FS_sub _ hn6)) K_X1_189 (Nat.le_of_ble_eq_true rfl) (Nat.le_of_ble_eq_true rfl) (by show _ ≤ 10; omega) (by show _ ≤ 100; omega) rfl rfl (Nat.le_of_ble_eq_true rfl) dX1_complete_24) (fun fa _ => ?_)
  refine s_astore_n E (L2 := [(1, .ref (sa)), (0, .ref (ad 0))]) dX1_complete_27 rfl (Nat.le_of_ble_eq_true rfl) rfl ?_
  refine s_aload_n E dX1_complete_28 (i := 1) (j := 0) rfl rfl ?_
  refine c_goi0 E (rV E (cutS _ _) (x9z_goes (τ 3 0) (σ 1) (FS (vw τ (σ 1)) n) (hX) (hT) (hP) (hX.2.2.2.2.1) (RC.zt hX) (FS_sub _ hn6) (rfl) (siS_h0 (FS_sub _ hn6)) (rfl) (siS_el (FS_sub _ hn6)) (rfl)) K_X1_192 (Nat.le_of_ble_eq_true rfl) (Nat.le_of_ble_eq_true rfl) (by show _ ≤ 10; omega) (by show _ ≤ 100; omega) (47 + (U ++ kpW (ad 47) ct n pl).length + 0) ((iw_len (k := 0)).trans rfl) rfl rfl rfl (Nat.le_of_ble_eq_true rfl) dX1_complete_29) (fun r29 w29 h29 => ?_)
  rw [vwB_self] at h29
  obtain ⟨e29, x29, f29⟩ := h29
  subst e29
  have xs29 := XS.go (XS.lik) x29
  refine s_istore_n E (L2 := [(2, .int (goV (vw τ (σ 1)) n (FS (vw τ (σ 1)) n))), (1, .ref (sa)), (0, .ref (ad 0))]) dX1_complete_32 rfl (Nat.le_of_ble_eq_true rfl) rfl ?_
  refine s_iload_n E dX1_complete_33 (i := 2) (j := 0) rfl rfl ?_
  refine s_if_eq E dX1_complete_34 (tgt := 39) rfl (fun c34 => ?_) (fun c34 => ?_)
  · have hg0 := c34
    have hsv := go_f c34
    refine s_aload_n E dX1_complete_39 (i := 1) (j := 1) rfl rfl ?_
    refine swX1_gS_4 E (v := srV (vw τ (σ 1)) n (FS (vw τ (σ 1)) n)) ((f29 hg0).1) dX1_complete_40 ?_
    refine s_if_ne E dX1_complete_43 (tgt := 48) rfl (fun c43 => ?_) (fun c43 => ?_)
    · have hw1 : w29 1 = σ 1 := xs29 1 (by decide) (by decide) (by decide)
      have hw0 : ∀ j, w29 0 j = σ 0 j := fun j => by have := xs29 0 (by decide) (by decide) (by decide); exact congrFun this j
      have hw3 : w29 3 = foundP (vw τ (σ 1)) n (FS (vw τ (σ 1)) n) := (f29 hg0).2
      have hb1 : BB (w29 1) := by rw [hw1]; exact hbb
      have hk1 : w29 0 9 = nI K := by rw [hw0]; exact hK
      have hb3 : BB (w29 3) := by rw [hw3]; exact BB.found hbb hP hX (FS_sub _ hn6)
      refine s_aload_n E dX1_complete_48 (i := 0) (j := 2) rfl rfl ?_
      refine p_gov (wc := iw ad ct n τ w29 (U ++ kpW (ad 47) ct n pl)) (wr := sce ad sa fa ct w29) (ws2 := fun pl2 : List KP => iw ad ct n τ (st1 w29 0 9 (nI (upK K))) (U ++ kpW (ad 47) ct n pl2) ++ sce ad sa fa ct w29) E (tyc := tysA ct) (isT := ixT) rfl (by rw [iw_snoc]) (rV E (cutP (tyc := tysA ct) (isT := ixT) rfl) (x1z_canUndo (pl := pl) K hn6 hb1 hk1 hK2 hpl) K_X1_136 (Nat.le_of_ble_eq_true rfl) (Nat.le_of_ble_eq_true rfl) (by show _ ≤ 10; omega) (by show _ ≤ 100; omega) 0 rfl rfl rfl rfl (Nat.le_of_ble_eq_true rfl) dX1_complete_49) (fun _ => List.perm_append_comm) (fun pl49 hku49 _ => ?_)
      refine s_ws (ws2 := iw ad ct n τ (st1 w29 0 9 (nI (upK K))) ((U ++ kpW (ad 47) ct n pl49) ++ sce ad sa fa ct w29)) iw_snoc ?_
      refine s_aload_n E dX1_complete_52 (i := 0) (j := 2) rfl rfl ?_
      refine iwX1_g0_5 E dX1_complete_53 ?_
      refine s_aload_n E dX1_complete_56 (i := 0) (j := 2) rfl rfl ?_
      refine iwX1_g0_7 E dX1_complete_57 ?_
      refine c_gor0 E (rV E (cutS _ _) (x3z_like02 (hn6) (hb3)) K_X1_115 (Nat.le_of_ble_eq_true rfl) (Nat.le_of_ble_eq_true rfl) (by show _ ≤ 10; omega) (by show _ ≤ 100; omega) 7 rfl rfl rfl rfl (Nat.le_of_ble_eq_true rfl) dX1_complete_60) (fun w60 h60 => ?_)
      subst h60
      refine s_pop E dX1_complete_63 rfl ?_
      refine s_aload_n E dX1_complete_64 (i := 1) (j := 1) rfl rfl ?_
      refine s_getN E in_X9 (v := .int (srV (vw τ (σ 1)) n (FS (vw τ (σ 1)) n))) (47 + (U ++ kpW (ad 47) ct n pl49).length + 0) ((iw_len (k := 0)).trans rfl) rfl 4 (Nat.le_of_ble_eq_true rfl) q852 (congrArg (fun z => some (Value.int z)) ((f29 hg0).1)) rfl dX1_complete_65 ?_
      refine iw_drop ?_
      have hu1 : KU K pl (σ 1) pl49 := by rw [← hw1]; exact hku49
      have hxn : XN σ (likS 0 2 (st1 (offS σ w29) 0 9 (nI (upK K)))) := (xs29.xn.tr XN.act).tr XN.lik
      refine s_ws (ws2 := iw ad ct n τ (likS 0 2 (st1 (offS σ w29) 0 9 (nI (upK K)))) (U ++ kpW (ad 47) ct n pl49)) rfl ?_
      exact Rt (srV (vw τ (σ 1)) n (FS (vw τ (σ 1)) n)) ((pl49, likS 0 2 (st1 (offS σ w29) 0 9 (nI (upK K))))) dX1_complete_68 (⟨rfl, fun h => absurd (sr_pos hsv c43) h, fun _ => ⟨hu1, hxn, rfl, hw3⟩⟩) rfl (by first | exact Nat.le_refl _ | omega) (by first | exact Nat.le_refl _ | omega) rfl E.2.2.2.2.2.1
    · refine iw_drop ?_
      refine s_ws (ws2 := iw ad ct n τ (offS σ w29) (U ++ kpW (ad 47) ct n pl)) rfl ?_
      refine s_iconst E dX1_complete_46 (v := nI 0) (by decide) ?_
      exact Rt (nI 0) ((pl, offS σ w29)) dX1_complete_47 (⟨c43, fun _ => ⟨rfl, xs29⟩, fun h => absurd h (by decide)⟩) rfl (by first | exact Nat.le_refl _ | omega) (by first | exact Nat.le_refl _ | omega) rfl E.2.2.2.2.2.1
  · have hgn := go_n c34
    refine s_iload_n E dX1_complete_37 (i := 2) (j := 0) rfl rfl ?_
    refine iw_drop ?_
    refine s_ws (ws2 := iw ad ct n τ (offS σ w29) (U ++ kpW (ad 47) ct n pl)) rfl ?_
    exact Rt (goV (vw τ (σ 1)) n (FS (vw τ (σ 1)) n)) ((pl, offS σ w29)) dX1_complete_38 (⟨hgn.1.symm, fun _ => ⟨rfl, xs29⟩, fun h => absurd (by rw [hgn.1] at h; exact Int32.lt_trans h hgn.2) (Int32.lt_irrefl)⟩) rfl (by first | exact Nat.le_refl _ | omega) (by first | exact Nat.le_refl _ | omega) rfl E.2.2.2.2.2.1
set_option maxHeartbeats 1000000 in
set_option maxRecDepth 100000 in
theorem x1z_mend {l : Launch} {D : va_G} {gt : Nat → Nat} {ad : Nat → Nat} {ct : Nat → ClassId} {n : Nat} {τ σ : Nat → Nat → Int32} {U : va_W} {pl : List KP} (K : Nat) (hX : XT τ n) (hT : UT ad n τ (U ++ kpW (ad 47) ct n pl)) (hP : PC (σ 1) n) (hbb : BB (σ 1)) (hK : σ 0 9 = nI K) (hK2 : K ≤ pl.length) (hpl : pl.length ≤ 20) : Ct l D gt yX1_mend cX1_mend 2 .int 10 242 1005 6083 [.ref (ad 0)] (iw ad ct n τ σ (U ++ kpW (ad 47) ct n pl)) (tysA ct) (fun r u => optI (mdN (vw τ (σ 1)) n) = r ∧ (¬ 0 < r → u.1 = pl ∧ XS σ u.2) ∧ (0 < r → KU K pl (σ 1) u.1 ∧ XN σ u.2 ∧ u.2 0 9 = nI (upK K) ∧ u.2 1 = foundP (vw τ (σ 1)) n (mdN (vw τ (σ 1)) n - 1))) (fun u : List KP × (Nat → Nat → Int32) => iw ad ct n τ u.2 (U ++ kpW (ad 47) ct n u.1)) (fun _ => tysA ct) := by
  refine Ct.start RX1 (by decide) rfl (Nat.le_of_ble_eq_true rfl) rfl ?_
  intro pP eE sS mM aA bB hM cC QQ AA E Rt
  have hn6 := hX.2.1
  refine s_aload_n E dX1_mend_0 (i := 0) (j := 0) rfl rfl ?_
  refine c_goi E (rV E (cutS _ _) (x1z_mendedSet (hX) (hT) (hP) (hbb)) K_X1_203 (Nat.le_of_ble_eq_true rfl) (Nat.le_of_ble_eq_true rfl) (by show _ ≤ 1005; omega) (by show _ ≤ 6083; omega) 0 rfl rfl rfl rfl (Nat.le_of_ble_eq_true rfl) dX1_mend_1) (fun r1 w1 h1 => ?_)
  obtain ⟨e1, x1, f1⟩ := h1
  subst e1
  refine s_istore_n E (L2 := [(1, .int (optI (mdN (vw τ (σ 1)) n))), (0, .ref (ad 0))]) dX1_mend_4 rfl (Nat.le_of_ble_eq_true rfl) rfl ?_
  refine s_iload_n E dX1_mend_5 (i := 1) (j := 0) rfl rfl ?_
  refine s_if_gt E dX1_mend_6 (tgt := 11) rfl (fun c6 => ?_) (fun c6 => ?_)
  · have hw1 : w1 1 = σ 1 := x1 1 (by decide) (by decide) (by decide)
    have hm0 : mdN (vw τ (σ 1)) n ≠ 0 := fun h => by rw [h] at c6; exact absurd c6 (by decide)
    have hms : Sub (mdN (vw τ (σ 1)) n - 1) n := md_sub hn6 hm0
    have hb1 : BB (w1 1) := by rw [hw1]; exact hbb
    have hk1 : w1 0 9 = nI K := by rw [x1 0 (by decide) (by decide) (by decide)]; exact hK
    have hb3 : BB (w1 3) := by rw [f1 hm0]; exact BB.found hbb hP hX hms
    refine s_aload_n E dX1_mend_11 (i := 0) (j := 1) rfl rfl ?_
    refine c_gov E (rV E (cutS _ _) (x1z_canUndo (pl := pl) K (hn6) (hb1) (hk1) (hK2) (hpl)) K_X1_136 (Nat.le_of_ble_eq_true rfl) (Nat.le_of_ble_eq_true rfl) (by show _ ≤ 1005; omega) (by show _ ≤ 6083; omega) 0 rfl rfl rfl rfl (Nat.le_of_ble_eq_true rfl) dX1_mend_12) (fun pl12 hku12 => ?_)
    refine s_aload_n E dX1_mend_15 (i := 0) (j := 1) rfl rfl ?_
    refine iwX1_g0_5 E dX1_mend_16 ?_
    refine s_aload_n E dX1_mend_19 (i := 0) (j := 1) rfl rfl ?_
    refine iwX1_g0_7 E dX1_mend_20 ?_
    refine c_gor0 E (rV E (cutS _ _) (x3z_like02 (hn6) (hb3)) K_X1_115 (Nat.le_of_ble_eq_true rfl) (Nat.le_of_ble_eq_true rfl) (by show _ ≤ 1005; omega) (by show _ ≤ 6083; omega) 7 rfl rfl rfl rfl (Nat.le_of_ble_eq_true rfl) dX1_mend_23) (fun w23 h23 => ?_)
    subst h23
    refine s_pop E dX1_mend_26 rfl ?_
    refine s_iload_n E dX1_mend_27 (i := 1) (j := 0) rfl rfl ?_
    exact Rt (optI (mdN (vw τ (σ 1)) n)) ((pl12, likS 0 2 (st1 w1 0 9 (nI (upK K))))) dX1_mend_28 (⟨rfl, fun h => absurd c6 h, fun _ => ⟨by rw [← hw1]; exact hku12, (x1.xn.tr XN.act).tr XN.lik, rfl, f1 hm0⟩⟩) rfl (by first | exact Nat.le_refl _ | omega) (by first | exact Nat.le_refl _ | omega) rfl E.2.2.2.2.2.1
  · refine s_iload_n E dX1_mend_9 (i := 1) (j := 0) rfl rfl ?_
    exact Rt (optI (mdN (vw τ (σ 1)) n)) ((pl, w1)) dX1_mend_10 (⟨rfl, fun _ => ⟨rfl, x1⟩, fun h => absurd h c6⟩) rfl (by first | exact Nat.le_refl _ | omega) (by first | exact Nat.le_refl _ | omega) rfl E.2.2.2.2.2.1
