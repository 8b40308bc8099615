set_option maxRecDepth 100000
set_option maxHeartbeats 1000000 in
set_option maxRecDepth 100000 in
theorem x1z_undo {l : Launch} {D : va_G} {gt : Nat → Nat} {ad : Nat → Nat} {ct : Nat → ClassId} {n : Nat} {τ σ : Nat → Nat → Int32} {U : va_W} {pl : List KP} (K : Nat) (hn6 : n ≤ 6) (hK : σ 0 9 = nI K) (hK2 : K ≤ pl.length) (hpl : pl.length ≤ 20) (hkr : ∀ k, k < K → BB (rowK pl k)) : Ct l D gt yX1_undo cX1_undo 1 .int 2 61 0 0 [.ref (ad 0)] (iw ad ct n τ σ (U ++ kpW (ad 47) ct n pl)) (tysA ct) (fun r σ2 => (K = 0 → r = -1 ∧ σ2 = σ) ∧ (K ≠ 0 → r = nI (K - 1) ∧ ∃ J, σ2 = upR (upR (st1 σ 0 9 (nI (K - 1))) 1 (rowK pl (K - 1))) 5 J)) (fun σ2 : Nat → Nat → Int32 => iw ad ct n τ σ2 (U ++ kpW (ad 47) ct n pl)) (fun _ => tysA ct) := by
  refine Ct.start RX1 (by decide) rfl (Nat.le_of_ble_eq_true rfl) rfl ?_
  intro pP eE sS mM aA bB hM cC QQ AA E Rt
  refine s_aload_n E dX1_undo_0 (i := 0) (j := 0) rfl rfl ?_
  refine iwX1_g0_9 E (v := nI K) (hK) dX1_undo_1 ?_
  refine s_if_ne E dX1_undo_4 (tgt := 9) rfl (fun c4 => ?_) (fun c4 => ?_)
  · have c4 : ¬ K = 0 := fun h => c4 ((nI_eq (a := K) (b := 0) (by omega) (by omega)).mpr h)
    obtain ⟨l1, p1, l2, hpe, hB⟩ := mid_of (show K - 1 < pl.length by omega)
    subst hpe
    have hrk : rowK (l1 ++ p1 :: l2) (K - 1) = p1.2.1 := rowK_at (mid_at hB)
    have hkb : BB p1.2.1 := by rw [← hrk]; exact hkr (K - 1) (by omega)
    refine s_aload_n E dX1_undo_9 (i := 0) (j := 0) rfl rfl ?_
    refine s_dup E dX1_undo_10 rfl ?_
    refine iwX1_g0_9 E (v := nI K) (hK) dX1_undo_11 ?_
    refine s_iconst E dX1_undo_14 (v := nI 1) (by decide) ?_
    refine s_isub_ E dX1_undo_15 (v := nI (K - 1)) (nI_dec (by omega)) ?_
    refine iwX1_p0_9 E dX1_undo_16 ?_
    refine s_aload_n E dX1_undo_19 (i := 0) (j := 0) rfl rfl ?_
    refine iwX1_g0_5 E dX1_undo_20 ?_
    refine s_aload_n E dX1_undo_23 (i := 0) (j := 0) rfl rfl ?_
    refine iwX1_g0_8 E dX1_undo_24 ?_
    refine s_aload_n E dX1_undo_27 (i := 0) (j := 0) rfl rfl ?_
    refine iwX1_g0_9 E (v := nI (K - 1)) (rfl) dX1_undo_28 ?_
    refine kp_ald E (v := .ref ((p1.1 0))) (K - 1) rfl (by omega) (by rw [ktF_at (mid_at hB)]; rfl) dX1_undo_31 ?_
    refine kn_gor E (l1 := l1) (l2 := l2) (p9 := p1) hn6 (hkb) K_X1_115 (Nat.le_of_ble_eq_true rfl) (Nat.le_of_ble_eq_true rfl) (Nat.zero_le _) (Nat.zero_le _) (Nat.le_of_ble_eq_true rfl) dX1_undo_32 ?_
    refine s_ws (ws2 := iw ad ct n τ (likR (st1 σ 0 9 (nI (K - 1))) p1) (U ++ kpW (ad 47) ct n (l1 ++ p1 :: l2))) rfl ?_
    refine s_pop E dX1_undo_35 rfl ?_
    refine s_aload_n E dX1_undo_36 (i := 0) (j := 0) rfl rfl ?_
    refine iwX1_g0_9 E (v := nI (K - 1)) (rfl) dX1_undo_37 ?_
    exact Rt (nI (K - 1)) (likR (st1 σ 0 9 (nI (K - 1))) p1) dX1_undo_40 (⟨fun h => absurd h c4, fun _ => ⟨rfl, p1.2.2, by rw [hrk]; rfl⟩⟩) rfl (Nat.le_refl _) (Nat.le_refl _) rfl E.2.2.2.2.2.1
  · have c4 : K = 0 := (nI_eq (a := K) (b := 0) (by omega) (by omega)).mp c4
    refine s_iconst E dX1_undo_7 (v := (-1)) (by decide) ?_
    exact Rt ((-1)) (σ) dX1_undo_8 (⟨fun _ => ⟨rfl, rfl⟩, fun h => absurd c4 h⟩) rfl (Nat.le_refl _) (Nat.le_refl _) rfl E.2.2.2.2.2.1
theorem iwX1_g0_6 {p : Program} {l : Launch} {e : Env} {R : Room} {s : State} {m : MethodId} {args : Array Value} {below : List Frame} {meth : Method} {c : Code} {Q : State → Prop} {A : Nat → Prop} {D : va_G} {nL cells slots : Nat} {pc : Nat} {L : List (Nat × Value)} {S : List Value} {cc : ByteArray} {ret : Option FieldType} {gt : Nat → Nat} {ad : Nat → Nat} {ct : Nat → ClassId} {n : Nat} {τ σ : Nat → Nat → Int32} {T : va_W} (E : En p s m args meth c A cc nL RX1 ret D (tysA ct) gt) (d : decode cc pc = .ok (.getfield 44, 3)) (K : Sm p l e R s m args below meth c Q A D nL cells slots (iw ad ct n τ σ T) (pc + 3) L (.ref (ad 12) :: S)) : Sm p l e R s m args below meth c Q A D nL cells slots (iw ad ct n τ σ T) pc L (.ref (ad 0) :: S) := s_get E in_X1 0 rfl rfl 6 (Nat.le_of_ble_eq_true rfl) q397 rfl rfl d K
theorem iwX1_p0_10 {p : Program} {l : Launch} {e : Env} {R : Room} {s : State} {m : MethodId} {args : Array Value} {below : List Frame} {meth : Method} {c : Code} {Q : State → Prop} {A : Nat → Prop} {D : va_G} {nL cells slots : Nat} {pc : Nat} {L : List (Nat × Value)} {S : List Value} {cc : ByteArray} {ret : Option FieldType} {gt : Nat → Nat} {ad : Nat → Nat} {ct : Nat → ClassId} {n : Nat} {τ σ : Nat → Nat → Int32} {T : va_W} (E : En p s m args meth c A cc nL RX1 ret D (tysA ct) gt) {v : Int32} (hn : narrow .boolean (.int v) = .int v) (hf : fits .boolean (.int v) = true) (d : decode cc pc = .ok (.putfield 111, 3)) (K : Sm p l e R s m args below meth c Q A D nL cells slots (iw ad ct n τ (st1 σ 0 10 v) T) (pc + 3) L S) : Sm p l e R s m args below meth c Q A D nL cells slots (iw ad ct n τ σ T) pc L (.int v :: .ref (ad 0) :: S) := s_put E in_X1 tyX1 tyX1_ok nmX1 0 rfl rfl 10 (Nat.le_of_ble_eq_true rfl) q401 rfl rfl hn hf (Nat.le_of_ble_eq_true rfl) rfl d K
set_option maxHeartbeats 1000000 in
set_option maxRecDepth 100000 in
theorem x1z_keep {l : Launch} {D : va_G} {gt : Nat → Nat} {ad : Nat → Nat} {ct : Nat → ClassId} {n : Nat} {τ σ : Nat → Nat → Int32} {T : va_W}  (hX : XT τ n) (hbb : BB (σ 1)) : Ct l D gt yX1_keep cX1_keep 1 .int 2 61 0 0 [.ref (ad 0)] (iw ad ct n τ σ T) (tysA ct) (fun r σ2 => nI (tunedN (vw τ (σ 1)) n) = r ∧ st1 (likS 1 0 σ) 0 10 (nI 1) = σ2) (fun σ2 : Nat → Nat → Int32 => iw ad ct n τ σ2 T) (fun _ => tysA ct) := by
  refine Ct.start RX1 (by decide) rfl (Nat.le_of_ble_eq_true rfl) rfl ?_
  intro pP eE sS mM aA bB hM cC QQ AA E Rt
  have hn6 := hX.2.1
  refine s_aload_n E dX1_keep_0 (i := 0) (j := 0) rfl rfl ?_
  refine iwX1_g0_6 E dX1_keep_1 ?_
  refine s_aload_n E dX1_keep_4 (i := 0) (j := 0) rfl rfl ?_
  refine iwX1_g0_5 E dX1_keep_5 ?_
  refine c_gor0 E (rV E (cutS _ _) (x3z_like10 (hn6) (hbb)) K_X1_115 (Nat.le_of_ble_eq_true rfl) (Nat.le_of_ble_eq_true rfl) (Nat.zero_le _) (Nat.zero_le _) 12 rfl rfl rfl rfl (Nat.le_of_ble_eq_true rfl) dX1_keep_8) (fun w8 h8 => ?_)
  subst h8
  refine s_pop E dX1_keep_11 rfl ?_
  refine s_aload_n E dX1_keep_12 (i := 0) (j := 0) rfl rfl ?_
  refine s_iconst E dX1_keep_13 (v := nI 1) (by decide) ?_
  refine iwX1_p0_10 E rfl rfl dX1_keep_14 ?_
  refine s_aload_n E dX1_keep_17 (i := 0) (j := 0) rfl rfl ?_
  refine s_aload_n E dX1_keep_18 (i := 0) (j := 0) rfl rfl ?_
  refine iwX1_g0_5 E dX1_keep_19 ?_
  refine c_goi0 E (rV E (cutS _ _) (x1z_tuned0 (hX)) K_X1_125 (Nat.le_of_ble_eq_true rfl) (Nat.le_of_ble_eq_true rfl) (Nat.zero_le _) (Nat.zero_le _) 0 rfl rfl rfl rfl (Nat.le_of_ble_eq_true rfl) dX1_keep_22) (fun r22 w22 h22 => ?_)
  obtain ⟨rfl, rfl⟩ := h22
  exact Rt (nI (tunedN (vw τ ((st1 (likS 1 0 σ) 0 10 (nI 1)) 1)) n)) (st1 (likS 1 0 σ) 0 10 (nI 1)) dX1_keep_25 (⟨rfl, rfl⟩) rfl (Nat.le_refl _) (Nat.le_refl _) rfl E.2.2.2.2.2.1
theorem iwX1_g0_10 {p : Program} {l : Launch} {e : Env} {R : Room} {s : State} {m : MethodId} {args : Array Value} {below : List Frame} {meth : Method} {c : Code} {Q : State → Prop} {A : Nat → Prop} {D : va_G} {nL cells slots : Nat} {pc : Nat} {L : List (Nat × Value)} {S : List Value} {cc : ByteArray} {ret : Option FieldType} {gt : Nat → Nat} {ad : Nat → Nat} {ct : Nat → ClassId} {n : Nat} {τ σ : Nat → Nat → Int32} {T : va_W} (E : En p s m args meth c A cc nL RX1 ret D (tysA ct) gt) {v : Int32} (hv : σ 0 10 = v) (d : decode cc pc = .ok (.getfield 111, 3)) (K : Sm p l e R s m args below meth c Q A D nL cells slots (iw ad ct n τ σ T) (pc + 3) L (.int v :: S)) : Sm p l e R s m args below meth c Q A D nL cells slots (iw ad ct n τ σ T) pc L (.ref (ad 0) :: S) := s_get E in_X1 0 rfl rfl 10 (Nat.le_of_ble_eq_true rfl) q401 (congrArg (fun z => some (Value.int z)) hv) rfl d K
set_option maxHeartbeats 1000000 in
set_option maxRecDepth 100000 in
theorem x1z_back {l : Launch} {D : va_G} {gt : Nat → Nat} {ad : Nat → Nat} {ct : Nat → ClassId} {n : Nat} {τ σ : Nat → Nat → Int32} {T : va_W}  (hX : XT τ n) (hb2 : ¬ σ 0 10 = 0 → BB (σ 2)) : Ct l D gt yX1_back cX1_back 1 .int 2 61 0 0 [.ref (ad 0)] (iw ad ct n τ σ T) (tysA ct) (fun r σ2 => (σ 0 10 = 0 → r = -1 ∧ σ2 = σ) ∧ (¬ σ 0 10 = 0 → r = nI (tunedN (vw τ (σ 2)) n) ∧ σ2 = st1 (likS 0 1 σ) 0 9 (nI 0))) (fun σ2 : Nat → Nat → Int32 => iw ad ct n τ σ2 T) (fun _ => tysA ct) := by
  refine Ct.start RX1 (by decide) rfl (Nat.le_of_ble_eq_true rfl) rfl ?_
  intro pP eE sS mM aA bB hM cC QQ AA E Rt
  have hn6 := hX.2.1
  refine s_aload_n E dX1_back_0 (i := 0) (j := 0) rfl rfl ?_
  refine iwX1_g0_10 E (v := σ 0 10) (rfl) dX1_back_1 ?_
  refine s_if_ne E dX1_back_4 (tgt := 9) rfl (fun c4 => ?_) (fun c4 => ?_)
  · refine s_aload_n E dX1_back_9 (i := 0) (j := 0) rfl rfl ?_
    refine iwX1_g0_5 E dX1_back_10 ?_
    refine s_aload_n E dX1_back_13 (i := 0) (j := 0) rfl rfl ?_
    refine iwX1_g0_6 E dX1_back_14 ?_
    refine c_gor0 E (rV E (cutS _ _) (x3z_like01 (hn6) (hb2 c4)) K_X1_115 (Nat.le_of_ble_eq_true rfl) (Nat.le_of_ble_eq_true rfl) (Nat.zero_le _) (Nat.zero_le _) 7 rfl rfl rfl rfl (Nat.le_of_ble_eq_true rfl) dX1_back_17) (fun w17 h17 => ?_)
    subst h17
    refine s_pop E dX1_back_20 rfl ?_
    refine s_aload_n E dX1_back_21 (i := 0) (j := 0) rfl rfl ?_
    refine s_iconst E dX1_back_22 (v := nI 0) (by decide) ?_
    refine iwX1_p0_9 E dX1_back_23 ?_
    refine s_aload_n E dX1_back_26 (i := 0) (j := 0) rfl rfl ?_
    refine s_aload_n E dX1_back_27 (i := 0) (j := 0) rfl rfl ?_
    refine iwX1_g0_5 E dX1_back_28 ?_
    refine c_goi0 E (rV E (cutS _ _) (x1z_tuned0 (hX)) K_X1_125 (Nat.le_of_ble_eq_true rfl) (Nat.le_of_ble_eq_true rfl) (Nat.zero_le _) (Nat.zero_le _) 0 rfl rfl rfl rfl (Nat.le_of_ble_eq_true rfl) dX1_back_31) (fun r31 w31 h31 => ?_)
    obtain ⟨rfl, rfl⟩ := h31
    exact Rt (nI (tunedN (vw τ ((st1 (likS 0 1 σ) 0 9 (nI 0)) 1)) n)) (st1 (likS 0 1 σ) 0 9 (nI 0)) dX1_back_34 (⟨fun h => absurd h c4, fun _ => ⟨rfl, rfl⟩⟩) rfl (Nat.le_refl _) (Nat.le_refl _) rfl E.2.2.2.2.2.1
  · refine s_iconst E dX1_back_7 (v := (-1)) (by decide) ?_
    exact Rt ((-1)) (σ) dX1_back_8 (⟨fun _ => ⟨rfl, rfl⟩, fun h => absurd c4 h⟩) rfl (Nat.le_refl _) (Nat.le_refl _) rfl E.2.2.2.2.2.1
theorem K_X1_136 : KV RX1 136 RX1 yX1_canUndo cX1_canUndo 2 none 0 := ⟨q809, q811, qs19, q113, q812, by decide +kernel⟩
theorem iw_s8 {p : Program} {l : Launch} {e : Env} {R : Room} {s : State} {m : MethodId} {args : Array Value} {below : List Frame} {meth : Method} {c : Code} {Q : State → Prop} {A : Nat → Prop} {D : va_G} {nL cells slots : Nat} {pc : Nat} {L : List (Nat × Value)} {S : List Value} {cc : ByteArray} {ret : Option FieldType} {gt : Nat → Nat} {ad : Nat → Nat} {ct : Nat → ClassId} {n : Nat} {τ σ : Nat → Nat → Int32} {T : va_W} {own : String} (E : En p s m args meth c A cc nL own ret D (tysA ct) gt) {i v : Int32} (N : Nat) (hi : i = nI N) (hN : N < n) (h6 : n ≤ 6) (d : decode cc pc = .ok (.iastore, 1)) (K : Sm p l e R s m args below meth c Q A D nL cells slots (iw ad ct n τ (st1 σ 1 N v) T) (pc + 1) L S) : Sm p l e R s m args below meth c Q A D nL cells slots (iw ad ct n τ σ T) pc L (.int v :: .int i :: .ref (ad 8) :: S) := s_iast E 8 0 rfl rfl N hi (by omega) (Nat.le_of_ble_eq_true rfl) (by unfold iw fw; rw [show pch n 0 ((st1 σ 1 N v) 1) ((st1 σ 1 N v) 5) = upd (pch n 0 (σ 1) (σ 5)) N v from by unfold st1; rw [upR_eq, upR_ne (by decide)]; exact pch_up0 hN, show pch n 6 ((st1 σ 1 N v) 1) ((st1 σ 1 N v) 5) = pch n 6 (σ 1) (σ 5) from by unfold st1; rw [upR_eq, upR_ne (by decide)]; exact pch_off (by omega), show pch n 73 ((st1 σ 1 N v) 1) ((st1 σ 1 N v) 5) = pch n 73 (σ 1) (σ 5) from by unfold st1; rw [upR_eq, upR_ne (by decide)]; exact pch_off (by omega), show pbl ((st1 σ 1 N v) 1) = pbl (σ 1) from by unfold st1; rw [upR_eq]; exact pbl_off (by omega)]; rfl) d K
set_option maxHeartbeats 1000000 in
set_option maxRecDepth 100000 in
theorem x1z_tune {l : Launch} {D : va_G} {gt : Nat → Nat} {ad : Nat → Nat} {ct : Nat → ClassId} {n : Nat} {τ σ : Nat → Nat → Int32} {U : va_W} {pl : List KP} (K : Nat) (a v : Int32) (hX : XT τ n) (hbb : BB (σ 1)) (hK : σ 0 9 = nI K) (hK2 : K ≤ pl.length) (hpl : pl.length ≤ 20) : Ct l D gt yX1_tune cX1_tune 4 .int 3 82 5 83 [.ref (ad 0), .int (a), .int (v)] (iw ad ct n τ σ (U ++ kpW (ad 47) ct n pl)) (tysA ct) (fun r u => ((isU n a && (decide (v = 0) || isC τ v)) = true → r = σ 1 (tN a) ∧ KU K pl (σ 1) u.1 ∧ u.2 = st1 (st1 σ 0 9 (nI (upK K))) 1 (tN a) v) ∧ (¬ (isU n a && (decide (v = 0) || isC τ v)) = true → r = -1 ∧ u = (pl, σ))) (fun u : List KP × (Nat → Nat → Int32) => iw ad ct n τ u.2 (U ++ kpW (ad 47) ct n u.1)) (fun _ => tysA ct) := by
  refine Ct.start RX1 (by decide) rfl (Nat.le_of_ble_eq_true rfl) rfl ?_
  intro pP eE sS mM aA bB hM cC QQ AA E Rt
  have hn6 := hX.2.1
  refine s_aload_n E dX1_tune_0 (i := 0) (j := 0) rfl rfl ?_
  refine s_iload_n E dX1_tune_1 (i := 1) (j := 1) rfl rfl ?_
  refine c_goi0 E (rV E (cutS _ _) (x1z_isUser a (hX)) K_X1_132 (Nat.le_of_ble_eq_true rfl) (Nat.le_of_ble_eq_true rfl) (Nat.zero_le _) (Nat.zero_le _) 0 rfl rfl rfl rfl (Nat.le_of_ble_eq_true rfl) dX1_tune_2) (fun r2 w2 h2 => ?_)
  obtain ⟨rfl, rfl⟩ := h2
  refine s_if_eq E dX1_tune_5 (tgt := 23) rfl (fun c5 => ?_) (fun c5 => ?_)
  · have c5 := bI_0 c5
    refine s_iconst E dX1_tune_23 (v := (-1)) (by decide) ?_
    exact Rt ((-1)) ((pl, σ)) dX1_tune_24 (⟨fun h => absurd h (fun h => by rw [Bool.and_eq_true] at h; exact c5 h.1), fun _ => ⟨rfl, rfl⟩⟩) rfl (by first | exact Nat.le_refl _ | omega) (by first | exact Nat.le_refl _ | omega) rfl E.2.2.2.2.2.1
  · have c5 := bI_n0 c5
    obtain ⟨j, hj, rfl⟩ := us_isU c5 hn6
    refine s_iload_n E dX1_tune_8 (i := 2) (j := 2) rfl rfl ?_
    refine s_iconst E dX1_tune_9 (v := nI 0) (by decide) ?_
    refine s_aload_n E dX1_tune_10 (i := 0) (j := 0) rfl rfl ?_
    refine iwX1_g0_4 E dX1_tune_11 ?_
    refine iwX1_g2_6 E (v := τ 3 0) (rfl) dX1_tune_14 ?_
    refine c_gos E (rS E (cutZ _ _) (x1z_isIn v (nI 0) (τ 3 0)) K_X1_75 (Nat.le_of_ble_eq_true rfl) (Nat.le_of_ble_eq_true rfl) (Nat.zero_le _) (Nat.zero_le _) rfl rfl (Nat.le_of_ble_eq_true rfl) dX1_tune_17) (fun r17 h17 => ?_)
    subst h17
    refine s_if_ne E dX1_tune_20 (tgt := 25) rfl (fun c20 => ?_) (fun c20 => ?_)
    · have c20 := bI_n0 c20
      refine s_aload_n E dX1_tune_25 (i := 0) (j := 0) rfl rfl ?_
      refine c_gov E (rV E (cutS _ _) (x1z_canUndo (pl := pl) K (hn6) (hbb) (hK) (hK2) (hpl)) K_X1_136 (Nat.le_of_ble_eq_true rfl) (Nat.le_of_ble_eq_true rfl) (by show _ ≤ 5; omega) (by show _ ≤ 83; omega) 0 rfl rfl rfl rfl (Nat.le_of_ble_eq_true rfl) dX1_tune_26) (fun pl26 hku26 => ?_)
      refine s_aload_n E dX1_tune_29 (i := 0) (j := 0) rfl rfl ?_
      refine iwX1_g0_5 E dX1_tune_30 ?_
      refine iwX1_g7_0 E dX1_tune_33 ?_
      refine s_iload_n E dX1_tune_36 (i := 1) (j := 1) rfl rfl ?_
      refine iw_l8 E (v := σ 1 j) (j) (rfl) (by omega) hn6 (rfl) dX1_tune_37 ?_
      refine s_istore_n E (L2 := [(3, .int (σ 1 j)), (0, .ref (ad 0)), (1, .int (nI j)), (2, .int (v))]) dX1_tune_38 rfl (Nat.le_of_ble_eq_true rfl) rfl ?_
      refine s_aload_n E dX1_tune_39 (i := 0) (j := 1) rfl rfl ?_
      refine iwX1_g0_5 E dX1_tune_40 ?_
      refine iwX1_g7_0 E dX1_tune_43 ?_
      refine s_iload_n E dX1_tune_46 (i := 1) (j := 2) rfl rfl ?_
      refine s_iload_n E dX1_tune_47 (i := 2) (j := 3) rfl rfl ?_
      refine iw_s8 E (j) (rfl) (by omega) hn6 dX1_tune_48 ?_
      refine s_iload_n E dX1_tune_49 (i := 3) (j := 0) rfl rfl ?_
      exact Rt (σ 1 j) ((pl26, st1 (st1 σ 0 9 (nI (upK K))) 1 j v)) dX1_tune_50 (⟨fun _ => by rw [tN_nI (by omega)]; exact ⟨rfl, hku26, rfl⟩, fun h => absurd (by rw [Bool.and_eq_true]; exact ⟨c5, (c0_iff hX.2.2.2.2.1).mpr c20⟩) h⟩) rfl (by first | exact Nat.le_refl _ | omega) (by first | exact Nat.le_refl _ | omega) rfl E.2.2.2.2.2.1
    · have c20 := bI_0 c20
      refine s_iconst E dX1_tune_23 (v := (-1)) (by decide) ?_
      exact Rt ((-1)) ((pl, σ)) dX1_tune_24 (⟨fun h => absurd h (fun h => by rw [Bool.and_eq_true] at h; exact c20 ((c0_iff hX.2.2.2.2.1).mp h.2)), fun _ => ⟨rfl, rfl⟩⟩) rfl (by first | exact Nat.le_refl _ | omega) (by first | exact Nat.le_refl _ | omega) rfl E.2.2.2.2.2.1
theorem iwX1_g7_1 {p : Program} {l : Launch} {e : Env} {R : Room} {s : State} {m : MethodId} {args : Array Value} {below : List Frame} {meth : Method} {c : Code} {Q : State → Prop} {A : Nat → Prop} {D : va_G} {nL cells slots : Nat} {pc : Nat} {L : List (Nat × Value)} {S : List Value} {cc : ByteArray} {ret : Option FieldType} {gt : Nat → Nat} {ad : Nat → Nat} {ct : Nat → ClassId} {n : Nat} {τ σ : Nat → Nat → Int32} {T : va_W} (E : En p s m args meth c A cc nL RX1 ret D (tysA ct) gt) (d : decode cc pc = .ok (.getfield 146, 3)) (K : Sm p l e R s m args below meth c Q A D nL cells slots (iw ad ct n τ σ T) (pc + 3) L (.ref (ad 9) :: S)) : Sm p l e R s m args below meth c Q A D nL cells slots (iw ad ct n τ σ T) pc L (.ref (ad 7) :: S) := s_getN E in_X3 7 rfl rfl 1 (Nat.le_of_ble_eq_true rfl) q238 rfl rfl d K
theorem iw_s9 {p : Program} {l : Launch} {e : Env} {R : Room} {s : State} {m : MethodId} {args : Array Value} {below : List Frame} {meth : Method} {c : Code} {Q : State → Prop} {A : Nat → Prop} {D : va_G} {nL cells slots : Nat} {pc : Nat} {L : List (Nat × Value)} {S : List Value} {cc : ByteArray} {ret : Option FieldType} {gt : Nat → Nat} {ad : Nat → Nat} {ct : Nat → ClassId} {n : Nat} {τ σ : Nat → Nat → Int32} {T : va_W} {own : String} (E : En p s m args meth c A cc nL own ret D (tysA ct) gt) {i v : Int32} (N : Nat) (hi : i = nI N) (hN : N < n) (h6 : n ≤ 6) (d : decode cc pc = .ok (.iastore, 1)) (K : Sm p l e R s m args below meth c Q A D nL cells slots (iw ad ct n τ (st1 σ 1 (6 + N) v) T) (pc + 1) L S) : Sm p l e R s m args below meth c Q A D nL cells slots (iw ad ct n τ σ T) pc L (.int v :: .int i :: .ref (ad 9) :: S) := s_iast E 9 0 rfl rfl N hi (by omega) (Nat.le_of_ble_eq_true rfl) (by unfold iw fw; rw [show pch n 0 ((st1 σ 1 (6 + N) v) 1) ((st1 σ 1 (6 + N) v) 5) = pch n 0 (σ 1) (σ 5) from by unfold st1; rw [upR_eq, upR_ne (by decide)]; exact pch_off (by omega), show pch n 6 ((st1 σ 1 (6 + N) v) 1) ((st1 σ 1 (6 + N) v) 5) = upd (pch n 6 (σ 1) (σ 5)) N v from by unfold st1; rw [upR_eq, upR_ne (by decide)]; exact pch_up hN, show pch n 73 ((st1 σ 1 (6 + N) v) 1) ((st1 σ 1 (6 + N) v) 5) = pch n 73 (σ 1) (σ 5) from by unfold st1; rw [upR_eq, upR_ne (by decide)]; exact pch_off (by omega), show pbl ((st1 σ 1 (6 + N) v) 1) = pbl (σ 1) from by unfold st1; rw [upR_eq]; exact pbl_off (by omega)]; rfl) d K
set_option maxHeartbeats 1000000 in
set_option maxRecDepth 100000 in
theorem x1z_power {l : Launch} {D : va_G} {gt : Nat → Nat} {ad : Nat → Nat} {ct : Nat → ClassId} {n : Nat} {τ σ : Nat → Nat → Int32} {U : va_W} {pl : List KP} (K : Nat) (a v : Int32) (hX : XT τ n) (hbb : BB (σ 1)) (hK : σ 0 9 = nI K) (hK2 : K ≤ pl.length) (hpl : pl.length ≤ 20) : Ct l D gt yX1_power cX1_power 4 .int 3 82 5 83 [.ref (ad 0), .int (a), .int (v)] (iw ad ct n τ σ (U ++ kpW (ad 47) ct n pl)) (tysA ct) (fun r u => ((isU n a && !decide (v < 0) && !decide (nI 30 < v)) = true → r = σ 1 (6 + tN a) ∧ KU K pl (σ 1) u.1 ∧ u.2 = st1 (st1 σ 0 9 (nI (upK K))) 1 (6 + tN a) v) ∧ (¬ (isU n a && !decide (v < 0) && !decide (nI 30 < v)) = true → r = -1 ∧ u = (pl, σ))) (fun u : List KP × (Nat → Nat → Int32) => iw ad ct n τ u.2 (U ++ kpW (ad 47) ct n u.1)) (fun _ => tysA ct) := by
  refine Ct.start RX1 (by decide) rfl (Nat.le_of_ble_eq_true rfl) rfl ?_
  intro pP eE sS mM aA bB hM cC QQ AA E Rt
  have hn6 := hX.2.1
  refine s_aload_n E dX1_power_0 (i := 0) (j := 0) rfl rfl ?_
  refine s_iload_n E dX1_power_1 (i := 1) (j := 1) rfl rfl ?_
  refine c_goi0 E (rV E (cutS _ _) (x1z_isUser a (hX)) K_X1_132 (Nat.le_of_ble_eq_true rfl) (Nat.le_of_ble_eq_true rfl) (Nat.zero_le _) (Nat.zero_le _) 0 rfl rfl rfl rfl (Nat.le_of_ble_eq_true rfl) dX1_power_2) (fun r2 w2 h2 => ?_)
  obtain ⟨rfl, rfl⟩ := h2
  refine s_if_eq E dX1_power_5 (tgt := 18) rfl (fun c5 => ?_) (fun c5 => ?_)
  · have c5 := bI_0 c5
    refine s_iconst E dX1_power_18 (v := (-1)) (by decide) ?_
    exact Rt ((-1)) ((pl, σ)) dX1_power_19 (⟨fun h => absurd h (fun h => by simp only [Bool.and_eq_true, Bool.not_eq_true', decide_eq_false_iff_not] at h; exact c5 h.1.1), fun _ => ⟨rfl, rfl⟩⟩) rfl (by first | exact Nat.le_refl _ | omega) (by first | exact Nat.le_refl _ | omega) rfl E.2.2.2.2.2.1
  · have c5 := bI_n0 c5
    obtain ⟨j, hj, rfl⟩ := us_isU c5 hn6
    refine s_iload_n E dX1_power_8 (i := 2) (j := 2) rfl rfl ?_
    refine s_iconst E dX1_power_9 (v := nI 0) (by decide) ?_
    refine s_bipush E dX1_power_10 (v := nI 30) (by decide) ?_
    refine c_gos E (rS E (cutZ _ _) (x1z_isIn v (nI 0) (nI 30)) K_X1_75 (Nat.le_of_ble_eq_true rfl) (Nat.le_of_ble_eq_true rfl) (Nat.zero_le _) (Nat.zero_le _) rfl rfl (Nat.le_of_ble_eq_true rfl) dX1_power_12) (fun r12 h12 => ?_)
    subst h12
    refine s_if_ne E dX1_power_15 (tgt := 20) rfl (fun c15 => ?_) (fun c15 => ?_)
    · have c15 := bI_n0 c15
      refine s_aload_n E dX1_power_20 (i := 0) (j := 0) rfl rfl ?_
      refine c_gov E (rV E (cutS _ _) (x1z_canUndo (pl := pl) K (hn6) (hbb) (hK) (hK2) (hpl)) K_X1_136 (Nat.le_of_ble_eq_true rfl) (Nat.le_of_ble_eq_true rfl) (by show _ ≤ 5; omega) (by show _ ≤ 83; omega) 0 rfl rfl rfl rfl (Nat.le_of_ble_eq_true rfl) dX1_power_21) (fun pl21 hku21 => ?_)
      refine s_aload_n E dX1_power_24 (i := 0) (j := 0) rfl rfl ?_
      refine iwX1_g0_5 E dX1_power_25 ?_
      refine iwX1_g7_1 E dX1_power_28 ?_
      refine s_iload_n E dX1_power_31 (i := 1) (j := 1) rfl rfl ?_
      refine iw_l9 E (v := σ 1 (6 + j)) (j) (rfl) (by omega) hn6 (rfl) dX1_power_32 ?_
      refine s_istore_n E (L2 := [(3, .int (σ 1 (6 + j))), (0, .ref (ad 0)), (1, .int (nI j)), (2, .int (v))]) dX1_power_33 rfl (Nat.le_of_ble_eq_true rfl) rfl ?_
      refine s_aload_n E dX1_power_34 (i := 0) (j := 1) rfl rfl ?_
      refine iwX1_g0_5 E dX1_power_35 ?_
      refine iwX1_g7_1 E dX1_power_38 ?_
      refine s_iload_n E dX1_power_41 (i := 1) (j := 2) rfl rfl ?_
      refine s_iload_n E dX1_power_42 (i := 2) (j := 3) rfl rfl ?_
      refine iw_s9 E (j) (rfl) (by omega) hn6 dX1_power_43 ?_
      refine s_iload_n E dX1_power_44 (i := 3) (j := 0) rfl rfl ?_
      exact Rt (σ 1 (6 + j)) ((pl21, st1 (st1 σ 0 9 (nI (upK K))) 1 (6 + j) v)) dX1_power_45 (⟨fun _ => by rw [tN_nI (by omega)]; exact ⟨rfl, hku21, rfl⟩, fun h => absurd (by simp only [Bool.and_eq_true, Bool.not_eq_true', decide_eq_false_iff_not]; exact ⟨⟨c5, c15.1⟩, c15.2⟩) h⟩) rfl (by first | exact Nat.le_refl _ | omega) (by first | exact Nat.le_refl _ | omega) rfl E.2.2.2.2.2.1
    · have c15 := bI_0 c15
      refine s_iconst E dX1_power_18 (v := (-1)) (by decide) ?_
      exact Rt ((-1)) ((pl, σ)) dX1_power_19 (⟨fun h => absurd h (fun h => by simp only [Bool.and_eq_true, Bool.not_eq_true', decide_eq_false_iff_not] at h; exact c15 ⟨h.1.2, h.2⟩), fun _ => ⟨rfl, rfl⟩⟩) rfl (by first | exact Nat.le_refl _ | omega) (by first | exact Nat.le_refl _ | omega) rfl E.2.2.2.2.2.1
theorem iwX1_g7_2 {p : Program} {l : Launch} {e : Env} {R : Room} {s : State} {m : MethodId} {args : Array Value} {below : List Frame} {meth : Method} {c : Code} {Q : State → Prop} {A : Nat → Prop} {D : va_G} {nL cells slots : Nat} {pc : Nat} {L : List (Nat × Value)} {S : List Value} {cc : ByteArray} {ret : Option FieldType} {gt : Nat → Nat} {ad : Nat → Nat} {ct : Nat → ClassId} {n : Nat} {τ σ : Nat → Nat → Int32} {T : va_W} (E : En p s m args meth c A cc nL RX1 ret D (tysA ct) gt) (d : decode cc pc = .ok (.getfield 149, 3)) (K : Sm p l e R s m args below meth c Q A D nL cells slots (iw ad ct n τ σ T) (pc + 3) L (.ref (ad 10) :: S)) : Sm p l e R s m args below meth c Q A D nL cells slots (iw ad ct n τ σ T) pc L (.ref (ad 7) :: S) := s_getN E in_X3 7 rfl rfl 2 (Nat.le_of_ble_eq_true rfl) q241 rfl rfl d K
theorem iw_s10 {p : Program} {l : Launch} {e : Env} {R : Room} {s : State} {m : MethodId} {args : Array Value} {below : List Frame} {meth : Method} {c : Code} {Q : State → Prop} {A : Nat → Prop} {D : va_G} {nL cells slots : Nat} {pc : Nat} {L : List (Nat × Value)} {S : List Value} {cc : ByteArray} {ret : Option FieldType} {gt : Nat → Nat} {ad : Nat → Nat} {ct : Nat → ClassId} {n : Nat} {τ σ : Nat → Nat → Int32} {T : va_W} {own : String} (E : En p s m args meth c A cc nL own ret D (tysA ct) gt) {i v : Int32} (N : Nat) (hi : i = nI N) (hN : N < n) (h6 : n ≤ 6) (d : decode cc pc = .ok (.iastore, 1)) (K : Sm p l e R s m args below meth c Q A D nL cells slots (iw ad ct n τ (st1 σ 1 (73 + N) v) T) (pc + 1) L S) : Sm p l e R s m args below meth c Q A D nL cells slots (iw ad ct n τ σ T) pc L (.int v :: .int i :: .ref (ad 10) :: S) := s_iast E 10 0 rfl rfl N hi (by omega) (Nat.le_of_ble_eq_true rfl) (by unfold iw fw; rw [show pch n 0 ((st1 σ 1 (73 + N) v) 1) ((st1 σ 1 (73 + N) v) 5) = pch n 0 (σ 1) (σ 5) from by unfold st1; rw [upR_eq, upR_ne (by decide)]; exact pch_off (by omega), show pch n 6 ((st1 σ 1 (73 + N) v) 1) ((st1 σ 1 (73 + N) v) 5) = pch n 6 (σ 1) (σ 5) from by unfold st1; rw [upR_eq, upR_ne (by decide)]; exact pch_off (by omega), show pch n 73 ((st1 σ 1 (73 + N) v) 1) ((st1 σ 1 (73 + N) v) 5) = upd (pch n 73 (σ 1) (σ 5)) N v from by unfold st1; rw [upR_eq, upR_ne (by decide)]; exact pch_up hN, show pbl ((st1 σ 1 (73 + N) v) 1) = pbl (σ 1) from by unfold st1; rw [upR_eq]; exact pbl_off (by omega)]; rfl) d K
set_option maxHeartbeats 1000000 in
set_option maxRecDepth 100000 in
theorem x1z_slots {l : Launch} {D : va_G} {gt : Nat → Nat} {ad : Nat → Nat} {ct : Nat → ClassId} {n : Nat} {τ σ : Nat → Nat → Int32} {U : va_W} {pl : List KP} (K : Nat) (a v : Int32) (hX : XT τ n) (hbb : BB (σ 1)) (hK : σ 0 9 = nI K) (hK2 : K ≤ pl.length) (hpl : pl.length ≤ 20) : Ct l D gt yX1_slots cX1_slots 4 .int 3 82 5 83 [.ref (ad 0), .int (a), .int (v)] (iw ad ct n τ σ (U ++ kpW (ad 47) ct n pl)) (tysA ct) (fun r u => ((isU n a && !decide (v < nI 1) && !decide (nI 255 < v)) = true → r = σ 1 (73 + tN a) ∧ KU K pl (σ 1) u.1 ∧ u.2 = st1 (st1 σ 0 9 (nI (upK K))) 1 (73 + tN a) v) ∧ (¬ (isU n a && !decide (v < nI 1) && !decide (nI 255 < v)) = true → r = -1 ∧ u = (pl, σ))) (fun u : List KP × (Nat → Nat → Int32) => iw ad ct n τ u.2 (U ++ kpW (ad 47) ct n u.1)) (fun _ => tysA ct) := by
  refine Ct.start RX1 (by decide) rfl (Nat.le_of_ble_eq_true rfl) rfl ?_
  intro pP eE sS mM aA bB hM cC QQ AA E Rt
  have hn6 := hX.2.1
  refine s_aload_n E dX1_slots_0 (i := 0) (j := 0) rfl rfl ?_
  refine s_iload_n E dX1_slots_1 (i := 1) (j := 1) rfl rfl ?_
  refine c_goi0 E (rV E (cutS _ _) (x1z_isUser a (hX)) K_X1_132 (Nat.le_of_ble_eq_true rfl) (Nat.le_of_ble_eq_true rfl) (Nat.zero_le _) (Nat.zero_le _) 0 rfl rfl rfl rfl (Nat.le_of_ble_eq_true rfl) dX1_slots_2) (fun r2 w2 h2 => ?_)
  obtain ⟨rfl, rfl⟩ := h2
  refine s_if_eq E dX1_slots_5 (tgt := 19) rfl (fun c5 => ?_) (fun c5 => ?_)
  · have c5 := bI_0 c5
    refine s_iconst E dX1_slots_19 (v := (-1)) (by decide) ?_
    exact Rt ((-1)) ((pl, σ)) dX1_slots_20 (⟨fun h => absurd h (fun h => by simp only [Bool.and_eq_true, Bool.not_eq_true', decide_eq_false_iff_not] at h; exact c5 h.1.1), fun _ => ⟨rfl, rfl⟩⟩) rfl (by first | exact Nat.le_refl _ | omega) (by first | exact Nat.le_refl _ | omega) rfl E.2.2.2.2.2.1
  · have c5 := bI_n0 c5
    obtain ⟨j, hj, rfl⟩ := us_isU c5 hn6
    refine s_iload_n E dX1_slots_8 (i := 2) (j := 2) rfl rfl ?_
    refine s_iconst E dX1_slots_9 (v := nI 1) (by decide) ?_
    refine s_sipush E dX1_slots_10 (v := nI 255) (by decide) ?_
    refine c_gos E (rS E (cutZ _ _) (x1z_isIn v (nI 1) (nI 255)) K_X1_75 (Nat.le_of_ble_eq_true rfl) (Nat.le_of_ble_eq_true rfl) (Nat.zero_le _) (Nat.zero_le _) rfl rfl (Nat.le_of_ble_eq_true rfl) dX1_slots_13) (fun r13 h13 => ?_)
    subst h13
    refine s_if_ne E dX1_slots_16 (tgt := 21) rfl (fun c16 => ?_) (fun c16 => ?_)
    · have c16 := bI_n0 c16
      refine s_aload_n E dX1_slots_21 (i := 0) (j := 0) rfl rfl ?_
      refine c_gov E (rV E (cutS _ _) (x1z_canUndo (pl := pl) K (hn6) (hbb) (hK) (hK2) (hpl)) K_X1_136 (Nat.le_of_ble_eq_true rfl) (Nat.le_of_ble_eq_true rfl) (by show _ ≤ 5; omega) (by show _ ≤ 83; omega) 0 rfl rfl rfl rfl (Nat.le_of_ble_eq_true rfl) dX1_slots_22) (fun pl22 hku22 => ?_)
      refine s_aload_n E dX1_slots_25 (i := 0) (j := 0) rfl rfl ?_
      refine iwX1_g0_5 E dX1_slots_26 ?_
      refine iwX1_g7_2 E dX1_slots_29 ?_
      refine s_iload_n E dX1_slots_32 (i := 1) (j := 1) rfl rfl ?_
      refine iw_l10 E (v := σ 1 (73 + j)) (j) (rfl) (by omega) hn6 (rfl) dX1_slots_33 ?_
      refine s_istore_n E (L2 := [(3, .int (σ 1 (73 + j))), (0, .ref (ad 0)), (1, .int (nI j)), (2, .int (v))]) dX1_slots_34 rfl (Nat.le_of_ble_eq_true rfl) rfl ?_
      refine s_aload_n E dX1_slots_35 (i := 0) (j := 1) rfl rfl ?_
      refine iwX1_g0_5 E dX1_slots_36 ?_
      refine iwX1_g7_2 E dX1_slots_39 ?_
      refine s_iload_n E dX1_slots_42 (i := 1) (j := 2) rfl rfl ?_
      refine s_iload_n E dX1_slots_43 (i := 2) (j := 3) rfl rfl ?_
      refine iw_s10 E (j) (rfl) (by omega) hn6 dX1_slots_44 ?_
      refine s_iload_n E dX1_slots_45 (i := 3) (j := 0) rfl rfl ?_
      exact Rt (σ 1 (73 + j)) ((pl22, st1 (st1 σ 0 9 (nI (upK K))) 1 (73 + j) v)) dX1_slots_46 (⟨fun _ => by rw [tN_nI (by omega)]; exact ⟨rfl, hku22, rfl⟩, fun h => absurd (by simp only [Bool.and_eq_true, Bool.not_eq_true', decide_eq_false_iff_not]; exact ⟨⟨c5, c16.1⟩, c16.2⟩) h⟩) rfl (by first | exact Nat.le_refl _ | omega) (by first | exact Nat.le_refl _ | omega) rfl E.2.2.2.2.2.1
    · have c16 := bI_0 c16
      refine s_iconst E dX1_slots_19 (v := (-1)) (by decide) ?_
      exact Rt ((-1)) ((pl, σ)) dX1_slots_20 (⟨fun h => absurd h (fun h => by simp only [Bool.and_eq_true, Bool.not_eq_true', decide_eq_false_iff_not] at h; exact c16 ⟨h.1.2, h.2⟩), fun _ => ⟨rfl, rfl⟩⟩) rfl (by first | exact Nat.le_refl _ | omega) (by first | exact Nat.le_refl _ | omega) rfl E.2.2.2.2.2.1
theorem iw_s11 {p : Program} {l : Launch} {e : Env} {R : Room} {s : State} {m : MethodId} {args : Array Value} {below : List Frame} {meth : Method} {c : Code} {Q : State → Prop} {A : Nat → Prop} {D : va_G} {nL cells slots : Nat} {pc : Nat} {L : List (Nat × Value)} {S : List Value} {cc : ByteArray} {ret : Option FieldType} {gt : Nat → Nat} {ad : Nat → Nat} {ct : Nat → ClassId} {n : Nat} {τ σ : Nat → Nat → Int32} {T : va_W} {own : String} (E : En p s m args meth c A cc nL own ret D (tysA ct) gt) {i v : Int32} (hy : vp_nar .boolean v = v) (N : Nat) (hi : i = nI N) (hN : N < 61) (h6 : n ≤ 6) (d : decode cc pc = .ok (.bastore, 1)) (K : Sm p l e R s m args below meth c Q A D nL cells slots (iw ad ct n τ (st1 σ 1 (12 + N) v) T) (pc + 1) L S) : Sm p l e R s m args below meth c Q A D nL cells slots (iw ad ct n τ σ T) pc L (.int v :: .int i :: .ref (ad 11) :: S) := s_zast E 11 1 rfl rfl hy N hi (by omega) (Nat.le_of_ble_eq_true rfl) (by unfold iw fw; rw [show pch n 0 ((st1 σ 1 (12 + N) v) 1) ((st1 σ 1 (12 + N) v) 5) = pch n 0 (σ 1) (σ 5) from by unfold st1; rw [upR_eq, upR_ne (by decide)]; exact pch_off (by omega), show pch n 6 ((st1 σ 1 (12 + N) v) 1) ((st1 σ 1 (12 + N) v) 5) = pch n 6 (σ 1) (σ 5) from by unfold st1; rw [upR_eq, upR_ne (by decide)]; exact pch_off (by omega), show pch n 73 ((st1 σ 1 (12 + N) v) 1) ((st1 σ 1 (12 + N) v) 5) = pch n 73 (σ 1) (σ 5) from by unfold st1; rw [upR_eq, upR_ne (by decide)]; exact pch_off (by omega), show pbl ((st1 σ 1 (12 + N) v) 1) = upd (pbl (σ 1)) N v from by unfold st1; rw [upR_eq]; exact pbl_up hN]; rfl) d K
set_option maxHeartbeats 1000000 in
set_option maxRecDepth 100000 in
theorem x1z_block {l : Launch} {D : va_G} {gt : Nat → Nat} {ad : Nat → Nat} {ct : Nat → ClassId} {n : Nat} {τ σ : Nat → Nat → Int32} {U : va_W} {pl : List KP} (K : Nat) (v : Int32) (hX : XT τ n) (hbb : BB (σ 1)) (hK : σ 0 9 = nI K) (hK2 : K ≤ pl.length) (hpl : pl.length ≤ 20) : Ct l D gt yX1_block cX1_block 2 .int 3 82 5 83 [.ref (ad 0), .int (v)] (iw ad ct n τ σ (U ++ kpW (ad 47) ct n pl)) (tysA ct) (fun r u => (isC τ v = true → r = nI 1 - σ 1 (12 + tN v) ∧ KU K pl (σ 1) u.1 ∧ u.2 = st1 (st1 σ 0 9 (nI (upK K))) 1 (12 + tN v) (nI 1 - σ 1 (12 + tN v))) ∧ (¬ isC τ v = true → r = -1 ∧ u = (pl, σ))) (fun u : List KP × (Nat → Nat → Int32) => iw ad ct n τ u.2 (U ++ kpW (ad 47) ct n u.1)) (fun _ => tysA ct) := by
  refine Ct.start RX1 (by decide) rfl (Nat.le_of_ble_eq_true rfl) rfl ?_
  intro pP eE sS mM aA bB hM cC QQ AA E Rt
  have hn6 := hX.2.1
  have hB1 := hX.2.2.2.2.1
  have hB60 : tN (τ 3 0) ≤ 60 := by have := hB1.2; omega
  refine s_aload_n E dX1_block_0 (i := 0) (j := 0) rfl rfl ?_
  refine s_iload_n E dX1_block_1 (i := 1) (j := 1) rfl rfl ?_
  refine c_goi0 E (rV E (cutS _ _) (x1z_isChannel v) K_X1_139 (Nat.le_of_ble_eq_true rfl) (Nat.le_of_ble_eq_true rfl) (Nat.zero_le _) (Nat.zero_le _) 0 rfl rfl rfl rfl (Nat.le_of_ble_eq_true rfl) dX1_block_2) (fun r2 w2 h2 => ?_)
  obtain ⟨rfl, rfl⟩ := h2
  refine s_if_ne E dX1_block_5 (tgt := 10) rfl (fun c5 => ?_) (fun c5 => ?_)
  · have c5 := bI_n0 c5
    obtain ⟨j, hj1, hj2, rfl⟩ := hX.ch c5
    have hbl := bl_not (hbb j (by omega))
    refine s_aload_n E dX1_block_10 (i := 0) (j := 0) rfl rfl ?_
    refine c_gov E (rV E (cutS _ _) (x1z_canUndo (pl := pl) K (hn6) (hbb) (hK) (hK2) (hpl)) K_X1_136 (Nat.le_of_ble_eq_true rfl) (Nat.le_of_ble_eq_true rfl) (by show _ ≤ 5; omega) (by show _ ≤ 83; omega) 0 rfl rfl rfl rfl (Nat.le_of_ble_eq_true rfl) dX1_block_11) (fun pl11 hku11 => ?_)
    refine s_aload_n E dX1_block_14 (i := 0) (j := 0) rfl rfl ?_
    refine iwX1_g0_5 E dX1_block_15 ?_
    refine iwX1_g7_3 E dX1_block_18 ?_
    refine s_iload_n E dX1_block_21 (i := 1) (j := 1) rfl rfl ?_
    refine s_aload_n E dX1_block_22 (i := 0) (j := 0) rfl rfl ?_
    refine iwX1_g0_5 E dX1_block_23 ?_
    refine iwX1_g7_3 E dX1_block_26 ?_
    refine s_iload_n E dX1_block_29 (i := 1) (j := 1) rfl rfl ?_
    refine iw_l11 E (v := σ 1 (12 + j)) (j) (rfl) (by omega) (rfl) dX1_block_30 ?_
    refine s_if_ne E dX1_block_31 (tgt := 38) rfl (fun c31 => ?_) (fun c31 => ?_)
    · refine s_iconst E dX1_block_38 (v := nI 0) (by decide) ?_
      refine iw_s11 E rfl (j) (rfl) (by omega) hn6 dX1_block_39 ?_
      refine s_aload_n E dX1_block_40 (i := 0) (j := 0) rfl rfl ?_
      refine iwX1_g0_5 E dX1_block_41 ?_
      refine iwX1_g7_3 E dX1_block_44 ?_
      refine s_iload_n E dX1_block_47 (i := 1) (j := 1) rfl rfl ?_
      refine iw_l11 E (v := nI 0) (j) (rfl) (by omega) (st1_eq) dX1_block_48 ?_
      refine s_if_eq E dX1_block_49 (tgt := 56) rfl (fun c49 => ?_) (fun c49 => absurd c49 (by decide))
      refine s_iconst E dX1_block_56 (v := nI 0) (by decide) ?_
      exact Rt (nI 0) ((pl11, st1 (st1 σ 0 9 (nI (upK K))) 1 (12 + j) (nI 0))) dX1_block_57 (⟨fun _ => by rw [tN_nI (by omega)]; exact ⟨hbl.2 c31, hku11, by rw [← hbl.2 c31]⟩, fun h => absurd c5 h⟩) rfl (by first | exact Nat.le_refl _ | omega) (by first | exact Nat.le_refl _ | omega) rfl E.2.2.2.2.2.1
    · refine s_iconst E dX1_block_34 (v := nI 1) (by decide) ?_
      refine s_goto E dX1_block_35 (tgt := 39) rfl ?_
      refine iw_s11 E rfl (j) (rfl) (by omega) hn6 dX1_block_39 ?_
      refine s_aload_n E dX1_block_40 (i := 0) (j := 0) rfl rfl ?_
      refine iwX1_g0_5 E dX1_block_41 ?_
      refine iwX1_g7_3 E dX1_block_44 ?_
      refine s_iload_n E dX1_block_47 (i := 1) (j := 1) rfl rfl ?_
      refine iw_l11 E (v := nI 1) (j) (rfl) (by omega) (st1_eq) dX1_block_48 ?_
      refine s_if_eq E dX1_block_49 (tgt := 56) rfl (fun c49 => absurd c49 (by decide)) (fun c49 => ?_)
      refine s_iconst E dX1_block_52 (v := nI 1) (by decide) ?_
      refine s_goto E dX1_block_53 (tgt := 57) rfl ?_
      exact Rt (nI 1) ((pl11, st1 (st1 σ 0 9 (nI (upK K))) 1 (12 + j) (nI 1))) dX1_block_57 (⟨fun _ => by rw [tN_nI (by omega)]; exact ⟨hbl.1 c31, hku11, by rw [← hbl.1 c31]⟩, fun h => absurd c5 h⟩) rfl (by first | exact Nat.le_refl _ | omega) (by first | exact Nat.le_refl _ | omega) rfl E.2.2.2.2.2.1
  · have c5 := bI_0 c5
    refine s_iconst E dX1_block_8 (v := (-1)) (by decide) ?_
    exact Rt ((-1)) ((pl, σ)) dX1_block_9 (⟨fun h => absurd h c5, fun _ => ⟨rfl, rfl⟩⟩) rfl (by first | exact Nat.le_refl _ | omega) (by first | exact Nat.le_refl _ | omega) rfl E.2.2.2.2.2.1
theorem iwX1_g2_7 {p : Program} {l : Launch} {e : Env} {R : Room} {s : State} {m : MethodId} {args : Array Value} {below : List Frame} {meth : Method} {c : Code} {Q : State → Prop} {A : Nat → Prop} {D : va_G} {nL cells slots : Nat} {pc : Nat} {L : List (Nat × Value)} {S : List Value} {cc : ByteArray} {ret : Option FieldType} {gt : Nat → Nat} {ad : Nat → Nat} {ct : Nat → ClassId} {n : Nat} {τ σ : Nat → Nat → Int32} {T : va_W} (E : En p s m args meth c A cc nL RX1 ret D (tysA ct) gt) {v : Int32} (hv : τ 3 1 = v) (d : decode cc pc = .ok (.getfield 338, 3)) (K : Sm p l e R s m args below meth c Q A D nL cells slots (iw ad ct n τ σ T) (pc + 3) L (.int v :: S)) : Sm p l e R s m args below meth c Q A D nL cells slots (iw ad ct n τ σ T) pc L (.ref (ad 2) :: S) := s_getN E in_X2 2 rfl rfl 7 (Nat.le_of_ble_eq_true rfl) q183 (congrArg (fun z => some (Value.int z)) hv) rfl d K
theorem iwX1_g2_8 {p : Program} {l : Launch} {e : Env} {R : Room} {s : State} {m : MethodId} {args : Array Value} {below : List Frame} {meth : Method} {c : Code} {Q : State → Prop} {A : Nat → Prop} {D : va_G} {nL cells slots : Nat} {pc : Nat} {L : List (Nat × Value)} {S : List Value} {cc : ByteArray} {ret : Option FieldType} {gt : Nat → Nat} {ad : Nat → Nat} {ct : Nat → ClassId} {n : Nat} {τ σ : Nat → Nat → Int32} {T : va_W} (E : En p s m args meth c A cc nL RX1 ret D (tysA ct) gt) {v : Int32} (hv : τ 3 2 = v) (d : decode cc pc = .ok (.getfield 339, 3)) (K : Sm p l e R s m args below meth c Q A D nL cells slots (iw ad ct n τ σ T) (pc + 3) L (.int v :: S)) : Sm p l e R s m args below meth c Q A D nL cells slots (iw ad ct n τ σ T) pc L (.ref (ad 2) :: S) := s_getN E in_X2 2 rfl rfl 8 (Nat.le_of_ble_eq_true rfl) q187 (congrArg (fun z => some (Value.int z)) hv) rfl d K
theorem iwX1_g2_9 {p : Program} {l : Launch} {e : Env} {R : Room} {s : State} {m : MethodId} {args : Array Value} {below : List Frame} {meth : Method} {c : Code} {Q : State → Prop} {A : Nat → Prop} {D : va_G} {nL cells slots : Nat} {pc : Nat} {L : List (Nat × Value)} {S : List Value} {cc : ByteArray} {ret : Option FieldType} {gt : Nat → Nat} {ad : Nat → Nat} {ct : Nat → ClassId} {n : Nat} {τ σ : Nat → Nat → Int32} {T : va_W} (E : En p s m args meth c A cc nL RX1 ret D (tysA ct) gt) {v : Int32} (hv : τ 3 3 = v) (d : decode cc pc = .ok (.getfield 340, 3)) (K : Sm p l e R s m args below meth c Q A D nL cells slots (iw ad ct n τ σ T) (pc + 3) L (.int v :: S)) : Sm p l e R s m args below meth c Q A D nL cells slots (iw ad ct n τ σ T) pc L (.ref (ad 2) :: S) := s_getN E in_X2 2 rfl rfl 9 (Nat.le_of_ble_eq_true rfl) q191 (congrArg (fun z => some (Value.int z)) hv) rfl d K
theorem iwX1_g0_1 {p : Program} {l : Launch} {e : Env} {R : Room} {s : State} {m : MethodId} {args : Array Value} {below : List Frame} {meth : Method} {c : Code} {Q : State → Prop} {A : Nat → Prop} {D : va_G} {nL cells slots : Nat} {pc : Nat} {L : List (Nat × Value)} {S : List Value} {cc : ByteArray} {ret : Option FieldType} {gt : Nat → Nat} {ad : Nat → Nat} {ct : Nat → ClassId} {n : Nat} {τ σ : Nat → Nat → Int32} {T : va_W} (E : En p s m args meth c A cc nL RX1 ret D (tysA ct) gt) {v : Int32} (hv : σ 0 1 = v) (d : decode cc pc = .ok (.getfield 72, 3)) (K : Sm p l e R s m args below meth c Q A D nL cells slots (iw ad ct n τ σ T) (pc + 3) L (.int v :: S)) : Sm p l e R s m args below meth c Q A D nL cells slots (iw ad ct n τ σ T) pc L (.ref (ad 0) :: S) := s_get E in_X1 0 rfl rfl 1 (Nat.le_of_ble_eq_true rfl) q390 (congrArg (fun z => some (Value.int z)) hv) rfl d K
set_option maxHeartbeats 1000000 in
set_option maxRecDepth 100000 in
theorem x1z_count {l : Launch} {D : va_G} {gt : Nat → Nat} {ad : Nat → Nat} {ct : Nat → ClassId} {n : Nat} {τ σ : Nat → Nat → Int32} {T : va_W} (K : Nat) (v : Int32) (hX : XT τ n) (hbb : BB (σ 1)) (hK : σ 0 9 = nI K) (hz : ZB (σ 1) (tN (τ 3 0))) (ht : σ 0 1 = τ 0 2) : Ct l D gt yX1_count cX1_count 7 .int 1 23 0 0 [.ref (ad 0), .int (v)] (iw ad ct n τ σ T) (tysA ct) (fun r σ2 => countF (vw τ (σ 1)) n (tN (τ 3 0)) K v = r ∧ σ = σ2) (fun σ2 : Nat → Nat → Int32 => iw ad ct n τ σ2 T) (fun _ => tysA ct) := by
  refine Ct.start RX1 (by decide) rfl (Nat.le_of_ble_eq_true rfl) rfl ?_
  intro pP eE sS mM aA bB hM cC QQ AA E Rt
  have hn6 := hX.2.1
  have hB1 := hX.2.2.2.2.1
  have hB60 : tN (τ 3 0) ≤ 60 := by have := hB1.2; omega
  refine s_iload_n E dX1_count_0 (i := 1) (j := 1) rfl rfl ?_
  rcases sw_c (v) 9 (by decide) with ⟨j1, k1, rfl⟩ | c1
  · obtain rfl | rfl | rfl | rfl | rfl | rfl | rfl | rfl | rfl : j1 = 0 ∨ j1 = 1 ∨ j1 = 2 ∨ j1 = 3 ∨ j1 = 4 ∨ j1 = 5 ∨ j1 = 6 ∨ j1 = 7 ∨ j1 = 8 := by omega
    · refine s_tableIn E dX1_count_1 (off := 51) (tgt := 52) (by decide) (by decide) rfl rfl ?_
      refine s_aload_n E dX1_count_52 (i := 0) (j := 0) rfl rfl ?_
      refine iwX1_g0_4 E dX1_count_53 ?_
      refine iwX1_g2_4 E (v := nI n) (hX.1) dX1_count_56 ?_
      exact Rt (nI n) (σ) dX1_count_59 (⟨rfl, rfl⟩) rfl (Nat.le_refl _) (Nat.le_refl _) rfl E.2.2.2.2.2.1
    · refine s_tableIn E dX1_count_1 (off := 59) (tgt := 60) (by decide) (by decide) rfl rfl ?_
      refine s_aload_n E dX1_count_60 (i := 0) (j := 0) rfl rfl ?_
      refine iwX1_g0_4 E dX1_count_61 ?_
      refine iwX1_g2_6 E (v := τ 3 0) (rfl) dX1_count_64 ?_
      exact Rt (τ 3 0) (σ) dX1_count_67 (⟨rfl, rfl⟩) rfl (Nat.le_refl _) (Nat.le_refl _) rfl E.2.2.2.2.2.1
    · refine s_tableIn E dX1_count_1 (off := 67) (tgt := 68) (by decide) (by decide) rfl rfl ?_
      refine s_aload_n E dX1_count_68 (i := 0) (j := 0) rfl rfl ?_
      refine iwX1_g0_4 E dX1_count_69 ?_
      refine iwX1_g2_7 E (v := τ 3 1) (rfl) dX1_count_72 ?_
      exact Rt (τ 3 1) (σ) dX1_count_75 (⟨rfl, rfl⟩) rfl (Nat.le_refl _) (Nat.le_refl _) rfl E.2.2.2.2.2.1
    · refine s_tableIn E dX1_count_1 (off := 75) (tgt := 76) (by decide) (by decide) rfl rfl ?_
      refine s_aload_n E dX1_count_76 (i := 0) (j := 0) rfl rfl ?_
      refine iwX1_g0_4 E dX1_count_77 ?_
      refine iwX1_g2_8 E (v := τ 3 2) (rfl) dX1_count_80 ?_
      exact Rt (τ 3 2) (σ) dX1_count_83 (⟨rfl, rfl⟩) rfl (Nat.le_refl _) (Nat.le_refl _) rfl E.2.2.2.2.2.1
    · refine s_tableIn E dX1_count_1 (off := 83) (tgt := 84) (by decide) (by decide) rfl rfl ?_
      refine s_aload_n E dX1_count_84 (i := 0) (j := 0) rfl rfl ?_
      refine iwX1_g0_4 E dX1_count_85 ?_
      refine iwX1_g2_9 E (v := τ 3 3) (rfl) dX1_count_88 ?_
      exact Rt (τ 3 3) (σ) dX1_count_91 (⟨rfl, rfl⟩) rfl (Nat.le_refl _) (Nat.le_refl _) rfl E.2.2.2.2.2.1
    · refine s_tableIn E dX1_count_1 (off := 91) (tgt := 92) (by decide) (by decide) rfl rfl ?_
      refine s_iconst E dX1_count_92 (v := nI 0) (by decide) ?_
      refine s_istore_n E (L2 := [(2, .int (nI 0)), (0, .ref (ad 0)), (1, .int (nI 5))]) dX1_count_93 rfl (Nat.le_of_ble_eq_true rfl) rfl ?_
      refine s_aload_n E dX1_count_94 (i := 0) (j := 1) rfl rfl ?_
      refine iwX1_g0_5 E dX1_count_95 ?_
      refine iwX1_g7_3 E dX1_count_98 ?_
      refine s_astore_n E (L2 := [(3, .ref (ad 11)), (2, .int (nI 0)), (0, .ref (ad 0)), (1, .int (nI 5))]) dX1_count_101 rfl (Nat.le_of_ble_eq_true rfl) rfl ?_
      refine s_aload_n E dX1_count_102 (i := 3) (j := 0) rfl rfl ?_
      refine s_alen E 11 1 rfl rfl (v := nI 61) rfl dX1_count_103 ?_
      refine s_istore E (L2 := [(4, .int (nI 61)), (3, .ref (ad 11)), (2, .int (nI 0)), (0, .ref (ad 0)), (1, .int (nI 5))]) dX1_count_104 (Nat.le_of_ble_eq_true rfl) rfl ?_
      refine s_iconst E dX1_count_106 (v := nI 0) (by decide) ?_
      refine s_istore E (L2 := [(5, .int (nI 0)), (4, .int (nI 61)), (3, .ref (ad 11)), (2, .int (nI 0)), (0, .ref (ad 0)), (1, .int (nI 5))]) dX1_count_107 (Nat.le_of_ble_eq_true rfl) rfl ?_
      have L109 : ∀ (fuel : Nat) (i : Nat), (i ≤ 61) → (61 - i) < fuel → Sm pP l eE { frames := 1, cells := 0, slots := 0, locals := 23 } sS mM aA bB hM cC QQ AA D 7 0 0 (iw ad ct n τ σ T) 109 [(0, .ref (ad 0)), (1, .int (nI 5)), (3, .ref (ad 11)), (4, .int (nI 61)), (2, .int (nI (cntN (bkB (σ 1)) i))), (5, .int (nI i))] [] := by
        intro fuel
        induction fuel with
        | zero =>
          intro i hi hf109
          exact absurd hf109 (Nat.not_lt_zero _)
        | succ fuel ih109 =>
          intro i hi hf109
          refine s_iload E dX1_count_109 (i := 5) (j := 5) rfl ?_
          refine s_iload E dX1_count_111 (i := 4) (j := 3) rfl ?_
          refine s_icmp_ge E dX1_count_113 (tgt := 141) rfl (fun c113 => ?_) (fun c113 => ?_)
          · have c113 : ¬ i < 61 := fun h => absurd c113 (Int32.not_le.mpr ((nI_ltI (a := i) (b := 61) (by omega) (by omega)).mpr h))
            refine s_iload_n E dX1_count_141 (i := 2) (j := 4) rfl rfl ?_
            exact Rt (nI (cntN (bkB (σ 1)) i)) (σ) dX1_count_142 (⟨by rw [show i = 61 by omega]; exact (block_all (s := vw τ (σ 1)) vw_25 hbb hz hB60).symm, rfl⟩) rfl (Nat.le_refl _) (Nat.le_refl _) rfl E.2.2.2.2.2.1
          · have c113 : i < 61 := (nI_ltI (a := i) (b := 61) (by omega) (by omega)).mp (Int32.not_le.mp c113)
            refine s_aload_n E dX1_count_116 (i := 3) (j := 2) rfl rfl ?_
            refine s_iload E dX1_count_117 (i := 5) (j := 5) rfl ?_
            refine iw_l11 E (v := σ 1 (12 + i)) (i) (rfl) (by omega) (rfl) dX1_count_119 ?_
            refine s_istore E (L2 := [(6, .int (σ 1 (12 + i))), (0, .ref (ad 0)), (1, .int (nI 5)), (3, .ref (ad 11)), (4, .int (nI 61)), (2, .int (nI (cntN (bkB (σ 1)) i))), (5, .int (nI i))]) dX1_count_120 (Nat.le_of_ble_eq_true rfl) rfl ?_
            refine s_iload_n E dX1_count_122 (i := 2) (j := 5) rfl rfl ?_
            refine s_iload E dX1_count_123 (i := 6) (j := 0) rfl ?_
            refine s_if_eq E dX1_count_125 (tgt := 132) rfl (fun c125 => ?_) (fun c125 => ?_)
            · refine s_iconst E dX1_count_132 (v := nI 0) (by decide) ?_
              refine s_iadd_ E dX1_count_133 (v := nI (cntN (bkB (σ 1)) (i + 1))) (by rw [cntN_f (by unfold bkB; rw [c125]; decide)]; exact nI_add _ _) ?_
              refine s_istore_n E (L2 := [(2, .int (nI (cntN (bkB (σ 1)) (i + 1)))), (6, .int (σ 1 (12 + i))), (0, .ref (ad 0)), (1, .int (nI 5)), (3, .ref (ad 11)), (4, .int (nI 61)), (5, .int (nI i))]) dX1_count_134 rfl (Nat.le_of_ble_eq_true rfl) rfl ?_
              refine s_iinc E (L2 := [(5, .int (nI (i + 1))), (2, .int (nI (cntN (bkB (σ 1)) (i + 1)))), (6, .int (σ 1 (12 + i))), (0, .ref (ad 0)), (1, .int (nI 5)), (3, .ref (ad 11)), (4, .int (nI 61))]) dX1_count_135 (k := 6) rfl (v := nI (i + 1)) (nI_inc _) (Nat.le_of_ble_eq_true rfl) rfl ?_
              refine s_goto E dX1_count_138 (tgt := 109) rfl ?_
              refine s_loc (L2 := [(0, .ref (ad 0)), (1, .int (nI 5)), (3, .ref (ad 11)), (4, .int (nI 61)), (2, .int (nI (cntN (bkB (σ 1)) (i + 1)))), (5, .int (nI (i + 1)))]) [3, 4, 5, 6, 1, 0] rfl ?_
              exact ih109 (i + 1) (by omega) (by omega)
            · refine s_iconst E dX1_count_128 (v := nI 1) (by decide) ?_
              refine s_goto E dX1_count_129 (tgt := 133) rfl ?_
              refine s_iadd_ E dX1_count_133 (v := nI (cntN (bkB (σ 1)) (i + 1))) (by rw [cntN_t (by unfold bkB; rw [decide_eq_true c125])]; exact nI_add _ _) ?_
              refine s_istore_n E (L2 := [(2, .int (nI (cntN (bkB (σ 1)) (i + 1)))), (6, .int (σ 1 (12 + i))), (0, .ref (ad 0)), (1, .int (nI 5)), (3, .ref (ad 11)), (4, .int (nI 61)), (5, .int (nI i))]) dX1_count_134 rfl (Nat.le_of_ble_eq_true rfl) rfl ?_
              refine s_iinc E (L2 := [(5, .int (nI (i + 1))), (2, .int (nI (cntN (bkB (σ 1)) (i + 1)))), (6, .int (σ 1 (12 + i))), (0, .ref (ad 0)), (1, .int (nI 5)), (3, .ref (ad 11)), (4, .int (nI 61))]) dX1_count_135 (k := 6) rfl (v := nI (i + 1)) (nI_inc _) (Nat.le_of_ble_eq_true rfl) rfl ?_
              refine s_goto E dX1_count_138 (tgt := 109) rfl ?_
              refine s_loc (L2 := [(0, .ref (ad 0)), (1, .int (nI 5)), (3, .ref (ad 11)), (4, .int (nI 61)), (2, .int (nI (cntN (bkB (σ 1)) (i + 1)))), (5, .int (nI (i + 1)))]) [3, 4, 5, 6, 1, 0] rfl ?_
              exact ih109 (i + 1) (by omega) (by omega)
      refine s_loc (L2 := [(0, .ref (ad 0)), (1, .int (nI 5)), (3, .ref (ad 11)), (4, .int (nI 61)), (2, .int (nI 0)), (5, .int (nI 0))]) [4, 5, 2, 1, 3, 0] rfl ?_
      exact L109 (_ + 1) 0 (by omega) (Nat.lt_succ_self _)
    · refine s_tableIn E dX1_count_1 (off := 142) (tgt := 143) (by decide) (by decide) rfl rfl ?_
      refine s_aload_n E dX1_count_143 (i := 0) (j := 0) rfl rfl ?_
      refine s_aload_n E dX1_count_144 (i := 0) (j := 0) rfl rfl ?_
      refine iwX1_g0_5 E dX1_count_145 ?_
      refine c_goi0 E (rV E (cutS _ _) (x1z_tuned0 (hX)) K_X1_125 (Nat.le_of_ble_eq_true rfl) (Nat.le_of_ble_eq_true rfl) (Nat.zero_le _) (Nat.zero_le _) 0 rfl rfl rfl rfl (Nat.le_of_ble_eq_true rfl) dX1_count_148) (fun r148 w148 h148 => ?_)
      obtain ⟨rfl, rfl⟩ := h148
      exact Rt (nI (tunedN (vw τ (σ 1)) n)) (σ) dX1_count_151 (⟨rfl, rfl⟩) rfl (Nat.le_refl _) (Nat.le_refl _) rfl E.2.2.2.2.2.1
    · refine s_tableIn E dX1_count_1 (off := 151) (tgt := 152) (by decide) (by decide) rfl rfl ?_
      refine s_aload_n E dX1_count_152 (i := 0) (j := 0) rfl rfl ?_
      refine iwX1_g0_9 E (v := nI K) (hK) dX1_count_153 ?_
      exact Rt (nI K) (σ) dX1_count_156 (⟨rfl, rfl⟩) rfl (Nat.le_refl _) (Nat.le_refl _) rfl E.2.2.2.2.2.1
    · refine s_tableIn E dX1_count_1 (off := 156) (tgt := 157) (by decide) (by decide) rfl rfl ?_
      refine s_aload_n E dX1_count_157 (i := 0) (j := 0) rfl rfl ?_
      refine iwX1_g0_1 E (v := τ 0 2) (ht) dX1_count_158 ?_
      exact Rt (τ 0 2) (σ) dX1_count_161 (⟨rfl, rfl⟩) rfl (Nat.le_refl _) (Nat.le_refl _) rfl E.2.2.2.2.2.1
  · refine s_tableOut E dX1_count_1 c1 (tgt := 162) rfl ?_
    refine s_iconst E dX1_count_162 (v := (-1)) (by decide) ?_
    exact Rt ((-1)) (σ) dX1_count_163 (⟨by rw [countF, swt_out c1]; rfl, rfl⟩) rfl (Nat.le_refl _) (Nat.le_refl _) rfl E.2.2.2.2.2.1
