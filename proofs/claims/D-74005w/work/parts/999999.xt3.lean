set_option maxRecDepth 100000
theorem iwX1_p0_2 {p : Program} {l : Launch} {e : Env} {R : Room} {s : State} {m : MethodId} {args : Array Value} {below : List Frame} {meth : Method} {c : Code} {Q : State → Prop} {A : Nat → Prop} {D : va_G} {nL cells slots : Nat} {pc : Nat} {L : List (Nat × Value)} {S : List Value} {cc : ByteArray} {ret : Option FieldType} {gt : Nat → Nat} {ad : Nat → Nat} {ct : Nat → ClassId} {n : Nat} {τ σ : Nat → Nat → Int32} {T : va_W} (E : En p s m args meth c A cc nL RX1 ret D (tysA ct) gt) {v : Int32} (d : decode cc pc = .ok (.putfield 79, 3)) (K : Sm p l e R s m args below meth c Q A D nL cells slots (iw ad ct n τ (st1 σ 0 2 v) T) (pc + 3) L S) : Sm p l e R s m args below meth c Q A D nL cells slots (iw ad ct n τ σ T) pc L (.int v :: .ref (ad 0) :: S) := s_put E in_X1 tyX1 tyX1_ok nmX1 0 rfl rfl 2 (Nat.le_of_ble_eq_true rfl) q391 rfl rfl rfl rfl (Nat.le_of_ble_eq_true rfl) rfl d K
theorem iwX1_p0_3 {p : Program} {l : Launch} {e : Env} {R : Room} {s : State} {m : MethodId} {args : Array Value} {below : List Frame} {meth : Method} {c : Code} {Q : State → Prop} {A : Nat → Prop} {D : va_G} {nL cells slots : Nat} {pc : Nat} {L : List (Nat × Value)} {S : List Value} {cc : ByteArray} {ret : Option FieldType} {gt : Nat → Nat} {ad : Nat → Nat} {ct : Nat → ClassId} {n : Nat} {τ σ : Nat → Nat → Int32} {T : va_W} (E : En p s m args meth c A cc nL RX1 ret D (tysA ct) gt) {v : Int32} (d : decode cc pc = .ok (.putfield 26, 3)) (K : Sm p l e R s m args below meth c Q A D nL cells slots (iw ad ct n τ (st1 σ 0 3 v) T) (pc + 3) L S) : Sm p l e R s m args below meth c Q A D nL cells slots (iw ad ct n τ σ T) pc L (.int v :: .ref (ad 0) :: S) := s_put E in_X1 tyX1 tyX1_ok nmX1 0 rfl rfl 3 (Nat.le_of_ble_eq_true rfl) q392 rfl rfl rfl rfl (Nat.le_of_ble_eq_true rfl) rfl d K
theorem K_X1_69 : KV RX1 69 RX1 yX1_begin cX1_begin 1 none 0 := ⟨q380, q382, qs0, q113, q383, by decide +kernel⟩
theorem iwX1_g2_11 {p : Program} {l : Launch} {e : Env} {R : Room} {s : State} {m : MethodId} {args : Array Value} {below : List Frame} {meth : Method} {c : Code} {Q : State → Prop} {A : Nat → Prop} {D : va_G} {nL cells slots : Nat} {pc : Nat} {L : List (Nat × Value)} {S : List Value} {cc : ByteArray} {ret : Option FieldType} {gt : Nat → Nat} {ad : Nat → Nat} {ct : Nat → ClassId} {n : Nat} {τ σ : Nat → Nat → Int32} {T : va_W} (E : En p s m args meth c A cc nL RX1 ret D (tysA ct) gt) {v : Int32} (hv : σ 30 0 = v) (d : decode cc pc = .ok (.getfield 97, 3)) (K : Sm p l e R s m args below meth c Q A D nL cells slots (iw ad ct n τ σ T) (pc + 3) L (.int v :: S)) : Sm p l e R s m args below meth c Q A D nL cells slots (iw ad ct n τ σ T) pc L (.ref (ad 2) :: S) := s_getN E in_X2 2 rfl rfl 11 (Nat.le_of_ble_eq_true rfl) q194 (congrArg (fun z => some (Value.int z)) hv) rfl d K
theorem K_X1_85 : KV RX1 85 RX6 yX6_text cX6_text 1 (some (.object RX2)) 0 := ⟨q616, q617, q618, q118, q619, by decide +kernel⟩
set_option maxHeartbeats 4000000 in
set_option maxRecDepth 100000 in
theorem x1z_text {l : Launch} {D : va_G} {gt : Nat → Nat} {ad : Nat → Nat} {ct : Nat → ClassId} {n : Nat} {τ σ : Nat → Nat → Int32} {pl : List KP} (s : Nat → Nat → Int32) (tp : Nat) (v : Int32) (hn6 : n ≤ 6) (ht : σ 0 1 = nI tp) (ht7 : tp ≤ 700) (hb : BT σ (s 1)) (hby : BY s) : CtH l D gt yX1_text cX1_text 3 .int [(30, 46, 49, 89)] 11 240 10521 83470 [.ref (ad 0), .int (v)] (iw ad ct n τ σ (usW ad n τ ++ kpW (ad 47) ct n pl)) (tysA ct) (txPost s tp v ad n τ σ pl) (fun u : ((Nat → Nat) × Nat × (Nat → Nat → Int32) × (Nat → Nat → Int32) × List KP) => iw u.1 ct u.2.1 u.2.2.1 u.2.2.2.1 (usW u.1 u.2.1 u.2.2.1 ++ kpW (u.1 47) ct u.2.1 u.2.2.2.2)) (fun _ => tysA ct) := by
  refine CtH.start RX1 (by decide) rfl (Nat.le_of_ble_eq_true rfl) rfl ?_
  intro pP eE sS mM aA bB hM cC QQ AA E hEx Rt
  refine s_iload_n E dX1_text_0 (i := 1) (j := 1) rfl rfl ?_
  refine s_iconst E dX1_text_1 (v := nI 0) (by decide) ?_
  refine s_aload_n E dX1_text_2 (i := 0) (j := 0) rfl rfl ?_
  refine iwX1_g0_1 E (v := nI tp) (ht) dX1_text_3 ?_
  refine c_gos E (rS E (cutZ _ _) (x1z_isIn v (nI 0) (nI tp)) K_X1_75 (Nat.le_of_ble_eq_true rfl) (Nat.le_of_ble_eq_true rfl) (Nat.zero_le _) (Nat.zero_le _) rfl rfl (Nat.le_of_ble_eq_true rfl) dX1_text_6) (fun r6 h6 => ?_)
  subst h6
  refine s_if_ne E dX1_text_9 (tgt := 15) rfl (fun c9 => ?_) (fun c9 => ?_)
  · have c9 := bI_n0 c9
    obtain ⟨N, hv, _, hN⟩ := rng (a := 0) (b := tp) c9 (by decide) (by omega)
    subst hv
    refine s_aload_n E dX1_text_15 (i := 0) (j := 0) rfl rfl ?_
    refine s_iconst E dX1_text_16 (v := nI 0) (by decide) ?_
    refine iwX1_p0_1 E dX1_text_17 ?_
    refine s_aload_n E dX1_text_20 (i := 0) (j := 0) rfl rfl ?_
    refine s_iconst E dX1_text_21 (v := nI 0) (by decide) ?_
    refine iwX1_p0_2 E dX1_text_22 ?_
    refine s_aload_n E dX1_text_25 (i := 0) (j := 0) rfl rfl ?_
    refine s_iconst E dX1_text_26 (v := (-1)) (by decide) ?_
    refine iwX1_p0_3 E dX1_text_27 ?_
    obtain ⟨σ1, hσ1⟩ : ∃ z, z = st1 (st1 (st1 σ 0 1 (nI 0)) 0 2 (nI 0)) 0 3 (-1) := ⟨_, rfl⟩
    have hb1 : BT σ1 (s 1) := by intro k hk; rw [hσ1, st1_ne (by decide), st1_ne (by decide), st1_ne (by decide)]; exact hb k hk
    refine s_ws (ws2 := iw ad ct n τ σ1 (usW ad n τ ++ kpW (ad 47) ct n pl)) (by rw [hσ1]) ?_
    refine s_aload_n E dX1_text_30 (i := 0) (j := 0) rfl rfl ?_
    refine s_new E in_X6 tyX6 tyX6_ok q449 q450 q118 (ci := 5) (fs := rdZ) rfl df_X6 (by show _ ≤ 10521; omega) (by show _ ≤ 83470; omega) dX1_text_31 (fun r0 => ?_)
    refine s_dup E dX1_text_34 rfl ?_
    refine s_aload_n E dX1_text_35 (i := 0) (j := 0) rfl rfl ?_
    refine s_iload_n E dX1_text_36 (i := 1) (j := 1) rfl rfl ?_
    refine p_gov (wc := (r0, .inr (5, rdZ)) :: xtW ad ct σ1) (wr := ((fwT ad ct n τ σ1 ++ fwP ad ct n τ σ1) ++ (usW ad n τ ++ kpW (ad 47) ct n pl))) (ws2 := fun ra => rw ad ra ct σ1 (setT (rho0 N s) (tokX (s 1) N 0 (rho0 N s 0 20))) (tW ra ct 0 (setT (rho0 N s) (tokX (s 1) N 0 (rho0 N s 0 20)))) ++ ((fwT ad ct n τ σ1 ++ fwP ad ct n τ σ1) ++ (usW ad n τ ++ kpW (ad 47) ct n pl))) E (tyc := tysA ct) (isT := ixT) rfl tx_p1 (rI E (cutP (tyc := tysA ct) (isT := ixT) rfl) (x6z_init (ad := ad) (ξ := σ1) (s 1) N hb1 (by omega) rho0_Z rho0_T) (show KI RX1 84 yX6_init cX6_init 3 2 from ⟨q451, q452, q118, q453, rfl, by decide +kernel⟩) (Nat.le_of_ble_eq_true rfl) (Nat.le_of_ble_eq_true rfl) (by show _ ≤ 10521; omega) (by show _ ≤ 83470; omega) rfl rfl (Nat.le_of_ble_eq_true rfl) dX1_text_37) (fun _ => List.perm_append_comm) (fun ra hra _ => ?_)
    subst hra
    obtain ⟨ρ1, hρ1⟩ : ∃ z, z = setT (rho0 N s) (tokX (s 1) N 0 (rho0 N s 0 20)) := ⟨_, rfl⟩
    have hrl : RL (rt1 N s) ρ1 := by rw [hρ1]; exact rl_begin (by omega) hby
    have hbib : BIb (rt1 N s) ρ1 := by rw [hρ1]; exact bib_begin
    have hbik : BIk (rt1 N s) ρ1 := by rw [hρ1]; exact bik_begin
    refine s_ws (ws2 := rw ad ra ct σ1 ρ1 (tW ra ct 0 ρ1) ++ ((fwT ad ct n τ σ1 ++ fwP ad ct n τ σ1) ++ (usW ad n τ ++ kpW (ad 47) ct n pl))) (by rw [hρ1]) ?_
    obtain ⟨T9, hT9⟩ : ∃ z, z = readTextS N s := ⟨_, rfl⟩
    have h16 : tN (rt1 N s 0 16) = N := by rw [(rt1_of (n := N) (s := s) (by omega) hby).2.2, tN_nI (by omega)]
    obtain ⟨PP, hPP⟩ : ∃ z, z = txPost s tp (nI N) ad n τ σ pl := ⟨_, rfl⟩
    have J68 : ∀ (ad : Nat → Nat) (n : Nat) (τ σ : Nat → Nat → Int32) (pl : List KP), XT τ n → In (τ 3 8) 7 → (∀ k, k < tN (τ 3 8) → In (σ 31 (2 * k)) 61 ∧ In (σ 31 (2 * k + 1)) 61) → PP (σ 30 0) (ad, n, τ, begX τ σ n, pl) → Sm pP l eE { frames := 11, cells := 10521, slots := 83470, locals := 240 } sS mM aA bB hM cC QQ AA D 3 10521 83470 (iw ad ct n τ σ (usW ad n τ ++ kpW (ad 47) ct n pl)) 68 [(0, .ref (ad 0)), (1, .int (nI N))] [] := by
      intro ad n τ σ pl hX hm hbk hpost
      refine s_aload_n E dX1_text_68 (i := 0) (j := 0) rfl rfl ?_
      refine c_gov0 E (rV E (cutS _ _) (x1z_begin (hX) (usW_UT) (hm) (hbk)) K_X1_69 (Nat.le_of_ble_eq_true rfl) (Nat.le_of_ble_eq_true rfl) (by show _ ≤ 10521; omega) (by show _ ≤ 83470; omega) 0 rfl rfl rfl rfl (Nat.le_of_ble_eq_true rfl) dX1_text_69) (fun w69 h69 => ?_)
      subst h69
      refine s_aload_n E dX1_text_72 (i := 0) (j := 0) rfl rfl ?_
      refine iwX1_g0_4 E dX1_text_73 ?_
      refine iwX1_g2_11 E (v := σ 30 0) (rfl) dX1_text_76 ?_
      exact Rt (σ 30 0) ((ad, n, τ, st1 (st1 (upR σ 1 (frP τ (σ 1) (σ 31) n (tN (τ 3 8)))) 0 9 (nI 0)) 0 10 (nI 0), pl)) dX1_text_79 (by rw [← hPP]; exact hpost) rfl (by first | exact Nat.le_refl _ | omega) (by first | exact Nat.le_refl _ | omega) rfl E.2.2.2.2.2.1
    refine xp_gor (wr := ((fwT ad ct n τ σ1 ++ fwP ad ct n τ σ1) ++ (usW ad n τ ++ kpW (ad 47) ct n pl))) (ws2 := fun u => rw ad u.1 ct σ1 u.2.2 (tW u.1 ct u.2.1 u.2.2) ++ ((fwT ad ct n τ σ1 ++ fwP ad ct n τ σ1) ++ (usW ad n τ ++ kpW (ad 47) ct n pl))) (ws3 := fun q => iw ad ct n τ σ1 (usW ad n τ ++ kpW (ad 47) ct n pl) ++ [faultC q (T9 0 21) (T9 0 22)]) E (tyc := tysA ct) (isT := ixT) rfl (List.Perm.refl _) (rVX E (cutP (tyc := tysA ct) (isT := ixT) rfl) (x6z_text (n := 0) (N + 1) (rt1 N s) T9 hT9.symm hrl (by show BT σ1 (rt1 N s 1); unfold rt1; rw [tokS_r (by decide)]; exact hb1) rb_begin hbib hbik rt1_17 (by decide) (by rw [h16]; omega)) K_X1_85 (Nat.le_of_ble_eq_true rfl) (Nat.le_of_ble_eq_true rfl) (by show _ ≤ 10521; omega) (by show _ ≤ 83470; omega) 0 rfl rfl rfl rfl (Nat.le_of_ble_eq_true rfl) dX1_text_40) (fun u => List.perm_append_comm) (fun q => tx_px) (fun qX hX _ => ?_) (fun u hu _ => ?_)
    · refine s_catch E hEx (by decide) (by decide) (by decide) q445 q626 ?_
      refine s_perm List.perm_append_comm ?_
      refine s_astore_n E (L2 := [(2, .ref qX), (0, .ref (ad 0)), (1, .int (nI N))]) dX1_text_49 rfl (Nat.le_of_ble_eq_true rfl) rfl ?_
      refine s_aload_n E dX1_text_50 (i := 0) (j := 1) rfl rfl ?_
      refine s_aload_n E dX1_text_51 (i := 2) (j := 0) rfl rfl ?_
      refine s_getN E in_X7 (v := .int (T9 0 21)) 0 rfl rfl 6 (Nat.le_of_ble_eq_true rfl) q674 rfl rfl dX1_text_52 ?_
      refine s_put E in_X1 tyX1 tyX1_ok nmX1 1 rfl rfl 2 (Nat.le_of_ble_eq_true rfl) q391 rfl rfl rfl rfl (Nat.le_of_ble_eq_true rfl) (ws2 := [faultC qX (T9 0 21) (T9 0 22)] ++ iw ad ct n τ (st1 σ1 0 2 (T9 0 21)) (usW ad n τ ++ kpW (ad 47) ct n pl)) rfl dX1_text_55 ?_
      refine s_aload_n E dX1_text_58 (i := 0) (j := 1) rfl rfl ?_
      refine s_aload_n E dX1_text_59 (i := 2) (j := 0) rfl rfl ?_
      refine s_getN E in_X7 (v := .int (T9 0 22)) 0 rfl rfl 7 (Nat.le_of_ble_eq_true rfl) q676 rfl rfl dX1_text_60 ?_
      refine s_put E in_X1 tyX1 tyX1_ok nmX1 1 rfl rfl 3 (Nat.le_of_ble_eq_true rfl) q392 rfl rfl rfl rfl (Nat.le_of_ble_eq_true rfl) (ws2 := [faultC qX (T9 0 21) (T9 0 22)] ++ iw ad ct n τ (st1 (st1 σ1 0 2 (T9 0 21)) 0 3 (T9 0 22)) (usW ad n τ ++ kpW (ad 47) ct n pl)) rfl dX1_text_63 ?_
      refine s_perm List.perm_append_comm ?_
      refine s_drop ?_
      refine s_iconst E dX1_text_66 (v := (-1)) (by decide) ?_
      refine s_ws (ws2 := iw ad ct n τ (st1 (st1 (st1 σ 0 1 (nI 0)) 0 2 (T9 0 21)) 0 3 (T9 0 22)) (usW ad n τ ++ kpW (ad 47) ct n pl)) (by rw [hσ1, hT9]; exact congrArg (fun z => iw ad ct n τ z (usW ad n τ ++ kpW (ad 47) ct n pl)) tx_fl) ?_
      exact Rt (-1) (ad, n, τ, st1 (st1 (st1 σ 0 1 (nI 0)) 0 2 (T9 0 21)) 0 3 (T9 0 22), pl) dX1_text_67 ⟨fun h9 => absurd c9 h9, fun N2 h2 hN2 _ => by obtain rfl : N = N2 := (nI_eq (by omega) (by omega)).mp h2; rw [← hT9]; exact ⟨rfl, rfl⟩, fun N2 h2 hN2 h3 => by obtain rfl : N = N2 := (nI_eq (by omega) (by omega)).mp h2; rw [← hT9] at h3; exact absurd h3 hX⟩ rfl (by omega) (by omega) rfl E.2.2.2.2.2.1
    · obtain ⟨ra2, n2, ρ2⟩ := u
      obtain ⟨p1, p2, p3, p4, p5, p6, p7⟩ := hu
      have p2 : RL T9 ρ2 := p2
      have p4 : BIk T9 ρ2 := p4
      have p5 : T9 3 17 = nI n2 := p5
      have p6 : n2 ≤ 6 := p6
      refine s_put E in_X1 tyX1 tyX1_ok nmX1 1 rfl rfl 4 (Nat.le_of_ble_eq_true rfl) q394 rfl rfl rfl rfl (Nat.le_of_ble_eq_true rfl) (tx_set (τ := τ) (n := n)) dX1_text_43 ?_
      refine s_goto E dX1_text_46 (tgt := 68) rfl ?_
      refine s_perm (tx_end p6 hn6 (tkr_of p2)) ?_
      refine s_drop ?_
      refine s_L (L2 := [(0, .ref (adT ad ra2 0)), (1, .int (nI N))]) rfl ?_
      refine s_widen (k := 10521) (n := 83470) (by omega) (by omega) ?_
      have hxt := xt_of p3 p5 p6
      have e38 : takeS T9 3 8 = T9 3 18 := rfl
      refine J68 (adT ad ra2) n2 (takeS T9) (txσ n σ1 ρ2) (pl.map (rnK n)) hxt (by rw [e38]; exact p3.1.2.1) (by rw [e38]; exact p4.2) ?_
      rw [hPP]
      refine ⟨fun h9 => absurd c9 h9, fun N2 h2 hN2 h3 => ?_, fun N2 h2 hN2 _ => ?_⟩
      · obtain rfl : N = N2 := (nI_eq (by omega) (by omega)).mp h2
        rw [← hT9] at h3
        exact absurd p1 h3
      · obtain rfl : N = N2 := (nI_eq (by omega) (by omega)).mp h2
        rw [← hT9]
        refine ⟨p2.2.2.2.2.2.2.2.2, ra2, n2, ρ2, p2, p3, p4, p5, p6, ?_⟩
        rw [hσ1]
  · have c9 := bI_0 c9
    refine s_bipush E dX1_text_12 (v := (-2)) (by decide) ?_
    exact Rt ((-2)) ((ad, n, τ, σ, pl)) dX1_text_14 (⟨fun _ => ⟨rfl, rfl⟩, fun N2 h2 hN2 => absurd (by rw [h2]; exact ⟨nI_pos (by omega), fun z => by have := (nI_ltI (by omega) (by omega)).mp z; omega⟩) c9, fun N2 h2 hN2 => absurd (by rw [h2]; exact ⟨nI_pos (by omega), fun z => by have := (nI_ltI (by omega) (by omega)).mp z; omega⟩) c9⟩) rfl (by first | exact Nat.le_refl _ | omega) (by first | exact Nat.le_refl _ | omega) rfl E.2.2.2.2.2.1
