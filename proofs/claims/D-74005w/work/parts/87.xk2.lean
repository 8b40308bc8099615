set_option maxRecDepth 100000
theorem iwX1_g0_9 {p : Program} {l : Launch} {e : Env} {R : Room} {s : State} {m : MethodId} {args : Array Value} {below : List Frame} {meth : Method} {c : Code} {Q : State → Prop} {A : Nat → Prop} {D : va_G} {nL cells slots : Nat} {pc : Nat} {L : List (Nat × Value)} {S : List Value} {cc : ByteArray} {ret : Option FieldType} {gt : Nat → Nat} {ad : Nat → Nat} {ct : Nat → ClassId} {n : Nat} {τ σ : Nat → Nat → Int32} {T : va_W} (E : En p s m args meth c A cc nL RX1 ret D (tysA ct) gt) {v : Int32} (hv : σ 0 9 = v) (d : decode cc pc = .ok (.getfield 108, 3)) (K : Sm p l e R s m args below meth c Q A D nL cells slots (iw ad ct n τ σ T) (pc + 3) L (.int v :: S)) : Sm p l e R s m args below meth c Q A D nL cells slots (iw ad ct n τ σ T) pc L (.ref (ad 0) :: S) := s_get E in_X1 0 rfl rfl 9 (Nat.le_of_ble_eq_true rfl) q400 (congrArg (fun z => some (Value.int z)) hv) rfl d K
theorem iwX1_g0_8 {p : Program} {l : Launch} {e : Env} {R : Room} {s : State} {m : MethodId} {args : Array Value} {below : List Frame} {meth : Method} {c : Code} {Q : State → Prop} {A : Nat → Prop} {D : va_G} {nL cells slots : Nat} {pc : Nat} {L : List (Nat × Value)} {S : List Value} {cc : ByteArray} {ret : Option FieldType} {gt : Nat → Nat} {ad : Nat → Nat} {ct : Nat → ClassId} {n : Nat} {τ σ : Nat → Nat → Int32} {T : va_W} (E : En p s m args meth c A cc nL RX1 ret D (tysA ct) gt) (d : decode cc pc = .ok (.getfield 50, 3)) (K : Sm p l e R s m args below meth c Q A D nL cells slots (iw ad ct n τ σ T) (pc + 3) L (.ref (ad 47) :: S)) : Sm p l e R s m args below meth c Q A D nL cells slots (iw ad ct n τ σ T) pc L (.ref (ad 0) :: S) := s_get E in_X1 0 rfl rfl 8 (Nat.le_of_ble_eq_true rfl) q399 rfl rfl d K
theorem iwX1_p0_9 {p : Program} {l : Launch} {e : Env} {R : Room} {s : State} {m : MethodId} {args : Array Value} {below : List Frame} {meth : Method} {c : Code} {Q : State → Prop} {A : Nat → Prop} {D : va_G} {nL cells slots : Nat} {pc : Nat} {L : List (Nat × Value)} {S : List Value} {cc : ByteArray} {ret : Option FieldType} {gt : Nat → Nat} {ad : Nat → Nat} {ct : Nat → ClassId} {n : Nat} {τ σ : Nat → Nat → Int32} {T : va_W} (E : En p s m args meth c A cc nL RX1 ret D (tysA ct) gt) {v : Int32} (d : decode cc pc = .ok (.putfield 108, 3)) (K : Sm p l e R s m args below meth c Q A D nL cells slots (iw ad ct n τ (st1 σ 0 9 v) T) (pc + 3) L S) : Sm p l e R s m args below meth c Q A D nL cells slots (iw ad ct n τ σ T) pc L (.int v :: .ref (ad 0) :: S) := s_put E in_X1 tyX1 tyX1_ok nmX1 0 rfl rfl 9 (Nat.le_of_ble_eq_true rfl) q400 rfl rfl rfl rfl (Nat.le_of_ble_eq_true rfl) rfl d K
theorem K_X1_39 : KIN RX1 39 yX3_init "QuietChannels" cX3_init 1 0 := ⟨q228, q229, q115, q230, rfl, by decide +kernel⟩
set_option maxHeartbeats 1000000 in
set_option maxRecDepth 100000 in
theorem x1z_canUndo {l : Launch} {D : va_G} {gt : Nat → Nat} {ad : Nat → Nat} {ct : Nat → ClassId} {n : Nat} {τ σ : Nat → Nat → Int32} {U : va_W} {pl : List KP} (K : Nat) (hn6 : n ≤ 6) (hbb : BB (σ 1)) (hK : σ 0 9 = nI K) (hK2 : K ≤ pl.length) (hpl : pl.length ≤ 20) : Cv l D gt yX1_canUndo cX1_canUndo 2 2 61 5 83 [.ref (ad 0)] (iw ad ct n τ σ (U ++ kpW (ad 47) ct n pl)) (tysA ct) (fun pl2 => KU K pl (σ 1) pl2) (fun pl2 : List KP => iw ad ct n τ (st1 σ 0 9 (nI (upK K))) (U ++ kpW (ad 47) ct n pl2)) (fun _ => tysA ct) := by
  refine Cv.start RX1 (by decide) rfl (Nat.le_of_ble_eq_true rfl) rfl ?_
  intro pP eE sS mM aA bB hM cC QQ AA E Rt
  refine s_aload_n E dX1_canUndo_0 (i := 0) (j := 0) rfl rfl ?_
  refine iwX1_g0_9 E (v := nI K) (hK) dX1_canUndo_1 ?_
  refine s_bipush E dX1_canUndo_4 (v := nI 20) (by decide) ?_
  refine s_icmp_ne E dX1_canUndo_6 (tgt := 49) rfl (fun c6 => ?_) (fun c6 => ?_)
  · have c6 : ¬ K = 20 := fun h => c6 ((nI_eq (a := K) (b := 20) (by omega) (by omega)).mpr h)
    refine s_aload_n E dX1_canUndo_49 (i := 0) (j := 0) rfl rfl ?_
    refine iwX1_g0_8 E dX1_canUndo_50 ?_
    refine s_aload_n E dX1_canUndo_53 (i := 0) (j := 0) rfl rfl ?_
    refine iwX1_g0_9 E (v := nI K) (hK) dX1_canUndo_54 ?_
    rcases Nat.lt_or_ge K pl.length with hlt | hge
    · obtain ⟨l1, p1, l2, hpe, hB⟩ := mid_of hlt
      subst hpe
      refine kp_ald E (v := .ref ((p1.1 0))) (K) rfl (by omega) (by rw [ktF_at (mid_at hB)]; rfl) dX1_canUndo_57 ?_
      refine s_nonnull E dX1_canUndo_58 (tgt := 77) rfl ?_
      refine s_aload_n E dX1_canUndo_77 (i := 0) (j := 0) rfl rfl ?_
      refine iwX1_g0_8 E dX1_canUndo_78 ?_
      refine s_aload_n E dX1_canUndo_81 (i := 0) (j := 0) rfl rfl ?_
      refine iwX1_g0_9 E (v := nI K) (hK) dX1_canUndo_82 ?_
      refine kp_ald E (v := .ref ((p1.1 0))) (K) rfl (by omega) (by rw [ktF_at (mid_at hB)]; rfl) dX1_canUndo_85 ?_
      refine s_aload_n E dX1_canUndo_86 (i := 0) (j := 0) rfl rfl ?_
      refine iwX1_g0_5 E dX1_canUndo_87 ?_
      refine kl_gor E (l1 := l1) (l2 := l2) (p9 := p1) hn6 hbb K_X1_115 (Nat.le_of_ble_eq_true rfl) (Nat.le_of_ble_eq_true rfl) (Nat.zero_le _) (Nat.zero_le _) (Nat.le_of_ble_eq_true rfl) dX1_canUndo_90 ?_
      refine s_ws (ws2 := iw ad ct n τ σ (U ++ kpW (ad 47) ct n (l1 ++ (p1.1, σ 1, σ 5) :: l2))) (kp_fin rfl) ?_
      refine s_pop E dX1_canUndo_93 rfl ?_
      refine s_aload_n E dX1_canUndo_94 (i := 0) (j := 0) rfl rfl ?_
      refine s_dup E dX1_canUndo_95 rfl ?_
      refine iwX1_g0_9 E (v := nI K) (hK) dX1_canUndo_96 ?_
      refine s_iconst E dX1_canUndo_99 (v := nI 1) (by decide) ?_
      refine s_iadd_ E dX1_canUndo_100 (v := nI (K + 1)) (nI_add _ _) ?_
      refine iwX1_p0_9 E dX1_canUndo_101 ?_
      refine s_ws (ws2 := iw ad ct n τ (st1 σ 0 9 (nI (upK K))) (U ++ kpW (ad 47) ct n (l1 ++ (p1.1, σ 1, σ 5) :: l2))) (congrArg (fun z => iw ad ct n τ z (U ++ kpW (ad 47) ct n (l1 ++ (p1.1, σ 1, σ 5) :: l2))) (by unfold upK; rw [if_neg c6])) ?_
      exact Rt (l1 ++ (p1.1, σ 1, σ 5) :: l2) dX1_canUndo_104 (by rw [← hB]; exact KU.mid (by omega) hpl rfl) rfl (by first | exact Nat.le_refl _ | omega) (by first | exact Nat.le_refl _ | omega) E.2.2.2.2.2.1
    · refine kp_ald E (v := .null) (K) rfl (by omega) (by rw [ktF_o hge]; rfl) dX1_canUndo_57 ?_
      refine s_nonnullN E dX1_canUndo_58 ?_
      refine s_aload_n E dX1_canUndo_61 (i := 0) (j := 0) rfl rfl ?_
      refine iwX1_g0_8 E dX1_canUndo_62 ?_
      refine s_aload_n E dX1_canUndo_65 (i := 0) (j := 0) rfl rfl ?_
      refine iwX1_g0_9 E (v := nI K) (hK) dX1_canUndo_66 ?_
      refine s_new E in_X3 tyX3 tyX3_ok q226 q227 q115 (ci := 2) (fs := [.null, .null, .null, .null]) rfl df_X3 (by show _ ≤ 5; omega) (by show _ ≤ 83; omega) dX1_canUndo_69 (fun q9 => ?_)
      refine s_dup E dX1_canUndo_72 rfl ?_
      refine pn_gov E (n := n) K_X1_39 (Nat.le_of_ble_eq_true rfl) (Nat.le_of_ble_eq_true rfl) (by show _ ≤ 5; omega) (by show _ ≤ 83; omega) (Nat.le_of_ble_eq_true rfl) dX1_canUndo_73 (fun pa hpa => ?_)
      refine s_ws (ws2 := iw ad ct n τ σ (U ++ kpG (ad 47) ct n (ktF pl) (pl ++ [(plZ pa)]))) kp_snoc ?_
      subst hpa
      have hKe : K = pl.length := by omega
      refine kp_ast E (k := pl.length) (p9 := (plZ pa)) (mid_at rfl) K rfl (by omega) dX1_canUndo_76 ?_
      refine s_ws (ws2 := iw ad ct n τ σ (U ++ kpW (ad 47) ct n (pl ++ [(plZ pa)]))) (by unfold kpW; rw [← ktF_snoc, hKe]) ?_
      refine s_aload_n E dX1_canUndo_77 (i := 0) (j := 0) rfl rfl ?_
      refine iwX1_g0_8 E dX1_canUndo_78 ?_
      refine s_aload_n E dX1_canUndo_81 (i := 0) (j := 0) rfl rfl ?_
      refine iwX1_g0_9 E (v := nI K) (hK) dX1_canUndo_82 ?_
      refine kp_ald E (v := .ref (((plZ pa).1 0))) (K) rfl (by omega) (by rw [ktF_at (mid_at hKe.symm)]; rfl) dX1_canUndo_85 ?_
      refine s_aload_n E dX1_canUndo_86 (i := 0) (j := 0) rfl rfl ?_
      refine iwX1_g0_5 E dX1_canUndo_87 ?_
      refine kl_gor E (l1 := pl) (l2 := []) (p9 := (plZ pa)) hn6 hbb K_X1_115 (Nat.le_of_ble_eq_true rfl) (Nat.le_of_ble_eq_true rfl) (by show _ ≤ 5; omega) (by show _ ≤ 83; omega) (Nat.le_of_ble_eq_true rfl) dX1_canUndo_90 ?_
      refine s_ws (ws2 := iw ad ct n τ σ (U ++ kpW (ad 47) ct n (pl ++ ((plZ pa).1, σ 1, σ 5) :: []))) (kp_fin rfl) ?_
      refine s_pop E dX1_canUndo_93 rfl ?_
      refine s_aload_n E dX1_canUndo_94 (i := 0) (j := 0) rfl rfl ?_
      refine s_dup E dX1_canUndo_95 rfl ?_
      refine iwX1_g0_9 E (v := nI K) (hK) dX1_canUndo_96 ?_
      refine s_iconst E dX1_canUndo_99 (v := nI 1) (by decide) ?_
      refine s_iadd_ E dX1_canUndo_100 (v := nI (K + 1)) (nI_add _ _) ?_
      refine iwX1_p0_9 E dX1_canUndo_101 ?_
      refine s_ws (ws2 := iw ad ct n τ (st1 σ 0 9 (nI (upK K))) (U ++ kpW (ad 47) ct n (pl ++ ((plZ pa).1, σ 1, σ 5) :: []))) (congrArg (fun z => iw ad ct n τ z (U ++ kpW (ad 47) ct n (pl ++ ((plZ pa).1, σ 1, σ 5) :: []))) (by unfold upK; rw [if_neg c6])) ?_
      exact Rt (pl ++ ((plZ pa).1, σ 1, σ 5) :: []) dX1_canUndo_104 (by rw [hKe]; exact KU.new (by omega) rfl) rfl (by first | exact Nat.le_refl _ | omega) (by first | exact Nat.le_refl _ | omega) E.2.2.2.2.2.1
  · have c6 : K = 20 := (nI_eq (a := K) (b := 20) (by omega) (by omega)).mp c6
    obtain ⟨p0, rest, hpe, h19⟩ := rot_of (pl := pl) (by omega)
    subst hpe
    have h19 : rest.length = 19 := h19
    refine s_aload_n E dX1_canUndo_9 (i := 0) (j := 0) rfl rfl ?_
    refine iwX1_g0_8 E dX1_canUndo_10 ?_
    refine s_iconst E dX1_canUndo_13 (v := nI 0) (by decide) ?_
    refine kp_ald E (v := .ref ((p0.1 0))) (0) rfl (by omega) (rfl) dX1_canUndo_14 ?_
    refine s_astore_n E (L2 := [(1, .ref ((p0.1 0))), (0, .ref (ad 0))]) dX1_canUndo_15 rfl (Nat.le_of_ble_eq_true rfl) rfl ?_
    refine s_aload_n E dX1_canUndo_16 (i := 0) (j := 1) rfl rfl ?_
    refine iwX1_g0_8 E dX1_canUndo_17 ?_
    refine s_iconst E dX1_canUndo_20 (v := nI 1) (by decide) ?_
    refine s_aload_n E dX1_canUndo_21 (i := 0) (j := 1) rfl rfl ?_
    refine iwX1_g0_8 E dX1_canUndo_22 ?_
    refine s_iconst E dX1_canUndo_25 (v := nI 0) (by decide) ?_
    refine s_bipush E dX1_canUndo_26 (v := nI 19) (by decide) ?_
    refine kp_cpy E (Nat.le_of_ble_eq_true rfl) (Nat.le_of_ble_eq_true rfl) q813 dX1_canUndo_28 ?_
    refine s_aload_n E dX1_canUndo_31 (i := 0) (j := 1) rfl rfl ?_
    refine iwX1_g0_8 E dX1_canUndo_32 ?_
    refine s_bipush E dX1_canUndo_35 (v := nI 19) (by decide) ?_
    refine s_aload_n E dX1_canUndo_37 (i := 1) (j := 0) rfl rfl ?_
    refine kp_ast E (k := 0) (p9 := p0) rfl 19 rfl (by decide) dX1_canUndo_38 ?_
    refine s_ws (ws2 := iw ad ct n τ σ (U ++ kpG (ad 47) ct n (ktF (rest ++ [p0])) (p0 :: rest))) (by rw [ktF_rot h19]) ?_
    refine s_perm kp_rot ?_
    refine s_aload_n E dX1_canUndo_39 (i := 0) (j := 1) rfl rfl ?_
    refine s_dup E dX1_canUndo_40 rfl ?_
    refine iwX1_g0_9 E (v := nI K) (hK) dX1_canUndo_41 ?_
    refine s_iconst E dX1_canUndo_44 (v := nI 1) (by decide) ?_
    refine s_isub_ E dX1_canUndo_45 (v := nI 19) (by rw [c6]; decide) ?_
    refine iwX1_p0_9 E dX1_canUndo_46 ?_
    refine s_aload_n E dX1_canUndo_49 (i := 0) (j := 1) rfl rfl ?_
    refine iwX1_g0_8 E dX1_canUndo_50 ?_
    refine s_aload_n E dX1_canUndo_53 (i := 0) (j := 1) rfl rfl ?_
    refine iwX1_g0_9 E (v := nI 19) (rfl) dX1_canUndo_54 ?_
    refine kp_ald E (v := .ref ((p0.1 0))) (19) rfl (by omega) (by rw [ktF_at (mid_at h19)]; rfl) dX1_canUndo_57 ?_
    refine s_nonnull E dX1_canUndo_58 (tgt := 77) rfl ?_
    refine s_aload_n E dX1_canUndo_77 (i := 0) (j := 1) rfl rfl ?_
    refine iwX1_g0_8 E dX1_canUndo_78 ?_
    refine s_aload_n E dX1_canUndo_81 (i := 0) (j := 1) rfl rfl ?_
    refine iwX1_g0_9 E (v := nI 19) (rfl) dX1_canUndo_82 ?_
    refine kp_ald E (v := .ref ((p0.1 0))) (19) rfl (by omega) (by rw [ktF_at (mid_at h19)]; rfl) dX1_canUndo_85 ?_
    refine s_aload_n E dX1_canUndo_86 (i := 0) (j := 1) rfl rfl ?_
    refine iwX1_g0_5 E dX1_canUndo_87 ?_
    refine kl_gor E (l1 := rest) (l2 := []) (p9 := p0) hn6 hbb K_X1_115 (Nat.le_of_ble_eq_true rfl) (Nat.le_of_ble_eq_true rfl) (Nat.zero_le _) (Nat.zero_le _) (Nat.le_of_ble_eq_true rfl) dX1_canUndo_90 ?_
    refine s_ws (ws2 := iw ad ct n τ (st1 σ 0 9 (nI 19)) (U ++ kpW (ad 47) ct n (rest ++ (p0.1, σ 1, σ 5) :: []))) (kp_fin rfl) ?_
    refine s_pop E dX1_canUndo_93 rfl ?_
    refine s_aload_n E dX1_canUndo_94 (i := 0) (j := 1) rfl rfl ?_
    refine s_dup E dX1_canUndo_95 rfl ?_
    refine iwX1_g0_9 E (v := nI 19) (rfl) dX1_canUndo_96 ?_
    refine s_iconst E dX1_canUndo_99 (v := nI 1) (by decide) ?_
    refine s_iadd_ E dX1_canUndo_100 (v := nI 20) (rfl) ?_
    refine iwX1_p0_9 E dX1_canUndo_101 ?_
    refine s_ws (ws2 := iw ad ct n τ (st1 σ 0 9 (nI (upK K))) (U ++ kpW (ad 47) ct n (rest ++ (p0.1, σ 1, σ 5) :: []))) (congrArg (fun z => iw ad ct n τ z (U ++ kpW (ad 47) ct n (rest ++ (p0.1, σ 1, σ 5) :: []))) (by rw [st1_2]; unfold upK; rw [if_pos c6])) ?_
    exact Rt (rest ++ (p0.1, σ 1, σ 5) :: []) dX1_canUndo_104 (by rw [c6]; exact KU.rot h19 rfl) rfl (by first | exact Nat.le_refl _ | omega) (by first | exact Nat.le_refl _ | omega) E.2.2.2.2.2.1
