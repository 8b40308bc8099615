set_option maxRecDepth 100000
theorem swX9_g2_4 {p : Program} {l : Launch} {e : Env} {R : Room} {s : State} {m : MethodId} {args : Array Value} {below : List Frame} {meth : Method} {c : Code} {Q : State → Prop} {A : Nat → Prop} {D : va_G} {nL cells slots : Nat} {pc : Nat} {L : List (Nat × Value)} {S : List Value} {cc : ByteArray} {ret : Option FieldType} {gt : Nat → Nat} {ad : Nat → Nat} {ct : Nat → ClassId} {n sa fa : Nat} {τ σ : Nat → Nat → Int32} {T : va_W} (E : En p s m args meth c A cc nL RX9 ret D (tysA ct) gt) {v : Int32} (hv : τ 3 7 = v) (d : decode cc pc = .ok (.getfield 37, 3)) (K : Sm p l e R s m args below meth c Q A D nL cells slots (iw ad ct n τ σ (T ++ sce ad sa fa ct σ)) (pc + 3) L (.int v :: S)) : Sm p l e R s m args below meth c Q A D nL cells slots (iw ad ct n τ σ (T ++ sce ad sa fa ct σ)) pc L (.ref (ad 2) :: S) := s_getN E in_X2 2 rfl rfl 4 (Nat.le_of_ble_eq_true rfl) q170 (congrArg (fun z => some (Value.int z)) hv) rfl d K
theorem sw_sF {p : Program} {l : Launch} {e : Env} {R : Room} {s : State} {m : MethodId} {args : Array Value} {below : List Frame} {meth : Method} {c : Code} {Q : State → Prop} {A : Nat → Prop} {D : va_G} {nL cells slots : Nat} {pc : Nat} {L : List (Nat × Value)} {S : List Value} {cc : ByteArray} {ret : Option FieldType} {gt : Nat → Nat} {ad : Nat → Nat} {ct : Nat → ClassId} {n sa fa : Nat} {τ σ : Nat → Nat → Int32} {T : va_W} {own : String} (E : En p s m args meth c A cc nL own ret D (tysA ct) gt) {i v : Int32} (N : Nat) (hi : i = nI N) (hN : N < 6) (d : decode cc pc = .ok (.iastore, 1)) (K : Sm p l e R s m args below meth c Q A D nL cells slots (iw ad ct n τ (st1 σ 41 N v) (T ++ sce ad sa fa ct (st1 σ 41 N v))) (pc + 1) L S) : Sm p l e R s m args below meth c Q A D nL cells slots (iw ad ct n τ σ (T ++ sce ad sa fa ct σ)) pc L (.int v :: .int i :: .ref (fa) :: S) := s_iast E (47 + T.length + 1) 0 ((iw_len (k := 1)).trans rfl) rfl N hi hN (Nat.le_of_ble_eq_true rfl) ((sw_set (k := 1)).trans rfl) d K
theorem swX9_pS_3 {p : Program} {l : Launch} {e : Env} {R : Room} {s : State} {m : MethodId} {args : Array Value} {below : List Frame} {meth : Method} {c : Code} {Q : State → Prop} {A : Nat → Prop} {D : va_G} {nL cells slots : Nat} {pc : Nat} {L : List (Nat × Value)} {S : List Value} {cc : ByteArray} {ret : Option FieldType} {gt : Nat → Nat} {ad : Nat → Nat} {ct : Nat → ClassId} {n sa fa : Nat} {τ σ : Nat → Nat → Int32} {T : va_W} (E : En p s m args meth c A cc nL RX9 ret D (tysA ct) gt) {v : Int32} (d : decode cc pc = .ok (.putfield 40, 3)) (K : Sm p l e R s m args below meth c Q A D nL cells slots (iw ad ct n τ (st1 σ 40 0 v) (T ++ sce ad sa fa ct (st1 σ 40 0 v))) (pc + 3) L S) : Sm p l e R s m args below meth c Q A D nL cells slots (iw ad ct n τ σ (T ++ sce ad sa fa ct σ)) pc L (.int v :: .ref (sa) :: S) := s_put E in_X9 tyX9 tyX9_ok nmX9 (47 + T.length + 0) ((iw_len (k := 0)).trans rfl) rfl 3 (Nat.le_of_ble_eq_true rfl) q850 rfl rfl rfl rfl (Nat.le_of_ble_eq_true rfl) ((sw_set (k := 0)).trans rfl) d K
set_option maxHeartbeats 2000000 in
theorem x9z_init_2 {l : Launch} {D : va_G} {gt : Nat → Nat} {ad : Nat → Nat} {ct : Nat → ClassId} {n sa : Nat} {τ σ : Nat → Nat → Int32} {T : va_W} {bd : Int32} {S : Nat} (hX : XT τ n) (hS : Sub S n) : Cv l D gt yX9_init_2 cX9_init_2 6 1 20 1 6 [.ref (sa), .ref (ad 0), .ref (ad 17), .int (nI S), .int (bd)] (iw ad ct n τ σ (T ++ [(sa, .inr (8, [.null, .int 0, .null, .int 0, .int 0, .null]))])) (tysA ct) (fun _ : Nat => True) (fun fa => iw ad ct n τ (siS σ S n bd) (T ++ sce ad sa fa ct (siS σ S n bd))) (fun _ => tysA ct) := by
  refine Cv.startI RX9 (by decide) rfl rfl (Nat.le_of_ble_eq_true rfl) rfl ?_
  intro pP eE sS mM aA bB hM cC QQ AA E hN Rt
  have hn6 := hX.2.1
  have hs64 := hS.s64
  refine s_aload_n E dX9_init_2_0 (i := 0) (j := 0) rfl rfl ?_
  refine s_aload_n E dX9_init_2_1 (i := 1) (j := 1) rfl rfl ?_
  refine s_putF E hN in_X9 tyX9 tyX9_ok nmX9 (47 + T.length + 0) ((iw_len (k := 0)).trans rfl) rfl 5 (Nat.le_of_ble_eq_true rfl) q853 rfl rfl rfl rfl rfl (Nat.le_of_ble_eq_true rfl) (ws2 := iw ad ct n τ σ (T ++ [(sa, .inr (8, [.null, .int 0, .null, .int 0, .int 0, .ref (ad 0)]))])) ((sw_set (k := 0)).trans rfl) dX9_init_2_2 ?_
  refine s_aload_n E dX9_init_2_5 (i := 0) (j := 0) rfl rfl ?_
  refine s_oinit E q846 (Nat.le_of_ble_eq_true rfl) (Nat.le_of_ble_eq_true rfl) (Nat.le_of_ble_eq_true rfl) dX9_init_2_6 ?_
  refine s_aload_n E dX9_init_2_9 (i := 0) (j := 0) rfl rfl ?_
  refine s_bipush E dX9_init_2_10 (v := nI 6) (by decide) ?_
  refine s_newaT E (atype := .int) q225 rfl 0 rfl (N := 6) (a0 := (6, .inl (fun _ => 0))) (fun _ => rfl) (by decide) (nI_clamp (by decide)) (by decide) (Nat.le_of_ble_eq_true rfl) (Nat.le_of_ble_eq_true rfl) dX9_init_2_12 (fun fa => ?_)
  refine s_ws (ws2 := iw ad ct n τ σ (T ++ [(sa, .inr (8, [.null, .int 0, .null, .int 0, .int 0, .ref (ad 0)])), (fa, .inl (ct 0, 6, .inl (fun _ => 0)))])) iw_snoc2 ?_
  refine s_putF E hN in_X9 tyX9 tyX9_ok nmX9 (47 + T.length + 0) ((iw_len (k := 0)).trans rfl) rfl 2 (Nat.le_of_ble_eq_true rfl) q849 rfl rfl rfl rfl rfl (Nat.le_of_ble_eq_true rfl) (ws2 := iw ad ct n τ σ (T ++ [(sa, .inr (8, [.null, .int 0, .ref fa, .int 0, .int 0, .ref (ad 0)])), (fa, .inl (ct 0, 6, .inl (fun _ => 0)))])) ((sw_set (k := 0)).trans rfl) dX9_init_2_14 ?_
  refine s_aload_n E dX9_init_2_17 (i := 0) (j := 0) rfl rfl ?_
  refine s_aload_n E dX9_init_2_18 (i := 2) (j := 2) rfl rfl ?_
  refine s_putF E hN in_X9 tyX9 tyX9_ok nmX9 (47 + T.length + 0) ((iw_len (k := 0)).trans rfl) rfl 0 (Nat.le_of_ble_eq_true rfl) q847 rfl rfl rfl rfl rfl (Nat.le_of_ble_eq_true rfl) (ws2 := iw ad ct n τ σ (T ++ [(sa, .inr (8, [.ref (ad 17), .int 0, .ref fa, .int 0, .int 0, .ref (ad 0)])), (fa, .inl (ct 0, 6, .inl (fun _ => 0)))])) ((sw_set (k := 0)).trans rfl) dX9_init_2_19 ?_
  refine s_aload_n E dX9_init_2_22 (i := 0) (j := 0) rfl rfl ?_
  refine s_iload E dX9_init_2_23 (i := 4) (j := 4) rfl ?_
  refine s_putF E hN in_X9 tyX9 tyX9_ok nmX9 (47 + T.length + 0) ((iw_len (k := 0)).trans rfl) rfl 1 (Nat.le_of_ble_eq_true rfl) q848 rfl rfl rfl rfl rfl (Nat.le_of_ble_eq_true rfl) (ws2 := iw ad ct n τ σ (T ++ [(sa, .inr (8, [.ref (ad 17), .int bd, .ref fa, .int 0, .int 0, .ref (ad 0)])), (fa, .inl (ct 0, 6, .inl (fun _ => 0)))])) ((sw_set (k := 0)).trans rfl) dX9_init_2_25 ?_
  refine s_ws (ws2 := iw ad ct n τ (siK σ S 0 bd) (T ++ sce ad sa fa ct (siK σ S 0 bd))) (by rw [siK_0]; rfl) ?_
  refine s_iconst E dX9_init_2_28 (v := nI 0) (by decide) ?_
  refine s_istore E (L2 := [(5, .int (nI 0)), (0, .ref (sa)), (1, .ref (ad 0)), (2, .ref (ad 17)), (3, .int (nI S)), (4, .int (bd))]) dX9_init_2_29 (Nat.le_of_ble_eq_true rfl) rfl ?_
  have L31 : ∀ (fuel : Nat) (k : Nat), (k ≤ n) → (n - k) < fuel → Sm pP l eE { frames := 1, cells := 1, slots := 6, locals := 20 } sS mM aA bB hM cC QQ AA D 6 1 6 (iw ad ct n τ (siK σ S k bd) (T ++ sce ad sa fa ct (siK σ S k bd))) 31 [(0, .ref (sa)), (1, .ref (ad 0)), (2, .ref (ad 17)), (3, .int (nI S)), (4, .int (bd)), (5, .int (nI k))] [] := by
    intro fuel
    induction fuel with
    | zero =>
      intro k hk hf31
      exact absurd hf31 (Nat.not_lt_zero _)
    | succ fuel ih31 =>
      intro k hk hf31
      have hbt := bit_01 S k
      have hle := el_nle S hs64 k (by omega)
      refine s_iload E dX9_init_2_31 (i := 5) (j := 5) rfl ?_
      refine s_aload_n E dX9_init_2_33 (i := 1) (j := 1) rfl rfl ?_
      refine swX9_g0_4 E dX9_init_2_34 ?_
      refine swX9_g2_4 E (v := nI n) (hX.1) dX9_init_2_37 ?_
      refine s_icmp_ge E dX9_init_2_40 (tgt := 90) rfl (fun c40 => ?_) (fun c40 => ?_)
      · have c40 : ¬ k < n := fun h => absurd c40 (Int32.not_le.mpr ((nI_ltI (a := k) (b := n) (by omega) (by omega)).mpr h))
        refine s_ws (ws2 := iw ad ct n τ (siK σ S n bd) (T ++ sce ad sa fa ct (siK σ S n bd))) (by rw [show k = n by omega]) ?_
        exact Rt (fa) dX9_init_2_90 (trivial) rfl (by first | exact Nat.le_refl _ | omega) (by first | exact Nat.le_refl _ | omega) E.2.2.2.2.2.1
      · have c40 : k < n := (nI_ltI (a := k) (b := n) (by omega) (by omega)).mp (Int32.not_le.mp c40)
        refine s_iload_n E dX9_init_2_43 (i := 3) (j := 3) rfl rfl ?_
        refine s_iload E dX9_init_2_44 (i := 5) (j := 5) rfl ?_
        refine s_ishr E dX9_init_2_46 ?_
        refine s_iconst E dX9_init_2_47 (v := nI 1) (by decide) ?_
        refine s_iand_ E dX9_init_2_48 (v := nI (bit S k)) (bit_at _ (by omega) _ (by omega)) ?_
        refine s_if_ne E dX9_init_2_49 (tgt := 55) rfl (fun c49 => ?_) (fun c49 => ?_)
        · have c49 : ¬ bit S k = 0 := fun h => c49 ((nI_eq (a := bit S k) (b := 0) (by omega) (by omega)).mpr h)
          have hc49 := c49
          have c49 : bit S k = 1 := by omega
          refine s_aload_n E dX9_init_2_55 (i := 0) (j := 0) rfl rfl ?_
          refine swX9_gS_2 E dX9_init_2_56 ?_
          refine s_aload_n E dX9_init_2_59 (i := 0) (j := 0) rfl rfl ?_
          refine swX9_gS_3 E (v := nI (elN S k)) (rfl) dX9_init_2_60 ?_
          refine s_iload E dX9_init_2_63 (i := 5) (j := 5) rfl ?_
          refine sw_sF E (elN S k) (rfl) (by omega) dX9_init_2_65 ?_
          refine s_aload_n E dX9_init_2_66 (i := 2) (j := 2) rfl rfl ?_
          refine swX9_g17_0 E dX9_init_2_67 ?_
          refine s_iload E dX9_init_2_70 (i := 5) (j := 5) rfl ?_
          refine s_iconst E dX9_init_2_72 (v := nI 0) (by decide) ?_
          refine sw_s18 E (k) (rfl) (by omega) hn6 dX9_init_2_73 ?_
          refine s_aload_n E dX9_init_2_74 (i := 0) (j := 0) rfl rfl ?_
          refine s_dup E dX9_init_2_75 rfl ?_
          refine swX9_gS_3 E (v := nI (elN S k)) (rfl) dX9_init_2_76 ?_
          refine s_iconst E dX9_init_2_79 (v := nI 1) (by decide) ?_
          refine s_iadd_ E dX9_init_2_80 (v := nI ((elN S k) + 1)) (nI_add _ _) ?_
          refine swX9_pS_3 E dX9_init_2_81 ?_
          refine s_iinc E (L2 := [(5, .int (nI (k + 1))), (0, .ref (sa)), (1, .ref (ad 0)), (2, .ref (ad 17)), (3, .int (nI S)), (4, .int (bd))]) dX9_init_2_84 (k := 5) rfl (v := nI (k + 1)) (nI_inc _) (Nat.le_of_ble_eq_true rfl) rfl ?_
          refine s_goto E dX9_init_2_87 (tgt := 31) rfl ?_
          refine s_ws (ws2 := iw ad ct n τ (siK σ S (k + 1) bd) (T ++ sce ad sa fa ct (siK σ S (k + 1) bd))) (by rw [siK_1 hs64 (by omega) c49]) ?_
          refine s_loc (L2 := [(0, .ref (sa)), (1, .ref (ad 0)), (2, .ref (ad 17)), (3, .int (nI S)), (4, .int (bd)), (5, .int (nI (k + 1)))]) [1, 2, 3, 4, 5, 0] rfl ?_
          refine s_widen (k := 1) (n := 6) (by omega) (by omega) ?_
          exact ih31 (k + 1) (by omega) (by omega)
        · have c49 : bit S k = 0 := (nI_eq (a := bit S k) (b := 0) (by omega) (by omega)).mp c49
          have hn49 : ¬ bit S k = 1 := by omega
          refine s_goto E dX9_init_2_52 (tgt := 84) rfl ?_
          refine s_iinc E (L2 := [(5, .int (nI (k + 1))), (0, .ref (sa)), (1, .ref (ad 0)), (2, .ref (ad 17)), (3, .int (nI S)), (4, .int (bd))]) dX9_init_2_84 (k := 5) rfl (v := nI (k + 1)) (nI_inc _) (Nat.le_of_ble_eq_true rfl) rfl ?_
          refine s_goto E dX9_init_2_87 (tgt := 31) rfl ?_
          refine s_ws (ws2 := iw ad ct n τ (siK σ S (k + 1) bd) (T ++ sce ad sa fa ct (siK σ S (k + 1) bd))) (by rw [siK_n hs64 (by omega) hn49]) ?_
          refine s_loc (L2 := [(0, .ref (sa)), (1, .ref (ad 0)), (2, .ref (ad 17)), (3, .int (nI S)), (4, .int (bd)), (5, .int (nI (k + 1)))]) [1, 2, 3, 4, 5, 0] rfl ?_
          refine s_widen (k := 1) (n := 6) (by omega) (by omega) ?_
          exact ih31 (k + 1) (by omega) (by omega)
  refine s_loc (L2 := [(0, .ref (sa)), (1, .ref (ad 0)), (2, .ref (ad 17)), (3, .int (nI S)), (4, .int (bd)), (5, .int (nI 0))]) [1, 2, 3, 4, 5, 0] rfl ?_
  refine s_widen (k := 1) (n := 6) (by omega) (by omega) ?_
  exact L31 (_ + 1) 0 (Nat.zero_le _) (Nat.lt_succ_self _)
theorem iwX9_g0_4 {p : Program} {l : Launch} {e : Env} {R : Room} {s : State} {m : MethodId} {args : Array Value} {below : List Frame} {meth : Method} {c : Code} {Q : State → Prop} {A : Nat → Prop} {D : va_G} {nL cells slots : Nat} {pc : Nat} {L : List (Nat × Value)} {S : List Value} {cc : ByteArray} {ret : Option FieldType} {gt : Nat → Nat} {ad : Nat → Nat} {ct : Nat → ClassId} {n : Nat} {τ σ : Nat → Nat → Int32} {T : va_W} (E : En p s m args meth c A cc nL RX9 ret D (tysA ct) gt) (d : decode cc pc = .ok (.getfield 3, 3)) (K : Sm p l e R s m args below meth c Q A D nL cells slots (iw ad ct n τ σ T) (pc + 3) L (.ref (ad 2) :: S)) : Sm p l e R s m args below meth c Q A D nL cells slots (iw ad ct n τ σ T) pc L (.ref (ad 0) :: S) := s_getN E in_X1 0 rfl rfl 4 (Nat.le_of_ble_eq_true rfl) q393 rfl rfl d K
theorem iwX9_g2_6 {p : Program} {l : Launch} {e : Env} {R : Room} {s : State} {m : MethodId} {args : Array Value} {below : List Frame} {meth : Method} {c : Code} {Q : State → Prop} {A : Nat → Prop} {D : va_G} {nL cells slots : Nat} {pc : Nat} {L : List (Nat × Value)} {S : List Value} {cc : ByteArray} {ret : Option FieldType} {gt : Nat → Nat} {ad : Nat → Nat} {ct : Nat → ClassId} {n : Nat} {τ σ : Nat → Nat → Int32} {T : va_W} (E : En p s m args meth c A cc nL RX9 ret D (tysA ct) gt) {v : Int32} (hv : τ 3 0 = v) (d : decode cc pc = .ok (.getfield 7, 3)) (K : Sm p l e R s m args below meth c Q A D nL cells slots (iw ad ct n τ σ T) (pc + 3) L (.int v :: S)) : Sm p l e R s m args below meth c Q A D nL cells slots (iw ad ct n τ σ T) pc L (.ref (ad 2) :: S) := s_getN E in_X2 2 rfl rfl 6 (Nat.le_of_ble_eq_true rfl) q176 (congrArg (fun z => some (Value.int z)) hv) rfl d K
theorem K_X9_13 : KI RX9 13 yX9_init_2 cX9_init_2 6 4 := ⟨q843, q844, q130, q845, rfl, by decide +kernel⟩
set_option maxHeartbeats 2000000 in
theorem x9z_init {l : Launch} {D : va_G} {gt : Nat → Nat} {ad : Nat → Nat} {ct : Nat → ClassId} {n sa : Nat} {τ σ : Nat → Nat → Int32} {T : va_W} {S : Nat} (hX : XT τ n) (hS : Sub S n) : Cv l D gt yX9_init cX9_init 4 2 45 1 6 [.ref (sa), .ref (ad 0), .ref (ad 17), .int (nI S)] (iw ad ct n τ σ (T ++ [(sa, .inr (8, [.null, .int 0, .null, .int 0, .int 0, .null]))])) (tysA ct) (fun _ : Nat => True) (fun fa => iw ad ct n τ (siS σ S n (τ 3 0)) (T ++ sce ad sa fa ct (siS σ S n (τ 3 0)))) (fun _ => tysA ct) := by
  refine Cv.startI RX9 (by decide) rfl rfl (Nat.le_of_ble_eq_true rfl) rfl ?_
  intro pP eE sS mM aA bB hM cC QQ AA E hN Rt
  have hn6 := hX.2.1
  refine s_aload_n E dX9_init_0 (i := 0) (j := 0) rfl rfl ?_
  refine s_aload_n E dX9_init_1 (i := 1) (j := 1) rfl rfl ?_
  refine s_aload_n E dX9_init_2 (i := 2) (j := 2) rfl rfl ?_
  refine s_iload_n E dX9_init_3 (i := 3) (j := 3) rfl rfl ?_
  refine s_aload_n E dX9_init_4 (i := 1) (j := 1) rfl rfl ?_
  refine iwX9_g0_4 E dX9_init_5 ?_
  refine iwX9_g2_6 E (v := τ 3 0) (rfl) dX9_init_8 ?_
  refine c_gov E (rI E (cutS _ _) (x9z_init_2 (bd := (τ 3 0)) (S := S) hX (hS)) K_X9_13 (Nat.le_of_ble_eq_true rfl) (Nat.le_of_ble_eq_true rfl) (by show _ ≤ 1; omega) (by show _ ≤ 6; omega) rfl rfl (Nat.le_of_ble_eq_true rfl) dX9_init_11) (fun fa _ => ?_)
  exact Rt (fa) dX9_init_14 (trivial) rfl (by first | exact Nat.le_refl _ | omega) (by first | exact Nat.le_refl _ | omega) E.2.2.2.2.2.1
