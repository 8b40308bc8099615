set_option maxRecDepth 100000
theorem K_X1_218 : KV RX1 218 RX1 yX1_nowAir cX1_nowAir 1 (some (.object RX4)) 0 := ⟨q976, q978, qs32, q113, q979, by decide +kernel⟩
theorem iwX1_g27_17 {p : Program} {l : Launch} {e : Env} {R : Room} {s : State} {m : MethodId} {args : Array Value} {below : List Frame} {meth : Method} {c : Code} {Q : State → Prop} {A : Nat → Prop} {D : va_G} {nL cells slots : Nat} {pc : Nat} {L : List (Nat × Value)} {S : List Value} {cc : ByteArray} {ret : Option FieldType} {gt : Nat → Nat} {ad : Nat → Nat} {ct : Nat → ClassId} {n : Nat} {τ σ : Nat → Nat → Int32} {T : va_W} (E : En p s m args meth c A cc nL RX1 ret D (tysA ct) gt) {v : Int32} (hv : σ 10 17 = v) (d : decode cc pc = .ok (.getfield 230, 3)) (K : Sm p l e R s m args below meth c Q A D nL cells slots (iw ad ct n τ σ T) (pc + 3) L (.int v :: S)) : Sm p l e R s m args below meth c Q A D nL cells slots (iw ad ct n τ σ T) pc L (.ref (ad 27) :: S) := s_getN E in_X4 27 rfl rfl 17 (Nat.le_of_ble_eq_true rfl) q301 (congrArg (fun z => some (Value.int z)) hv) rfl d K
theorem iwX1_g27_16 {p : Program} {l : Launch} {e : Env} {R : Room} {s : State} {m : MethodId} {args : Array Value} {below : List Frame} {meth : Method} {c : Code} {Q : State → Prop} {A : Nat → Prop} {D : va_G} {nL cells slots : Nat} {pc : Nat} {L : List (Nat × Value)} {S : List Value} {cc : ByteArray} {ret : Option FieldType} {gt : Nat → Nat} {ad : Nat → Nat} {ct : Nat → ClassId} {n : Nat} {τ σ : Nat → Nat → Int32} {T : va_W} (E : En p s m args meth c A cc nL RX1 ret D (tysA ct) gt) {v : Int32} (hv : σ 10 16 = v) (d : decode cc pc = .ok (.getfield 227, 3)) (K : Sm p l e R s m args below meth c Q A D nL cells slots (iw ad ct n τ σ T) (pc + 3) L (.int v :: S)) : Sm p l e R s m args below meth c Q A D nL cells slots (iw ad ct n τ σ T) pc L (.ref (ad 27) :: S) := s_getN E in_X4 27 rfl rfl 16 (Nat.le_of_ble_eq_true rfl) q299 (congrArg (fun z => some (Value.int z)) hv) rfl d K
theorem iwX1_g27_15 {p : Program} {l : Launch} {e : Env} {R : Room} {s : State} {m : MethodId} {args : Array Value} {below : List Frame} {meth : Method} {c : Code} {Q : State → Prop} {A : Nat → Prop} {D : va_G} {nL cells slots : Nat} {pc : Nat} {L : List (Nat × Value)} {S : List Value} {cc : ByteArray} {ret : Option FieldType} {gt : Nat → Nat} {ad : Nat → Nat} {ct : Nat → ClassId} {n : Nat} {τ σ : Nat → Nat → Int32} {T : va_W} (E : En p s m args meth c A cc nL RX1 ret D (tysA ct) gt) {v : Int32} (hv : σ 10 15 = v) (d : decode cc pc = .ok (.getfield 224, 3)) (K : Sm p l e R s m args below meth c Q A D nL cells slots (iw ad ct n τ σ T) (pc + 3) L (.int v :: S)) : Sm p l e R s m args below meth c Q A D nL cells slots (iw ad ct n τ σ T) pc L (.ref (ad 27) :: S) := s_getN E in_X4 27 rfl rfl 15 (Nat.le_of_ble_eq_true rfl) q297 (congrArg (fun z => some (Value.int z)) hv) rfl d K
theorem iwX1_g27_14 {p : Program} {l : Launch} {e : Env} {R : Room} {s : State} {m : MethodId} {args : Array Value} {below : List Frame} {meth : Method} {c : Code} {Q : State → Prop} {A : Nat → Prop} {D : va_G} {nL cells slots : Nat} {pc : Nat} {L : List (Nat × Value)} {S : List Value} {cc : ByteArray} {ret : Option FieldType} {gt : Nat → Nat} {ad : Nat → Nat} {ct : Nat → ClassId} {n : Nat} {τ σ : Nat → Nat → Int32} {T : va_W} (E : En p s m args meth c A cc nL RX1 ret D (tysA ct) gt) {v : Int32} (hv : σ 10 14 = v) (d : decode cc pc = .ok (.getfield 221, 3)) (K : Sm p l e R s m args below meth c Q A D nL cells slots (iw ad ct n τ σ T) (pc + 3) L (.int v :: S)) : Sm p l e R s m args below meth c Q A D nL cells slots (iw ad ct n τ σ T) pc L (.ref (ad 27) :: S) := s_getN E in_X4 27 rfl rfl 14 (Nat.le_of_ble_eq_true rfl) q295 (congrArg (fun z => some (Value.int z)) hv) rfl d K
set_option maxHeartbeats 1000000 in
set_option maxRecDepth 100000 in
theorem x1z_products {l : Launch} {D : va_G} {gt : Nat → Nat} {ad : Nat → Nat} {ct : Nat → ClassId} {n : Nat} {τ σ : Nat → Nat → Int32} {T : va_W} (v : Int32) (hX : XT τ n) (hT : UT ad n τ T) (hP : PC (σ 1) n) : Ct l D gt yX1_products cX1_products 3 .int 7 170 0 0 [.ref (ad 0), .int (v)] (iw ad ct n τ σ T) (tysA ct) (fun r σ2 => prodsF (vw τ (σ 1)) n v = r ∧ XA σ σ2) (fun σ2 : Nat → Nat → Int32 => iw ad ct n τ σ2 T) (fun _ => tysA ct) := by
  refine Ct.start RX1 (by decide) rfl (Nat.le_of_ble_eq_true rfl) rfl ?_
  intro pP eE sS mM aA bB hM cC QQ AA E Rt
  have hn6 := hX.2.1
  have hl8 := prods_len8 (vw τ (σ 1)) (n := n) (by omega)
  refine s_iload_n E dX1_products_0 (i := 1) (j := 1) rfl rfl ?_
  refine s_iconst E dX1_products_1 (v := nI 0) (by decide) ?_
  refine s_iconst E dX1_products_2 (v := nI 3) (by decide) ?_
  refine c_gos E (rS E (cutZ _ _) (x1z_isIn v (nI 0) (nI 3)) K_X1_75 (Nat.le_of_ble_eq_true rfl) (Nat.le_of_ble_eq_true rfl) (Nat.zero_le _) (Nat.zero_le _) rfl rfl (Nat.le_of_ble_eq_true rfl) dX1_products_3) (fun r3 h3 => ?_)
  subst h3
  refine s_if_ne E dX1_products_6 (tgt := 11) rfl (fun c6 => ?_) (fun c6 => ?_)
  · have c6 := bI_n0 c6
    obtain ⟨j, hj, rfl⟩ := in_rng c6 (by decide)
    refine s_aload_n E dX1_products_11 (i := 0) (j := 0) rfl rfl ?_
    refine c_gor0 E (rV E (cutS _ _) (x1z_nowAir (hX) (hT) (hP)) K_X1_218 (Nat.le_of_ble_eq_true rfl) (Nat.le_of_ble_eq_true rfl) (Nat.zero_le _) (Nat.zero_le _) 0 rfl rfl rfl rfl (Nat.le_of_ble_eq_true rfl) dX1_products_12) (fun w12 h12 => ?_)
    refine s_astore_n E (L2 := [(2, .ref (ad 27)), (0, .ref (ad 0)), (1, .int (nI j))]) dX1_products_15 rfl (Nat.le_of_ble_eq_true rfl) rfl ?_
    refine s_iload_n E dX1_products_16 (i := 1) (j := 2) rfl rfl ?_
    refine s_if_ne E dX1_products_17 (tgt := 27) rfl (fun c17 => ?_) (fun c17 => ?_)
    · have c17 : ¬ j = 0 := fun h => c17 ((nI_eq (a := j) (b := 0) (by omega) (by omega)).mpr h)
      refine s_iload_n E dX1_products_27 (i := 1) (j := 2) rfl rfl ?_
      refine s_iconst E dX1_products_28 (v := nI 1) (by decide) ?_
      refine s_icmp_ne E dX1_products_29 (tgt := 39) rfl (fun c29 => ?_) (fun c29 => ?_)
      · have c29 : ¬ j = 1 := fun h => c29 ((nI_eq (a := j) (b := 1) (by omega) (by omega)).mpr h)
        refine s_iload_n E dX1_products_39 (i := 1) (j := 2) rfl rfl ?_
        refine s_iconst E dX1_products_40 (v := nI 2) (by decide) ?_
        refine s_icmp_ne E dX1_products_41 (tgt := 51) rfl (fun c41 => ?_) (fun c41 => ?_)
        · have c41 : ¬ j = 2 := fun h => c41 ((nI_eq (a := j) (b := 2) (by omega) (by omega)).mpr h)
          refine s_aload_n E dX1_products_51 (i := 2) (j := 0) rfl rfl ?_
          refine iwX1_g27_17 E (v := nI (crowdsT (vw τ (σ 1)) n)) (h12.2.2) dX1_products_52 ?_
          exact Rt (nI (crowdsT (vw τ (σ 1)) n)) (w12) dX1_products_55 (⟨by rw [prodsF_j (by omega)]; first | (subst c17; rfl) | (subst c29; rfl) | (subst c41; rfl) | (obtain rfl : j = 3 := (by omega); rfl), h12.1⟩) rfl (Nat.le_refl _) (Nat.le_refl _) rfl E.2.2.2.2.2.1
        · have c41 : j = 2 := (nI_eq (a := j) (b := 2) (by omega) (by omega)).mp c41
          refine s_aload_n E dX1_products_44 (i := 2) (j := 0) rfl rfl ?_
          refine iwX1_g27_16 E (v := nI (hitsT (vw τ (σ 1)) n (prods (vw τ (σ 1)) n))) (h12.2.1.1.2.2.2.2.1) dX1_products_45 ?_
          refine s_goto E dX1_products_48 (tgt := 55) rfl ?_
          exact Rt (nI (hitsT (vw τ (σ 1)) n (prods (vw τ (σ 1)) n))) (w12) dX1_products_55 (⟨by rw [prodsF_j (by omega)]; first | (subst c17; rfl) | (subst c29; rfl) | (subst c41; rfl) | (obtain rfl : j = 3 := (by omega); rfl), h12.1⟩) rfl (Nat.le_refl _) (Nat.le_refl _) rfl E.2.2.2.2.2.1
      · have c29 : j = 1 := (nI_eq (a := j) (b := 1) (by omega) (by omega)).mp c29
        refine s_aload_n E dX1_products_32 (i := 2) (j := 0) rfl rfl ?_
        refine iwX1_g27_15 E (v := nI (heardN (vw τ (σ 1)) (prods (vw τ (σ 1)) n))) (h12.2.1.1.2.2.2.1) dX1_products_33 ?_
        refine s_goto E dX1_products_36 (tgt := 55) rfl ?_
        exact Rt (nI (heardN (vw τ (σ 1)) (prods (vw τ (σ 1)) n))) (w12) dX1_products_55 (⟨by rw [prodsF_j (by omega)]; first | (subst c17; rfl) | (subst c29; rfl) | (subst c41; rfl) | (obtain rfl : j = 3 := (by omega); rfl), h12.1⟩) rfl (Nat.le_refl _) (Nat.le_refl _) rfl E.2.2.2.2.2.1
    · have c17 : j = 0 := (nI_eq (a := j) (b := 0) (by omega) (by omega)).mp c17
      refine s_aload_n E dX1_products_20 (i := 2) (j := 0) rfl rfl ?_
      refine iwX1_g27_14 E (v := nI ((prods (vw τ (σ 1)) n).length)) (h12.2.1.1.2.2.1) dX1_products_21 ?_
      refine s_goto E dX1_products_24 (tgt := 55) rfl ?_
      exact Rt (nI ((prods (vw τ (σ 1)) n).length)) (w12) dX1_products_55 (⟨by rw [prodsF_j (by omega)]; first | (subst c17; rfl) | (subst c29; rfl) | (subst c41; rfl) | (obtain rfl : j = 3 := (by omega); rfl), h12.1⟩) rfl (Nat.le_refl _) (Nat.le_refl _) rfl E.2.2.2.2.2.1
  · have c6 := bI_0 c6
    refine s_iconst E dX1_products_9 (v := (-1)) (by decide) ?_
    exact Rt ((-1)) (σ) dX1_products_10 (⟨prodsF_o c6, XA.rf _⟩) rfl (Nat.le_refl _) (Nat.le_refl _) rfl E.2.2.2.2.2.1
theorem K_X1_233 : KV RX1 233 RX4 yX4_counted_2 cX4_counted_2 4 (some (.object RX4)) 1 := ⟨q984, q888, q889, q116, q890, by decide +kernel⟩
theorem iwX1_g27_19 {p : Program} {l : Launch} {e : Env} {R : Room} {s : State} {m : MethodId} {args : Array Value} {below : List Frame} {meth : Method} {c : Code} {Q : State → Prop} {A : Nat → Prop} {D : va_G} {nL cells slots : Nat} {pc : Nat} {L : List (Nat × Value)} {S : List Value} {cc : ByteArray} {ret : Option FieldType} {gt : Nat → Nat} {ad : Nat → Nat} {ct : Nat → ClassId} {n : Nat} {τ σ : Nat → Nat → Int32} {T : va_W} (E : En p s m args meth c A cc nL RX1 ret D (tysA ct) gt) {v : Int32} (hv : σ 10 19 = v) (d : decode cc pc = .ok (.getfield 236, 3)) (K : Sm p l e R s m args below meth c Q A D nL cells slots (iw ad ct n τ σ T) (pc + 3) L (.int v :: S)) : Sm p l e R s m args below meth c Q A D nL cells slots (iw ad ct n τ σ T) pc L (.ref (ad 27) :: S) := s_getN E in_X4 27 rfl rfl 19 (Nat.le_of_ble_eq_true rfl) q304 (congrArg (fun z => some (Value.int z)) hv) rfl d K
theorem iwX1_g27_20 {p : Program} {l : Launch} {e : Env} {R : Room} {s : State} {m : MethodId} {args : Array Value} {below : List Frame} {meth : Method} {c : Code} {Q : State → Prop} {A : Nat → Prop} {D : va_G} {nL cells slots : Nat} {pc : Nat} {L : List (Nat × Value)} {S : List Value} {cc : ByteArray} {ret : Option FieldType} {gt : Nat → Nat} {ad : Nat → Nat} {ct : Nat → ClassId} {n : Nat} {τ σ : Nat → Nat → Int32} {T : va_W} (E : En p s m args meth c A cc nL RX1 ret D (tysA ct) gt) {v : Int32} (hv : σ 10 20 = v) (d : decode cc pc = .ok (.getfield 237, 3)) (K : Sm p l e R s m args below meth c Q A D nL cells slots (iw ad ct n τ σ T) (pc + 3) L (.int v :: S)) : Sm p l e R s m args below meth c Q A D nL cells slots (iw ad ct n τ σ T) pc L (.ref (ad 27) :: S) := s_getN E in_X4 27 rfl rfl 20 (Nat.le_of_ble_eq_true rfl) q306 (congrArg (fun z => some (Value.int z)) hv) rfl d K
theorem iwX1_g27_21 {p : Program} {l : Launch} {e : Env} {R : Room} {s : State} {m : MethodId} {args : Array Value} {below : List Frame} {meth : Method} {c : Code} {Q : State → Prop} {A : Nat → Prop} {D : va_G} {nL cells slots : Nat} {pc : Nat} {L : List (Nat × Value)} {S : List Value} {cc : ByteArray} {ret : Option FieldType} {gt : Nat → Nat} {ad : Nat → Nat} {ct : Nat → ClassId} {n : Nat} {τ σ : Nat → Nat → Int32} {T : va_W} (E : En p s m args meth c A cc nL RX1 ret D (tysA ct) gt) {v : Int32} (hv : σ 10 21 = v) (d : decode cc pc = .ok (.getfield 240, 3)) (K : Sm p l e R s m args below meth c Q A D nL cells slots (iw ad ct n τ σ T) (pc + 3) L (.int v :: S)) : Sm p l e R s m args below meth c Q A D nL cells slots (iw ad ct n τ σ T) pc L (.ref (ad 27) :: S) := s_getN E in_X4 27 rfl rfl 21 (Nat.le_of_ble_eq_true rfl) q308 (congrArg (fun z => some (Value.int z)) hv) rfl d K
theorem iwX1_g27_22 {p : Program} {l : Launch} {e : Env} {R : Room} {s : State} {m : MethodId} {args : Array Value} {below : List Frame} {meth : Method} {c : Code} {Q : State → Prop} {A : Nat → Prop} {D : va_G} {nL cells slots : Nat} {pc : Nat} {L : List (Nat × Value)} {S : List Value} {cc : ByteArray} {ret : Option FieldType} {gt : Nat → Nat} {ad : Nat → Nat} {ct : Nat → ClassId} {n : Nat} {τ σ : Nat → Nat → Int32} {T : va_W} (E : En p s m args meth c A cc nL RX1 ret D (tysA ct) gt) {v : Int32} (hv : σ 10 22 = v) (d : decode cc pc = .ok (.getfield 243, 3)) (K : Sm p l e R s m args below meth c Q A D nL cells slots (iw ad ct n τ σ T) (pc + 3) L (.int v :: S)) : Sm p l e R s m args below meth c Q A D nL cells slots (iw ad ct n τ σ T) pc L (.ref (ad 27) :: S) := s_getN E in_X4 27 rfl rfl 22 (Nat.le_of_ble_eq_true rfl) q310 (congrArg (fun z => some (Value.int z)) hv) rfl d K
theorem iwX1_g27_23 {p : Program} {l : Launch} {e : Env} {R : Room} {s : State} {m : MethodId} {args : Array Value} {below : List Frame} {meth : Method} {c : Code} {Q : State → Prop} {A : Nat → Prop} {D : va_G} {nL cells slots : Nat} {pc : Nat} {L : List (Nat × Value)} {S : List Value} {cc : ByteArray} {ret : Option FieldType} {gt : Nat → Nat} {ad : Nat → Nat} {ct : Nat → ClassId} {n : Nat} {τ σ : Nat → Nat → Int32} {T : va_W} (E : En p s m args meth c A cc nL RX1 ret D (tysA ct) gt) {v : Int32} (hv : σ 10 23 = v) (d : decode cc pc = .ok (.getfield 246, 3)) (K : Sm p l e R s m args below meth c Q A D nL cells slots (iw ad ct n τ σ T) (pc + 3) L (.int v :: S)) : Sm p l e R s m args below meth c Q A D nL cells slots (iw ad ct n τ σ T) pc L (.ref (ad 27) :: S) := s_getN E in_X4 27 rfl rfl 23 (Nat.le_of_ble_eq_true rfl) q312 (congrArg (fun z => some (Value.int z)) hv) rfl d K
theorem iwX1_g27_24 {p : Program} {l : Launch} {e : Env} {R : Room} {s : State} {m : MethodId} {args : Array Value} {below : List Frame} {meth : Method} {c : Code} {Q : State → Prop} {A : Nat → Prop} {D : va_G} {nL cells slots : Nat} {pc : Nat} {L : List (Nat × Value)} {S : List Value} {cc : ByteArray} {ret : Option FieldType} {gt : Nat → Nat} {ad : Nat → Nat} {ct : Nat → ClassId} {n : Nat} {τ σ : Nat → Nat → Int32} {T : va_W} (E : En p s m args meth c A cc nL RX1 ret D (tysA ct) gt) {v : Int32} (hv : σ 10 24 = v) (d : decode cc pc = .ok (.getfield 249, 3)) (K : Sm p l e R s m args below meth c Q A D nL cells slots (iw ad ct n τ σ T) (pc + 3) L (.int v :: S)) : Sm p l e R s m args below meth c Q A D nL cells slots (iw ad ct n τ σ T) pc L (.ref (ad 27) :: S) := s_getN E in_X4 27 rfl rfl 24 (Nat.le_of_ble_eq_true rfl) q314 (congrArg (fun z => some (Value.int z)) hv) rfl d K
theorem iwX1_g27_25 {p : Program} {l : Launch} {e : Env} {R : Room} {s : State} {m : MethodId} {args : Array Value} {below : List Frame} {meth : Method} {c : Code} {Q : State → Prop} {A : Nat → Prop} {D : va_G} {nL cells slots : Nat} {pc : Nat} {L : List (Nat × Value)} {S : List Value} {cc : ByteArray} {ret : Option FieldType} {gt : Nat → Nat} {ad : Nat → Nat} {ct : Nat → ClassId} {n : Nat} {τ σ : Nat → Nat → Int32} {T : va_W} (E : En p s m args meth c A cc nL RX1 ret D (tysA ct) gt) {v : Int32} (hv : σ 10 25 = v) (d : decode cc pc = .ok (.getfield 252, 3)) (K : Sm p l e R s m args below meth c Q A D nL cells slots (iw ad ct n τ σ T) (pc + 3) L (.int v :: S)) : Sm p l e R s m args below meth c Q A D nL cells slots (iw ad ct n τ σ T) pc L (.ref (ad 27) :: S) := s_getN E in_X4 27 rfl rfl 25 (Nat.le_of_ble_eq_true rfl) q316 (congrArg (fun z => some (Value.int z)) hv) rfl d K
set_option maxHeartbeats 1000000 in
set_option maxRecDepth 100000 in
theorem x1z_product {l : Launch} {D : va_G} {gt : Nat → Nat} {ad : Nat → Nat} {ct : Nat → ClassId} {n : Nat} {τ σ : Nat → Nat → Int32} {T : va_W} (k v : Int32) (hX : XT τ n) (hT : UT ad n τ T) (hP : PC (σ 1) n) : Ct l D gt yX1_product cX1_product 4 .int 5 130 0 0 [.ref (ad 0), .int (k), .int (v)] (iw ad ct n τ σ T) (tysA ct) (fun r σ2 => prodF (vw τ (σ 1)) n k v = r ∧ XA σ σ2) (fun σ2 : Nat → Nat → Int32 => iw ad ct n τ σ2 T) (fun _ => tysA ct) := by
  refine Ct.start RX1 (by decide) rfl (Nat.le_of_ble_eq_true rfl) rfl ?_
  intro pP eE sS mM aA bB hM cC QQ AA E Rt
  have hn6 := hX.2.1
  have hl8 := prods_len8 (vw τ (σ 1)) (n := n) (by omega)
  refine s_iload_n E dX1_product_0 (i := 1) (j := 1) rfl rfl ?_
  refine s_if_lt E dX1_product_1 (tgt := 14) rfl (fun c1 => ?_) (fun c1 => ?_)
  · refine s_sipush E dX1_product_14 (v := (-1000)) (by decide) ?_
    exact Rt ((-1000)) (σ) dX1_product_17 (⟨prodF_k (Or.inl c1), XA.rf _⟩) rfl (Nat.le_refl _) (Nat.le_refl _) rfl E.2.2.2.2.2.1
  · obtain ⟨p, hp, rfl⟩ := nI_of c1
    refine s_iload_n E dX1_product_4 (i := 2) (j := 2) rfl rfl ?_
    refine s_iconst E dX1_product_5 (v := nI 0) (by decide) ?_
    refine s_bipush E dX1_product_6 (v := nI 6) (by decide) ?_
    refine c_gos E (rS E (cutZ _ _) (x1z_isIn v (nI 0) (nI 6)) K_X1_75 (Nat.le_of_ble_eq_true rfl) (Nat.le_of_ble_eq_true rfl) (Nat.zero_le _) (Nat.zero_le _) rfl rfl (Nat.le_of_ble_eq_true rfl) dX1_product_8) (fun r8 h8 => ?_)
    subst h8
    refine s_if_ne E dX1_product_11 (tgt := 18) rfl (fun c11 => ?_) (fun c11 => ?_)
    · have c11 := bI_n0 c11
      obtain ⟨j, hj, rfl⟩ := in_rng c11 (by decide)
      refine s_aload_n E dX1_product_18 (i := 0) (j := 0) rfl rfl ?_
      refine iwX1_g0_11 E dX1_product_19 ?_
      refine s_aload_n E dX1_product_22 (i := 0) (j := 0) rfl rfl ?_
      refine iwX1_g0_5 E dX1_product_23 ?_
      refine c_gor0 E (rV E (cutS _ _) (x4z_of0 (hX) (hT)) K_X1_152 (Nat.le_of_ble_eq_true rfl) (Nat.le_of_ble_eq_true rfl) (Nat.zero_le _) (Nat.zero_le _) 27 rfl rfl rfl rfl (Nat.le_of_ble_eq_true rfl) dX1_product_26) (fun w26 h26 => ?_)
      refine s_iload_n E dX1_product_29 (i := 1) (j := 1) rfl rfl ?_
      refine ia0_gor E (x4z_counted_2 (vw τ (σ 1)) n (nI p) (h26.2) (hn6) (by decide) ((by rw [← vwB_self]; exact hX.ta)) ((by rw [← vwB_self]; exact XT.nb hP hX.2.2.2.2.1)) ((by rw [← vwB_self]; exact hX.od))) K_X1_233 (Nat.le_of_ble_eq_true rfl) (Nat.le_of_ble_eq_true rfl) (Nat.zero_le _) (Nat.zero_le _) rfl rfl (Nat.le_of_ble_eq_true rfl) dX1_product_30 (fun w30 h30 => ?_)
      show Sm pP l eE { frames := 5, cells := 0, slots := 0, locals := 130 } sS mM aA bB hM cC QQ AA D 4 0 0 (iw ad ct n τ (airU0 w26 w30) T) 33 [(0, .ref (ad 0)), (1, .int (nI p)), (2, .int (nI j))] [.ref (ad 27)]
      refine s_astore_n E (L2 := [(3, .ref (ad 27)), (0, .ref (ad 0)), (1, .int (nI p)), (2, .int (nI j))]) dX1_product_33 rfl (Nat.le_of_ble_eq_true rfl) rfl ?_
      refine s_iload_n E dX1_product_34 (i := 1) (j := 2) rfl rfl ?_
      refine s_aload_n E dX1_product_35 (i := 3) (j := 0) rfl rfl ?_
      refine iwX1_g27_14 E (v := nI ((prods (vw τ (σ 1)) n).length)) (h30.1.1.2.2.1) dX1_product_36 ?_
      refine s_icmp_lt E dX1_product_39 (tgt := 46) rfl (fun c39 => ?_) (fun c39 => ?_)
      · have c39 : p < (prods (vw τ (σ 1)) n).length := (nI_ltI (a := p) (b := (prods (vw τ (σ 1)) n).length) (by omega) (by omega)).mp c39
        refine s_iload_n E dX1_product_46 (i := 2) (j := 3) rfl rfl ?_
        obtain rfl | rfl | rfl | rfl | rfl | rfl | rfl : j = 0 ∨ j = 1 ∨ j = 2 ∨ j = 3 ∨ j = 4 ∨ j = 5 ∨ j = 6 := by omega
        · refine s_tableIn E dX1_product_47 (off := 37) (tgt := 84) (by decide) (by decide) rfl rfl ?_
          refine s_aload_n E dX1_product_84 (i := 3) (j := 0) rfl rfl ?_
          refine iwX1_g27_19 E (v := nI ((qAt (prods (vw τ (σ 1)) n) p).1)) ((h30.1.1.2.2.2.2.2.2.2.2.2 p rfl c39).1) dX1_product_85 ?_
          exact Rt (nI ((qAt (prods (vw τ (σ 1)) n) p).1)) (airU0 w26 w30) dX1_product_88 (⟨prodF_j c39 (by decide) (by omega), h26.1.tr XA.up⟩) rfl (Nat.le_refl _) (Nat.le_refl _) rfl E.2.2.2.2.2.1
        · refine s_tableIn E dX1_product_47 (off := 42) (tgt := 89) (by decide) (by decide) rfl rfl ?_
          refine s_aload_n E dX1_product_89 (i := 3) (j := 0) rfl rfl ?_
          refine iwX1_g27_20 E (v := nI ((qAt (prods (vw τ (σ 1)) n) p).2.1)) ((h30.1.1.2.2.2.2.2.2.2.2.2 p rfl c39).2.1) dX1_product_90 ?_
          exact Rt (nI ((qAt (prods (vw τ (σ 1)) n) p).2.1)) (airU0 w26 w30) dX1_product_93 (⟨prodF_j c39 (by decide) (by omega), h26.1.tr XA.up⟩) rfl (Nat.le_refl _) (Nat.le_refl _) rfl E.2.2.2.2.2.1
        · refine s_tableIn E dX1_product_47 (off := 47) (tgt := 94) (by decide) (by decide) rfl rfl ?_
          refine s_aload_n E dX1_product_94 (i := 3) (j := 0) rfl rfl ?_
          refine iwX1_g27_21 E (v := nI ((qAt (prods (vw τ (σ 1)) n) p).2.2.1)) ((h30.1.1.2.2.2.2.2.2.2.2.2 p rfl c39).2.2.1) dX1_product_95 ?_
          exact Rt (nI ((qAt (prods (vw τ (σ 1)) n) p).2.2.1)) (airU0 w26 w30) dX1_product_98 (⟨prodF_j c39 (by decide) (by omega), h26.1.tr XA.up⟩) rfl (Nat.le_refl _) (Nat.le_refl _) rfl E.2.2.2.2.2.1
        · refine s_tableIn E dX1_product_47 (off := 52) (tgt := 99) (by decide) (by decide) rfl rfl ?_
          refine s_aload_n E dX1_product_99 (i := 3) (j := 0) rfl rfl ?_
          refine iwX1_g27_22 E (v := cI (qAt (prods (vw τ (σ 1)) n) p).2.2.2) ((h30.1.1.2.2.2.2.2.2.2.2.2 p rfl c39).2.2.2.1) dX1_product_100 ?_
          exact Rt (cI (qAt (prods (vw τ (σ 1)) n) p).2.2.2) (airU0 w26 w30) dX1_product_103 (⟨prodF_j c39 (by decide) (by omega), h26.1.tr XA.up⟩) rfl (Nat.le_refl _) (Nat.le_refl _) rfl E.2.2.2.2.2.1
        · refine s_tableIn E dX1_product_47 (off := 57) (tgt := 104) (by decide) (by decide) rfl rfl ?_
          refine s_aload_n E dX1_product_104 (i := 3) (j := 0) rfl rfl ?_
          refine iwX1_g27_23 E (v := pvF (vw τ (σ 1)) (qAt (prods (vw τ (σ 1)) n) p)) ((h30.1.1.2.2.2.2.2.2.2.2.2 p rfl c39).2.2.2.2.1) dX1_product_105 ?_
          exact Rt (pvF (vw τ (σ 1)) (qAt (prods (vw τ (σ 1)) n) p)) (airU0 w26 w30) dX1_product_108 (⟨prodF_j c39 (by decide) (by omega), h26.1.tr XA.up⟩) rfl (Nat.le_refl _) (Nat.le_refl _) rfl E.2.2.2.2.2.1
        · refine s_tableIn E dX1_product_47 (off := 62) (tgt := 109) (by decide) (by decide) rfl rfl ?_
          refine s_aload_n E dX1_product_109 (i := 3) (j := 0) rfl rfl ?_
          refine iwX1_g27_24 E (v := plF (vw τ (σ 1)) (qAt (prods (vw τ (σ 1)) n) p)) ((h30.1.1.2.2.2.2.2.2.2.2.2 p rfl c39).2.2.2.2.2.1) dX1_product_110 ?_
          exact Rt (plF (vw τ (σ 1)) (qAt (prods (vw τ (σ 1)) n) p)) (airU0 w26 w30) dX1_product_113 (⟨prodF_j c39 (by decide) (by omega), h26.1.tr XA.up⟩) rfl (Nat.le_refl _) (Nat.le_refl _) rfl E.2.2.2.2.2.1
        · refine s_tableOut E dX1_product_47 (by decide) (tgt := 114) rfl ?_
          refine s_aload_n E dX1_product_114 (i := 3) (j := 0) rfl rfl ?_
          refine iwX1_g27_25 E (v := nI (hsQ (vw τ (σ 1)) n (qAt (prods (vw τ (σ 1)) n) p))) ((h30.1.1.2.2.2.2.2.2.2.2.2 p rfl c39).2.2.2.2.2.2) dX1_product_115 ?_
          exact Rt (nI (hsQ (vw τ (σ 1)) n (qAt (prods (vw τ (σ 1)) n) p))) (airU0 w26 w30) dX1_product_118 (⟨prodF_j c39 (by decide) (by omega), h26.1.tr XA.up⟩) rfl (Nat.le_refl _) (Nat.le_refl _) rfl E.2.2.2.2.2.1
      · have c39 : ¬ p < (prods (vw τ (σ 1)) n).length := fun h => c39 ((nI_ltI (a := p) (b := (prods (vw τ (σ 1)) n).length) (by omega) (by omega)).mpr h)
        refine s_sipush E dX1_product_42 (v := (-1000)) (by decide) ?_
        exact Rt ((-1000)) (airU0 w26 w30) dX1_product_45 (⟨prodF_k (Or.inr (fun h => c39 ((nI_ltI (by omega) (by omega)).mp h))), h26.1.tr XA.up⟩) rfl (Nat.le_refl _) (Nat.le_refl _) rfl E.2.2.2.2.2.1
    · have c11 := bI_0 c11
      refine s_sipush E dX1_product_14 (v := (-1000)) (by decide) ?_
      exact Rt ((-1000)) (σ) dX1_product_17 (⟨prodF_w c11, XA.rf _⟩) rfl (Nat.le_refl _) (Nat.le_refl _) rfl E.2.2.2.2.2.1
theorem K_X1_132 : KV RX1 132 RX1 yX1_isUser cX1_isUser 2 (some .boolean) 1 := ⟨q805, q807, qs18, q113, q808, by decide +kernel⟩
theorem iwX1_g27_3 {p : Program} {l : Launch} {e : Env} {R : Room} {s : State} {m : MethodId} {args : Array Value} {below : List Frame} {meth : Method} {c : Code} {Q : State → Prop} {A : Nat → Prop} {D : va_G} {nL cells slots : Nat} {pc : Nat} {L : List (Nat × Value)} {S : List Value} {cc : ByteArray} {ret : Option FieldType} {gt : Nat → Nat} {ad : Nat → Nat} {ct : Nat → ClassId} {n : Nat} {τ σ : Nat → Nat → Int32} {T : va_W} (E : En p s m args meth c A cc nL RX1 ret D (tysA ct) gt) (d : decode cc pc = .ok (.getfield 255, 3)) (K : Sm p l e R s m args below meth c Q A D nL cells slots (iw ad ct n τ σ T) (pc + 3) L (.ref (ad 31) :: S)) : Sm p l e R s m args below meth c Q A D nL cells slots (iw ad ct n τ σ T) pc L (.ref (ad 27) :: S) := s_getN E in_X4 27 rfl rfl 3 (Nat.le_of_ble_eq_true rfl) q273 rfl rfl d K
theorem iw_l31 {p : Program} {l : Launch} {e : Env} {R : Room} {s : State} {m : MethodId} {args : Array Value} {below : List Frame} {meth : Method} {c : Code} {Q : State → Prop} {A : Nat → Prop} {D : va_G} {nL cells slots : Nat} {pc : Nat} {L : List (Nat × Value)} {S : List Value} {cc : ByteArray} {ret : Option FieldType} {gt : Nat → Nat} {ad : Nat → Nat} {ct : Nat → ClassId} {n : Nat} {τ σ : Nat → Nat → Int32} {T : va_W} {own : String} (E : En p s m args meth c A cc nL own ret D (tysA ct) gt) {i v : Int32} (N : Nat) (hi : i = nI N) (hN : N < 6) (hv : σ 14 N = v) (d : decode cc pc = .ok (.iaload, 1)) (K : Sm p l e R s m args below meth c Q A D nL cells slots (iw ad ct n τ σ T) (pc + 1) L (.int v :: S)) : Sm p l e R s m args below meth c Q A D nL cells slots (iw ad ct n τ σ T) pc L (.int i :: .ref (ad 31) :: S) := s_iald E 31 0 rfl rfl N hi hN (Nat.le_of_ble_eq_true rfl) hv d K
set_option maxHeartbeats 1000000 in
set_option maxRecDepth 100000 in
theorem x1z_hits {l : Launch} {D : va_G} {gt : Nat → Nat} {ad : Nat → Nat} {ct : Nat → ClassId} {n : Nat} {τ σ : Nat → Nat → Int32} {T : va_W} (u : Int32) (hX : XT τ n) (hT : UT ad n τ T) (hP : PC (σ 1) n) : Ct l D gt yX1_hits cX1_hits 2 .int 7 170 0 0 [.ref (ad 0), .int (u)] (iw ad ct n τ σ T) (tysA ct) (fun r σ2 => hits2F (vw τ (σ 1)) n u = r ∧ XA σ σ2) (fun σ2 : Nat → Nat → Int32 => iw ad ct n τ σ2 T) (fun _ => tysA ct) := by
  refine Ct.start RX1 (by decide) rfl (Nat.le_of_ble_eq_true rfl) rfl ?_
  intro pP eE sS mM aA bB hM cC QQ AA E Rt
  have hn6 := hX.2.1
  have hl8 := prods_len8 (vw τ (σ 1)) (n := n) (by omega)
  refine s_aload_n E dX1_hits_0 (i := 0) (j := 0) rfl rfl ?_
  refine s_iload_n E dX1_hits_1 (i := 1) (j := 1) rfl rfl ?_
  refine c_goi0 E (rV E (cutS _ _) (x1z_isUser u (hX)) K_X1_132 (Nat.le_of_ble_eq_true rfl) (Nat.le_of_ble_eq_true rfl) (Nat.zero_le _) (Nat.zero_le _) 0 rfl rfl rfl rfl (Nat.le_of_ble_eq_true rfl) dX1_hits_2) (fun r2 w2 h2 => ?_)
  obtain ⟨rfl, rfl⟩ := h2
  refine s_if_ne E dX1_hits_5 (tgt := 12) rfl (fun c5 => ?_) (fun c5 => ?_)
  · have c5 := bI_n0 c5
    obtain ⟨j, hj, rfl⟩ := us_isU c5 hn6
    refine s_aload_n E dX1_hits_12 (i := 0) (j := 0) rfl rfl ?_
    refine iwX1_g0_5 E dX1_hits_13 ?_
    refine iwX1_g7_0 E dX1_hits_16 ?_
    refine s_iload_n E dX1_hits_19 (i := 1) (j := 1) rfl rfl ?_
    refine iw_l8 E (v := σ 1 j) (j) (rfl) (by omega) hn6 (rfl) dX1_hits_20 ?_
    refine s_if_ne E dX1_hits_21 (tgt := 29) rfl (fun c21 => ?_) (fun c21 => ?_)
    · refine s_aload_n E dX1_hits_29 (i := 0) (j := 0) rfl rfl ?_
      refine c_gor0 E (rV E (cutS _ _) (x1z_nowAir (hX) (hT) (hP)) K_X1_218 (Nat.le_of_ble_eq_true rfl) (Nat.le_of_ble_eq_true rfl) (Nat.zero_le _) (Nat.zero_le _) 0 rfl rfl rfl rfl (Nat.le_of_ble_eq_true rfl) dX1_hits_30) (fun w30 h30 => ?_)
      refine iwX1_g27_3 E dX1_hits_33 ?_
      refine s_iload_n E dX1_hits_36 (i := 1) (j := 1) rfl rfl ?_
      refine iw_l31 E (v := nI (hitN (vw τ (σ 1)) (prods (vw τ (σ 1)) n) j)) (j) (rfl) (by omega) ((h30.2.1.1.2.2.2.2.2.2.2.2.1 (by decide) j (by omega)).1) dX1_hits_37 ?_
      exact Rt (nI (hitN (vw τ (σ 1)) (prods (vw τ (σ 1)) n) j)) (w30) dX1_hits_38 (⟨by unfold hits2F; rw [if_neg (by rw [c5]; decide), tN_nI (by omega)]; exact if_neg c21, h30.1⟩) rfl (Nat.le_refl _) (Nat.le_refl _) rfl E.2.2.2.2.2.1
    · refine s_bipush E dX1_hits_24 (v := (-2)) (by decide) ?_
      refine s_goto E dX1_hits_26 (tgt := 38) rfl ?_
      exact Rt ((-2)) (σ) dX1_hits_38 (⟨by unfold hits2F; rw [if_neg (by rw [c5]; decide), tN_nI (by omega)]; exact if_pos c21, XA.rf _⟩) rfl (Nat.le_refl _) (Nat.le_refl _) rfl E.2.2.2.2.2.1
  · have c5 := bI_0 c5
    refine s_iconst E dX1_hits_8 (v := (-1)) (by decide) ?_
    refine s_goto E dX1_hits_9 (tgt := 38) rfl ?_
    exact Rt ((-1)) (σ) dX1_hits_38 (⟨by unfold hits2F; rw [if_pos (Bool.eq_false_iff.mpr c5)], XA.rf _⟩) rfl (Nat.le_refl _) (Nat.le_refl _) rfl E.2.2.2.2.2.1
set_option maxHeartbeats 1000000 in
set_option maxRecDepth 100000 in
theorem x1z_hitBy {l : Launch} {D : va_G} {gt : Nat → Nat} {ad : Nat → Nat} {ct : Nat → ClassId} {n : Nat} {τ σ : Nat → Nat → Int32} {T : va_W} (u k : Int32) (hX : XT τ n) (hT : UT ad n τ T) (hP : PC (σ 1) n) : Ct l D gt yX1_hitBy cX1_hitBy 6 .int 7 170 0 0 [.ref (ad 0), .int (u), .int (k)] (iw ad ct n τ σ T) (tysA ct) (fun r σ2 => hitByF (vw τ (σ 1)) n u k = r ∧ XA σ σ2) (fun σ2 : Nat → Nat → Int32 => iw ad ct n τ σ2 T) (fun _ => tysA ct) := by
  refine Ct.start RX1 (by decide) rfl (Nat.le_of_ble_eq_true rfl) rfl ?_
  intro pP eE sS mM aA bB hM cC QQ AA E Rt
  have hn6 := hX.2.1
  have hl8 := prods_len8 (vw τ (σ 1)) (n := n) (by omega)
  refine s_aload_n E dX1_hitBy_0 (i := 0) (j := 0) rfl rfl ?_
  refine s_iload_n E dX1_hitBy_1 (i := 1) (j := 1) rfl rfl ?_
  refine c_goi0 E (rV E (cutS _ _) (x1z_isUser u (hX)) K_X1_132 (Nat.le_of_ble_eq_true rfl) (Nat.le_of_ble_eq_true rfl) (Nat.zero_le _) (Nat.zero_le _) 0 rfl rfl rfl rfl (Nat.le_of_ble_eq_true rfl) dX1_hitBy_2) (fun r2 w2 h2 => ?_)
  obtain ⟨rfl, rfl⟩ := h2
  refine s_if_eq E dX1_hitBy_5 (tgt := 12) rfl (fun c5 => ?_) (fun c5 => ?_)
  · have c5 := bI_0 c5
    refine s_iconst E dX1_hitBy_12 (v := (-1)) (by decide) ?_
    exact Rt ((-1)) (σ) dX1_hitBy_13 (⟨by unfold hitByF; rw [if_neg]; simp only [Bool.and_eq_true, Bool.not_eq_true', decide_eq_false_iff_not]; exact fun h => c5 h.1, XA.rf _⟩) rfl (Nat.le_refl _) (Nat.le_refl _) rfl E.2.2.2.2.2.1
  · have c5 := bI_n0 c5
    obtain ⟨j, hj, rfl⟩ := us_isU c5 hn6
    refine s_iload_n E dX1_hitBy_8 (i := 2) (j := 2) rfl rfl ?_
    refine s_if_ge E dX1_hitBy_9 (tgt := 14) rfl (fun c9 => ?_) (fun c9 => ?_)
    · have c9 := Int32.not_lt.mpr c9
      obtain ⟨q, hq, rfl⟩ := nI_of c9
      refine s_iload_n E dX1_hitBy_14 (i := 2) (j := 2) rfl rfl ?_
      refine s_istore_n E (L2 := [(3, .int (nI q)), (0, .ref (ad 0)), (1, .int (nI j)), (2, .int (nI q))]) dX1_hitBy_15 rfl (Nat.le_of_ble_eq_true rfl) rfl ?_
      refine s_aload_n E dX1_hitBy_16 (i := 0) (j := 1) rfl rfl ?_
      refine c_gor0 E (rV E (cutS _ _) (x1z_nowAir (hX) (hT) (hP)) K_X1_218 (Nat.le_of_ble_eq_true rfl) (Nat.le_of_ble_eq_true rfl) (Nat.zero_le _) (Nat.zero_le _) 0 rfl rfl rfl rfl (Nat.le_of_ble_eq_true rfl) dX1_hitBy_17) (fun w17 h17 => ?_)
      refine iwX1_g27_14 E (v := nI ((prods (vw τ (σ 1)) n).length)) (h17.2.1.1.2.2.1) dX1_hitBy_20 ?_
      refine s_istore E (L2 := [(4, .int (nI ((prods (vw τ (σ 1)) n).length))), (3, .int (nI q)), (0, .ref (ad 0)), (1, .int (nI j)), (2, .int (nI q))]) dX1_hitBy_23 (Nat.le_of_ble_eq_true rfl) rfl ?_
      refine s_iconst E dX1_hitBy_25 (v := nI 0) (by decide) ?_
      refine s_istore E (L2 := [(5, .int (nI 0)), (4, .int (nI ((prods (vw τ (σ 1)) n).length))), (3, .int (nI q)), (0, .ref (ad 0)), (1, .int (nI j)), (2, .int (nI q))]) dX1_hitBy_26 (Nat.le_of_ble_eq_true rfl) rfl ?_
      have L28 : ∀ (fuel : Nat) (i : Nat) (w28 : Nat → Nat → Int32), (i ≤ (prods (vw τ (σ 1)) n).length) → (kthN (hitL (vw τ (σ 1)) (prods (vw τ (σ 1)) n) j) q i = 0) → (cntN (hitL (vw τ (σ 1)) (prods (vw τ (σ 1)) n) j) i ≤ q) → (XA σ w28 ∧ AI (vw τ (σ 1)) (airS0 w28) n) → ((prods (vw τ (σ 1)) n).length - i) < fuel → Sm pP l eE { frames := 7, cells := 0, slots := 0, locals := 170 } sS mM aA bB hM cC QQ AA D 6 0 0 (iw ad ct n τ w28 T) 28 [(0, .ref (ad 0)), (1, .int (nI j)), (2, .int (nI q)), (3, .int (nI (q - cntN (hitL (vw τ (σ 1)) (prods (vw τ (σ 1)) n) j) i))), (4, .int (nI ((prods (vw τ (σ 1)) n).length))), (5, .int (nI i))] [] := by
        intro fuel
        induction fuel with
        | zero =>
          intro i w28 hi hk0 hkc hw hf28
          exact absurd hf28 (Nat.not_lt_zero _)
        | succ fuel ih28 =>
          intro i w28 hi hk0 hkc hw hf28
          refine s_iload E dX1_hitBy_28 (i := 5) (j := 5) rfl ?_
          refine s_iload E dX1_hitBy_30 (i := 4) (j := 4) rfl ?_
          refine s_icmp_ge E dX1_hitBy_32 (tgt := 73) rfl (fun c32 => ?_) (fun c32 => ?_)
          · have c32 : ¬ i < (prods (vw τ (σ 1)) n).length := fun h => absurd c32 (Int32.not_le.mpr ((nI_ltI (a := i) (b := (prods (vw τ (σ 1)) n).length) (by omega) (by omega)).mpr h))
            refine s_bipush E dX1_hitBy_73 (v := (-2)) (by decide) ?_
            exact Rt ((-2)) (w28) dX1_hitBy_75 (⟨by unfold hitByF; rw [if_pos (by simp only [Bool.and_eq_true, Bool.not_eq_true', decide_eq_false_iff_not]; exact ⟨c5, nI_pos hq⟩), tN_nI (by omega), tN_nI (by omega), show (prods (vw τ (σ 1)) n).length = i by omega, hk0]; rfl, hw.1⟩) rfl (Nat.le_refl _) (Nat.le_refl _) rfl E.2.2.2.2.2.1
          · have c32 : i < (prods (vw τ (σ 1)) n).length := (nI_ltI (a := i) (b := (prods (vw τ (σ 1)) n).length) (by omega) (by omega)).mp (Int32.not_le.mp c32)
            refine s_aload_n E dX1_hitBy_35 (i := 0) (j := 0) rfl rfl ?_
            refine iwX1_g0_11 E dX1_hitBy_36 ?_
            refine s_iload E dX1_hitBy_39 (i := 5) (j := 5) rfl ?_
            refine ia0_gor E (x4z_counted_2 (vw τ (σ 1)) n (nI i) (hw.2) (hn6) (by decide) ((by rw [← vwB_self]; exact hX.ta)) ((by rw [← vwB_self]; exact XT.nb hP hX.2.2.2.2.1)) ((by rw [← vwB_self]; exact hX.od))) K_X1_233 (Nat.le_of_ble_eq_true rfl) (Nat.le_of_ble_eq_true rfl) (Nat.zero_le _) (Nat.zero_le _) rfl rfl (Nat.le_of_ble_eq_true rfl) dX1_hitBy_41 (fun w41 h41 => ?_)
            show Sm pP l eE { frames := 7, cells := 0, slots := 0, locals := 170 } sS mM aA bB hM cC QQ AA D 6 0 0 (iw ad ct n τ (airU0 w28 w41) T) 44 [(0, .ref (ad 0)), (1, .int (nI j)), (2, .int (nI q)), (3, .int (nI (q - cntN (hitL (vw τ (σ 1)) (prods (vw τ (σ 1)) n) j) i))), (4, .int (nI ((prods (vw τ (σ 1)) n).length))), (5, .int (nI i))] [.ref (ad 27)]
            refine iwX1_g27_25 E (v := nI (hsQ (vw τ (σ 1)) n (qAt (prods (vw τ (σ 1)) n) i))) ((h41.1.1.2.2.2.2.2.2.2.2.2 i rfl c32).2.2.2.2.2.2) dX1_hitBy_44 ?_
            refine s_iload_n E dX1_hitBy_47 (i := 1) (j := 1) rfl rfl ?_
            refine s_ishr_ E dX1_hitBy_48 (v := nI (hsQ (vw τ (σ 1)) n (qAt (prods (vw τ (σ 1)) n) i)) >>> (nI j &&& 31)) (rfl) ?_
            refine s_iconst E dX1_hitBy_49 (v := nI 1) (by decide) ?_
            refine s_iand_ E dX1_hitBy_50 (v := nI (if hitQ (vw τ (σ 1)) (qAt (prods (vw τ (σ 1)) n) i) j = true then 1 else 0)) (bit_hs hn6 (by omega)) ?_
            refine s_if_ne E dX1_hitBy_51 (tgt := 57) rfl (fun c51 => ?_) (fun c51 => ?_)
            · have c51 : (hitL (vw τ (σ 1)) (prods (vw τ (σ 1)) n) j) i = true := ite10_t c51
              refine s_iload_n E dX1_hitBy_57 (i := 3) (j := 3) rfl rfl ?_
              refine s_if_ne E dX1_hitBy_58 (tgt := 64) rfl (fun c58 => ?_) (fun c58 => ?_)
              · have c58 : ¬ q - cntN (hitL (vw τ (σ 1)) (prods (vw τ (σ 1)) n) j) i = 0 := fun h => c58 ((nI_eq (a := q - cntN (hitL (vw τ (σ 1)) (prods (vw τ (σ 1)) n) j) i) (b := 0) (by omega) (by omega)).mpr h)
                refine s_iinc E (L2 := [(3, .int (nI (q - cntN (hitL (vw τ (σ 1)) (prods (vw τ (σ 1)) n) j) (i + 1)))), (0, .ref (ad 0)), (1, .int (nI j)), (2, .int (nI q)), (4, .int (nI ((prods (vw τ (σ 1)) n).length))), (5, .int (nI i))]) dX1_hitBy_64 (k := 3) rfl (v := nI (q - cntN (hitL (vw τ (σ 1)) (prods (vw τ (σ 1)) n) j) (i + 1))) (by rw [cntN_t c51]; exact nI_dec2 (by omega)) (Nat.le_of_ble_eq_true rfl) rfl ?_
                refine s_iinc E (L2 := [(5, .int (nI (i + 1))), (3, .int (nI (q - cntN (hitL (vw τ (σ 1)) (prods (vw τ (σ 1)) n) j) (i + 1)))), (0, .ref (ad 0)), (1, .int (nI j)), (2, .int (nI q)), (4, .int (nI ((prods (vw τ (σ 1)) n).length)))]) dX1_hitBy_67 (k := 5) rfl (v := nI (i + 1)) (nI_inc _) (Nat.le_of_ble_eq_true rfl) rfl ?_
                refine s_goto E dX1_hitBy_70 (tgt := 28) rfl ?_
                refine s_loc (L2 := [(0, .ref (ad 0)), (1, .int (nI j)), (2, .int (nI q)), (3, .int (nI (q - cntN (hitL (vw τ (σ 1)) (prods (vw τ (σ 1)) n) j) (i + 1)))), (4, .int (nI ((prods (vw τ (σ 1)) n).length))), (5, .int (nI (i + 1)))]) [2, 3, 4, 1, 5, 0] rfl ?_
                exact ih28 (i + 1) (airU0 w28 w41) (by omega) (kthN_next hk0 (fun h => c58 (by omega))) (by rw [cntN_t c51]; omega) (⟨hw.1.tr XA.up, h41.1.1.1.us⟩) (by omega)
              · have c58 : q - cntN (hitL (vw τ (σ 1)) (prods (vw τ (σ 1)) n) j) i = 0 := (nI_eq (a := q - cntN (hitL (vw τ (σ 1)) (prods (vw τ (σ 1)) n) j) i) (b := 0) (by omega) (by omega)).mp c58
                refine s_iload E dX1_hitBy_61 (i := 5) (j := 5) rfl ?_
                exact Rt (nI i) (airU0 w28 w41) dX1_hitBy_63 (⟨by unfold hitByF; rw [if_pos (by simp only [Bool.and_eq_true, Bool.not_eq_true', decide_eq_false_iff_not]; exact ⟨c5, nI_pos hq⟩), tN_nI (by omega), tN_nI (by omega), kthN_keep (p := i) (by omega) hk0 c51 (by omega)]; rfl, hw.1.tr XA.up⟩) rfl (Nat.le_refl _) (Nat.le_refl _) rfl E.2.2.2.2.2.1
            · have c51 : ¬ (hitL (vw τ (σ 1)) (prods (vw τ (σ 1)) n) j) i = true := ite10_f c51
              refine s_goto E dX1_hitBy_54 (tgt := 67) rfl ?_
              refine s_iinc E (L2 := [(5, .int (nI (i + 1))), (0, .ref (ad 0)), (1, .int (nI j)), (2, .int (nI q)), (3, .int (nI (q - cntN (hitL (vw τ (σ 1)) (prods (vw τ (σ 1)) n) j) i))), (4, .int (nI ((prods (vw τ (σ 1)) n).length)))]) dX1_hitBy_67 (k := 5) rfl (v := nI (i + 1)) (nI_inc _) (Nat.le_of_ble_eq_true rfl) rfl ?_
              refine s_goto E dX1_hitBy_70 (tgt := 28) rfl ?_
              refine s_loc (L2 := [(0, .ref (ad 0)), (1, .int (nI j)), (2, .int (nI q)), (3, .int (nI (q - cntN (hitL (vw τ (σ 1)) (prods (vw τ (σ 1)) n) j) i))), (4, .int (nI ((prods (vw τ (σ 1)) n).length))), (5, .int (nI (i + 1)))]) [1, 2, 3, 4, 5, 0] rfl ?_
              refine s_L (L2 := [(0, .ref (ad 0)), (1, .int (nI j)), (2, .int (nI q)), (3, .int (nI (q - cntN (hitL (vw τ (σ 1)) (prods (vw τ (σ 1)) n) j) (i + 1)))), (4, .int (nI ((prods (vw τ (σ 1)) n).length))), (5, .int (nI (i + 1)))]) (by rw [cntN_f c51]) ?_
              exact ih28 (i + 1) (airU0 w28 w41) (by omega) (kthN_next hk0 (fun h => c51 h.1)) (by rw [cntN_f c51]; exact hkc) (⟨hw.1.tr XA.up, h41.1.1.1.us⟩) (by omega)
      refine s_loc (L2 := [(0, .ref (ad 0)), (1, .int (nI j)), (2, .int (nI q)), (3, .int (nI q)), (4, .int (nI ((prods (vw τ (σ 1)) n).length))), (5, .int (nI 0))]) [3, 4, 5, 2, 1, 0] rfl ?_
      exact L28 (_ + 1) 0 w17 (Nat.zero_le _) (rfl) (Nat.zero_le _) (⟨h17.1, h17.2.1.1.1⟩) (Nat.lt_succ_self _)
    · have c9 := Int32.not_le.mp c9
      refine s_iconst E dX1_hitBy_12 (v := (-1)) (by decide) ?_
      exact Rt ((-1)) (σ) dX1_hitBy_13 (⟨by unfold hitByF; rw [if_neg]; simp only [Bool.and_eq_true, Bool.not_eq_true', decide_eq_false_iff_not]; exact fun h => h.2 c9, XA.rf _⟩) rfl (Nat.le_refl _) (Nat.le_refl _) rfl E.2.2.2.2.2.1
theorem K_X1_258 : KV RX1 258 RX4 yX4_areCrowded cX4_areCrowded 3 (some .boolean) 2 := ⟨q997, q933, q934, q116, q935, by decide +kernel⟩
set_option maxHeartbeats 1000000 in
set_option maxRecDepth 100000 in
theorem x1z_crowds {l : Launch} {D : va_G} {gt : Nat → Nat} {ad : Nat → Nat} {ct : Nat → ClassId} {n : Nat} {τ σ : Nat → Nat → Int32} {T : va_W} (u : Int32) (hX : XT τ n) (hT : UT ad n τ T) (hP : PC (σ 1) n) : Ct l D gt yX1_crowds cX1_crowds 5 .int 2 43 0 0 [.ref (ad 0), .int (u)] (iw ad ct n τ σ T) (tysA ct) (fun r σ2 => (if isU n u = true then nI (setN (crowdB (vw τ (σ 1)) (tN u)) n) else -1) = r ∧ XA σ σ2) (fun σ2 : Nat → Nat → Int32 => iw ad ct n τ σ2 T) (fun _ => tysA ct) := by
  refine Ct.start RX1 (by decide) rfl (Nat.le_of_ble_eq_true rfl) rfl ?_
  intro pP eE sS mM aA bB hM cC QQ AA E Rt
  have hn6 := hX.2.1
  refine s_aload_n E dX1_crowds_0 (i := 0) (j := 0) rfl rfl ?_
  refine s_iload_n E dX1_crowds_1 (i := 1) (j := 1) rfl rfl ?_
  refine c_goi0 E (rV E (cutS _ _) (x1z_isUser u (hX)) K_X1_132 (Nat.le_of_ble_eq_true rfl) (Nat.le_of_ble_eq_true rfl) (Nat.zero_le _) (Nat.zero_le _) 0 rfl rfl rfl rfl (Nat.le_of_ble_eq_true rfl) dX1_crowds_2) (fun r2 w2 h2 => ?_)
  obtain ⟨rfl, rfl⟩ := h2
  refine s_if_ne E dX1_crowds_5 (tgt := 10) rfl (fun c5 => ?_) (fun c5 => ?_)
  · have c5 := bI_n0 c5
    obtain ⟨j, hj, rfl⟩ := us_isU c5 hn6
    refine s_aload_n E dX1_crowds_10 (i := 0) (j := 0) rfl rfl ?_
    refine iwX1_g0_11 E dX1_crowds_11 ?_
    refine s_aload_n E dX1_crowds_14 (i := 0) (j := 0) rfl rfl ?_
    refine iwX1_g0_5 E dX1_crowds_15 ?_
    refine c_gor0 E (rV E (cutS _ _) (x4z_of0 (hX) (hT)) K_X1_152 (Nat.le_of_ble_eq_true rfl) (Nat.le_of_ble_eq_true rfl) (Nat.zero_le _) (Nat.zero_le _) 27 rfl rfl rfl rfl (Nat.le_of_ble_eq_true rfl) dX1_crowds_18) (fun w18 h18 => ?_)
    refine s_astore_n E (L2 := [(2, .ref (ad 27)), (0, .ref (ad 0)), (1, .int (nI j))]) dX1_crowds_21 rfl (Nat.le_of_ble_eq_true rfl) rfl ?_
    refine s_iconst E dX1_crowds_22 (v := nI 0) (by decide) ?_
    refine s_istore_n E (L2 := [(3, .int (nI 0)), (2, .ref (ad 27)), (0, .ref (ad 0)), (1, .int (nI j))]) dX1_crowds_23 rfl (Nat.le_of_ble_eq_true rfl) rfl ?_
    refine s_iconst E dX1_crowds_24 (v := nI 0) (by decide) ?_
    refine s_istore E (L2 := [(4, .int (nI 0)), (3, .int (nI 0)), (2, .ref (ad 27)), (0, .ref (ad 0)), (1, .int (nI j))]) dX1_crowds_25 (Nat.le_of_ble_eq_true rfl) rfl ?_
    have L27 : ∀ (fuel : Nat) (v : Nat), (v ≤ n) → (n - v) < fuel → Sm pP l eE { frames := 2, cells := 0, slots := 0, locals := 43 } sS mM aA bB hM cC QQ AA D 5 0 0 (iw ad ct n τ w18 T) 27 [(0, .ref (ad 0)), (1, .int (nI j)), (2, .ref (ad 27)), (3, .int (nI (setN (crowdB (vw τ (σ 1)) j) v))), (4, .int (nI v))] [] := by
      intro fuel
      induction fuel with
      | zero =>
        intro v hv hf27
        exact absurd hf27 (Nat.not_lt_zero _)
      | succ fuel ih27 =>
        intro v hv hf27
        refine s_iload E dX1_crowds_27 (i := 4) (j := 4) rfl ?_
        refine s_aload_n E dX1_crowds_29 (i := 0) (j := 0) rfl rfl ?_
        refine iwX1_g0_4 E dX1_crowds_30 ?_
        refine iwX1_g2_4 E (v := nI n) (hX.1) dX1_crowds_33 ?_
        refine s_icmp_ge E dX1_crowds_36 (tgt := 66) rfl (fun c36 => ?_) (fun c36 => ?_)
        · have c36 : ¬ v < n := fun h => absurd c36 (Int32.not_le.mpr ((nI_ltI (a := v) (b := n) (by omega) (by omega)).mpr h))
          refine s_iload_n E dX1_crowds_66 (i := 3) (j := 3) rfl rfl ?_
          exact Rt (nI (setN (crowdB (vw τ (σ 1)) j) v)) (w18) dX1_crowds_67 (⟨by rw [if_pos c5, tN_nI (by omega), show n = v by omega], h18.1⟩) rfl (Nat.le_refl _) (Nat.le_refl _) rfl E.2.2.2.2.2.1
        · have c36 : v < n := (nI_ltI (a := v) (b := n) (by omega) (by omega)).mp (Int32.not_le.mp c36)
          refine s_iload_n E dX1_crowds_39 (i := 3) (j := 3) rfl rfl ?_
          refine s_aload_n E dX1_crowds_40 (i := 2) (j := 2) rfl rfl ?_
          refine s_iload_n E dX1_crowds_41 (i := 1) (j := 1) rfl rfl ?_
          refine s_iload E dX1_crowds_42 (i := 4) (j := 4) rfl ?_
          refine ia0_goi E (x4z_areCrowded (vw τ (σ 1)) n j v (h18.2) (hn6) (by decide) (hj) (by omega)) K_X1_258 (Nat.le_of_ble_eq_true rfl) (Nat.le_of_ble_eq_true rfl) (Nat.zero_le _) (Nat.zero_le _) rfl rfl (Nat.le_of_ble_eq_true rfl) dX1_crowds_44 (fun r44 w44 h44 => ?_)
          obtain ⟨rfl, rfl⟩ := h44
          refine s_ws (ws2 := iw ad ct n τ w18 T) (congrArg (fun z => iw ad ct n τ z T) airU_S0) ?_
          refine s_if_eq E dX1_crowds_47 (tgt := 57) rfl (fun c47 => ?_) (fun c47 => ?_)
          · have c47 := bI_0 c47
            refine s_iconst E dX1_crowds_57 (v := nI 0) (by decide) ?_
            refine s_ior_ E dX1_crowds_58 (v := nI (setN (crowdB (vw τ (σ 1)) j) (v + 1))) (by rw [← setN_f c47]; exact Int32.or_zero) ?_
            refine s_istore_n E (L2 := [(3, .int (nI (setN (crowdB (vw τ (σ 1)) j) (v + 1)))), (0, .ref (ad 0)), (1, .int (nI j)), (2, .ref (ad 27)), (4, .int (nI v))]) dX1_crowds_59 rfl (Nat.le_of_ble_eq_true rfl) rfl ?_
            refine s_iinc E (L2 := [(4, .int (nI (v + 1))), (3, .int (nI (setN (crowdB (vw τ (σ 1)) j) (v + 1)))), (0, .ref (ad 0)), (1, .int (nI j)), (2, .ref (ad 27))]) dX1_crowds_60 (k := 4) rfl (v := nI (v + 1)) (nI_inc _) (Nat.le_of_ble_eq_true rfl) rfl ?_
            refine s_goto E dX1_crowds_63 (tgt := 27) rfl ?_
            refine s_loc (L2 := [(0, .ref (ad 0)), (1, .int (nI j)), (2, .ref (ad 27)), (3, .int (nI (setN (crowdB (vw τ (σ 1)) j) (v + 1)))), (4, .int (nI (v + 1)))]) [2, 3, 4, 1, 0] rfl ?_
            exact ih27 (v + 1) (by omega) (by omega)
          · have c47 := bI_n0 c47
            refine s_iconst E dX1_crowds_50 (v := nI 1) (by decide) ?_
            refine s_iload E dX1_crowds_51 (i := 4) (j := 4) rfl ?_
            refine s_ishl_ E dX1_crowds_53 (v := nI 1 <<< (nI v &&& 31)) (rfl) ?_
            refine s_goto E dX1_crowds_54 (tgt := 58) rfl ?_
            refine s_ior_ E dX1_crowds_58 (v := nI (setN (crowdB (vw τ (σ 1)) j) (v + 1))) (setN_t (by omega) c47) ?_
            refine s_istore_n E (L2 := [(3, .int (nI (setN (crowdB (vw τ (σ 1)) j) (v + 1)))), (0, .ref (ad 0)), (1, .int (nI j)), (2, .ref (ad 27)), (4, .int (nI v))]) dX1_crowds_59 rfl (Nat.le_of_ble_eq_true rfl) rfl ?_
            refine s_iinc E (L2 := [(4, .int (nI (v + 1))), (3, .int (nI (setN (crowdB (vw τ (σ 1)) j) (v + 1)))), (0, .ref (ad 0)), (1, .int (nI j)), (2, .ref (ad 27))]) dX1_crowds_60 (k := 4) rfl (v := nI (v + 1)) (nI_inc _) (Nat.le_of_ble_eq_true rfl) rfl ?_
            refine s_goto E dX1_crowds_63 (tgt := 27) rfl ?_
            refine s_loc (L2 := [(0, .ref (ad 0)), (1, .int (nI j)), (2, .ref (ad 27)), (3, .int (nI (setN (crowdB (vw τ (σ 1)) j) (v + 1)))), (4, .int (nI (v + 1)))]) [2, 3, 4, 1, 0] rfl ?_
            exact ih27 (v + 1) (by omega) (by omega)
    refine s_loc (L2 := [(0, .ref (ad 0)), (1, .int (nI j)), (2, .ref (ad 27)), (3, .int (nI 0)), (4, .int (nI 0))]) [3, 4, 2, 1, 0] rfl ?_
    exact L27 (_ + 1) 0 (Nat.zero_le _) (Nat.lt_succ_self _)
  · have c5 := bI_0 c5
    refine s_iconst E dX1_crowds_8 (v := (-1)) (by decide) ?_
    exact Rt ((-1)) (σ) dX1_crowds_9 (⟨by rw [if_neg c5], XA.rf _⟩) rfl (Nat.le_refl _) (Nat.le_refl _) rfl E.2.2.2.2.2.1
theorem K_X1_262 : KV RX1 262 RX1 yX1_isClean_2 cX1_isClean_2 2 (some .boolean) 1 := ⟨q1002, q1004, qs33, q113, q1005, by decide +kernel⟩
set_option maxHeartbeats 1000000 in
set_option maxRecDepth 100000 in
theorem x1z_clean {l : Launch} {D : va_G} {gt : Nat → Nat} {ad : Nat → Nat} {ct : Nat → ClassId} {n : Nat} {τ σ : Nat → Nat → Int32} {T : va_W}  (hX : XT τ n) (hT : UT ad n τ T) (hP : PC (σ 1) n) : Ct l D gt yX1_clean cX1_clean 1 .int 8 194 0 0 [.ref (ad 0)] (iw ad ct n τ σ T) (tysA ct) (fun r σ2 => bI (cleanB (vw τ (σ 1)) n = true) = r ∧ XA σ σ2) (fun σ2 : Nat → Nat → Int32 => iw ad ct n τ σ2 T) (fun _ => tysA ct) := by
  refine Ct.start RX1 (by decide) rfl (Nat.le_of_ble_eq_true rfl) rfl ?_
  intro pP eE sS mM aA bB hM cC QQ AA E Rt
  refine s_aload_n E dX1_clean_0 (i := 0) (j := 0) rfl rfl ?_
  refine s_aload_n E dX1_clean_1 (i := 0) (j := 0) rfl rfl ?_
  refine iwX1_g0_5 E dX1_clean_2 ?_
  refine c_goi0 E (rV E (cutS _ _) (x1z_isClean_20 (hX) (hT) (hP)) K_X1_262 (Nat.le_of_ble_eq_true rfl) (Nat.le_of_ble_eq_true rfl) (Nat.zero_le _) (Nat.zero_le _) 0 rfl rfl rfl rfl (Nat.le_of_ble_eq_true rfl) dX1_clean_5) (fun r5 w5 h5 => ?_)
  obtain ⟨e5, x5⟩ := h5
  subst e5
  refine s_if_eq E dX1_clean_8 (tgt := 15) rfl (fun c8 => ?_) (fun c8 => ?_)
  · have c8 := bI_0 c8
    refine s_iconst E dX1_clean_15 (v := nI 0) (by decide) ?_
    exact Rt (nI 0) (w5) dX1_clean_16 (⟨by simp [bI, c8], x5⟩) rfl (Nat.le_refl _) (Nat.le_refl _) rfl E.2.2.2.2.2.1
  · have c8 := bI_n0 c8
    refine s_iconst E dX1_clean_11 (v := nI 1) (by decide) ?_
    refine s_goto E dX1_clean_12 (tgt := 16) rfl ?_
    exact Rt (nI 1) (w5) dX1_clean_16 (⟨by simp [bI, c8], x5⟩) rfl (Nat.le_refl _) (Nat.le_refl _) rfl E.2.2.2.2.2.1
theorem iwX1_g27_4 {p : Program} {l : Launch} {e : Env} {R : Room} {s : State} {m : MethodId} {args : Array Value} {below : List Frame} {meth : Method} {c : Code} {Q : State → Prop} {A : Nat → Prop} {D : va_G} {nL cells slots : Nat} {pc : Nat} {L : List (Nat × Value)} {S : List Value} {cc : ByteArray} {ret : Option FieldType} {gt : Nat → Nat} {ad : Nat → Nat} {ct : Nat → ClassId} {n : Nat} {τ σ : Nat → Nat → Int32} {T : va_W} (E : En p s m args meth c A cc nL RX1 ret D (tysA ct) gt) (d : decode cc pc = .ok (.getfield 299, 3)) (K : Sm p l e R s m args below meth c Q A D nL cells slots (iw ad ct n τ σ T) (pc + 3) L (.ref (ad 32) :: S)) : Sm p l e R s m args below meth c Q A D nL cells slots (iw ad ct n τ σ T) pc L (.ref (ad 27) :: S) := s_getN E in_X4 27 rfl rfl 4 (Nat.le_of_ble_eq_true rfl) q275 rfl rfl d K
theorem iw_l32 {p : Program} {l : Launch} {e : Env} {R : Room} {s : State} {m : MethodId} {args : Array Value} {below : List Frame} {meth : Method} {c : Code} {Q : State → Prop} {A : Nat → Prop} {D : va_G} {nL cells slots : Nat} {pc : Nat} {L : List (Nat × Value)} {S : List Value} {cc : ByteArray} {ret : Option FieldType} {gt : Nat → Nat} {ad : Nat → Nat} {ct : Nat → ClassId} {n : Nat} {τ σ : Nat → Nat → Int32} {T : va_W} {own : String} (E : En p s m args meth c A cc nL own ret D (tysA ct) gt) {i v : Int32} (N : Nat) (hi : i = nI N) (hN : N < 6) (hv : σ 15 N = v) (d : decode cc pc = .ok (.iaload, 1)) (K : Sm p l e R s m args below meth c Q A D nL cells slots (iw ad ct n τ σ T) (pc + 1) L (.int v :: S)) : Sm p l e R s m args below meth c Q A D nL cells slots (iw ad ct n τ σ T) pc L (.int i :: .ref (ad 32) :: S) := s_iald E 32 0 rfl rfl N hi hN (Nat.le_of_ble_eq_true rfl) hv d K
set_option maxHeartbeats 1000000 in
set_option maxRecDepth 100000 in
theorem x1z_loudOne {l : Launch} {D : va_G} {gt : Nat → Nat} {ad : Nat → Nat} {ct : Nat → ClassId} {n : Nat} {τ σ : Nat → Nat → Int32} {T : va_W} (s : Nat → Nat → Int32) (hX : XT τ n) (hAM : AM s n (-1) (prods s n) (airS0 σ)) : Ct l D gt yX1_loudOne cX1_loudOne 4 .int 0 0 0 0 [.ref (ad 0), .ref (ad 27)] (iw ad ct n τ σ T) (tysA ct) (fun r σ2 => worstF s n = r ∧ σ = σ2) (fun σ2 : Nat → Nat → Int32 => iw ad ct n τ σ2 T) (fun _ => tysA ct) := by
  refine Ct.start RX1 (by decide) rfl (Nat.le_of_ble_eq_true rfl) rfl ?_
  intro pP eE sS mM aA bB hM cC QQ AA E Rt
  have hn6 := hX.2.1
  have hl8 := prods_len8 s (n := n) (by omega)
  refine s_iconst E dX1_loudOne_0 (v := nI 0) (by decide) ?_
  refine s_istore_n E (L2 := [(2, .int (nI 0)), (0, .ref (ad 0)), (1, .ref (ad 27))]) dX1_loudOne_1 rfl (Nat.le_of_ble_eq_true rfl) rfl ?_
  refine s_iconst E dX1_loudOne_2 (v := nI 1) (by decide) ?_
  refine s_istore_n E (L2 := [(3, .int (nI 1)), (2, .int (nI 0)), (0, .ref (ad 0)), (1, .ref (ad 27))]) dX1_loudOne_3 rfl (Nat.le_of_ble_eq_true rfl) rfl ?_
  have L4 : ∀ (fuel : Nat) (u : Nat), (1 ≤ u) → (u ≤ n ∨ u = 1) → (n - u) < fuel → Sm pP l eE { frames := 0, cells := 0, slots := 0, locals := 0 } sS mM aA bB hM cC QQ AA D 4 0 0 (iw ad ct n τ σ T) 4 [(0, .ref (ad 0)), (1, .ref (ad 27)), (2, .int (nI (argW (madeN s n (prods s n)) u))), (3, .int (nI u))] [] := by
    intro fuel
    induction fuel with
    | zero =>
      intro u hu1 hu hf4
      exact absurd hf4 (Nat.not_lt_zero _)
    | succ fuel ih4 =>
      intro u hu1 hu hf4
      have hlt := argW_lt (madeN s n (prods s n)) u hu1
      refine s_iload_n E dX1_loudOne_4 (i := 3) (j := 3) rfl rfl ?_
      refine s_aload_n E dX1_loudOne_5 (i := 0) (j := 0) rfl rfl ?_
      refine iwX1_g0_4 E dX1_loudOne_6 ?_
      refine iwX1_g2_4 E (v := nI n) (hX.1) dX1_loudOne_9 ?_
      refine s_icmp_ge E dX1_loudOne_12 (tgt := 38) rfl (fun c12 => ?_) (fun c12 => ?_)
      · have c12 : ¬ u < n := fun h => absurd c12 (Int32.not_le.mpr ((nI_ltI (a := u) (b := n) (by omega) (by omega)).mpr h))
        refine s_aload_n E dX1_loudOne_38 (i := 1) (j := 1) rfl rfl ?_
        refine iwX1_g27_16 E (v := nI (hitsT s n (prods s n))) (hAM.1.2.2.2.2.1) dX1_loudOne_39 ?_
        refine s_if_ne E dX1_loudOne_42 (tgt := 50) rfl (fun c42 => ?_) (fun c42 => ?_)
        · have htl := tr_le (s := s) (n := n) (by omega)
          have c42 : ¬ hitsT s n (prods s n) = 0 := fun h => c42 ((nI_eq (a := hitsT s n (prods s n)) (b := 0) (by omega) (by omega)).mpr h)
          refine s_iload_n E dX1_loudOne_50 (i := 2) (j := 2) rfl rfl ?_
          exact Rt (nI (argW (madeN s n (prods s n)) u)) (σ) dX1_loudOne_51 (⟨by rw [worstF, ← loud_one, if_neg c42]; exact congrArg (fun z => nI (argW (madeN s n (prods s n)) z)) (show n = u from by rcases hu with h | h; omega; subst h; rcases Nat.eq_zero_or_pos n with e | e; (subst e; exact absurd ((hits_made (s := s) (n := 0) prods_u).mpr fun u hu => absurd hu (Nat.not_lt_zero _)) c42); omega), rfl⟩) rfl (Nat.le_refl _) (Nat.le_refl _) rfl E.2.2.2.2.2.1
        · have htl := tr_le (s := s) (n := n) (by omega)
          have c42 : hitsT s n (prods s n) = 0 := (nI_eq (a := hitsT s n (prods s n)) (b := 0) (by omega) (by omega)).mp c42
          refine s_bipush E dX1_loudOne_45 (v := (-2)) (by decide) ?_
          refine s_goto E dX1_loudOne_47 (tgt := 51) rfl ?_
          exact Rt ((-2)) (σ) dX1_loudOne_51 (⟨by rw [worstF, ← loud_one, if_pos c42], rfl⟩) rfl (Nat.le_refl _) (Nat.le_refl _) rfl E.2.2.2.2.2.1
      · have c12 : u < n := (nI_ltI (a := u) (b := n) (by omega) (by omega)).mp (Int32.not_le.mp c12)
        refine s_aload_n E dX1_loudOne_15 (i := 1) (j := 1) rfl rfl ?_
        refine iwX1_g27_4 E dX1_loudOne_16 ?_
        refine s_iload_n E dX1_loudOne_19 (i := 3) (j := 3) rfl rfl ?_
        refine iw_l32 E (v := nI (madeN s n (prods s n) u)) (u) (rfl) (by omega) ((hAM.1.2.2.2.2.2.2.2.2.1 (by decide) u (by omega)).2.1) dX1_loudOne_20 ?_
        refine s_aload_n E dX1_loudOne_21 (i := 1) (j := 1) rfl rfl ?_
        refine iwX1_g27_4 E dX1_loudOne_22 ?_
        refine s_iload_n E dX1_loudOne_25 (i := 2) (j := 2) rfl rfl ?_
        refine iw_l32 E (v := nI (madeN s n (prods s n) (argW (madeN s n (prods s n)) u))) (argW (madeN s n (prods s n)) u) (rfl) (by omega) ((hAM.1.2.2.2.2.2.2.2.2.1 (by decide) _ (by omega)).2.1) dX1_loudOne_26 ?_
        refine s_icmp_le E dX1_loudOne_27 (tgt := 32) rfl (fun c27 => ?_) (fun c27 => ?_)
        · have m1 := madeN_mx (s := s) (n := n) hl8 u
          have m2 := madeN_mx (s := s) (n := n) hl8 (argW (madeN s n (prods s n)) u)
          have c27 : ¬ madeN s n (prods s n) (argW (madeN s n (prods s n)) u) < madeN s n (prods s n) u := fun h => absurd c27 (Int32.not_le.mpr ((nI_ltI (a := madeN s n (prods s n) (argW (madeN s n (prods s n)) u)) (b := madeN s n (prods s n) u) (by omega) (by omega)).mpr h))
          refine s_iinc E (L2 := [(3, .int (nI (u + 1))), (0, .ref (ad 0)), (1, .ref (ad 27)), (2, .int (nI (argW (madeN s n (prods s n)) u)))]) dX1_loudOne_32 (k := 3) rfl (v := nI (u + 1)) (nI_inc _) (Nat.le_of_ble_eq_true rfl) rfl ?_
          refine s_goto E dX1_loudOne_35 (tgt := 4) rfl ?_
          refine s_loc (L2 := [(0, .ref (ad 0)), (1, .ref (ad 27)), (2, .int (nI (argW (madeN s n (prods s n)) u))), (3, .int (nI (u + 1)))]) [1, 2, 3, 0] rfl ?_
          refine s_L (L2 := [(0, .ref (ad 0)), (1, .ref (ad 27)), (2, .int (nI (argW (madeN s n (prods s n)) (u + 1)))), (3, .int (nI (u + 1)))]) (by rw [show argW (madeN s n (prods s n)) (u + 1) = argW (madeN s n (prods s n)) u from by rw [argW, if_neg (by omega), if_neg c27]]) ?_
          exact ih4 (u + 1) (by omega) (by omega) (by omega)
        · have m1 := madeN_mx (s := s) (n := n) hl8 u
          have m2 := madeN_mx (s := s) (n := n) hl8 (argW (madeN s n (prods s n)) u)
          have c27 : madeN s n (prods s n) (argW (madeN s n (prods s n)) u) < madeN s n (prods s n) u := (nI_ltI (a := madeN s n (prods s n) (argW (madeN s n (prods s n)) u)) (b := madeN s n (prods s n) u) (by omega) (by omega)).mp (Int32.not_le.mp c27)
          refine s_iload_n E dX1_loudOne_30 (i := 3) (j := 3) rfl rfl ?_
          refine s_istore_n E (L2 := [(2, .int (nI u)), (0, .ref (ad 0)), (1, .ref (ad 27)), (3, .int (nI u))]) dX1_loudOne_31 rfl (Nat.le_of_ble_eq_true rfl) rfl ?_
          refine s_iinc E (L2 := [(3, .int (nI (u + 1))), (2, .int (nI u)), (0, .ref (ad 0)), (1, .ref (ad 27))]) dX1_loudOne_32 (k := 3) rfl (v := nI (u + 1)) (nI_inc _) (Nat.le_of_ble_eq_true rfl) rfl ?_
          refine s_goto E dX1_loudOne_35 (tgt := 4) rfl ?_
          refine s_loc (L2 := [(0, .ref (ad 0)), (1, .ref (ad 27)), (2, .int (nI u)), (3, .int (nI (u + 1)))]) [2, 3, 1, 0] rfl ?_
          refine s_L (L2 := [(0, .ref (ad 0)), (1, .ref (ad 27)), (2, .int (nI (argW (madeN s n (prods s n)) (u + 1)))), (3, .int (nI (u + 1)))]) (by rw [show argW (madeN s n (prods s n)) (u + 1) = u from by rw [argW, if_neg (by omega), if_pos c27]]) ?_
          exact ih4 (u + 1) (by omega) (by omega) (by omega)
  refine s_loc (L2 := [(0, .ref (ad 0)), (1, .ref (ad 27)), (2, .int (nI 0)), (3, .int (nI 1))]) [2, 3, 1, 0] rfl ?_
  exact L4 (_ + 1) 1 (Nat.le_refl _) (Or.inr rfl) (Nat.lt_succ_self _)
theorem K_X1_272 : KV RX1 272 RX1 yX1_loudOne cX1_loudOne 4 (some .int) 1 := ⟨q1039, q1041, qs36, q113, q1042, by decide +kernel⟩
set_option maxHeartbeats 1000000 in
set_option maxRecDepth 100000 in
theorem x1z_worst {l : Launch} {D : va_G} {gt : Nat → Nat} {ad : Nat → Nat} {ct : Nat → ClassId} {n : Nat} {τ σ : Nat → Nat → Int32} {T : va_W}  (hX : XT τ n) (hT : UT ad n τ T) (hP : PC (σ 1) n) : Ct l D gt yX1_worst cX1_worst 1 .int 7 170 0 0 [.ref (ad 0)] (iw ad ct n τ σ T) (tysA ct) (fun r σ2 => worstF (vw τ (σ 1)) n = r ∧ XA σ σ2) (fun σ2 : Nat → Nat → Int32 => iw ad ct n τ σ2 T) (fun _ => tysA ct) := by
  refine Ct.start RX1 (by decide) rfl (Nat.le_of_ble_eq_true rfl) rfl ?_
  intro pP eE sS mM aA bB hM cC QQ AA E Rt
  have hn6 := hX.2.1
  refine s_aload_n E dX1_worst_0 (i := 0) (j := 0) rfl rfl ?_
  refine s_aload_n E dX1_worst_1 (i := 0) (j := 0) rfl rfl ?_
  refine c_gor0 E (rV E (cutS _ _) (x1z_nowAir (hX) (hT) (hP)) K_X1_218 (Nat.le_of_ble_eq_true rfl) (Nat.le_of_ble_eq_true rfl) (Nat.zero_le _) (Nat.zero_le _) 0 rfl rfl rfl rfl (Nat.le_of_ble_eq_true rfl) dX1_worst_2) (fun w2 h2 => ?_)
  refine c_goi0 E (rV E (cutS _ _) (x1z_loudOne (vw τ (σ 1)) (hX) (h2.2.1)) K_X1_272 (Nat.le_of_ble_eq_true rfl) (Nat.le_of_ble_eq_true rfl) (Nat.zero_le _) (Nat.zero_le _) 0 rfl rfl rfl rfl (Nat.le_of_ble_eq_true rfl) dX1_worst_5) (fun r5 w5 h5 => ?_)
  obtain ⟨rfl, rfl⟩ := h5
  exact Rt (worstF (vw τ (σ 1)) n) (w2) dX1_worst_8 (⟨rfl, h2.1⟩) rfl (Nat.le_refl _) (Nat.le_refl _) rfl E.2.2.2.2.2.1
theorem iwX1_g27_8 {p : Program} {l : Launch} {e : Env} {R : Room} {s : State} {m : MethodId} {args : Array Value} {below : List Frame} {meth : Method} {c : Code} {Q : State → Prop} {A : Nat → Prop} {D : va_G} {nL cells slots : Nat} {pc : Nat} {L : List (Nat × Value)} {S : List Value} {cc : ByteArray} {ret : Option FieldType} {gt : Nat → Nat} {ad : Nat → Nat} {ct : Nat → ClassId} {n : Nat} {τ σ : Nat → Nat → Int32} {T : va_W} (E : En p s m args meth c A cc nL RX1 ret D (tysA ct) gt) (d : decode cc pc = .ok (.getfield 276, 3)) (K : Sm p l e R s m args below meth c Q A D nL cells slots (iw ad ct n τ σ T) (pc + 3) L (.ref (ad 36) :: S)) : Sm p l e R s m args below meth c Q A D nL cells slots (iw ad ct n τ σ T) pc L (.ref (ad 27) :: S) := s_getN E in_X4 27 rfl rfl 8 (Nat.le_of_ble_eq_true rfl) q283 rfl rfl d K
theorem iw_l36 {p : Program} {l : Launch} {e : Env} {R : Room} {s : State} {m : MethodId} {args : Array Value} {below : List Frame} {meth : Method} {c : Code} {Q : State → Prop} {A : Nat → Prop} {D : va_G} {nL cells slots : Nat} {pc : Nat} {L : List (Nat × Value)} {S : List Value} {cc : ByteArray} {ret : Option FieldType} {gt : Nat → Nat} {ad : Nat → Nat} {ct : Nat → ClassId} {n : Nat} {τ σ : Nat → Nat → Int32} {T : va_W} {own : String} (E : En p s m args meth c A cc nL own ret D (tysA ct) gt) {i v : Int32} (N : Nat) (hi : i = nI N) (hN : N < 18) (hv : σ 19 N = v) (d : decode cc pc = .ok (.iaload, 1)) (K : Sm p l e R s m args below meth c Q A D nL cells slots (iw ad ct n τ σ T) (pc + 1) L (.int v :: S)) : Sm p l e R s m args below meth c Q A D nL cells slots (iw ad ct n τ σ T) pc L (.int i :: .ref (ad 36) :: S) := s_iald E 36 0 rfl rfl N hi hN (Nat.le_of_ble_eq_true rfl) hv d K
set_option maxHeartbeats 1000000 in
set_option maxRecDepth 100000 in
theorem x1z_bySort {l : Launch} {D : va_G} {gt : Nat → Nat} {ad : Nat → Nat} {ct : Nat → ClassId} {n : Nat} {τ σ : Nat → Nat → Int32} {T : va_W} (k v : Int32) (hX : XT τ n) (hT : UT ad n τ T) (hP : PC (σ 1) n) : Ct l D gt yX1_bySort cX1_bySort 3 .int 7 170 0 0 [.ref (ad 0), .int (k), .int (v)] (iw ad ct n τ σ T) (tysA ct) (fun r σ2 => bySortF (vw τ (σ 1)) n k v = r ∧ XA σ σ2) (fun σ2 : Nat → Nat → Int32 => iw ad ct n τ σ2 T) (fun _ => tysA ct) := by
  refine Ct.start RX1 (by decide) rfl (Nat.le_of_ble_eq_true rfl) rfl ?_
  intro pP eE sS mM aA bB hM cC QQ AA E Rt
  have hn6 := hX.2.1
  refine s_iload_n E dX1_bySort_0 (i := 1) (j := 1) rfl rfl ?_
  refine s_iconst E dX1_bySort_1 (v := nI 0) (by decide) ?_
  refine s_iconst E dX1_bySort_2 (v := nI 5) (by decide) ?_
  refine c_gos E (rS E (cutZ _ _) (x1z_isIn k (nI 0) (nI 5)) K_X1_75 (Nat.le_of_ble_eq_true rfl) (Nat.le_of_ble_eq_true rfl) (Nat.zero_le _) (Nat.zero_le _) rfl rfl (Nat.le_of_ble_eq_true rfl) dX1_bySort_3) (fun r3 h3 => ?_)
  subst h3
  refine s_if_eq E dX1_bySort_6 (tgt := 34) rfl (fun c6 => ?_) (fun c6 => ?_)
  · have c6 := bI_0 c6
    refine s_iconst E dX1_bySort_34 (v := (-1)) (by decide) ?_
    exact Rt ((-1)) (σ) dX1_bySort_35 (⟨bySort_o (Or.inl c6), XA.rf _⟩) rfl (Nat.le_refl _) (Nat.le_refl _) rfl E.2.2.2.2.2.1
  · have c6 := bI_n0 c6
    obtain ⟨i, hi, rfl⟩ := in_rng c6 (by decide)
    refine s_iload_n E dX1_bySort_9 (i := 2) (j := 2) rfl rfl ?_
    refine s_iconst E dX1_bySort_10 (v := nI 0) (by decide) ?_
    refine s_iconst E dX1_bySort_11 (v := nI 2) (by decide) ?_
    refine c_gos E (rS E (cutZ _ _) (x1z_isIn v (nI 0) (nI 2)) K_X1_75 (Nat.le_of_ble_eq_true rfl) (Nat.le_of_ble_eq_true rfl) (Nat.zero_le _) (Nat.zero_le _) rfl rfl (Nat.le_of_ble_eq_true rfl) dX1_bySort_12) (fun r12 h12 => ?_)
    subst h12
    refine s_if_eq E dX1_bySort_15 (tgt := 34) rfl (fun c15 => ?_) (fun c15 => ?_)
    · have c15 := bI_0 c15
      refine s_iconst E dX1_bySort_34 (v := (-1)) (by decide) ?_
      exact Rt ((-1)) (σ) dX1_bySort_35 (⟨bySort_o (Or.inr c15), XA.rf _⟩) rfl (Nat.le_refl _) (Nat.le_refl _) rfl E.2.2.2.2.2.1
    · have c15 := bI_n0 c15
      obtain ⟨w, hw, rfl⟩ := in_rng c15 (by decide)
      refine s_aload_n E dX1_bySort_18 (i := 0) (j := 0) rfl rfl ?_
      refine c_gor0 E (rV E (cutS _ _) (x1z_nowAir (hX) (hT) (hP)) K_X1_218 (Nat.le_of_ble_eq_true rfl) (Nat.le_of_ble_eq_true rfl) (Nat.zero_le _) (Nat.zero_le _) 0 rfl rfl rfl rfl (Nat.le_of_ble_eq_true rfl) dX1_bySort_19) (fun w19 h19 => ?_)
      refine iwX1_g27_8 E dX1_bySort_22 ?_
      refine s_iconst E dX1_bySort_25 (v := nI 3) (by decide) ?_
      refine s_iload_n E dX1_bySort_26 (i := 1) (j := 1) rfl rfl ?_
      refine s_imul_ E dX1_bySort_27 (v := nI (3 * i)) (pk_mul _ _) ?_
      refine s_iload_n E dX1_bySort_28 (i := 2) (j := 2) rfl rfl ?_
      refine s_iadd_ E dX1_bySort_29 (v := nI ((3 * i) + w)) (nI_add _ _) ?_
      refine iw_l36 E (v := nI (sortN (vw τ (σ 1)) n (prods (vw τ (σ 1)) n) i w)) ((3 * i) + w) (rfl) (by omega) (h19.2.1.1.2.2.2.2.2.1 i w (by omega) (by omega)) dX1_bySort_30 ?_
      refine s_goto E dX1_bySort_31 (tgt := 35) rfl ?_
      exact Rt (nI (sortN (vw τ (σ 1)) n (prods (vw τ (σ 1)) n) i w)) (w19) dX1_bySort_35 (⟨by unfold bySortF; rw [if_pos (by simp only [Bool.and_eq_true, Bool.not_eq_true', decide_eq_false_iff_not, decide_eq_true_eq]; exact ⟨⟨⟨c6.1, nI_lt (by omega) (by decide)⟩, c15.1⟩, c15.2⟩), tN_nI (by omega), tN_nI (by omega)]; rfl, h19.1⟩) rfl (Nat.le_refl _) (Nat.le_refl _) rfl E.2.2.2.2.2.1
theorem iwX1_g27_26 {p : Program} {l : Launch} {e : Env} {R : Room} {s : State} {m : MethodId} {args : Array Value} {below : List Frame} {meth : Method} {c : Code} {Q : State → Prop} {A : Nat → Prop} {D : va_G} {nL cells slots : Nat} {pc : Nat} {L : List (Nat × Value)} {S : List Value} {cc : ByteArray} {ret : Option FieldType} {gt : Nat → Nat} {ad : Nat → Nat} {ct : Nat → ClassId} {n : Nat} {τ σ : Nat → Nat → Int32} {T : va_W} (E : En p s m args meth c A cc nL RX1 ret D (tysA ct) gt) {v : Int32} (hv : σ 10 26 = v) (d : decode cc pc = .ok (.getfield 279, 3)) (K : Sm p l e R s m args below meth c Q A D nL cells slots (iw ad ct n τ σ T) (pc + 3) L (.int v :: S)) : Sm p l e R s m args below meth c Q A D nL cells slots (iw ad ct n τ σ T) pc L (.ref (ad 27) :: S) := s_getN E in_X4 27 rfl rfl 26 (Nat.le_of_ble_eq_true rfl) q318 (congrArg (fun z => some (Value.int z)) hv) rfl d K
set_option maxHeartbeats 1000000 in
set_option maxRecDepth 100000 in
theorem x1z_loudest {l : Launch} {D : va_G} {gt : Nat → Nat} {ad : Nat → Nat} {ct : Nat → ClassId} {n : Nat} {τ σ : Nat → Nat → Int32} {T : va_W}  (hX : XT τ n) (hT : UT ad n τ T) (hP : PC (σ 1) n) : Ct l D gt yX1_loudest cX1_loudest 1 .int 7 170 0 0 [.ref (ad 0)] (iw ad ct n τ σ T) (tysA ct) (fun r σ2 => optI (loudF (vw τ (σ 1)) n (prods (vw τ (σ 1)) n) (prods (vw τ (σ 1)) n).length) = r ∧ XA σ σ2) (fun σ2 : Nat → Nat → Int32 => iw ad ct n τ σ2 T) (fun _ => tysA ct) := by
  refine Ct.start RX1 (by decide) rfl (Nat.le_of_ble_eq_true rfl) rfl ?_
  intro pP eE sS mM aA bB hM cC QQ AA E Rt
  have hn6 := hX.2.1
  refine s_aload_n E dX1_loudest_0 (i := 0) (j := 0) rfl rfl ?_
  refine c_gor0 E (rV E (cutS _ _) (x1z_nowAir (hX) (hT) (hP)) K_X1_218 (Nat.le_of_ble_eq_true rfl) (Nat.le_of_ble_eq_true rfl) (Nat.zero_le _) (Nat.zero_le _) 0 rfl rfl rfl rfl (Nat.le_of_ble_eq_true rfl) dX1_loudest_1) (fun w1 h1 => ?_)
  refine iwX1_g27_26 E (v := optI (loudF (vw τ (σ 1)) n (prods (vw τ (σ 1)) n) (prods (vw τ (σ 1)) n).length)) (h1.2.1.1.2.2.2.2.2.2.1.1) dX1_loudest_4 ?_
  exact Rt (optI (loudF (vw τ (σ 1)) n (prods (vw τ (σ 1)) n) (prods (vw τ (σ 1)) n).length)) (w1) dX1_loudest_7 (⟨rfl, h1.1⟩) rfl (Nat.le_refl _) (Nat.le_refl _) rfl E.2.2.2.2.2.1
theorem iwX1_g27_6 {p : Program} {l : Launch} {e : Env} {R : Room} {s : State} {m : MethodId} {args : Array Value} {below : List Frame} {meth : Method} {c : Code} {Q : State → Prop} {A : Nat → Prop} {D : va_G} {nL cells slots : Nat} {pc : Nat} {L : List (Nat × Value)} {S : List Value} {cc : ByteArray} {ret : Option FieldType} {gt : Nat → Nat} {ad : Nat → Nat} {ct : Nat → ClassId} {n : Nat} {τ σ : Nat → Nat → Int32} {T : va_W} (E : En p s m args meth c A cc nL RX1 ret D (tysA ct) gt) (d : decode cc pc = .ok (.getfield 282, 3)) (K : Sm p l e R s m args below meth c Q A D nL cells slots (iw ad ct n τ σ T) (pc + 3) L (.ref (ad 34) :: S)) : Sm p l e R s m args below meth c Q A D nL cells slots (iw ad ct n τ σ T) pc L (.ref (ad 27) :: S) := s_getN E in_X4 27 rfl rfl 6 (Nat.le_of_ble_eq_true rfl) q279 rfl rfl d K
theorem iw_l34 {p : Program} {l : Launch} {e : Env} {R : Room} {s : State} {m : MethodId} {args : Array Value} {below : List Frame} {meth : Method} {c : Code} {Q : State → Prop} {A : Nat → Prop} {D : va_G} {nL cells slots : Nat} {pc : Nat} {L : List (Nat × Value)} {S : List Value} {cc : ByteArray} {ret : Option FieldType} {gt : Nat → Nat} {ad : Nat → Nat} {ct : Nat → ClassId} {n : Nat} {τ σ : Nat → Nat → Int32} {T : va_W} {own : String} (E : En p s m args meth c A cc nL own ret D (tysA ct) gt) {i v : Int32} (N : Nat) (hi : i = nI N) (hN : N < 6) (hv : σ 17 N = v) (d : decode cc pc = .ok (.iaload, 1)) (K : Sm p l e R s m args below meth c Q A D nL cells slots (iw ad ct n τ σ T) (pc + 1) L (.int v :: S)) : Sm p l e R s m args below meth c Q A D nL cells slots (iw ad ct n τ σ T) pc L (.int i :: .ref (ad 34) :: S) := s_iald E 34 0 rfl rfl N hi hN (Nat.le_of_ble_eq_true rfl) hv d K
set_option maxHeartbeats 1000000 in
set_option maxRecDepth 100000 in
theorem x1z_when {l : Launch} {D : va_G} {gt : Nat → Nat} {ad : Nat → Nat} {ct : Nat → ClassId} {n : Nat} {τ σ : Nat → Nat → Int32} {T : va_W} (u : Int32) (hX : XT τ n) (hT : UT ad n τ T) (hP : PC (σ 1) n) : Ct l D gt yX1_when cX1_when 2 .int 7 170 0 0 [.ref (ad 0), .int (u)] (iw ad ct n τ σ T) (tysA ct) (fun r σ2 => (if isU n u = true then whenF (vw τ (σ 1)) (prods (vw τ (σ 1)) n) (tN u) (prods (vw τ (σ 1)) n).length else -1) = r ∧ XA σ σ2) (fun σ2 : Nat → Nat → Int32 => iw ad ct n τ σ2 T) (fun _ => tysA ct) := by
  refine Ct.start RX1 (by decide) rfl (Nat.le_of_ble_eq_true rfl) rfl ?_
  intro pP eE sS mM aA bB hM cC QQ AA E Rt
  have hn6 := hX.2.1
  refine s_aload_n E dX1_when_0 (i := 0) (j := 0) rfl rfl ?_
  refine s_iload_n E dX1_when_1 (i := 1) (j := 1) rfl rfl ?_
  refine c_goi0 E (rV E (cutS _ _) (x1z_isUser u (hX)) K_X1_132 (Nat.le_of_ble_eq_true rfl) (Nat.le_of_ble_eq_true rfl) (Nat.zero_le _) (Nat.zero_le _) 0 rfl rfl rfl rfl (Nat.le_of_ble_eq_true rfl) dX1_when_2) (fun r2 w2 h2 => ?_)
  obtain ⟨rfl, rfl⟩ := h2
  refine s_if_eq E dX1_when_5 (tgt := 20) rfl (fun c5 => ?_) (fun c5 => ?_)
  · have c5 := bI_0 c5
    refine s_iconst E dX1_when_20 (v := (-1)) (by decide) ?_
    exact Rt ((-1)) (σ) dX1_when_21 (⟨by rw [if_neg c5], XA.rf _⟩) rfl (Nat.le_refl _) (Nat.le_refl _) rfl E.2.2.2.2.2.1
  · have c5 := bI_n0 c5
    obtain ⟨j, hj, rfl⟩ := us_isU c5 hn6
    refine s_aload_n E dX1_when_8 (i := 0) (j := 0) rfl rfl ?_
    refine c_gor0 E (rV E (cutS _ _) (x1z_nowAir (hX) (hT) (hP)) K_X1_218 (Nat.le_of_ble_eq_true rfl) (Nat.le_of_ble_eq_true rfl) (Nat.zero_le _) (Nat.zero_le _) 0 rfl rfl rfl rfl (Nat.le_of_ble_eq_true rfl) dX1_when_9) (fun w9 h9 => ?_)
    refine iwX1_g27_6 E dX1_when_12 ?_
    refine s_iload_n E dX1_when_15 (i := 1) (j := 1) rfl rfl ?_
    refine iw_l34 E (v := whenF (vw τ (σ 1)) (prods (vw τ (σ 1)) n) j (prods (vw τ (σ 1)) n).length) (j) (rfl) (by omega) ((h9.2.1.1.2.2.2.2.2.2.2.2.1 (by decide) j (by omega)).2.2) dX1_when_16 ?_
    refine s_goto E dX1_when_17 (tgt := 21) rfl ?_
    exact Rt (whenF (vw τ (σ 1)) (prods (vw τ (σ 1)) n) j (prods (vw τ (σ 1)) n).length) (w9) dX1_when_21 (⟨by rw [if_pos c5, tN_nI (by omega)], h9.1⟩) rfl (Nat.le_refl _) (Nat.le_refl _) rfl E.2.2.2.2.2.1
theorem iwX1_g27_7 {p : Program} {l : Launch} {e : Env} {R : Room} {s : State} {m : MethodId} {args : Array Value} {below : List Frame} {meth : Method} {c : Code} {Q : State → Prop} {A : Nat → Prop} {D : va_G} {nL cells slots : Nat} {pc : Nat} {L : List (Nat × Value)} {S : List Value} {cc : ByteArray} {ret : Option FieldType} {gt : Nat → Nat} {ad : Nat → Nat} {ct : Nat → ClassId} {n : Nat} {τ σ : Nat → Nat → Int32} {T : va_W} (E : En p s m args meth c A cc nL RX1 ret D (tysA ct) gt) (d : decode cc pc = .ok (.getfield 285, 3)) (K : Sm p l e R s m args below meth c Q A D nL cells slots (iw ad ct n τ σ T) (pc + 3) L (.ref (ad 35) :: S)) : Sm p l e R s m args below meth c Q A D nL cells slots (iw ad ct n τ σ T) pc L (.ref (ad 27) :: S) := s_getN E in_X4 27 rfl rfl 7 (Nat.le_of_ble_eq_true rfl) q281 rfl rfl d K
theorem iw_l35 {p : Program} {l : Launch} {e : Env} {R : Room} {s : State} {m : MethodId} {args : Array Value} {below : List Frame} {meth : Method} {c : Code} {Q : State → Prop} {A : Nat → Prop} {D : va_G} {nL cells slots : Nat} {pc : Nat} {L : List (Nat × Value)} {S : List Value} {cc : ByteArray} {ret : Option FieldType} {gt : Nat → Nat} {ad : Nat → Nat} {ct : Nat → ClassId} {n : Nat} {τ σ : Nat → Nat → Int32} {T : va_W} {own : String} (E : En p s m args meth c A cc nL own ret D (tysA ct) gt) {i v : Int32} (N : Nat) (hi : i = nI N) (hN : N < 6) (hv : σ 18 N = v) (d : decode cc pc = .ok (.iaload, 1)) (K : Sm p l e R s m args below meth c Q A D nL cells slots (iw ad ct n τ σ T) (pc + 1) L (.int v :: S)) : Sm p l e R s m args below meth c Q A D nL cells slots (iw ad ct n τ σ T) pc L (.int i :: .ref (ad 35) :: S) := s_iald E 35 0 rfl rfl N hi hN (Nat.le_of_ble_eq_true rfl) hv d K
set_option maxHeartbeats 1000000 in
set_option maxRecDepth 100000 in
theorem x1z_clearance {l : Launch} {D : va_G} {gt : Nat → Nat} {ad : Nat → Nat} {ct : Nat → ClassId} {n : Nat} {τ σ : Nat → Nat → Int32} {T : va_W} (u : Int32) (hX : XT τ n) (hT : UT ad n τ T) (hP : PC (σ 1) n) : Ct l D gt yX1_clearance cX1_clearance 2 .int 7 170 0 0 [.ref (ad 0), .int (u)] (iw ad ct n τ σ T) (tysA ct) (fun r σ2 => (if isU n u = true then clearF (vw τ (σ 1)) (prods (vw τ (σ 1)) n) (tN u) (prods (vw τ (σ 1)) n).length else -1) = r ∧ XA σ σ2) (fun σ2 : Nat → Nat → Int32 => iw ad ct n τ σ2 T) (fun _ => tysA ct) := by
  refine Ct.start RX1 (by decide) rfl (Nat.le_of_ble_eq_true rfl) rfl ?_
  intro pP eE sS mM aA bB hM cC QQ AA E Rt
  have hn6 := hX.2.1
  refine s_aload_n E dX1_clearance_0 (i := 0) (j := 0) rfl rfl ?_
  refine s_iload_n E dX1_clearance_1 (i := 1) (j := 1) rfl rfl ?_
  refine c_goi0 E (rV E (cutS _ _) (x1z_isUser u (hX)) K_X1_132 (Nat.le_of_ble_eq_true rfl) (Nat.le_of_ble_eq_true rfl) (Nat.zero_le _) (Nat.zero_le _) 0 rfl rfl rfl rfl (Nat.le_of_ble_eq_true rfl) dX1_clearance_2) (fun r2 w2 h2 => ?_)
  obtain ⟨rfl, rfl⟩ := h2
  refine s_if_eq E dX1_clearance_5 (tgt := 20) rfl (fun c5 => ?_) (fun c5 => ?_)
  · have c5 := bI_0 c5
    refine s_iconst E dX1_clearance_20 (v := (-1)) (by decide) ?_
    exact Rt ((-1)) (σ) dX1_clearance_21 (⟨by rw [if_neg c5], XA.rf _⟩) rfl (Nat.le_refl _) (Nat.le_refl _) rfl E.2.2.2.2.2.1
  · have c5 := bI_n0 c5
    obtain ⟨j, hj, rfl⟩ := us_isU c5 hn6
    refine s_aload_n E dX1_clearance_8 (i := 0) (j := 0) rfl rfl ?_
    refine c_gor0 E (rV E (cutS _ _) (x1z_nowAir (hX) (hT) (hP)) K_X1_218 (Nat.le_of_ble_eq_true rfl) (Nat.le_of_ble_eq_true rfl) (Nat.zero_le _) (Nat.zero_le _) 0 rfl rfl rfl rfl (Nat.le_of_ble_eq_true rfl) dX1_clearance_9) (fun w9 h9 => ?_)
    refine iwX1_g27_7 E dX1_clearance_12 ?_
    refine s_iload_n E dX1_clearance_15 (i := 1) (j := 1) rfl rfl ?_
    refine iw_l35 E (v := clearF (vw τ (σ 1)) (prods (vw τ (σ 1)) n) j (prods (vw τ (σ 1)) n).length) (j) (rfl) (by omega) (h9.2.1.1.2.2.2.2.2.2.2.1 j (by omega)) dX1_clearance_16 ?_
    refine s_goto E dX1_clearance_17 (tgt := 21) rfl ?_
    exact Rt (clearF (vw τ (σ 1)) (prods (vw τ (σ 1)) n) j (prods (vw τ (σ 1)) n).length) (w9) dX1_clearance_21 (⟨by rw [if_pos c5, tN_nI (by omega)], h9.1⟩) rfl (Nat.le_refl _) (Nat.le_refl _) rfl E.2.2.2.2.2.1
set_option maxHeartbeats 1000000 in
set_option maxRecDepth 100000 in
theorem x1z_rank {l : Launch} {D : va_G} {gt : Nat → Nat} {ad : Nat → Nat} {ct : Nat → ClassId} {n : Nat} {τ σ : Nat → Nat → Int32} {T : va_W} (v : Int32) (hX : XT τ n) (hT : UT ad n τ T) (hP : PC (σ 1) n) : Ct l D gt yX1_rank cX1_rank 6 .int 7 170 0 0 [.ref (ad 0), .int (v)] (iw ad ct n τ σ T) (tysA ct) (fun r σ2 => rankF (vw τ (σ 1)) n v = r ∧ XA σ σ2) (fun σ2 : Nat → Nat → Int32 => iw ad ct n τ σ2 T) (fun _ => tysA ct) := by
  refine Ct.start RX1 (by decide) rfl (Nat.le_of_ble_eq_true rfl) rfl ?_
  intro pP eE sS mM aA bB hM cC QQ AA E Rt
  have hn6 := hX.2.1
  have hl8 := prods_len8 (vw τ (σ 1)) (n := n) (by omega)
  refine s_aload_n E dX1_rank_0 (i := 0) (j := 0) rfl rfl ?_
  refine s_iload_n E dX1_rank_1 (i := 1) (j := 1) rfl rfl ?_
  refine c_goi0 E (rV E (cutS _ _) (x1z_isUser v (hX)) K_X1_132 (Nat.le_of_ble_eq_true rfl) (Nat.le_of_ble_eq_true rfl) (Nat.zero_le _) (Nat.zero_le _) 0 rfl rfl rfl rfl (Nat.le_of_ble_eq_true rfl) dX1_rank_2) (fun r2 w2 h2 => ?_)
  obtain ⟨rfl, rfl⟩ := h2
  refine s_if_ne E dX1_rank_5 (tgt := 10) rfl (fun c5 => ?_) (fun c5 => ?_)
  · have c5 := bI_n0 c5
    obtain ⟨k, hk, rfl⟩ := us_isU c5 hn6
    refine s_aload_n E dX1_rank_10 (i := 0) (j := 0) rfl rfl ?_
    refine c_gor0 E (rV E (cutS _ _) (x1z_nowAir (hX) (hT) (hP)) K_X1_218 (Nat.le_of_ble_eq_true rfl) (Nat.le_of_ble_eq_true rfl) (Nat.zero_le _) (Nat.zero_le _) 0 rfl rfl rfl rfl (Nat.le_of_ble_eq_true rfl) dX1_rank_11) (fun w11 h11 => ?_)
    refine s_astore_n E (L2 := [(2, .ref (ad 27)), (0, .ref (ad 0)), (1, .int (nI k))]) dX1_rank_14 rfl (Nat.le_of_ble_eq_true rfl) rfl ?_
    refine s_iconst E dX1_rank_15 (v := nI 0) (by decide) ?_
    refine s_istore_n E (L2 := [(3, .int (nI 0)), (2, .ref (ad 27)), (0, .ref (ad 0)), (1, .int (nI k))]) dX1_rank_16 rfl (Nat.le_of_ble_eq_true rfl) rfl ?_
    have L17 : ∀ (fuel : Nat) (u : Nat), (u ≤ n) → (firstN (fun u => decide (nI (cntN (aheadB (madeN (vw τ (σ 1)) n (prods (vw τ (σ 1)) n)) u) n) = nI k)) u = 0) → (n - u) < fuel → Sm pP l eE { frames := 7, cells := 0, slots := 0, locals := 170 } sS mM aA bB hM cC QQ AA D 6 0 0 (iw ad ct n τ w11 T) 17 [(0, .ref (ad 0)), (1, .int (nI k)), (2, .ref (ad 27)), (3, .int (nI u))] [] := by
      intro fuel
      induction fuel with
      | zero =>
        intro u hu hf hf17
        exact absurd hf17 (Nat.not_lt_zero _)
      | succ fuel ih17 =>
        intro u hu hf hf17
        have m1 := madeN_mx (s := (vw τ (σ 1))) (n := n) hl8 u
        refine s_iload_n E dX1_rank_17 (i := 3) (j := 3) rfl rfl ?_
        refine s_aload_n E dX1_rank_18 (i := 0) (j := 0) rfl rfl ?_
        refine iwX1_g0_4 E dX1_rank_19 ?_
        refine iwX1_g2_4 E (v := nI n) (hX.1) dX1_rank_22 ?_
        refine s_icmp_ge E dX1_rank_25 (tgt := 114) rfl (fun c25 => ?_) (fun c25 => ?_)
        · have c25 : ¬ u < n := fun h => absurd c25 (Int32.not_le.mpr ((nI_ltI (a := u) (b := n) (by omega) (by omega)).mpr h))
          refine s_iconst E dX1_rank_114 (v := (-1)) (by decide) ?_
          exact Rt ((-1)) (w11) dX1_rank_115 (⟨by unfold rankF; rw [if_pos c5, show n = u by omega]; rw [show n = u by omega] at hf; rw [if_pos hf], h11.1⟩) rfl (Nat.le_refl _) (Nat.le_refl _) rfl E.2.2.2.2.2.1
        · have c25 : u < n := (nI_ltI (a := u) (b := n) (by omega) (by omega)).mp (Int32.not_le.mp c25)
          refine s_iconst E dX1_rank_28 (v := nI 0) (by decide) ?_
          refine s_istore E (L2 := [(4, .int (nI 0)), (0, .ref (ad 0)), (1, .int (nI k)), (2, .ref (ad 27)), (3, .int (nI u))]) dX1_rank_29 (Nat.le_of_ble_eq_true rfl) rfl ?_
          refine s_iconst E dX1_rank_31 (v := nI 0) (by decide) ?_
          refine s_istore E (L2 := [(5, .int (nI 0)), (4, .int (nI 0)), (0, .ref (ad 0)), (1, .int (nI k)), (2, .ref (ad 27)), (3, .int (nI u))]) dX1_rank_32 (Nat.le_of_ble_eq_true rfl) rfl ?_
          have L34 : ∀ (fuel : Nat) (o : Nat), (o ≤ n) → (n - o) < fuel → Sm pP l eE { frames := 7, cells := 0, slots := 0, locals := 170 } sS mM aA bB hM cC QQ AA D 6 0 0 (iw ad ct n τ w11 T) 34 [(0, .ref (ad 0)), (1, .int (nI k)), (2, .ref (ad 27)), (3, .int (nI u)), (4, .int (nI (cntN (aheadB (madeN (vw τ (σ 1)) n (prods (vw τ (σ 1)) n)) u) o))), (5, .int (nI o))] [] := by
            intro fuel
            induction fuel with
            | zero =>
              intro o ho hf34
              exact absurd hf34 (Nat.not_lt_zero _)
            | succ fuel ih34 =>
              intro o ho hf34
              have m2 := madeN_mx (s := (vw τ (σ 1))) (n := n) hl8 o
              refine s_iload E dX1_rank_34 (i := 5) (j := 5) rfl ?_
              refine s_aload_n E dX1_rank_36 (i := 0) (j := 0) rfl rfl ?_
              refine iwX1_g0_4 E dX1_rank_37 ?_
              refine iwX1_g2_4 E (v := nI n) (hX.1) dX1_rank_40 ?_
              refine s_icmp_ge E dX1_rank_43 (tgt := 100) rfl (fun c43 => ?_) (fun c43 => ?_)
              · have c43 : ¬ o < n := fun h => absurd c43 (Int32.not_le.mpr ((nI_ltI (a := o) (b := n) (by omega) (by omega)).mpr h))
                refine s_iload E dX1_rank_100 (i := 4) (j := 4) rfl ?_
                refine s_iload_n E dX1_rank_102 (i := 1) (j := 1) rfl rfl ?_
                refine s_icmp_ne E dX1_rank_103 (tgt := 108) rfl (fun c103 => ?_) (fun c103 => ?_)
                · rw [show o = n by omega] at c103
                  refine s_iinc E (L2 := [(3, .int (nI (u + 1))), (0, .ref (ad 0)), (1, .int (nI k)), (2, .ref (ad 27)), (4, .int (nI (cntN (aheadB (madeN (vw τ (σ 1)) n (prods (vw τ (σ 1)) n)) u) o))), (5, .int (nI o))]) dX1_rank_108 (k := 3) rfl (v := nI (u + 1)) (nI_inc _) (Nat.le_of_ble_eq_true rfl) rfl ?_
                  refine s_goto E dX1_rank_111 (tgt := 17) rfl ?_
                  refine s_loc (L2 := [(0, .ref (ad 0)), (1, .int (nI k)), (2, .ref (ad 27)), (3, .int (nI (u + 1)))]) [1, 2, 3, 0] rfl ?_
                  exact ih17 (u + 1) (by omega) (firstN_next hf (by simp [c103])) (by omega)
                · rw [show o = n by omega] at c103
                  refine s_iload_n E dX1_rank_106 (i := 3) (j := 3) rfl rfl ?_
                  exact Rt (nI u) (w11) dX1_rank_107 (⟨by have e := firstN_keep (f := (fun u => decide (nI (cntN (aheadB (madeN (vw τ (σ 1)) n (prods (vw τ (σ 1)) n)) u) n) = nI k))) (p := u) (n := n) (by omega) hf (by simp [c103]); unfold rankF; rw [if_pos c5, e]; rfl, h11.1⟩) rfl (Nat.le_refl _) (Nat.le_refl _) rfl E.2.2.2.2.2.1
              · have c43 : o < n := (nI_ltI (a := o) (b := n) (by omega) (by omega)).mp (Int32.not_le.mp c43)
                refine s_iload E dX1_rank_46 (i := 4) (j := 4) rfl ?_
                refine s_aload_n E dX1_rank_48 (i := 2) (j := 2) rfl rfl ?_
                refine iwX1_g27_4 E dX1_rank_49 ?_
                refine s_iload E dX1_rank_52 (i := 5) (j := 5) rfl ?_
                refine iw_l32 E (v := nI (madeN (vw τ (σ 1)) n (prods (vw τ (σ 1)) n) o)) (o) (rfl) (by omega) ((h11.2.1.1.2.2.2.2.2.2.2.2.1 (by decide) o (by omega)).2.1) dX1_rank_54 ?_
                refine s_aload_n E dX1_rank_55 (i := 2) (j := 2) rfl rfl ?_
                refine iwX1_g27_4 E dX1_rank_56 ?_
                refine s_iload_n E dX1_rank_59 (i := 3) (j := 3) rfl rfl ?_
                refine iw_l32 E (v := nI (madeN (vw τ (σ 1)) n (prods (vw τ (σ 1)) n) u)) (u) (rfl) (by omega) ((h11.2.1.1.2.2.2.2.2.2.2.2.1 (by decide) u (by omega)).2.1) dX1_rank_60 ?_
                have J91 : Sm pP l eE { frames := 7, cells := 0, slots := 0, locals := 170 } sS mM aA bB hM cC QQ AA D 6 0 0 (iw ad ct n τ w11 T) 91 [(0, .ref (ad 0)), (1, .int (nI k)), (2, .ref (ad 27)), (3, .int (nI u)), (4, .int (nI (cntN (aheadB (madeN (vw τ (σ 1)) n (prods (vw τ (σ 1)) n)) u) o))), (5, .int (nI o))] [.int (nI (cntF (aheadB (madeN (vw τ (σ 1)) n (prods (vw τ (σ 1)) n)) u) o)), .int (nI (cntN (aheadB (madeN (vw τ (σ 1)) n (prods (vw τ (σ 1)) n)) u) o))] := by
                  refine s_iadd_ E dX1_rank_91 (v := nI (cntN (aheadB (madeN (vw τ (σ 1)) n (prods (vw τ (σ 1)) n)) u) (o + 1))) (nI_add _ _) ?_
                  refine s_istore E (L2 := [(4, .int (nI (cntN (aheadB (madeN (vw τ (σ 1)) n (prods (vw τ (σ 1)) n)) u) (o + 1)))), (0, .ref (ad 0)), (1, .int (nI k)), (2, .ref (ad 27)), (3, .int (nI u)), (5, .int (nI o))]) dX1_rank_92 (Nat.le_of_ble_eq_true rfl) rfl ?_
                  refine s_iinc E (L2 := [(5, .int (nI (o + 1))), (4, .int (nI (cntN (aheadB (madeN (vw τ (σ 1)) n (prods (vw τ (σ 1)) n)) u) (o + 1)))), (0, .ref (ad 0)), (1, .int (nI k)), (2, .ref (ad 27)), (3, .int (nI u))]) dX1_rank_94 (k := 5) rfl (v := nI (o + 1)) (nI_inc _) (Nat.le_of_ble_eq_true rfl) rfl ?_
                  refine s_goto E dX1_rank_97 (tgt := 34) rfl ?_
                  refine s_loc (L2 := [(0, .ref (ad 0)), (1, .int (nI k)), (2, .ref (ad 27)), (3, .int (nI u)), (4, .int (nI (cntN (aheadB (madeN (vw τ (σ 1)) n (prods (vw τ (σ 1)) n)) u) (o + 1)))), (5, .int (nI (o + 1)))]) [2, 3, 4, 5, 1, 0] rfl ?_
                  exact ih34 (o + 1) (by omega) (by omega)
                refine s_icmp_gt E dX1_rank_61 (tgt := 86) rfl (fun c61 => ?_) (fun c61 => ?_)
                · have c61 : madeN (vw τ (σ 1)) n (prods (vw τ (σ 1)) n) u < madeN (vw τ (σ 1)) n (prods (vw τ (σ 1)) n) o := (nI_ltI (a := madeN (vw τ (σ 1)) n (prods (vw τ (σ 1)) n) u) (b := madeN (vw τ (σ 1)) n (prods (vw τ (σ 1)) n) o) (by omega) (by omega)).mp c61
                  refine s_iconst E dX1_rank_86 (v := nI 1) (by decide) ?_
                  refine s_goto E dX1_rank_87 (tgt := 91) rfl ?_
                  refine s_top (v2 := nI (cntF (aheadB (madeN (vw τ (σ 1)) n (prods (vw τ (σ 1)) n)) u) o)) (by simp [bI, cntF, aheadB, c5, c25, c43, c61]) ?_
                  exact J91
                · have c61 : ¬ madeN (vw τ (σ 1)) n (prods (vw τ (σ 1)) n) u < madeN (vw τ (σ 1)) n (prods (vw τ (σ 1)) n) o := fun h => c61 ((nI_ltI (a := madeN (vw τ (σ 1)) n (prods (vw τ (σ 1)) n) u) (b := madeN (vw τ (σ 1)) n (prods (vw τ (σ 1)) n) o) (by omega) (by omega)).mpr h)
                  refine s_aload_n E dX1_rank_64 (i := 2) (j := 2) rfl rfl ?_
                  refine iwX1_g27_4 E dX1_rank_65 ?_
                  refine s_iload E dX1_rank_68 (i := 5) (j := 5) rfl ?_
                  refine iw_l32 E (v := nI (madeN (vw τ (σ 1)) n (prods (vw τ (σ 1)) n) o)) (o) (rfl) (by omega) ((h11.2.1.1.2.2.2.2.2.2.2.2.1 (by decide) o (by omega)).2.1) dX1_rank_70 ?_
                  refine s_aload_n E dX1_rank_71 (i := 2) (j := 2) rfl rfl ?_
                  refine iwX1_g27_4 E dX1_rank_72 ?_
                  refine s_iload_n E dX1_rank_75 (i := 3) (j := 3) rfl rfl ?_
                  refine iw_l32 E (v := nI (madeN (vw τ (σ 1)) n (prods (vw τ (σ 1)) n) u)) (u) (rfl) (by omega) ((h11.2.1.1.2.2.2.2.2.2.2.2.1 (by decide) u (by omega)).2.1) dX1_rank_76 ?_
                  refine s_icmp_ne E dX1_rank_77 (tgt := 90) rfl (fun c77 => ?_) (fun c77 => ?_)
                  · have c77 : ¬ madeN (vw τ (σ 1)) n (prods (vw τ (σ 1)) n) o = madeN (vw τ (σ 1)) n (prods (vw τ (σ 1)) n) u := fun h => c77 ((nI_eq (a := madeN (vw τ (σ 1)) n (prods (vw τ (σ 1)) n) o) (b := madeN (vw τ (σ 1)) n (prods (vw τ (σ 1)) n) u) (by omega) (by omega)).mpr h)
                    refine s_iconst E dX1_rank_90 (v := nI 0) (by decide) ?_
                    refine s_top (v2 := nI (cntF (aheadB (madeN (vw τ (σ 1)) n (prods (vw τ (σ 1)) n)) u) o)) (by simp [bI, cntF, aheadB, c5, c25, c43, c61, c77]) ?_
                    exact J91
                  · have c77 : madeN (vw τ (σ 1)) n (prods (vw τ (σ 1)) n) o = madeN (vw τ (σ 1)) n (prods (vw τ (σ 1)) n) u := (nI_eq (a := madeN (vw τ (σ 1)) n (prods (vw τ (σ 1)) n) o) (b := madeN (vw τ (σ 1)) n (prods (vw τ (σ 1)) n) u) (by omega) (by omega)).mp c77
                    refine s_iload E dX1_rank_80 (i := 5) (j := 5) rfl ?_
                    refine s_iload_n E dX1_rank_82 (i := 3) (j := 3) rfl rfl ?_
                    refine s_icmp_ge E dX1_rank_83 (tgt := 90) rfl (fun c83 => ?_) (fun c83 => ?_)
                    · have c83 : ¬ o < u := fun h => absurd c83 (Int32.not_le.mpr ((nI_ltI (a := o) (b := u) (by omega) (by omega)).mpr h))
                      refine s_iconst E dX1_rank_90 (v := nI 0) (by decide) ?_
                      refine s_top (v2 := nI (cntF (aheadB (madeN (vw τ (σ 1)) n (prods (vw τ (σ 1)) n)) u) o)) (by simp [bI, cntF, aheadB, c5, c25, c43, c61, c77, c83]) ?_
                      exact J91
                    · have c83 : o < u := (nI_ltI (a := o) (b := u) (by omega) (by omega)).mp (Int32.not_le.mp c83)
                      refine s_iconst E dX1_rank_86 (v := nI 1) (by decide) ?_
                      refine s_goto E dX1_rank_87 (tgt := 91) rfl ?_
                      refine s_top (v2 := nI (cntF (aheadB (madeN (vw τ (σ 1)) n (prods (vw τ (σ 1)) n)) u) o)) (by simp [bI, cntF, aheadB, c5, c25, c43, c61, c77, c83]) ?_
                      exact J91
          refine s_loc (L2 := [(0, .ref (ad 0)), (1, .int (nI k)), (2, .ref (ad 27)), (3, .int (nI u)), (4, .int (nI 0)), (5, .int (nI 0))]) [2, 3, 4, 5, 1, 0] rfl ?_
          exact L34 (_ + 1) 0 (Nat.zero_le _) (Nat.lt_succ_self _)
    refine s_loc (L2 := [(0, .ref (ad 0)), (1, .int (nI k)), (2, .ref (ad 27)), (3, .int (nI 0))]) [2, 3, 1, 0] rfl ?_
    exact L17 (_ + 1) 0 (Nat.zero_le _) (rfl) (Nat.lt_succ_self _)
  · have c5 := bI_0 c5
    refine s_iconst E dX1_rank_8 (v := (-1)) (by decide) ?_
    exact Rt ((-1)) (σ) dX1_rank_9 (⟨by unfold rankF; rw [if_neg c5], XA.rf _⟩) rfl (Nat.le_refl _) (Nat.le_refl _) rfl E.2.2.2.2.2.1
