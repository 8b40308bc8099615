set_option maxRecDepth 100000
set_option maxHeartbeats 1000000 in
set_option maxRecDepth 100000 in
theorem x1z_isIn {l : Launch} {D : va_G} {gt : Nat → Nat}  (a lo hi : Int32)  : Ct l D gt yX1_isIn cX1_isIn 3 .boolean 0 0 0 0 [.int (a), .int (lo), .int (hi)] [] [] (fun r _ => bI (¬ a < lo ∧ ¬ hi < a) = r) (fun _ : Unit => []) (fun _ => []) := by
  refine Ct.start RX1 (by decide) rfl (Nat.le_of_ble_eq_true rfl) rfl ?_
  intro pP eE sS mM aA bB hM cC QQ AA E Rt
  refine s_iload_n E dX1_isIn_0 (i := 0) (j := 0) rfl rfl ?_
  refine s_iload_n E dX1_isIn_1 (i := 1) (j := 1) rfl rfl ?_
  refine s_icmp_lt E dX1_isIn_2 (tgt := 14) rfl (fun c2 => ?_) (fun c2 => ?_)
  · refine s_iconst E dX1_isIn_14 (v := nI 0) (by decide) ?_
    exact Rt (nI 0) (()) dX1_isIn_15 (by simp [bI, c2]) rfl (Nat.le_refl _) (Nat.le_refl _) rfl E.2.2.2.2.2.1
  · refine s_iload_n E dX1_isIn_5 (i := 0) (j := 0) rfl rfl ?_
    refine s_iload_n E dX1_isIn_6 (i := 2) (j := 2) rfl rfl ?_
    refine s_icmp_gt E dX1_isIn_7 (tgt := 14) rfl (fun c7 => ?_) (fun c7 => ?_)
    · refine s_iconst E dX1_isIn_14 (v := nI 0) (by decide) ?_
      exact Rt (nI 0) (()) dX1_isIn_15 (by simp [bI, c2, c7]) rfl (Nat.le_refl _) (Nat.le_refl _) rfl E.2.2.2.2.2.1
    · refine s_iconst E dX1_isIn_10 (v := nI 1) (by decide) ?_
      refine s_goto E dX1_isIn_11 (tgt := 15) rfl ?_
      exact Rt (nI 1) (()) dX1_isIn_15 (by simp [bI, c2, c7]) rfl (Nat.le_refl _) (Nat.le_refl _) rfl E.2.2.2.2.2.1
set_option maxHeartbeats 1000000 in
set_option maxRecDepth 100000 in
theorem x1z_lesser {l : Launch} {D : va_G} {gt : Nat → Nat}  (a b : Int32)  : Ct l D gt yX1_lesser cX1_lesser 2 .int 0 0 0 0 [.int (a), .int (b)] [] [] (fun r _ => (if a < b then a else b) = r) (fun _ : Unit => []) (fun _ => []) := by
  refine Ct.start RX1 (by decide) rfl (Nat.le_of_ble_eq_true rfl) rfl ?_
  intro pP eE sS mM aA bB hM cC QQ AA E Rt
  refine s_iload_n E dX1_lesser_0 (i := 0) (j := 0) rfl rfl ?_
  refine s_iload_n E dX1_lesser_1 (i := 1) (j := 1) rfl rfl ?_
  refine s_icmp_ge E dX1_lesser_2 (tgt := 9) rfl (fun c2 => ?_) (fun c2 => ?_)
  · have c2 := Int32.not_lt.mpr c2
    refine s_iload_n E dX1_lesser_9 (i := 1) (j := 1) rfl rfl ?_
    exact Rt (b) (()) dX1_lesser_10 (by simp [bI, c2]) rfl (Nat.le_refl _) (Nat.le_refl _) rfl E.2.2.2.2.2.1
  · have c2 := Int32.not_le.mp c2
    refine s_iload_n E dX1_lesser_5 (i := 0) (j := 0) rfl rfl ?_
    refine s_goto E dX1_lesser_6 (tgt := 10) rfl ?_
    exact Rt (a) (()) dX1_lesser_10 (by simp [bI, c2]) rfl (Nat.le_refl _) (Nat.le_refl _) rfl E.2.2.2.2.2.1
def b1F (S : Nat) : Nat := S - (S / 2 &&& 85)
def b2F (S : Nat) : Nat := (b1F S &&& 51) + (b1F S / 4 &&& 51)
def b3F (S : Nat) : Nat := (b2F S + b2F S / 16) &&& 15
def ush (x y : Int32) : Int32 := (x.toUInt32 >>> (y.toUInt32 &&& Int32.toUInt32 31)).toInt32
theorem bc_f1 : ∀ S, S < 256 → ush (nI S) (nI 1) = nI (S / 2) ∧ nI (S / 2) &&& nI 1431655765 = nI (S / 2 &&& 85) ∧ nI S - nI (S / 2 &&& 85) = nI (b1F S) := by decide +kernel
theorem bc_f2 : ∀ S, S < 256 → nI (b1F S) &&& nI 858993459 = nI (b1F S &&& 51) ∧ ush (nI (b1F S)) (nI 2) = nI (b1F S / 4) ∧ nI (b1F S / 4) &&& nI 858993459 = nI (b1F S / 4 &&& 51) ∧ nI (b1F S &&& 51) + nI (b1F S / 4 &&& 51) = nI (b2F S) := by decide +kernel
theorem bc_f3 : ∀ S, S < 256 → ush (nI (b2F S)) (nI 4) = nI (b2F S / 16) ∧ nI (b2F S) + nI (b2F S / 16) = nI (b2F S + b2F S / 16) ∧ nI (b2F S + b2F S / 16) &&& nI 252645135 = nI (b3F S) := by decide +kernel
theorem bc_f4 : ∀ S, S < 256 → ush (nI (b3F S)) (nI 8) = nI 0 ∧ ush (nI (b3F S)) (nI 16) = nI 0 ∧ nI (b3F S) + nI 0 = nI (b3F S) ∧ nI (b3F S) &&& nI 63 = nI (pop S) := by decide +kernel
set_option maxHeartbeats 1000000 in
set_option maxRecDepth 100000 in
theorem j8z_bitCount {l : Launch} {D : va_G} {gt : Nat → Nat}  (S : Nat) (hS : S < 256) : Ct l D gt yJ8_bitCount cJ8_bitCount 1 .int 0 0 0 0 [.int (nI S)] [] [] (fun r _ => nI (pop S) = r) (fun _ : Unit => []) (fun _ => []) := by
  refine Ct.start RJ8 (by decide) rfl (Nat.le_of_ble_eq_true rfl) rfl ?_
  intro pP eE sS mM aA bB hM cC QQ AA E Rt
  refine s_iload_n E dJ8_bitCount_0 (i := 0) (j := 0) rfl rfl ?_
  refine s_iload_n E dJ8_bitCount_1 (i := 0) (j := 0) rfl rfl ?_
  refine s_iconst E dJ8_bitCount_2 (v := nI 1) (by decide) ?_
  refine s_iushr E dJ8_bitCount_3 (v := nI (S / 2)) ((bc_f1 S hS).1) ?_
  refine s_ldcw E (v := nI 1431655765) dJ8_bitCount_4 q929 ?_
  refine s_iand_ E dJ8_bitCount_7 (v := nI (S / 2 &&& 85)) ((bc_f1 S hS).2.1) ?_
  refine s_isub_ E dJ8_bitCount_8 (v := nI (b1F S)) ((bc_f1 S hS).2.2) ?_
  refine s_istore_n E (L2 := [(0, .int (nI (b1F S)))]) dJ8_bitCount_9 rfl (Nat.le_of_ble_eq_true rfl) rfl ?_
  refine s_iload_n E dJ8_bitCount_10 (i := 0) (j := 0) rfl rfl ?_
  refine s_ldcw E (v := nI 858993459) dJ8_bitCount_11 q930 ?_
  refine s_iand_ E dJ8_bitCount_14 (v := nI (b1F S &&& 51)) ((bc_f2 S hS).1) ?_
  refine s_iload_n E dJ8_bitCount_15 (i := 0) (j := 0) rfl rfl ?_
  refine s_iconst E dJ8_bitCount_16 (v := nI 2) (by decide) ?_
  refine s_iushr E dJ8_bitCount_17 (v := nI (b1F S / 4)) ((bc_f2 S hS).2.1) ?_
  refine s_ldcw E (v := nI 858993459) dJ8_bitCount_18 q930 ?_
  refine s_iand_ E dJ8_bitCount_21 (v := nI (b1F S / 4 &&& 51)) ((bc_f2 S hS).2.2.1) ?_
  refine s_iadd_ E dJ8_bitCount_22 (v := nI (b2F S)) ((bc_f2 S hS).2.2.2) ?_
  refine s_istore_n E (L2 := [(0, .int (nI (b2F S)))]) dJ8_bitCount_23 rfl (Nat.le_of_ble_eq_true rfl) rfl ?_
  refine s_iload_n E dJ8_bitCount_24 (i := 0) (j := 0) rfl rfl ?_
  refine s_iload_n E dJ8_bitCount_25 (i := 0) (j := 0) rfl rfl ?_
  refine s_iconst E dJ8_bitCount_26 (v := nI 4) (by decide) ?_
  refine s_iushr E dJ8_bitCount_27 (v := nI (b2F S / 16)) ((bc_f3 S hS).1) ?_
  refine s_iadd_ E dJ8_bitCount_28 (v := nI (b2F S + b2F S / 16)) ((bc_f3 S hS).2.1) ?_
  refine s_ldcw E (v := nI 252645135) dJ8_bitCount_29 q931 ?_
  refine s_iand_ E dJ8_bitCount_32 (v := nI (b3F S)) ((bc_f3 S hS).2.2) ?_
  refine s_istore_n E (L2 := [(0, .int (nI (b3F S)))]) dJ8_bitCount_33 rfl (Nat.le_of_ble_eq_true rfl) rfl ?_
  refine s_iload_n E dJ8_bitCount_34 (i := 0) (j := 0) rfl rfl ?_
  refine s_iload_n E dJ8_bitCount_35 (i := 0) (j := 0) rfl rfl ?_
  refine s_bipush E dJ8_bitCount_36 (v := nI 8) (by decide) ?_
  refine s_iushr E dJ8_bitCount_38 (v := nI 0) ((bc_f4 S hS).1) ?_
  refine s_iadd_ E dJ8_bitCount_39 (v := nI (b3F S)) ((bc_f4 S hS).2.2.1) ?_
  refine s_istore_n E (L2 := [(0, .int (nI (b3F S)))]) dJ8_bitCount_40 rfl (Nat.le_of_ble_eq_true rfl) rfl ?_
  refine s_iload_n E dJ8_bitCount_41 (i := 0) (j := 0) rfl rfl ?_
  refine s_iload_n E dJ8_bitCount_42 (i := 0) (j := 0) rfl rfl ?_
  refine s_bipush E dJ8_bitCount_43 (v := nI 16) (by decide) ?_
  refine s_iushr E dJ8_bitCount_45 (v := nI 0) ((bc_f4 S hS).2.1) ?_
  refine s_iadd_ E dJ8_bitCount_46 (v := nI (b3F S)) ((bc_f4 S hS).2.2.1) ?_
  refine s_istore_n E (L2 := [(0, .int (nI (b3F S)))]) dJ8_bitCount_47 rfl (Nat.le_of_ble_eq_true rfl) rfl ?_
  refine s_iload_n E dJ8_bitCount_48 (i := 0) (j := 0) rfl rfl ?_
  refine s_bipush E dJ8_bitCount_49 (v := nI 63) (by decide) ?_
  refine s_iand_ E dJ8_bitCount_51 (v := nI (pop S)) ((bc_f4 S hS).2.2.2) ?_
  exact Rt (nI (pop S)) (()) dJ8_bitCount_52 (rfl) rfl (Nat.le_refl _) (Nat.le_refl _) rfl E.2.2.2.2.2.1
theorem awX4_g0_0 {p : Program} {l : Launch} {e : Env} {R : Room} {s : State} {m : MethodId} {args : Array Value} {below : List Frame} {meth : Method} {c : Code} {Q : State → Prop} {A : Nat → Prop} {D : va_G} {nL cells slots : Nat} {pc : Nat} {L : List (Nat × Value)} {S : List Value} {cc : ByteArray} {ret : Option FieldType} {gt : Nat → Nat} {ba ad : Nat → Nat} {ct : Nat → ClassId} {Nw : Nat} {τ σ ξ : Nat → Nat → Int32} (E : En p s m args meth c A cc nL RX4 ret D (tysA ct) gt) (d : decode cc pc = .ok (.getfield 28, 3)) (K : Sm p l e R s m args below meth c Q A D nL cells slots (aw ba ct Nw σ ad τ ξ) (pc + 3) L (.ref (ba 1) :: S)) : Sm p l e R s m args below meth c Q A D nL cells slots (aw ba ct Nw σ ad τ ξ) pc L (.ref (ba 0) :: S) := s_get E in_X4 0 rfl rfl 0 (Nat.le_of_ble_eq_true rfl) q266 rfl rfl d K
theorem aw_l1 {p : Program} {l : Launch} {e : Env} {R : Room} {s : State} {m : MethodId} {args : Array Value} {below : List Frame} {meth : Method} {c : Code} {Q : State → Prop} {A : Nat → Prop} {D : va_G} {nL cells slots : Nat} {pc : Nat} {L : List (Nat × Value)} {S : List Value} {cc : ByteArray} {ret : Option FieldType} {gt : Nat → Nat} {ba ad : Nat → Nat} {ct : Nat → ClassId} {Nw : Nat} {τ σ ξ : Nat → Nat → Int32} {own : String} (E : En p s m args meth c A cc nL own ret D (tysA ct) gt) {i v : Int32} (N : Nat) (hi : i = nI N) (hN : N < Nw) (h8 : Nw ≤ 8) (hv : σ 1 N = v) (d : decode cc pc = .ok (.iaload, 1)) (K : Sm p l e R s m args below meth c Q A D nL cells slots (aw ba ct Nw σ ad τ ξ) (pc + 1) L (.int v :: S)) : Sm p l e R s m args below meth c Q A D nL cells slots (aw ba ct Nw σ ad τ ξ) pc L (.int i :: .ref (ba 1) :: S) := s_iald E 1 0 rfl rfl N hi hN (by omega) hv d K
theorem awX4_g0_2 {p : Program} {l : Launch} {e : Env} {R : Room} {s : State} {m : MethodId} {args : Array Value} {below : List Frame} {meth : Method} {c : Code} {Q : State → Prop} {A : Nat → Prop} {D : va_G} {nL cells slots : Nat} {pc : Nat} {L : List (Nat × Value)} {S : List Value} {cc : ByteArray} {ret : Option FieldType} {gt : Nat → Nat} {ba ad : Nat → Nat} {ct : Nat → ClassId} {Nw : Nat} {τ σ ξ : Nat → Nat → Int32} (E : En p s m args meth c A cc nL RX4 ret D (tysA ct) gt) (d : decode cc pc = .ok (.getfield 34, 3)) (K : Sm p l e R s m args below meth c Q A D nL cells slots (aw ba ct Nw σ ad τ ξ) (pc + 3) L (.ref (ba 3) :: S)) : Sm p l e R s m args below meth c Q A D nL cells slots (aw ba ct Nw σ ad τ ξ) pc L (.ref (ba 0) :: S) := s_get E in_X4 0 rfl rfl 2 (Nat.le_of_ble_eq_true rfl) q270 rfl rfl d K
theorem aw_l3 {p : Program} {l : Launch} {e : Env} {R : Room} {s : State} {m : MethodId} {args : Array Value} {below : List Frame} {meth : Method} {c : Code} {Q : State → Prop} {A : Nat → Prop} {D : va_G} {nL cells slots : Nat} {pc : Nat} {L : List (Nat × Value)} {S : List Value} {cc : ByteArray} {ret : Option FieldType} {gt : Nat → Nat} {ba ad : Nat → Nat} {ct : Nat → ClassId} {Nw : Nat} {τ σ ξ : Nat → Nat → Int32} {own : String} (E : En p s m args meth c A cc nL own ret D (tysA ct) gt) {i v : Int32} (N : Nat) (hi : i = nI N) (hN : N < Nw) (h8 : Nw ≤ 8) (hv : σ 3 N = v) (d : decode cc pc = .ok (.iaload, 1)) (K : Sm p l e R s m args below meth c Q A D nL cells slots (aw ba ct Nw σ ad τ ξ) (pc + 1) L (.int v :: S)) : Sm p l e R s m args below meth c Q A D nL cells slots (aw ba ct Nw σ ad τ ξ) pc L (.int i :: .ref (ba 3) :: S) := s_iald E 3 0 rfl rfl N hi hN (by omega) hv d K
set_option maxHeartbeats 1000000 in
set_option maxRecDepth 100000 in
theorem x4z_isAt {l : Launch} {D : va_G} {gt : Nat → Nat} {ba ad : Nat → Nat} {ct : Nat → ClassId} {Nw : Nat} {τ σ ξ : Nat → Nat → Int32} (s : Nat → Nat → Int32) (n u a : Nat) (hA : AI s σ n) (hnN : n ≤ Nw) (hN8 : Nw ≤ 8) (hu : u < n) : Ct l D gt yX4_isAt cX4_isAt 3 .boolean 0 0 0 0 [.ref (ba 0), .int (nI u), .int (nI a)] (aw ba ct Nw σ ad τ ξ) (tysA ct) (fun r σ2 => bI (thB s u a = true) = r ∧ σ = σ2) (fun σ2 : Nat → Nat → Int32 => aw ba ct Nw σ2 ad τ ξ) (fun _ => tysA ct) := by
  refine Ct.start RX4 (by decide) rfl (Nat.le_of_ble_eq_true rfl) rfl ?_
  intro pP eE sS mM aA bB hM cC QQ AA E Rt
  refine s_aload_n E dX4_isAt_0 (i := 0) (j := 0) rfl rfl ?_
  refine awX4_g0_0 E dX4_isAt_1 ?_
  refine s_iload_n E dX4_isAt_4 (i := 1) (j := 1) rfl rfl ?_
  refine aw_l1 E (v := s 6 u) (u) (rfl) (by omega) hN8 ((hA.2.2.2.2.2 u (by omega)).1) dX4_isAt_5 ?_
  refine s_iload_n E dX4_isAt_6 (i := 2) (j := 2) rfl rfl ?_
  refine s_icmp_ne E dX4_isAt_7 (tgt := 23) rfl (fun c7 => ?_) (fun c7 => ?_)
  · refine s_iconst E dX4_isAt_23 (v := nI 0) (by decide) ?_
    exact Rt (nI 0) (σ) dX4_isAt_24 (⟨by simp [bI, thB, c7], rfl⟩) rfl (Nat.le_refl _) (Nat.le_refl _) rfl E.2.2.2.2.2.1
  · refine s_aload_n E dX4_isAt_10 (i := 0) (j := 0) rfl rfl ?_
    refine awX4_g0_2 E dX4_isAt_11 ?_
    refine s_iload_n E dX4_isAt_14 (i := 1) (j := 1) rfl rfl ?_
    refine aw_l3 E (v := s 25 u) (u) (rfl) (by omega) hN8 ((hA.2.2.2.2.2 u (by omega)).2.2.1) dX4_isAt_15 ?_
    refine s_if_le E dX4_isAt_16 (tgt := 23) rfl (fun c16 => ?_) (fun c16 => ?_)
    · have c16 := Int32.not_lt.mpr c16
      refine s_iconst E dX4_isAt_23 (v := nI 0) (by decide) ?_
      exact Rt (nI 0) (σ) dX4_isAt_24 (⟨by simp [bI, thB, c7, c16], rfl⟩) rfl (Nat.le_refl _) (Nat.le_refl _) rfl E.2.2.2.2.2.1
    · have c16 := Int32.not_le.mp c16
      refine s_iconst E dX4_isAt_19 (v := nI 1) (by decide) ?_
      refine s_goto E dX4_isAt_20 (tgt := 24) rfl ?_
      exact Rt (nI 1) (σ) dX4_isAt_24 (⟨by simp [bI, thB, c7, c16], rfl⟩) rfl (Nat.le_refl _) (Nat.le_refl _) rfl E.2.2.2.2.2.1
theorem awX4_g0_5 {p : Program} {l : Launch} {e : Env} {R : Room} {s : State} {m : MethodId} {args : Array Value} {below : List Frame} {meth : Method} {c : Code} {Q : State → Prop} {A : Nat → Prop} {D : va_G} {nL cells slots : Nat} {pc : Nat} {L : List (Nat × Value)} {S : List Value} {cc : ByteArray} {ret : Option FieldType} {gt : Nat → Nat} {ba ad : Nat → Nat} {ct : Nat → ClassId} {Nw : Nat} {τ σ ξ : Nat → Nat → Int32} (E : En p s m args meth c A cc nL RX4 ret D (tysA ct) gt) (d : decode cc pc = .ok (.getfield 43, 3)) (K : Sm p l e R s m args below meth c Q A D nL cells slots (aw ba ct Nw σ ad τ ξ) (pc + 3) L (.ref (ba 6) :: S)) : Sm p l e R s m args below meth c Q A D nL cells slots (aw ba ct Nw σ ad τ ξ) pc L (.ref (ba 0) :: S) := s_get E in_X4 0 rfl rfl 5 (Nat.le_of_ble_eq_true rfl) q276 rfl rfl d K
theorem aw_l6 {p : Program} {l : Launch} {e : Env} {R : Room} {s : State} {m : MethodId} {args : Array Value} {below : List Frame} {meth : Method} {c : Code} {Q : State → Prop} {A : Nat → Prop} {D : va_G} {nL cells slots : Nat} {pc : Nat} {L : List (Nat × Value)} {S : List Value} {cc : ByteArray} {ret : Option FieldType} {gt : Nat → Nat} {ba ad : Nat → Nat} {ct : Nat → ClassId} {Nw : Nat} {τ σ ξ : Nat → Nat → Int32} {own : String} (E : En p s m args meth c A cc nL own ret D (tysA ct) gt) {i v : Int32} (N : Nat) (hi : i = nI N) (hN : N < Nw) (h8 : Nw ≤ 8) (hv : σ 6 N = v) (d : decode cc pc = .ok (.iaload, 1)) (K : Sm p l e R s m args below meth c Q A D nL cells slots (aw ba ct Nw σ ad τ ξ) (pc + 1) L (.int v :: S)) : Sm p l e R s m args below meth c Q A D nL cells slots (aw ba ct Nw σ ad τ ξ) pc L (.int i :: .ref (ba 6) :: S) := s_iald E 6 0 rfl rfl N hi hN (by omega) hv d K
theorem awX4_g0_12 {p : Program} {l : Launch} {e : Env} {R : Room} {s : State} {m : MethodId} {args : Array Value} {below : List Frame} {meth : Method} {c : Code} {Q : State → Prop} {A : Nat → Prop} {D : va_G} {nL cells slots : Nat} {pc : Nat} {L : List (Nat × Value)} {S : List Value} {cc : ByteArray} {ret : Option FieldType} {gt : Nat → Nat} {ba ad : Nat → Nat} {ct : Nat → ClassId} {Nw : Nat} {τ σ ξ : Nat → Nat → Int32} (E : En p s m args meth c A cc nL RX4 ret D (tysA ct) gt) {v : Int32} (hv : σ 0 12 = v) (d : decode cc pc = .ok (.getfield 73, 3)) (K : Sm p l e R s m args below meth c Q A D nL cells slots (aw ba ct Nw σ ad τ ξ) (pc + 3) L (.int v :: S)) : Sm p l e R s m args below meth c Q A D nL cells slots (aw ba ct Nw σ ad τ ξ) pc L (.ref (ba 0) :: S) := s_get E in_X4 0 rfl rfl 12 (Nat.le_of_ble_eq_true rfl) q290 (congrArg (fun z => some (Value.int z)) hv) rfl d K
set_option maxHeartbeats 1000000 in
set_option maxRecDepth 100000 in
theorem x4z_areCrowded {l : Launch} {D : va_G} {gt : Nat → Nat} {ba ad : Nat → Nat} {ct : Nat → ClassId} {Nw : Nat} {τ σ ξ : Nat → Nat → Int32} (s : Nat → Nat → Int32) (n u v : Nat) (hA : AI s σ n) (hnN : n ≤ Nw) (hN8 : Nw ≤ 8) (hu : u < n) (hv : v < n) : Ct l D gt yX4_areCrowded cX4_areCrowded 3 .boolean 1 21 0 0 [.ref (ba 0), .int (nI u), .int (nI v)] (aw ba ct Nw σ ad τ ξ) (tysA ct) (fun r σ2 => bI (crowdB s u v = true) = r ∧ σ = σ2) (fun σ2 : Nat → Nat → Int32 => aw ba ct Nw σ2 ad τ ξ) (fun _ => tysA ct) := by
  refine Ct.start RX4 (by decide) rfl (Nat.le_of_ble_eq_true rfl) rfl ?_
  intro pP eE sS mM aA bB hM cC QQ AA E Rt
  refine s_iload_n E dX4_areCrowded_0 (i := 1) (j := 1) rfl rfl ?_
  refine s_iload_n E dX4_areCrowded_1 (i := 2) (j := 2) rfl rfl ?_
  refine s_icmp_eq E dX4_areCrowded_2 (tgt := 81) rfl (fun c2 => ?_) (fun c2 => ?_)
  · have c2 : u = v := (nI_eq (a := u) (b := v) (by omega) (by omega)).mp c2
    refine s_iconst E dX4_areCrowded_81 (v := nI 0) (by decide) ?_
    exact Rt (nI 0) (σ) dX4_areCrowded_82 (⟨by simp [bI, crowdB, c2], rfl⟩) rfl (Nat.le_refl _) (Nat.le_refl _) rfl E.2.2.2.2.2.1
  · have c2 : ¬ u = v := fun h => c2 ((nI_eq (a := u) (b := v) (by omega) (by omega)).mpr h)
    refine s_aload_n E dX4_areCrowded_5 (i := 0) (j := 0) rfl rfl ?_
    refine awX4_g0_0 E dX4_areCrowded_6 ?_
    refine s_iload_n E dX4_areCrowded_9 (i := 1) (j := 1) rfl rfl ?_
    refine aw_l1 E (v := s 6 u) (u) (rfl) (by omega) hN8 ((hA.2.2.2.2.2 u (by omega)).1) dX4_areCrowded_10 ?_
    refine s_aload_n E dX4_areCrowded_11 (i := 0) (j := 0) rfl rfl ?_
    refine awX4_g0_0 E dX4_areCrowded_12 ?_
    refine s_iload_n E dX4_areCrowded_15 (i := 2) (j := 2) rfl rfl ?_
    refine aw_l1 E (v := s 6 v) (v) (rfl) (by omega) hN8 ((hA.2.2.2.2.2 v (by omega)).1) dX4_areCrowded_16 ?_
    refine s_icmp_ne E dX4_areCrowded_17 (tgt := 81) rfl (fun c17 => ?_) (fun c17 => ?_)
    · refine s_iconst E dX4_areCrowded_81 (v := nI 0) (by decide) ?_
      exact Rt (nI 0) (σ) dX4_areCrowded_82 (⟨by simp [bI, crowdB, c2, c17], rfl⟩) rfl (Nat.le_refl _) (Nat.le_refl _) rfl E.2.2.2.2.2.1
    · refine s_aload_n E dX4_areCrowded_20 (i := 0) (j := 0) rfl rfl ?_
      refine awX4_g0_5 E dX4_areCrowded_21 ?_
      refine s_iload_n E dX4_areCrowded_24 (i := 1) (j := 1) rfl rfl ?_
      refine aw_l6 E (v := s 25 (73 + u)) (u) (rfl) (by omega) hN8 ((hA.2.2.2.2.2 u (by omega)).2.2.2) dX4_areCrowded_25 ?_
      refine s_aload_n E dX4_areCrowded_26 (i := 0) (j := 0) rfl rfl ?_
      refine awX4_g0_5 E dX4_areCrowded_27 ?_
      refine s_iload_n E dX4_areCrowded_30 (i := 2) (j := 2) rfl rfl ?_
      refine aw_l6 E (v := s 25 (73 + v)) (v) (rfl) (by omega) hN8 ((hA.2.2.2.2.2 v (by omega)).2.2.2) dX4_areCrowded_31 ?_
      refine s_iand E dX4_areCrowded_32 ?_
      refine s_if_eq E dX4_areCrowded_33 (tgt := 81) rfl (fun c33 => ?_) (fun c33 => ?_)
      · refine s_iconst E dX4_areCrowded_81 (v := nI 0) (by decide) ?_
        exact Rt (nI 0) (σ) dX4_areCrowded_82 (⟨by simp [bI, crowdB, c2, c17, c33], rfl⟩) rfl (Nat.le_refl _) (Nat.le_refl _) rfl E.2.2.2.2.2.1
      · refine s_aload_n E dX4_areCrowded_36 (i := 0) (j := 0) rfl rfl ?_
        refine awX4_g0_2 E dX4_areCrowded_37 ?_
        refine s_iload_n E dX4_areCrowded_40 (i := 1) (j := 1) rfl rfl ?_
        refine aw_l3 E (v := s 25 u) (u) (rfl) (by omega) hN8 ((hA.2.2.2.2.2 u (by omega)).2.2.1) dX4_areCrowded_41 ?_
        refine s_if_le E dX4_areCrowded_42 (tgt := 81) rfl (fun c42 => ?_) (fun c42 => ?_)
        · have c42 := Int32.not_lt.mpr c42
          refine s_iconst E dX4_areCrowded_81 (v := nI 0) (by decide) ?_
          exact Rt (nI 0) (σ) dX4_areCrowded_82 (⟨by simp [bI, crowdB, c2, c17, c33, c42], rfl⟩) rfl (Nat.le_refl _) (Nat.le_refl _) rfl E.2.2.2.2.2.1
        · have c42 := Int32.not_le.mp c42
          refine s_aload_n E dX4_areCrowded_45 (i := 0) (j := 0) rfl rfl ?_
          refine awX4_g0_2 E dX4_areCrowded_46 ?_
          refine s_iload_n E dX4_areCrowded_49 (i := 2) (j := 2) rfl rfl ?_
          refine aw_l3 E (v := s 25 v) (v) (rfl) (by omega) hN8 ((hA.2.2.2.2.2 v (by omega)).2.2.1) dX4_areCrowded_50 ?_
          refine s_if_le E dX4_areCrowded_51 (tgt := 81) rfl (fun c51 => ?_) (fun c51 => ?_)
          · have c51 := Int32.not_lt.mpr c51
            refine s_iconst E dX4_areCrowded_81 (v := nI 0) (by decide) ?_
            exact Rt (nI 0) (σ) dX4_areCrowded_82 (⟨by simp [bI, crowdB, c2, c17, c33, c42, c51], rfl⟩) rfl (Nat.le_refl _) (Nat.le_refl _) rfl E.2.2.2.2.2.1
          · have c51 := Int32.not_le.mp c51
            refine s_aload_n E dX4_areCrowded_54 (i := 0) (j := 0) rfl rfl ?_
            refine awX4_g0_2 E dX4_areCrowded_55 ?_
            refine s_iload_n E dX4_areCrowded_58 (i := 1) (j := 1) rfl rfl ?_
            refine aw_l3 E (v := s 25 u) (u) (rfl) (by omega) hN8 ((hA.2.2.2.2.2 u (by omega)).2.2.1) dX4_areCrowded_59 ?_
            refine s_aload_n E dX4_areCrowded_60 (i := 0) (j := 0) rfl rfl ?_
            refine awX4_g0_2 E dX4_areCrowded_61 ?_
            refine s_iload_n E dX4_areCrowded_64 (i := 2) (j := 2) rfl rfl ?_
            refine aw_l3 E (v := s 25 v) (v) (rfl) (by omega) hN8 ((hA.2.2.2.2.2 v (by omega)).2.2.1) dX4_areCrowded_65 ?_
            refine s_isub E dX4_areCrowded_66 ?_
            refine s_mabs E (v := absI (s 25 u - s 25 v)) (abs_eq _) q911 q912 q121 q913 (Nat.le_of_ble_eq_true rfl) (Nat.le_of_ble_eq_true rfl) (Nat.zero_le _) (Nat.zero_le _) dX4_areCrowded_67 ?_
            refine s_aload_n E dX4_areCrowded_70 (i := 0) (j := 0) rfl rfl ?_
            refine awX4_g0_12 E (v := s 0 32) (hA.2.2.2.1) dX4_areCrowded_71 ?_
            refine s_icmp_ge E dX4_areCrowded_74 (tgt := 81) rfl (fun c74 => ?_) (fun c74 => ?_)
            · have c74 := Int32.not_lt.mpr c74
              refine s_iconst E dX4_areCrowded_81 (v := nI 0) (by decide) ?_
              exact Rt (nI 0) (σ) dX4_areCrowded_82 (⟨by simp [bI, crowdB, c2, c17, c33, c42, c51, c74], rfl⟩) rfl (Nat.le_refl _) (Nat.le_refl _) rfl E.2.2.2.2.2.1
            · have c74 := Int32.not_le.mp c74
              refine s_iconst E dX4_areCrowded_77 (v := nI 1) (by decide) ?_
              refine s_goto E dX4_areCrowded_78 (tgt := 82) rfl ?_
              exact Rt (nI 1) (σ) dX4_areCrowded_82 (⟨by simp [bI, crowdB, c2, c17, c33, c42, c51, c74], rfl⟩) rfl (Nat.le_refl _) (Nat.le_refl _) rfl E.2.2.2.2.2.1
theorem awX4_g0_16 {p : Program} {l : Launch} {e : Env} {R : Room} {s : State} {m : MethodId} {args : Array Value} {below : List Frame} {meth : Method} {c : Code} {Q : State → Prop} {A : Nat → Prop} {D : va_G} {nL cells slots : Nat} {pc : Nat} {L : List (Nat × Value)} {S : List Value} {cc : ByteArray} {ret : Option FieldType} {gt : Nat → Nat} {ba ad : Nat → Nat} {ct : Nat → ClassId} {Nw : Nat} {τ σ ξ : Nat → Nat → Int32} (E : En p s m args meth c A cc nL RX4 ret D (tysA ct) gt) {v : Int32} (hv : σ 0 16 = v) (d : decode cc pc = .ok (.getfield 101, 3)) (K : Sm p l e R s m args below meth c Q A D nL cells slots (aw ba ct Nw σ ad τ ξ) (pc + 3) L (.int v :: S)) : Sm p l e R s m args below meth c Q A D nL cells slots (aw ba ct Nw σ ad τ ξ) pc L (.ref (ba 0) :: S) := s_get E in_X4 0 rfl rfl 16 (Nat.le_of_ble_eq_true rfl) q298 (congrArg (fun z => some (Value.int z)) hv) rfl d K
theorem awX4_g0_17 {p : Program} {l : Launch} {e : Env} {R : Room} {s : State} {m : MethodId} {args : Array Value} {below : List Frame} {meth : Method} {c : Code} {Q : State → Prop} {A : Nat → Prop} {D : va_G} {nL cells slots : Nat} {pc : Nat} {L : List (Nat × Value)} {S : List Value} {cc : ByteArray} {ret : Option FieldType} {gt : Nat → Nat} {ba ad : Nat → Nat} {ct : Nat → ClassId} {Nw : Nat} {τ σ ξ : Nat → Nat → Int32} (E : En p s m args meth c A cc nL RX4 ret D (tysA ct) gt) {v : Int32} (hv : σ 0 17 = v) (d : decode cc pc = .ok (.getfield 114, 3)) (K : Sm p l e R s m args below meth c Q A D nL cells slots (aw ba ct Nw σ ad τ ξ) (pc + 3) L (.int v :: S)) : Sm p l e R s m args below meth c Q A D nL cells slots (aw ba ct Nw σ ad τ ξ) pc L (.ref (ba 0) :: S) := s_get E in_X4 0 rfl rfl 17 (Nat.le_of_ble_eq_true rfl) q300 (congrArg (fun z => some (Value.int z)) hv) rfl d K
set_option maxHeartbeats 1000000 in
set_option maxRecDepth 100000 in
theorem x4z_trouble {l : Launch} {D : va_G} {gt : Nat → Nat} {ba ad : Nat → Nat} {ct : Nat → ClassId} {Nw : Nat} {τ σ ξ : Nat → Nat → Int32}   : Ct l D gt yX4_trouble cX4_trouble 1 .int 0 0 0 0 [.ref (ba 0)] (aw ba ct Nw σ ad τ ξ) (tysA ct) (fun r σ2 => σ 0 16 + σ 0 17 = r ∧ σ = σ2) (fun σ2 : Nat → Nat → Int32 => aw ba ct Nw σ2 ad τ ξ) (fun _ => tysA ct) := by
  refine Ct.start RX4 (by decide) rfl (Nat.le_of_ble_eq_true rfl) rfl ?_
  intro pP eE sS mM aA bB hM cC QQ AA E Rt
  refine s_aload_n E dX4_trouble_0 (i := 0) (j := 0) rfl rfl ?_
  refine awX4_g0_16 E (v := σ 0 16) (rfl) dX4_trouble_1 ?_
  refine s_aload_n E dX4_trouble_4 (i := 0) (j := 0) rfl rfl ?_
  refine awX4_g0_17 E (v := σ 0 17) (rfl) dX4_trouble_5 ?_
  refine s_iadd E dX4_trouble_8 ?_
  exact Rt ((σ 0 16) + (σ 0 17)) (σ) dX4_trouble_9 (⟨rfl, rfl⟩) rfl (Nat.le_refl _) (Nat.le_refl _) rfl E.2.2.2.2.2.1
set_option maxHeartbeats 1000000 in
set_option maxRecDepth 100000 in
theorem x4z_sumC {l : Launch} {D : va_G} {gt : Nat → Nat} {ba ad : Nat → Nat} {ct : Nat → ClassId} {Nw : Nat} {τ σ ξ : Nat → Nat → Int32} (s : Nat → Nat → Int32) (n k u v : Nat) (hA : AI s σ n) (hnN : n ≤ Nw) (hN8 : Nw ≤ 8) (hk : k < 6) (hu : u < n) (hv : v < n) : Ct l D gt yX4_sum cX4_sum 11 .int 0 0 0 0 [.ref (ba 0), .int (nI k), .ref (ba 3), .int (nI u), .int (nI v), .int ((-1)), .int (nI 1)] (aw ba ct Nw σ ad τ ξ) (tysA ct) (fun r σ2 => pvF s (k, u, v, none) = r ∧ σ = σ2) (fun σ2 : Nat → Nat → Int32 => aw ba ct Nw σ2 ad τ ξ) (fun _ => tysA ct) := by
  refine Ct.start RX4 (by decide) rfl (Nat.le_of_ble_eq_true rfl) rfl ?_
  intro pP eE sS mM aA bB hM cC QQ AA E Rt
  refine s_iconst E dX4_sum_0 (v := nI 0) (by decide) ?_
  refine s_istore E (L2 := [(7, .int (nI 0)), (0, .ref (ba 0)), (1, .int (nI k)), (2, .ref (ba 3)), (3, .int (nI u)), (4, .int (nI v)), (5, .int ((-1))), (6, .int (nI 1))]) dX4_sum_1 (Nat.le_of_ble_eq_true rfl) rfl ?_
  refine s_iconst E dX4_sum_3 (v := nI 0) (by decide) ?_
  refine s_istore E (L2 := [(8, .int (nI 0)), (7, .int (nI 0)), (0, .ref (ba 0)), (1, .int (nI k)), (2, .ref (ba 3)), (3, .int (nI u)), (4, .int (nI v)), (5, .int ((-1))), (6, .int (nI 1))]) dX4_sum_4 (Nat.le_of_ble_eq_true rfl) rfl ?_
  refine s_iload E dX4_sum_6 (i := 8) (j := 0) rfl ?_
  refine s_iconst E dX4_sum_8 (v := nI 3) (by decide) ?_
  refine s_icmp_ge E dX4_sum_9 (tgt := 84) rfl (fun c9 => absurd c9 (by decide)) (fun c9 => ?_)
  refine s_iload E dX4_sum_12 (i := 8) (j := 0) rfl ?_
  refine s_if_ne E dX4_sum_14 (tgt := 21) rfl (fun c14 => absurd c14 (by decide)) (fun c14 => ?_)
  refine s_iload_n E dX4_sum_17 (i := 3) (j := 5) rfl rfl ?_
  refine s_goto E dX4_sum_18 (tgt := 34) rfl ?_
  refine s_istore E (L2 := [(9, .int (nI u)), (8, .int (nI 0)), (7, .int (nI 0)), (0, .ref (ba 0)), (1, .int (nI k)), (2, .ref (ba 3)), (3, .int (nI u)), (4, .int (nI v)), (5, .int ((-1))), (6, .int (nI 1))]) dX4_sum_34 (Nat.le_of_ble_eq_true rfl) rfl ?_
  refine s_getsN E E.2.2.2.2.2.2.1.1.1 q897 dX4_sum_36 ?_
  refine s_iconst E dX4_sum_39 (v := nI 3) (by decide) ?_
  refine s_iload_n E dX4_sum_40 (i := 1) (j := 4) rfl rfl ?_
  refine s_imul_ E dX4_sum_41 (v := nI (3 * k)) (pk_mul _ _) ?_
  refine s_iload E dX4_sum_42 (i := 8) (j := 1) rfl ?_
  refine s_iadd_ E dX4_sum_44 (v := nI (3 * k)) (nI_add _ _) ?_
  refine s_tald E E.2.2.2.2.2.2.1.1.2.1 (3 * k) (rfl) (by omega) (by decide) (v := .int (tA k)) (congrArg Value.int ((times_at k hk).1)) dX4_sum_45 ?_
  refine s_istore E (L2 := [(10, .int (tA k)), (9, .int (nI u)), (8, .int (nI 0)), (7, .int (nI 0)), (0, .ref (ba 0)), (1, .int (nI k)), (2, .ref (ba 3)), (3, .int (nI u)), (4, .int (nI v)), (5, .int ((-1))), (6, .int (nI 1))]) dX4_sum_46 (Nat.le_of_ble_eq_true rfl) rfl ?_
  refine s_iload E dX4_sum_48 (i := 9) (j := 1) rfl ?_
  refine s_if_lt E dX4_sum_50 (tgt := 78) rfl (fun c50 => absurd c50 (nI_pos (by omega))) (fun c50 => ?_)
  have c50 : ¬ u < 0 := fun h => c50 ((nI_ltI (a := u) (b := 0) (by omega) (by omega)).mpr h)
  refine s_iload E dX4_sum_53 (i := 7) (j := 3) rfl ?_
  refine s_iload E dX4_sum_55 (i := 6) (j := 10) rfl ?_
  refine s_if_eq E dX4_sum_57 (tgt := 65) rfl (fun c57 => absurd c57 (by decide)) (fun c57 => ?_)
  refine s_iload E dX4_sum_60 (i := 10) (j := 0) rfl ?_
  refine s_goto E dX4_sum_62 (tgt := 70) rfl ?_
  refine s_aload_n E dX4_sum_70 (i := 2) (j := 6) rfl rfl ?_
  refine s_iload E dX4_sum_71 (i := 9) (j := 1) rfl ?_
  refine aw_l3 E (v := s 25 u) (u) (rfl) (by omega) hN8 ((hA.2.2.2.2.2 u (by omega)).2.2.1) dX4_sum_73 ?_
  refine s_imul E dX4_sum_74 ?_
  refine s_iadd_ E dX4_sum_75 (v := tA k * s 25 u) (by rw [nI_0, Int32.zero_add]) ?_
  refine s_istore E (L2 := [(7, .int (tA k * s 25 u)), (10, .int (tA k)), (9, .int (nI u)), (8, .int (nI 0)), (0, .ref (ba 0)), (1, .int (nI k)), (2, .ref (ba 3)), (3, .int (nI u)), (4, .int (nI v)), (5, .int ((-1))), (6, .int (nI 1))]) dX4_sum_76 (Nat.le_of_ble_eq_true rfl) rfl ?_
  refine s_iinc E (L2 := [(8, .int (nI 1)), (7, .int (tA k * s 25 u)), (10, .int (tA k)), (9, .int (nI u)), (0, .ref (ba 0)), (1, .int (nI k)), (2, .ref (ba 3)), (3, .int (nI u)), (4, .int (nI v)), (5, .int ((-1))), (6, .int (nI 1))]) dX4_sum_78 (k := 3) rfl (v := nI 1) (rfl) (Nat.le_of_ble_eq_true rfl) rfl ?_
  refine s_goto E dX4_sum_81 (tgt := 6) rfl ?_
  refine s_iload E dX4_sum_6 (i := 8) (j := 0) rfl ?_
  refine s_iconst E dX4_sum_8 (v := nI 3) (by decide) ?_
  refine s_icmp_ge E dX4_sum_9 (tgt := 84) rfl (fun c9 => absurd c9 (by decide)) (fun c9 => ?_)
  refine s_iload E dX4_sum_12 (i := 8) (j := 0) rfl ?_
  refine s_if_ne E dX4_sum_14 (tgt := 21) rfl (fun c14 => ?_) (fun c14 => absurd c14 (by decide))
  refine s_iload E dX4_sum_21 (i := 8) (j := 0) rfl ?_
  refine s_iconst E dX4_sum_23 (v := nI 1) (by decide) ?_
  refine s_icmp_ne E dX4_sum_24 (tgt := 32) rfl (fun c24 => absurd c24 (by decide)) (fun c24 => ?_)
  refine s_iload E dX4_sum_27 (i := 4) (j := 8) rfl ?_
  refine s_goto E dX4_sum_29 (tgt := 34) rfl ?_
  refine s_istore E (L2 := [(9, .int (nI v)), (8, .int (nI 1)), (7, .int (tA k * s 25 u)), (10, .int (tA k)), (0, .ref (ba 0)), (1, .int (nI k)), (2, .ref (ba 3)), (3, .int (nI u)), (4, .int (nI v)), (5, .int ((-1))), (6, .int (nI 1))]) dX4_sum_34 (Nat.le_of_ble_eq_true rfl) rfl ?_
  refine s_getsN E E.2.2.2.2.2.2.1.1.1 q897 dX4_sum_36 ?_
  refine s_iconst E dX4_sum_39 (v := nI 3) (by decide) ?_
  refine s_iload_n E dX4_sum_40 (i := 1) (j := 5) rfl rfl ?_
  refine s_imul_ E dX4_sum_41 (v := nI (3 * k)) (pk_mul _ _) ?_
  refine s_iload E dX4_sum_42 (i := 8) (j := 1) rfl ?_
  refine s_iadd_ E dX4_sum_44 (v := nI (3 * k + 1)) (nI_add _ _) ?_
  refine s_tald E E.2.2.2.2.2.2.1.1.2.1 (3 * k + 1) (rfl) (by omega) (by decide) (v := .int (tB k)) (congrArg Value.int ((times_at k hk).2.1)) dX4_sum_45 ?_
  refine s_istore E (L2 := [(10, .int (tB k)), (9, .int (nI v)), (8, .int (nI 1)), (7, .int (tA k * s 25 u)), (0, .ref (ba 0)), (1, .int (nI k)), (2, .ref (ba 3)), (3, .int (nI u)), (4, .int (nI v)), (5, .int ((-1))), (6, .int (nI 1))]) dX4_sum_46 (Nat.le_of_ble_eq_true rfl) rfl ?_
  refine s_iload E dX4_sum_48 (i := 9) (j := 1) rfl ?_
  refine s_if_lt E dX4_sum_50 (tgt := 78) rfl (fun c50 => absurd c50 (nI_pos (by omega))) (fun c50 => ?_)
  have c50 : ¬ v < 0 := fun h => c50 ((nI_ltI (a := v) (b := 0) (by omega) (by omega)).mpr h)
  refine s_iload E dX4_sum_53 (i := 7) (j := 3) rfl ?_
  refine s_iload E dX4_sum_55 (i := 6) (j := 10) rfl ?_
  refine s_if_eq E dX4_sum_57 (tgt := 65) rfl (fun c57 => absurd c57 (by decide)) (fun c57 => ?_)
  refine s_iload E dX4_sum_60 (i := 10) (j := 0) rfl ?_
  refine s_goto E dX4_sum_62 (tgt := 70) rfl ?_
  refine s_aload_n E dX4_sum_70 (i := 2) (j := 6) rfl rfl ?_
  refine s_iload E dX4_sum_71 (i := 9) (j := 1) rfl ?_
  refine aw_l3 E (v := s 25 v) (v) (rfl) (by omega) hN8 ((hA.2.2.2.2.2 v (by omega)).2.2.1) dX4_sum_73 ?_
  refine s_imul E dX4_sum_74 ?_
  refine s_iadd_ E dX4_sum_75 (v := tA k * s 25 u + tB k * s 25 v) (rfl) ?_
  refine s_istore E (L2 := [(7, .int (tA k * s 25 u + tB k * s 25 v)), (10, .int (tB k)), (9, .int (nI v)), (8, .int (nI 1)), (0, .ref (ba 0)), (1, .int (nI k)), (2, .ref (ba 3)), (3, .int (nI u)), (4, .int (nI v)), (5, .int ((-1))), (6, .int (nI 1))]) dX4_sum_76 (Nat.le_of_ble_eq_true rfl) rfl ?_
  refine s_iinc E (L2 := [(8, .int (nI 2)), (7, .int (tA k * s 25 u + tB k * s 25 v)), (10, .int (tB k)), (9, .int (nI v)), (0, .ref (ba 0)), (1, .int (nI k)), (2, .ref (ba 3)), (3, .int (nI u)), (4, .int (nI v)), (5, .int ((-1))), (6, .int (nI 1))]) dX4_sum_78 (k := 3) rfl (v := nI 2) (rfl) (Nat.le_of_ble_eq_true rfl) rfl ?_
  refine s_goto E dX4_sum_81 (tgt := 6) rfl ?_
  refine s_iload E dX4_sum_6 (i := 8) (j := 0) rfl ?_
  refine s_iconst E dX4_sum_8 (v := nI 3) (by decide) ?_
  refine s_icmp_ge E dX4_sum_9 (tgt := 84) rfl (fun c9 => absurd c9 (by decide)) (fun c9 => ?_)
  refine s_iload E dX4_sum_12 (i := 8) (j := 0) rfl ?_
  refine s_if_ne E dX4_sum_14 (tgt := 21) rfl (fun c14 => ?_) (fun c14 => absurd c14 (by decide))
  refine s_iload E dX4_sum_21 (i := 8) (j := 0) rfl ?_
  refine s_iconst E dX4_sum_23 (v := nI 1) (by decide) ?_
  refine s_icmp_ne E dX4_sum_24 (tgt := 32) rfl (fun c24 => ?_) (fun c24 => absurd c24 (by decide))
  refine s_iload E dX4_sum_32 (i := 5) (j := 9) rfl ?_
  refine s_istore E (L2 := [(9, .int ((-1))), (8, .int (nI 2)), (7, .int (tA k * s 25 u + tB k * s 25 v)), (10, .int (tB k)), (0, .ref (ba 0)), (1, .int (nI k)), (2, .ref (ba 3)), (3, .int (nI u)), (4, .int (nI v)), (5, .int ((-1))), (6, .int (nI 1))]) dX4_sum_34 (Nat.le_of_ble_eq_true rfl) rfl ?_
  refine s_getsN E E.2.2.2.2.2.2.1.1.1 q897 dX4_sum_36 ?_
  refine s_iconst E dX4_sum_39 (v := nI 3) (by decide) ?_
  refine s_iload_n E dX4_sum_40 (i := 1) (j := 5) rfl rfl ?_
  refine s_imul_ E dX4_sum_41 (v := nI (3 * k)) (pk_mul _ _) ?_
  refine s_iload E dX4_sum_42 (i := 8) (j := 1) rfl ?_
  refine s_iadd_ E dX4_sum_44 (v := nI (3 * k + 2)) (nI_add _ _) ?_
  refine s_tald E E.2.2.2.2.2.2.1.1.2.1 (3 * k + 2) (rfl) (by omega) (by decide) (v := .int (tC k)) (congrArg Value.int ((times_at k hk).2.2)) dX4_sum_45 ?_
  refine s_istore E (L2 := [(10, .int (tC k)), (9, .int ((-1))), (8, .int (nI 2)), (7, .int (tA k * s 25 u + tB k * s 25 v)), (0, .ref (ba 0)), (1, .int (nI k)), (2, .ref (ba 3)), (3, .int (nI u)), (4, .int (nI v)), (5, .int ((-1))), (6, .int (nI 1))]) dX4_sum_46 (Nat.le_of_ble_eq_true rfl) rfl ?_
  refine s_iload E dX4_sum_48 (i := 9) (j := 1) rfl ?_
  refine s_if_lt E dX4_sum_50 (tgt := 78) rfl (fun c50 => ?_) (fun c50 => absurd (by decide) c50)
  refine s_iinc E (L2 := [(8, .int (nI 3)), (10, .int (tC k)), (9, .int ((-1))), (7, .int (tA k * s 25 u + tB k * s 25 v)), (0, .ref (ba 0)), (1, .int (nI k)), (2, .ref (ba 3)), (3, .int (nI u)), (4, .int (nI v)), (5, .int ((-1))), (6, .int (nI 1))]) dX4_sum_78 (k := 2) rfl (v := nI 3) (rfl) (Nat.le_of_ble_eq_true rfl) rfl ?_
  refine s_goto E dX4_sum_81 (tgt := 6) rfl ?_
  refine s_iload E dX4_sum_6 (i := 8) (j := 0) rfl ?_
  refine s_iconst E dX4_sum_8 (v := nI 3) (by decide) ?_
  refine s_icmp_ge E dX4_sum_9 (tgt := 84) rfl (fun c9 => ?_) (fun c9 => absurd c9 (by decide))
  refine s_iload E dX4_sum_84 (i := 7) (j := 3) rfl ?_
  exact Rt (tA k * s 25 u + tB k * s 25 v) (σ) dX4_sum_86 (⟨rfl, rfl⟩) rfl (Nat.le_refl _) (Nat.le_refl _) rfl E.2.2.2.2.2.1
set_option maxHeartbeats 1000000 in
set_option maxRecDepth 100000 in
theorem x4z_sumC3 {l : Launch} {D : va_G} {gt : Nat → Nat} {ba ad : Nat → Nat} {ct : Nat → ClassId} {Nw : Nat} {τ σ ξ : Nat → Nat → Int32} (s : Nat → Nat → Int32) (n k u v w : Nat) (hA : AI s σ n) (hnN : n ≤ Nw) (hN8 : Nw ≤ 8) (hk : k < 6) (hu : u < n) (hv : v < n) (hw : w < n) : Ct l D gt yX4_sum cX4_sum 11 .int 0 0 0 0 [.ref (ba 0), .int (nI k), .ref (ba 3), .int (nI u), .int (nI v), .int (nI w), .int (nI 1)] (aw ba ct Nw σ ad τ ξ) (tysA ct) (fun r σ2 => pvF s (k, u, v, some w) = r ∧ σ = σ2) (fun σ2 : Nat → Nat → Int32 => aw ba ct Nw σ2 ad τ ξ) (fun _ => tysA ct) := by
  refine Ct.start RX4 (by decide) rfl (Nat.le_of_ble_eq_true rfl) rfl ?_
  intro pP eE sS mM aA bB hM cC QQ AA E Rt
  refine s_iconst E dX4_sum_0 (v := nI 0) (by decide) ?_
  refine s_istore E (L2 := [(7, .int (nI 0)), (0, .ref (ba 0)), (1, .int (nI k)), (2, .ref (ba 3)), (3, .int (nI u)), (4, .int (nI v)), (5, .int (nI w)), (6, .int (nI 1))]) dX4_sum_1 (Nat.le_of_ble_eq_true rfl) rfl ?_
  refine s_iconst E dX4_sum_3 (v := nI 0) (by decide) ?_
  refine s_istore E (L2 := [(8, .int (nI 0)), (7, .int (nI 0)), (0, .ref (ba 0)), (1, .int (nI k)), (2, .ref (ba 3)), (3, .int (nI u)), (4, .int (nI v)), (5, .int (nI w)), (6, .int (nI 1))]) dX4_sum_4 (Nat.le_of_ble_eq_true rfl) rfl ?_
  refine s_iload E dX4_sum_6 (i := 8) (j := 0) rfl ?_
  refine s_iconst E dX4_sum_8 (v := nI 3) (by decide) ?_
  refine s_icmp_ge E dX4_sum_9 (tgt := 84) rfl (fun c9 => absurd c9 (by decide)) (fun c9 => ?_)
  refine s_iload E dX4_sum_12 (i := 8) (j := 0) rfl ?_
  refine s_if_ne E dX4_sum_14 (tgt := 21) rfl (fun c14 => absurd c14 (by decide)) (fun c14 => ?_)
  refine s_iload_n E dX4_sum_17 (i := 3) (j := 5) rfl rfl ?_
  refine s_goto E dX4_sum_18 (tgt := 34) rfl ?_
  refine s_istore E (L2 := [(9, .int (nI u)), (8, .int (nI 0)), (7, .int (nI 0)), (0, .ref (ba 0)), (1, .int (nI k)), (2, .ref (ba 3)), (3, .int (nI u)), (4, .int (nI v)), (5, .int (nI w)), (6, .int (nI 1))]) dX4_sum_34 (Nat.le_of_ble_eq_true rfl) rfl ?_
  refine s_getsN E E.2.2.2.2.2.2.1.1.1 q897 dX4_sum_36 ?_
  refine s_iconst E dX4_sum_39 (v := nI 3) (by decide) ?_
  refine s_iload_n E dX4_sum_40 (i := 1) (j := 4) rfl rfl ?_
  refine s_imul_ E dX4_sum_41 (v := nI (3 * k)) (pk_mul _ _) ?_
  refine s_iload E dX4_sum_42 (i := 8) (j := 1) rfl ?_
  refine s_iadd_ E dX4_sum_44 (v := nI (3 * k)) (nI_add _ _) ?_
  refine s_tald E E.2.2.2.2.2.2.1.1.2.1 (3 * k) (rfl) (by omega) (by decide) (v := .int (tA k)) (congrArg Value.int ((times_at k hk).1)) dX4_sum_45 ?_
  refine s_istore E (L2 := [(10, .int (tA k)), (9, .int (nI u)), (8, .int (nI 0)), (7, .int (nI 0)), (0, .ref (ba 0)), (1, .int (nI k)), (2, .ref (ba 3)), (3, .int (nI u)), (4, .int (nI v)), (5, .int (nI w)), (6, .int (nI 1))]) dX4_sum_46 (Nat.le_of_ble_eq_true rfl) rfl ?_
  refine s_iload E dX4_sum_48 (i := 9) (j := 1) rfl ?_
  refine s_if_lt E dX4_sum_50 (tgt := 78) rfl (fun c50 => absurd c50 (nI_pos (by omega))) (fun c50 => ?_)
  have c50 : ¬ u < 0 := fun h => c50 ((nI_ltI (a := u) (b := 0) (by omega) (by omega)).mpr h)
  refine s_iload E dX4_sum_53 (i := 7) (j := 3) rfl ?_
  refine s_iload E dX4_sum_55 (i := 6) (j := 10) rfl ?_
  refine s_if_eq E dX4_sum_57 (tgt := 65) rfl (fun c57 => absurd c57 (by decide)) (fun c57 => ?_)
  refine s_iload E dX4_sum_60 (i := 10) (j := 0) rfl ?_
  refine s_goto E dX4_sum_62 (tgt := 70) rfl ?_
  refine s_aload_n E dX4_sum_70 (i := 2) (j := 6) rfl rfl ?_
  refine s_iload E dX4_sum_71 (i := 9) (j := 1) rfl ?_
  refine aw_l3 E (v := s 25 u) (u) (rfl) (by omega) hN8 ((hA.2.2.2.2.2 u (by omega)).2.2.1) dX4_sum_73 ?_
  refine s_imul E dX4_sum_74 ?_
  refine s_iadd_ E dX4_sum_75 (v := tA k * s 25 u) (by rw [nI_0, Int32.zero_add]) ?_
  refine s_istore E (L2 := [(7, .int (tA k * s 25 u)), (10, .int (tA k)), (9, .int (nI u)), (8, .int (nI 0)), (0, .ref (ba 0)), (1, .int (nI k)), (2, .ref (ba 3)), (3, .int (nI u)), (4, .int (nI v)), (5, .int (nI w)), (6, .int (nI 1))]) dX4_sum_76 (Nat.le_of_ble_eq_true rfl) rfl ?_
  refine s_iinc E (L2 := [(8, .int (nI 1)), (7, .int (tA k * s 25 u)), (10, .int (tA k)), (9, .int (nI u)), (0, .ref (ba 0)), (1, .int (nI k)), (2, .ref (ba 3)), (3, .int (nI u)), (4, .int (nI v)), (5, .int (nI w)), (6, .int (nI 1))]) dX4_sum_78 (k := 3) rfl (v := nI 1) (rfl) (Nat.le_of_ble_eq_true rfl) rfl ?_
  refine s_goto E dX4_sum_81 (tgt := 6) rfl ?_
  refine s_iload E dX4_sum_6 (i := 8) (j := 0) rfl ?_
  refine s_iconst E dX4_sum_8 (v := nI 3) (by decide) ?_
  refine s_icmp_ge E dX4_sum_9 (tgt := 84) rfl (fun c9 => absurd c9 (by decide)) (fun c9 => ?_)
  refine s_iload E dX4_sum_12 (i := 8) (j := 0) rfl ?_
  refine s_if_ne E dX4_sum_14 (tgt := 21) rfl (fun c14 => ?_) (fun c14 => absurd c14 (by decide))
  refine s_iload E dX4_sum_21 (i := 8) (j := 0) rfl ?_
  refine s_iconst E dX4_sum_23 (v := nI 1) (by decide) ?_
  refine s_icmp_ne E dX4_sum_24 (tgt := 32) rfl (fun c24 => absurd c24 (by decide)) (fun c24 => ?_)
  refine s_iload E dX4_sum_27 (i := 4) (j := 8) rfl ?_
  refine s_goto E dX4_sum_29 (tgt := 34) rfl ?_
  refine s_istore E (L2 := [(9, .int (nI v)), (8, .int (nI 1)), (7, .int (tA k * s 25 u)), (10, .int (tA k)), (0, .ref (ba 0)), (1, .int (nI k)), (2, .ref (ba 3)), (3, .int (nI u)), (4, .int (nI v)), (5, .int (nI w)), (6, .int (nI 1))]) dX4_sum_34 (Nat.le_of_ble_eq_true rfl) rfl ?_
  refine s_getsN E E.2.2.2.2.2.2.1.1.1 q897 dX4_sum_36 ?_
  refine s_iconst E dX4_sum_39 (v := nI 3) (by decide) ?_
  refine s_iload_n E dX4_sum_40 (i := 1) (j := 5) rfl rfl ?_
  refine s_imul_ E dX4_sum_41 (v := nI (3 * k)) (pk_mul _ _) ?_
  refine s_iload E dX4_sum_42 (i := 8) (j := 1) rfl ?_
  refine s_iadd_ E dX4_sum_44 (v := nI (3 * k + 1)) (nI_add _ _) ?_
  refine s_tald E E.2.2.2.2.2.2.1.1.2.1 (3 * k + 1) (rfl) (by omega) (by decide) (v := .int (tB k)) (congrArg Value.int ((times_at k hk).2.1)) dX4_sum_45 ?_
  refine s_istore E (L2 := [(10, .int (tB k)), (9, .int (nI v)), (8, .int (nI 1)), (7, .int (tA k * s 25 u)), (0, .ref (ba 0)), (1, .int (nI k)), (2, .ref (ba 3)), (3, .int (nI u)), (4, .int (nI v)), (5, .int (nI w)), (6, .int (nI 1))]) dX4_sum_46 (Nat.le_of_ble_eq_true rfl) rfl ?_
  refine s_iload E dX4_sum_48 (i := 9) (j := 1) rfl ?_
  refine s_if_lt E dX4_sum_50 (tgt := 78) rfl (fun c50 => absurd c50 (nI_pos (by omega))) (fun c50 => ?_)
  have c50 : ¬ v < 0 := fun h => c50 ((nI_ltI (a := v) (b := 0) (by omega) (by omega)).mpr h)
  refine s_iload E dX4_sum_53 (i := 7) (j := 3) rfl ?_
  refine s_iload E dX4_sum_55 (i := 6) (j := 10) rfl ?_
  refine s_if_eq E dX4_sum_57 (tgt := 65) rfl (fun c57 => absurd c57 (by decide)) (fun c57 => ?_)
  refine s_iload E dX4_sum_60 (i := 10) (j := 0) rfl ?_
  refine s_goto E dX4_sum_62 (tgt := 70) rfl ?_
  refine s_aload_n E dX4_sum_70 (i := 2) (j := 6) rfl rfl ?_
  refine s_iload E dX4_sum_71 (i := 9) (j := 1) rfl ?_
  refine aw_l3 E (v := s 25 v) (v) (rfl) (by omega) hN8 ((hA.2.2.2.2.2 v (by omega)).2.2.1) dX4_sum_73 ?_
  refine s_imul E dX4_sum_74 ?_
  refine s_iadd_ E dX4_sum_75 (v := tA k * s 25 u + tB k * s 25 v) (rfl) ?_
  refine s_istore E (L2 := [(7, .int (tA k * s 25 u + tB k * s 25 v)), (10, .int (tB k)), (9, .int (nI v)), (8, .int (nI 1)), (0, .ref (ba 0)), (1, .int (nI k)), (2, .ref (ba 3)), (3, .int (nI u)), (4, .int (nI v)), (5, .int (nI w)), (6, .int (nI 1))]) dX4_sum_76 (Nat.le_of_ble_eq_true rfl) rfl ?_
  refine s_iinc E (L2 := [(8, .int (nI 2)), (7, .int (tA k * s 25 u + tB k * s 25 v)), (10, .int (tB k)), (9, .int (nI v)), (0, .ref (ba 0)), (1, .int (nI k)), (2, .ref (ba 3)), (3, .int (nI u)), (4, .int (nI v)), (5, .int (nI w)), (6, .int (nI 1))]) dX4_sum_78 (k := 3) rfl (v := nI 2) (rfl) (Nat.le_of_ble_eq_true rfl) rfl ?_
  refine s_goto E dX4_sum_81 (tgt := 6) rfl ?_
  refine s_iload E dX4_sum_6 (i := 8) (j := 0) rfl ?_
  refine s_iconst E dX4_sum_8 (v := nI 3) (by decide) ?_
  refine s_icmp_ge E dX4_sum_9 (tgt := 84) rfl (fun c9 => absurd c9 (by decide)) (fun c9 => ?_)
  refine s_iload E dX4_sum_12 (i := 8) (j := 0) rfl ?_
  refine s_if_ne E dX4_sum_14 (tgt := 21) rfl (fun c14 => ?_) (fun c14 => absurd c14 (by decide))
  refine s_iload E dX4_sum_21 (i := 8) (j := 0) rfl ?_
  refine s_iconst E dX4_sum_23 (v := nI 1) (by decide) ?_
  refine s_icmp_ne E dX4_sum_24 (tgt := 32) rfl (fun c24 => ?_) (fun c24 => absurd c24 (by decide))
  refine s_iload E dX4_sum_32 (i := 5) (j := 9) rfl ?_
  refine s_istore E (L2 := [(9, .int (nI w)), (8, .int (nI 2)), (7, .int (tA k * s 25 u + tB k * s 25 v)), (10, .int (tB k)), (0, .ref (ba 0)), (1, .int (nI k)), (2, .ref (ba 3)), (3, .int (nI u)), (4, .int (nI v)), (5, .int (nI w)), (6, .int (nI 1))]) dX4_sum_34 (Nat.le_of_ble_eq_true rfl) rfl ?_
  refine s_getsN E E.2.2.2.2.2.2.1.1.1 q897 dX4_sum_36 ?_
  refine s_iconst E dX4_sum_39 (v := nI 3) (by decide) ?_
  refine s_iload_n E dX4_sum_40 (i := 1) (j := 5) rfl rfl ?_
  refine s_imul_ E dX4_sum_41 (v := nI (3 * k)) (pk_mul _ _) ?_
  refine s_iload E dX4_sum_42 (i := 8) (j := 1) rfl ?_
  refine s_iadd_ E dX4_sum_44 (v := nI (3 * k + 2)) (nI_add _ _) ?_
  refine s_tald E E.2.2.2.2.2.2.1.1.2.1 (3 * k + 2) (rfl) (by omega) (by decide) (v := .int (tC k)) (congrArg Value.int ((times_at k hk).2.2)) dX4_sum_45 ?_
  refine s_istore E (L2 := [(10, .int (tC k)), (9, .int (nI w)), (8, .int (nI 2)), (7, .int (tA k * s 25 u + tB k * s 25 v)), (0, .ref (ba 0)), (1, .int (nI k)), (2, .ref (ba 3)), (3, .int (nI u)), (4, .int (nI v)), (5, .int (nI w)), (6, .int (nI 1))]) dX4_sum_46 (Nat.le_of_ble_eq_true rfl) rfl ?_
  refine s_iload E dX4_sum_48 (i := 9) (j := 1) rfl ?_
  refine s_if_lt E dX4_sum_50 (tgt := 78) rfl (fun c50 => absurd c50 (nI_pos (by omega))) (fun c50 => ?_)
  have c50 : ¬ w < 0 := fun h => c50 ((nI_ltI (a := w) (b := 0) (by omega) (by omega)).mpr h)
  refine s_iload E dX4_sum_53 (i := 7) (j := 3) rfl ?_
  refine s_iload E dX4_sum_55 (i := 6) (j := 10) rfl ?_
  refine s_if_eq E dX4_sum_57 (tgt := 65) rfl (fun c57 => absurd c57 (by decide)) (fun c57 => ?_)
  refine s_iload E dX4_sum_60 (i := 10) (j := 0) rfl ?_
  refine s_goto E dX4_sum_62 (tgt := 70) rfl ?_
  refine s_aload_n E dX4_sum_70 (i := 2) (j := 6) rfl rfl ?_
  refine s_iload E dX4_sum_71 (i := 9) (j := 1) rfl ?_
  refine aw_l3 E (v := s 25 w) (w) (rfl) (by omega) hN8 ((hA.2.2.2.2.2 w (by omega)).2.2.1) dX4_sum_73 ?_
  refine s_imul E dX4_sum_74 ?_
  refine s_iadd_ E dX4_sum_75 (v := tA k * s 25 u + tB k * s 25 v + tC k * s 25 w) (rfl) ?_
  refine s_istore E (L2 := [(7, .int (tA k * s 25 u + tB k * s 25 v + tC k * s 25 w)), (10, .int (tC k)), (9, .int (nI w)), (8, .int (nI 2)), (0, .ref (ba 0)), (1, .int (nI k)), (2, .ref (ba 3)), (3, .int (nI u)), (4, .int (nI v)), (5, .int (nI w)), (6, .int (nI 1))]) dX4_sum_76 (Nat.le_of_ble_eq_true rfl) rfl ?_
  refine s_iinc E (L2 := [(8, .int (nI 3)), (7, .int (tA k * s 25 u + tB k * s 25 v + tC k * s 25 w)), (10, .int (tC k)), (9, .int (nI w)), (0, .ref (ba 0)), (1, .int (nI k)), (2, .ref (ba 3)), (3, .int (nI u)), (4, .int (nI v)), (5, .int (nI w)), (6, .int (nI 1))]) dX4_sum_78 (k := 3) rfl (v := nI 3) (rfl) (Nat.le_of_ble_eq_true rfl) rfl ?_
  refine s_goto E dX4_sum_81 (tgt := 6) rfl ?_
  refine s_iload E dX4_sum_6 (i := 8) (j := 0) rfl ?_
  refine s_iconst E dX4_sum_8 (v := nI 3) (by decide) ?_
  refine s_icmp_ge E dX4_sum_9 (tgt := 84) rfl (fun c9 => ?_) (fun c9 => absurd c9 (by decide))
  refine s_iload E dX4_sum_84 (i := 7) (j := 1) rfl ?_
  exact Rt (tA k * s 25 u + tB k * s 25 v + tC k * s 25 w) (σ) dX4_sum_86 (⟨rfl, rfl⟩) rfl (Nat.le_refl _) (Nat.le_refl _) rfl E.2.2.2.2.2.1
theorem aw_l2 {p : Program} {l : Launch} {e : Env} {R : Room} {s : State} {m : MethodId} {args : Array Value} {below : List Frame} {meth : Method} {c : Code} {Q : State → Prop} {A : Nat → Prop} {D : va_G} {nL cells slots : Nat} {pc : Nat} {L : List (Nat × Value)} {S : List Value} {cc : ByteArray} {ret : Option FieldType} {gt : Nat → Nat} {ba ad : Nat → Nat} {ct : Nat → ClassId} {Nw : Nat} {τ σ ξ : Nat → Nat → Int32} {own : String} (E : En p s m args meth c A cc nL own ret D (tysA ct) gt) {i v : Int32} (N : Nat) (hi : i = nI N) (hN : N < Nw) (h8 : Nw ≤ 8) (hv : σ 2 N = v) (d : decode cc pc = .ok (.iaload, 1)) (K : Sm p l e R s m args below meth c Q A D nL cells slots (aw ba ct Nw σ ad τ ξ) (pc + 1) L (.int v :: S)) : Sm p l e R s m args below meth c Q A D nL cells slots (aw ba ct Nw σ ad τ ξ) pc L (.int i :: .ref (ba 2) :: S) := s_iald E 2 0 rfl rfl N hi hN (by omega) hv d K
set_option maxHeartbeats 1000000 in
set_option maxRecDepth 100000 in
theorem x4z_sumP {l : Launch} {D : va_G} {gt : Nat → Nat} {ba ad : Nat → Nat} {ct : Nat → ClassId} {Nw : Nat} {τ σ ξ : Nat → Nat → Int32} (s : Nat → Nat → Int32) (n k u v : Nat) (hA : AI s σ n) (hnN : n ≤ Nw) (hN8 : Nw ≤ 8) (hk : k < 6) (hu : u < n) (hv : v < n) : Ct l D gt yX4_sum cX4_sum 11 .int 1 21 0 0 [.ref (ba 0), .int (nI k), .ref (ba 2), .int (nI u), .int (nI v), .int ((-1)), .int (nI 0)] (aw ba ct Nw σ ad τ ξ) (tysA ct) (fun r σ2 => puF s (k, u, v, none) = r ∧ σ = σ2) (fun σ2 : Nat → Nat → Int32 => aw ba ct Nw σ2 ad τ ξ) (fun _ => tysA ct) := by
  refine Ct.start RX4 (by decide) rfl (Nat.le_of_ble_eq_true rfl) rfl ?_
  intro pP eE sS mM aA bB hM cC QQ AA E Rt
  refine s_iconst E dX4_sum_0 (v := nI 0) (by decide) ?_
  refine s_istore E (L2 := [(7, .int (nI 0)), (0, .ref (ba 0)), (1, .int (nI k)), (2, .ref (ba 2)), (3, .int (nI u)), (4, .int (nI v)), (5, .int ((-1))), (6, .int (nI 0))]) dX4_sum_1 (Nat.le_of_ble_eq_true rfl) rfl ?_
  refine s_iconst E dX4_sum_3 (v := nI 0) (by decide) ?_
  refine s_istore E (L2 := [(8, .int (nI 0)), (7, .int (nI 0)), (0, .ref (ba 0)), (1, .int (nI k)), (2, .ref (ba 2)), (3, .int (nI u)), (4, .int (nI v)), (5, .int ((-1))), (6, .int (nI 0))]) dX4_sum_4 (Nat.le_of_ble_eq_true rfl) rfl ?_
  refine s_iload E dX4_sum_6 (i := 8) (j := 0) rfl ?_
  refine s_iconst E dX4_sum_8 (v := nI 3) (by decide) ?_
  refine s_icmp_ge E dX4_sum_9 (tgt := 84) rfl (fun c9 => absurd c9 (by decide)) (fun c9 => ?_)
  refine s_iload E dX4_sum_12 (i := 8) (j := 0) rfl ?_
  refine s_if_ne E dX4_sum_14 (tgt := 21) rfl (fun c14 => absurd c14 (by decide)) (fun c14 => ?_)
  refine s_iload_n E dX4_sum_17 (i := 3) (j := 5) rfl rfl ?_
  refine s_goto E dX4_sum_18 (tgt := 34) rfl ?_
  refine s_istore E (L2 := [(9, .int (nI u)), (8, .int (nI 0)), (7, .int (nI 0)), (0, .ref (ba 0)), (1, .int (nI k)), (2, .ref (ba 2)), (3, .int (nI u)), (4, .int (nI v)), (5, .int ((-1))), (6, .int (nI 0))]) dX4_sum_34 (Nat.le_of_ble_eq_true rfl) rfl ?_
  refine s_getsN E E.2.2.2.2.2.2.1.1.1 q897 dX4_sum_36 ?_
  refine s_iconst E dX4_sum_39 (v := nI 3) (by decide) ?_
  refine s_iload_n E dX4_sum_40 (i := 1) (j := 4) rfl rfl ?_
  refine s_imul_ E dX4_sum_41 (v := nI (3 * k)) (pk_mul _ _) ?_
  refine s_iload E dX4_sum_42 (i := 8) (j := 1) rfl ?_
  refine s_iadd_ E dX4_sum_44 (v := nI (3 * k)) (nI_add _ _) ?_
  refine s_tald E E.2.2.2.2.2.2.1.1.2.1 (3 * k) (rfl) (by omega) (by decide) (v := .int (tA k)) (congrArg Value.int ((times_at k hk).1)) dX4_sum_45 ?_
  refine s_istore E (L2 := [(10, .int (tA k)), (9, .int (nI u)), (8, .int (nI 0)), (7, .int (nI 0)), (0, .ref (ba 0)), (1, .int (nI k)), (2, .ref (ba 2)), (3, .int (nI u)), (4, .int (nI v)), (5, .int ((-1))), (6, .int (nI 0))]) dX4_sum_46 (Nat.le_of_ble_eq_true rfl) rfl ?_
  refine s_iload E dX4_sum_48 (i := 9) (j := 1) rfl ?_
  refine s_if_lt E dX4_sum_50 (tgt := 78) rfl (fun c50 => absurd c50 (nI_pos (by omega))) (fun c50 => ?_)
  have c50 : ¬ u < 0 := fun h => c50 ((nI_ltI (a := u) (b := 0) (by omega) (by omega)).mpr h)
  refine s_iload E dX4_sum_53 (i := 7) (j := 3) rfl ?_
  refine s_iload E dX4_sum_55 (i := 6) (j := 10) rfl ?_
  refine s_if_eq E dX4_sum_57 (tgt := 65) rfl (fun c57 => ?_) (fun c57 => absurd c57 (by decide))
  refine s_iload E dX4_sum_65 (i := 10) (j := 0) rfl ?_
  refine s_mabs E (v := tA k) (by rw [abs_eq, absI_tA]) q911 q912 q121 q913 (Nat.le_of_ble_eq_true rfl) (Nat.le_of_ble_eq_true rfl) (Nat.zero_le _) (Nat.zero_le _) dX4_sum_67 ?_
  refine s_aload_n E dX4_sum_70 (i := 2) (j := 6) rfl rfl ?_
  refine s_iload E dX4_sum_71 (i := 9) (j := 1) rfl ?_
  refine aw_l2 E (v := s 25 (6 + u)) (u) (rfl) (by omega) hN8 ((hA.2.2.2.2.2 u (by omega)).2.1) dX4_sum_73 ?_
  refine s_imul E dX4_sum_74 ?_
  refine s_iadd_ E dX4_sum_75 (v := tA k * s 25 (6 + u)) (by rw [nI_0, Int32.zero_add]) ?_
  refine s_istore E (L2 := [(7, .int (tA k * s 25 (6 + u))), (10, .int (tA k)), (9, .int (nI u)), (8, .int (nI 0)), (0, .ref (ba 0)), (1, .int (nI k)), (2, .ref (ba 2)), (3, .int (nI u)), (4, .int (nI v)), (5, .int ((-1))), (6, .int (nI 0))]) dX4_sum_76 (Nat.le_of_ble_eq_true rfl) rfl ?_
  refine s_iinc E (L2 := [(8, .int (nI 1)), (7, .int (tA k * s 25 (6 + u))), (10, .int (tA k)), (9, .int (nI u)), (0, .ref (ba 0)), (1, .int (nI k)), (2, .ref (ba 2)), (3, .int (nI u)), (4, .int (nI v)), (5, .int ((-1))), (6, .int (nI 0))]) dX4_sum_78 (k := 3) rfl (v := nI 1) (rfl) (Nat.le_of_ble_eq_true rfl) rfl ?_
  refine s_goto E dX4_sum_81 (tgt := 6) rfl ?_
  refine s_iload E dX4_sum_6 (i := 8) (j := 0) rfl ?_
  refine s_iconst E dX4_sum_8 (v := nI 3) (by decide) ?_
  refine s_icmp_ge E dX4_sum_9 (tgt := 84) rfl (fun c9 => absurd c9 (by decide)) (fun c9 => ?_)
  refine s_iload E dX4_sum_12 (i := 8) (j := 0) rfl ?_
  refine s_if_ne E dX4_sum_14 (tgt := 21) rfl (fun c14 => ?_) (fun c14 => absurd c14 (by decide))
  refine s_iload E dX4_sum_21 (i := 8) (j := 0) rfl ?_
  refine s_iconst E dX4_sum_23 (v := nI 1) (by decide) ?_
  refine s_icmp_ne E dX4_sum_24 (tgt := 32) rfl (fun c24 => absurd c24 (by decide)) (fun c24 => ?_)
  refine s_iload E dX4_sum_27 (i := 4) (j := 8) rfl ?_
  refine s_goto E dX4_sum_29 (tgt := 34) rfl ?_
  refine s_istore E (L2 := [(9, .int (nI v)), (8, .int (nI 1)), (7, .int (tA k * s 25 (6 + u))), (10, .int (tA k)), (0, .ref (ba 0)), (1, .int (nI k)), (2, .ref (ba 2)), (3, .int (nI u)), (4, .int (nI v)), (5, .int ((-1))), (6, .int (nI 0))]) dX4_sum_34 (Nat.le_of_ble_eq_true rfl) rfl ?_
  refine s_getsN E E.2.2.2.2.2.2.1.1.1 q897 dX4_sum_36 ?_
  refine s_iconst E dX4_sum_39 (v := nI 3) (by decide) ?_
  refine s_iload_n E dX4_sum_40 (i := 1) (j := 5) rfl rfl ?_
  refine s_imul_ E dX4_sum_41 (v := nI (3 * k)) (pk_mul _ _) ?_
  refine s_iload E dX4_sum_42 (i := 8) (j := 1) rfl ?_
  refine s_iadd_ E dX4_sum_44 (v := nI (3 * k + 1)) (nI_add _ _) ?_
  refine s_tald E E.2.2.2.2.2.2.1.1.2.1 (3 * k + 1) (rfl) (by omega) (by decide) (v := .int (tB k)) (congrArg Value.int ((times_at k hk).2.1)) dX4_sum_45 ?_
  refine s_istore E (L2 := [(10, .int (tB k)), (9, .int (nI v)), (8, .int (nI 1)), (7, .int (tA k * s 25 (6 + u))), (0, .ref (ba 0)), (1, .int (nI k)), (2, .ref (ba 2)), (3, .int (nI u)), (4, .int (nI v)), (5, .int ((-1))), (6, .int (nI 0))]) dX4_sum_46 (Nat.le_of_ble_eq_true rfl) rfl ?_
  refine s_iload E dX4_sum_48 (i := 9) (j := 1) rfl ?_
  refine s_if_lt E dX4_sum_50 (tgt := 78) rfl (fun c50 => absurd c50 (nI_pos (by omega))) (fun c50 => ?_)
  have c50 : ¬ v < 0 := fun h => c50 ((nI_ltI (a := v) (b := 0) (by omega) (by omega)).mpr h)
  refine s_iload E dX4_sum_53 (i := 7) (j := 3) rfl ?_
  refine s_iload E dX4_sum_55 (i := 6) (j := 10) rfl ?_
  refine s_if_eq E dX4_sum_57 (tgt := 65) rfl (fun c57 => ?_) (fun c57 => absurd c57 (by decide))
  refine s_iload E dX4_sum_65 (i := 10) (j := 0) rfl ?_
  refine s_mabs E (v := absI (tB k)) (abs_eq _) q911 q912 q121 q913 (Nat.le_of_ble_eq_true rfl) (Nat.le_of_ble_eq_true rfl) (Nat.zero_le _) (Nat.zero_le _) dX4_sum_67 ?_
  refine s_aload_n E dX4_sum_70 (i := 2) (j := 6) rfl rfl ?_
  refine s_iload E dX4_sum_71 (i := 9) (j := 1) rfl ?_
  refine aw_l2 E (v := s 25 (6 + v)) (v) (rfl) (by omega) hN8 ((hA.2.2.2.2.2 v (by omega)).2.1) dX4_sum_73 ?_
  refine s_imul E dX4_sum_74 ?_
  refine s_iadd_ E dX4_sum_75 (v := tA k * s 25 (6 + u) + absI (tB k) * s 25 (6 + v)) (rfl) ?_
  refine s_istore E (L2 := [(7, .int (tA k * s 25 (6 + u) + absI (tB k) * s 25 (6 + v))), (10, .int (tB k)), (9, .int (nI v)), (8, .int (nI 1)), (0, .ref (ba 0)), (1, .int (nI k)), (2, .ref (ba 2)), (3, .int (nI u)), (4, .int (nI v)), (5, .int ((-1))), (6, .int (nI 0))]) dX4_sum_76 (Nat.le_of_ble_eq_true rfl) rfl ?_
  refine s_iinc E (L2 := [(8, .int (nI 2)), (7, .int (tA k * s 25 (6 + u) + absI (tB k) * s 25 (6 + v))), (10, .int (tB k)), (9, .int (nI v)), (0, .ref (ba 0)), (1, .int (nI k)), (2, .ref (ba 2)), (3, .int (nI u)), (4, .int (nI v)), (5, .int ((-1))), (6, .int (nI 0))]) dX4_sum_78 (k := 3) rfl (v := nI 2) (rfl) (Nat.le_of_ble_eq_true rfl) rfl ?_
  refine s_goto E dX4_sum_81 (tgt := 6) rfl ?_
  refine s_iload E dX4_sum_6 (i := 8) (j := 0) rfl ?_
  refine s_iconst E dX4_sum_8 (v := nI 3) (by decide) ?_
  refine s_icmp_ge E dX4_sum_9 (tgt := 84) rfl (fun c9 => absurd c9 (by decide)) (fun c9 => ?_)
  refine s_iload E dX4_sum_12 (i := 8) (j := 0) rfl ?_
  refine s_if_ne E dX4_sum_14 (tgt := 21) rfl (fun c14 => ?_) (fun c14 => absurd c14 (by decide))
  refine s_iload E dX4_sum_21 (i := 8) (j := 0) rfl ?_
  refine s_iconst E dX4_sum_23 (v := nI 1) (by decide) ?_
  refine s_icmp_ne E dX4_sum_24 (tgt := 32) rfl (fun c24 => ?_) (fun c24 => absurd c24 (by decide))
  refine s_iload E dX4_sum_32 (i := 5) (j := 9) rfl ?_
  refine s_istore E (L2 := [(9, .int ((-1))), (8, .int (nI 2)), (7, .int (tA k * s 25 (6 + u) + absI (tB k) * s 25 (6 + v))), (10, .int (tB k)), (0, .ref (ba 0)), (1, .int (nI k)), (2, .ref (ba 2)), (3, .int (nI u)), (4, .int (nI v)), (5, .int ((-1))), (6, .int (nI 0))]) dX4_sum_34 (Nat.le_of_ble_eq_true rfl) rfl ?_
  refine s_getsN E E.2.2.2.2.2.2.1.1.1 q897 dX4_sum_36 ?_
  refine s_iconst E dX4_sum_39 (v := nI 3) (by decide) ?_
  refine s_iload_n E dX4_sum_40 (i := 1) (j := 5) rfl rfl ?_
  refine s_imul_ E dX4_sum_41 (v := nI (3 * k)) (pk_mul _ _) ?_
  refine s_iload E dX4_sum_42 (i := 8) (j := 1) rfl ?_
  refine s_iadd_ E dX4_sum_44 (v := nI (3 * k + 2)) (nI_add _ _) ?_
  refine s_tald E E.2.2.2.2.2.2.1.1.2.1 (3 * k + 2) (rfl) (by omega) (by decide) (v := .int (tC k)) (congrArg Value.int ((times_at k hk).2.2)) dX4_sum_45 ?_
  refine s_istore E (L2 := [(10, .int (tC k)), (9, .int ((-1))), (8, .int (nI 2)), (7, .int (tA k * s 25 (6 + u) + absI (tB k) * s 25 (6 + v))), (0, .ref (ba 0)), (1, .int (nI k)), (2, .ref (ba 2)), (3, .int (nI u)), (4, .int (nI v)), (5, .int ((-1))), (6, .int (nI 0))]) dX4_sum_46 (Nat.le_of_ble_eq_true rfl) rfl ?_
  refine s_iload E dX4_sum_48 (i := 9) (j := 1) rfl ?_
  refine s_if_lt E dX4_sum_50 (tgt := 78) rfl (fun c50 => ?_) (fun c50 => absurd (by decide) c50)
  refine s_iinc E (L2 := [(8, .int (nI 3)), (10, .int (tC k)), (9, .int ((-1))), (7, .int (tA k * s 25 (6 + u) + absI (tB k) * s 25 (6 + v))), (0, .ref (ba 0)), (1, .int (nI k)), (2, .ref (ba 2)), (3, .int (nI u)), (4, .int (nI v)), (5, .int ((-1))), (6, .int (nI 0))]) dX4_sum_78 (k := 2) rfl (v := nI 3) (rfl) (Nat.le_of_ble_eq_true rfl) rfl ?_
  refine s_goto E dX4_sum_81 (tgt := 6) rfl ?_
  refine s_iload E dX4_sum_6 (i := 8) (j := 0) rfl ?_
  refine s_iconst E dX4_sum_8 (v := nI 3) (by decide) ?_
  refine s_icmp_ge E dX4_sum_9 (tgt := 84) rfl (fun c9 => ?_) (fun c9 => absurd c9 (by decide))
  refine s_iload E dX4_sum_84 (i := 7) (j := 3) rfl ?_
  exact Rt (tA k * s 25 (6 + u) + absI (tB k) * s 25 (6 + v)) (σ) dX4_sum_86 (⟨rfl, rfl⟩) rfl (Nat.le_refl _) (Nat.le_refl _) rfl E.2.2.2.2.2.1
set_option maxHeartbeats 1000000 in
set_option maxRecDepth 100000 in
theorem x4z_sumP3 {l : Launch} {D : va_G} {gt : Nat → Nat} {ba ad : Nat → Nat} {ct : Nat → ClassId} {Nw : Nat} {τ σ ξ : Nat → Nat → Int32} (s : Nat → Nat → Int32) (n k u v w : Nat) (hA : AI s σ n) (hnN : n ≤ Nw) (hN8 : Nw ≤ 8) (hk : k < 6) (hu : u < n) (hv : v < n) (hw : w < n) : Ct l D gt yX4_sum cX4_sum 11 .int 1 21 0 0 [.ref (ba 0), .int (nI k), .ref (ba 2), .int (nI u), .int (nI v), .int (nI w), .int (nI 0)] (aw ba ct Nw σ ad τ ξ) (tysA ct) (fun r σ2 => puF s (k, u, v, some w) = r ∧ σ = σ2) (fun σ2 : Nat → Nat → Int32 => aw ba ct Nw σ2 ad τ ξ) (fun _ => tysA ct) := by
  refine Ct.start RX4 (by decide) rfl (Nat.le_of_ble_eq_true rfl) rfl ?_
  intro pP eE sS mM aA bB hM cC QQ AA E Rt
  refine s_iconst E dX4_sum_0 (v := nI 0) (by decide) ?_
  refine s_istore E (L2 := [(7, .int (nI 0)), (0, .ref (ba 0)), (1, .int (nI k)), (2, .ref (ba 2)), (3, .int (nI u)), (4, .int (nI v)), (5, .int (nI w)), (6, .int (nI 0))]) dX4_sum_1 (Nat.le_of_ble_eq_true rfl) rfl ?_
  refine s_iconst E dX4_sum_3 (v := nI 0) (by decide) ?_
  refine s_istore E (L2 := [(8, .int (nI 0)), (7, .int (nI 0)), (0, .ref (ba 0)), (1, .int (nI k)), (2, .ref (ba 2)), (3, .int (nI u)), (4, .int (nI v)), (5, .int (nI w)), (6, .int (nI 0))]) dX4_sum_4 (Nat.le_of_ble_eq_true rfl) rfl ?_
  refine s_iload E dX4_sum_6 (i := 8) (j := 0) rfl ?_
  refine s_iconst E dX4_sum_8 (v := nI 3) (by decide) ?_
  refine s_icmp_ge E dX4_sum_9 (tgt := 84) rfl (fun c9 => absurd c9 (by decide)) (fun c9 => ?_)
  refine s_iload E dX4_sum_12 (i := 8) (j := 0) rfl ?_
  refine s_if_ne E dX4_sum_14 (tgt := 21) rfl (fun c14 => absurd c14 (by decide)) (fun c14 => ?_)
  refine s_iload_n E dX4_sum_17 (i := 3) (j := 5) rfl rfl ?_
  refine s_goto E dX4_sum_18 (tgt := 34) rfl ?_
  refine s_istore E (L2 := [(9, .int (nI u)), (8, .int (nI 0)), (7, .int (nI 0)), (0, .ref (ba 0)), (1, .int (nI k)), (2, .ref (ba 2)), (3, .int (nI u)), (4, .int (nI v)), (5, .int (nI w)), (6, .int (nI 0))]) dX4_sum_34 (Nat.le_of_ble_eq_true rfl) rfl ?_
  refine s_getsN E E.2.2.2.2.2.2.1.1.1 q897 dX4_sum_36 ?_
  refine s_iconst E dX4_sum_39 (v := nI 3) (by decide) ?_
  refine s_iload_n E dX4_sum_40 (i := 1) (j := 4) rfl rfl ?_
  refine s_imul_ E dX4_sum_41 (v := nI (3 * k)) (pk_mul _ _) ?_
  refine s_iload E dX4_sum_42 (i := 8) (j := 1) rfl ?_
  refine s_iadd_ E dX4_sum_44 (v := nI (3 * k)) (nI_add _ _) ?_
  refine s_tald E E.2.2.2.2.2.2.1.1.2.1 (3 * k) (rfl) (by omega) (by decide) (v := .int (tA k)) (congrArg Value.int ((times_at k hk).1)) dX4_sum_45 ?_
  refine s_istore E (L2 := [(10, .int (tA k)), (9, .int (nI u)), (8, .int (nI 0)), (7, .int (nI 0)), (0, .ref (ba 0)), (1, .int (nI k)), (2, .ref (ba 2)), (3, .int (nI u)), (4, .int (nI v)), (5, .int (nI w)), (6, .int (nI 0))]) dX4_sum_46 (Nat.le_of_ble_eq_true rfl) rfl ?_
  refine s_iload E dX4_sum_48 (i := 9) (j := 1) rfl ?_
  refine s_if_lt E dX4_sum_50 (tgt := 78) rfl (fun c50 => absurd c50 (nI_pos (by omega))) (fun c50 => ?_)
  have c50 : ¬ u < 0 := fun h => c50 ((nI_ltI (a := u) (b := 0) (by omega) (by omega)).mpr h)
  refine s_iload E dX4_sum_53 (i := 7) (j := 3) rfl ?_
  refine s_iload E dX4_sum_55 (i := 6) (j := 10) rfl ?_
  refine s_if_eq E dX4_sum_57 (tgt := 65) rfl (fun c57 => ?_) (fun c57 => absurd c57 (by decide))
  refine s_iload E dX4_sum_65 (i := 10) (j := 0) rfl ?_
  refine s_mabs E (v := tA k) (by rw [abs_eq, absI_tA]) q911 q912 q121 q913 (Nat.le_of_ble_eq_true rfl) (Nat.le_of_ble_eq_true rfl) (Nat.zero_le _) (Nat.zero_le _) dX4_sum_67 ?_
  refine s_aload_n E dX4_sum_70 (i := 2) (j := 6) rfl rfl ?_
  refine s_iload E dX4_sum_71 (i := 9) (j := 1) rfl ?_
  refine aw_l2 E (v := s 25 (6 + u)) (u) (rfl) (by omega) hN8 ((hA.2.2.2.2.2 u (by omega)).2.1) dX4_sum_73 ?_
  refine s_imul E dX4_sum_74 ?_
  refine s_iadd_ E dX4_sum_75 (v := tA k * s 25 (6 + u)) (by rw [nI_0, Int32.zero_add]) ?_
  refine s_istore E (L2 := [(7, .int (tA k * s 25 (6 + u))), (10, .int (tA k)), (9, .int (nI u)), (8, .int (nI 0)), (0, .ref (ba 0)), (1, .int (nI k)), (2, .ref (ba 2)), (3, .int (nI u)), (4, .int (nI v)), (5, .int (nI w)), (6, .int (nI 0))]) dX4_sum_76 (Nat.le_of_ble_eq_true rfl) rfl ?_
  refine s_iinc E (L2 := [(8, .int (nI 1)), (7, .int (tA k * s 25 (6 + u))), (10, .int (tA k)), (9, .int (nI u)), (0, .ref (ba 0)), (1, .int (nI k)), (2, .ref (ba 2)), (3, .int (nI u)), (4, .int (nI v)), (5, .int (nI w)), (6, .int (nI 0))]) dX4_sum_78 (k := 3) rfl (v := nI 1) (rfl) (Nat.le_of_ble_eq_true rfl) rfl ?_
  refine s_goto E dX4_sum_81 (tgt := 6) rfl ?_
  refine s_iload E dX4_sum_6 (i := 8) (j := 0) rfl ?_
  refine s_iconst E dX4_sum_8 (v := nI 3) (by decide) ?_
  refine s_icmp_ge E dX4_sum_9 (tgt := 84) rfl (fun c9 => absurd c9 (by decide)) (fun c9 => ?_)
  refine s_iload E dX4_sum_12 (i := 8) (j := 0) rfl ?_
  refine s_if_ne E dX4_sum_14 (tgt := 21) rfl (fun c14 => ?_) (fun c14 => absurd c14 (by decide))
  refine s_iload E dX4_sum_21 (i := 8) (j := 0) rfl ?_
  refine s_iconst E dX4_sum_23 (v := nI 1) (by decide) ?_
  refine s_icmp_ne E dX4_sum_24 (tgt := 32) rfl (fun c24 => absurd c24 (by decide)) (fun c24 => ?_)
  refine s_iload E dX4_sum_27 (i := 4) (j := 8) rfl ?_
  refine s_goto E dX4_sum_29 (tgt := 34) rfl ?_
  refine s_istore E (L2 := [(9, .int (nI v)), (8, .int (nI 1)), (7, .int (tA k * s 25 (6 + u))), (10, .int (tA k)), (0, .ref (ba 0)), (1, .int (nI k)), (2, .ref (ba 2)), (3, .int (nI u)), (4, .int (nI v)), (5, .int (nI w)), (6, .int (nI 0))]) dX4_sum_34 (Nat.le_of_ble_eq_true rfl) rfl ?_
  refine s_getsN E E.2.2.2.2.2.2.1.1.1 q897 dX4_sum_36 ?_
  refine s_iconst E dX4_sum_39 (v := nI 3) (by decide) ?_
  refine s_iload_n E dX4_sum_40 (i := 1) (j := 5) rfl rfl ?_
  refine s_imul_ E dX4_sum_41 (v := nI (3 * k)) (pk_mul _ _) ?_
  refine s_iload E dX4_sum_42 (i := 8) (j := 1) rfl ?_
  refine s_iadd_ E dX4_sum_44 (v := nI (3 * k + 1)) (nI_add _ _) ?_
  refine s_tald E E.2.2.2.2.2.2.1.1.2.1 (3 * k + 1) (rfl) (by omega) (by decide) (v := .int (tB k)) (congrArg Value.int ((times_at k hk).2.1)) dX4_sum_45 ?_
  refine s_istore E (L2 := [(10, .int (tB k)), (9, .int (nI v)), (8, .int (nI 1)), (7, .int (tA k * s 25 (6 + u))), (0, .ref (ba 0)), (1, .int (nI k)), (2, .ref (ba 2)), (3, .int (nI u)), (4, .int (nI v)), (5, .int (nI w)), (6, .int (nI 0))]) dX4_sum_46 (Nat.le_of_ble_eq_true rfl) rfl ?_
  refine s_iload E dX4_sum_48 (i := 9) (j := 1) rfl ?_
  refine s_if_lt E dX4_sum_50 (tgt := 78) rfl (fun c50 => absurd c50 (nI_pos (by omega))) (fun c50 => ?_)
  have c50 : ¬ v < 0 := fun h => c50 ((nI_ltI (a := v) (b := 0) (by omega) (by omega)).mpr h)
  refine s_iload E dX4_sum_53 (i := 7) (j := 3) rfl ?_
  refine s_iload E dX4_sum_55 (i := 6) (j := 10) rfl ?_
  refine s_if_eq E dX4_sum_57 (tgt := 65) rfl (fun c57 => ?_) (fun c57 => absurd c57 (by decide))
  refine s_iload E dX4_sum_65 (i := 10) (j := 0) rfl ?_
  refine s_mabs E (v := absI (tB k)) (abs_eq _) q911 q912 q121 q913 (Nat.le_of_ble_eq_true rfl) (Nat.le_of_ble_eq_true rfl) (Nat.zero_le _) (Nat.zero_le _) dX4_sum_67 ?_
  refine s_aload_n E dX4_sum_70 (i := 2) (j := 6) rfl rfl ?_
  refine s_iload E dX4_sum_71 (i := 9) (j := 1) rfl ?_
  refine aw_l2 E (v := s 25 (6 + v)) (v) (rfl) (by omega) hN8 ((hA.2.2.2.2.2 v (by omega)).2.1) dX4_sum_73 ?_
  refine s_imul E dX4_sum_74 ?_
  refine s_iadd_ E dX4_sum_75 (v := tA k * s 25 (6 + u) + absI (tB k) * s 25 (6 + v)) (rfl) ?_
  refine s_istore E (L2 := [(7, .int (tA k * s 25 (6 + u) + absI (tB k) * s 25 (6 + v))), (10, .int (tB k)), (9, .int (nI v)), (8, .int (nI 1)), (0, .ref (ba 0)), (1, .int (nI k)), (2, .ref (ba 2)), (3, .int (nI u)), (4, .int (nI v)), (5, .int (nI w)), (6, .int (nI 0))]) dX4_sum_76 (Nat.le_of_ble_eq_true rfl) rfl ?_
  refine s_iinc E (L2 := [(8, .int (nI 2)), (7, .int (tA k * s 25 (6 + u) + absI (tB k) * s 25 (6 + v))), (10, .int (tB k)), (9, .int (nI v)), (0, .ref (ba 0)), (1, .int (nI k)), (2, .ref (ba 2)), (3, .int (nI u)), (4, .int (nI v)), (5, .int (nI w)), (6, .int (nI 0))]) dX4_sum_78 (k := 3) rfl (v := nI 2) (rfl) (Nat.le_of_ble_eq_true rfl) rfl ?_
  refine s_goto E dX4_sum_81 (tgt := 6) rfl ?_
  refine s_iload E dX4_sum_6 (i := 8) (j := 0) rfl ?_
  refine s_iconst E dX4_sum_8 (v := nI 3) (by decide) ?_
  refine s_icmp_ge E dX4_sum_9 (tgt := 84) rfl (fun c9 => absurd c9 (by decide)) (fun c9 => ?_)
  refine s_iload E dX4_sum_12 (i := 8) (j := 0) rfl ?_
  refine s_if_ne E dX4_sum_14 (tgt := 21) rfl (fun c14 => ?_) (fun c14 => absurd c14 (by decide))
  refine s_iload E dX4_sum_21 (i := 8) (j := 0) rfl ?_
  refine s_iconst E dX4_sum_23 (v := nI 1) (by decide) ?_
  refine s_icmp_ne E dX4_sum_24 (tgt := 32) rfl (fun c24 => ?_) (fun c24 => absurd c24 (by decide))
  refine s_iload E dX4_sum_32 (i := 5) (j := 9) rfl ?_
  refine s_istore E (L2 := [(9, .int (nI w)), (8, .int (nI 2)), (7, .int (tA k * s 25 (6 + u) + absI (tB k) * s 25 (6 + v))), (10, .int (tB k)), (0, .ref (ba 0)), (1, .int (nI k)), (2, .ref (ba 2)), (3, .int (nI u)), (4, .int (nI v)), (5, .int (nI w)), (6, .int (nI 0))]) dX4_sum_34 (Nat.le_of_ble_eq_true rfl) rfl ?_
  refine s_getsN E E.2.2.2.2.2.2.1.1.1 q897 dX4_sum_36 ?_
  refine s_iconst E dX4_sum_39 (v := nI 3) (by decide) ?_
  refine s_iload_n E dX4_sum_40 (i := 1) (j := 5) rfl rfl ?_
  refine s_imul_ E dX4_sum_41 (v := nI (3 * k)) (pk_mul _ _) ?_
  refine s_iload E dX4_sum_42 (i := 8) (j := 1) rfl ?_
  refine s_iadd_ E dX4_sum_44 (v := nI (3 * k + 2)) (nI_add _ _) ?_
  refine s_tald E E.2.2.2.2.2.2.1.1.2.1 (3 * k + 2) (rfl) (by omega) (by decide) (v := .int (tC k)) (congrArg Value.int ((times_at k hk).2.2)) dX4_sum_45 ?_
  refine s_istore E (L2 := [(10, .int (tC k)), (9, .int (nI w)), (8, .int (nI 2)), (7, .int (tA k * s 25 (6 + u) + absI (tB k) * s 25 (6 + v))), (0, .ref (ba 0)), (1, .int (nI k)), (2, .ref (ba 2)), (3, .int (nI u)), (4, .int (nI v)), (5, .int (nI w)), (6, .int (nI 0))]) dX4_sum_46 (Nat.le_of_ble_eq_true rfl) rfl ?_
  refine s_iload E dX4_sum_48 (i := 9) (j := 1) rfl ?_
  refine s_if_lt E dX4_sum_50 (tgt := 78) rfl (fun c50 => absurd c50 (nI_pos (by omega))) (fun c50 => ?_)
  have c50 : ¬ w < 0 := fun h => c50 ((nI_ltI (a := w) (b := 0) (by omega) (by omega)).mpr h)
  refine s_iload E dX4_sum_53 (i := 7) (j := 3) rfl ?_
  refine s_iload E dX4_sum_55 (i := 6) (j := 10) rfl ?_
  refine s_if_eq E dX4_sum_57 (tgt := 65) rfl (fun c57 => ?_) (fun c57 => absurd c57 (by decide))
  refine s_iload E dX4_sum_65 (i := 10) (j := 0) rfl ?_
  refine s_mabs E (v := absI (tC k)) (abs_eq _) q911 q912 q121 q913 (Nat.le_of_ble_eq_true rfl) (Nat.le_of_ble_eq_true rfl) (Nat.zero_le _) (Nat.zero_le _) dX4_sum_67 ?_
  refine s_aload_n E dX4_sum_70 (i := 2) (j := 6) rfl rfl ?_
  refine s_iload E dX4_sum_71 (i := 9) (j := 1) rfl ?_
  refine aw_l2 E (v := s 25 (6 + w)) (w) (rfl) (by omega) hN8 ((hA.2.2.2.2.2 w (by omega)).2.1) dX4_sum_73 ?_
  refine s_imul E dX4_sum_74 ?_
  refine s_iadd_ E dX4_sum_75 (v := tA k * s 25 (6 + u) + absI (tB k) * s 25 (6 + v) + absI (tC k) * s 25 (6 + w)) (rfl) ?_
  refine s_istore E (L2 := [(7, .int (tA k * s 25 (6 + u) + absI (tB k) * s 25 (6 + v) + absI (tC k) * s 25 (6 + w))), (10, .int (tC k)), (9, .int (nI w)), (8, .int (nI 2)), (0, .ref (ba 0)), (1, .int (nI k)), (2, .ref (ba 2)), (3, .int (nI u)), (4, .int (nI v)), (5, .int (nI w)), (6, .int (nI 0))]) dX4_sum_76 (Nat.le_of_ble_eq_true rfl) rfl ?_
  refine s_iinc E (L2 := [(8, .int (nI 3)), (7, .int (tA k * s 25 (6 + u) + absI (tB k) * s 25 (6 + v) + absI (tC k) * s 25 (6 + w))), (10, .int (tC k)), (9, .int (nI w)), (0, .ref (ba 0)), (1, .int (nI k)), (2, .ref (ba 2)), (3, .int (nI u)), (4, .int (nI v)), (5, .int (nI w)), (6, .int (nI 0))]) dX4_sum_78 (k := 3) rfl (v := nI 3) (rfl) (Nat.le_of_ble_eq_true rfl) rfl ?_
  refine s_goto E dX4_sum_81 (tgt := 6) rfl ?_
  refine s_iload E dX4_sum_6 (i := 8) (j := 0) rfl ?_
  refine s_iconst E dX4_sum_8 (v := nI 3) (by decide) ?_
  refine s_icmp_ge E dX4_sum_9 (tgt := 84) rfl (fun c9 => ?_) (fun c9 => absurd c9 (by decide))
  refine s_iload E dX4_sum_84 (i := 7) (j := 1) rfl ?_
  exact Rt (tA k * s 25 (6 + u) + absI (tB k) * s 25 (6 + v) + absI (tC k) * s 25 (6 + w)) (σ) dX4_sum_86 (⟨rfl, rfl⟩) rfl (Nat.le_refl _) (Nat.le_refl _) rfl E.2.2.2.2.2.1
theorem awX4_g0_28 {p : Program} {l : Launch} {e : Env} {R : Room} {s : State} {m : MethodId} {args : Array Value} {below : List Frame} {meth : Method} {c : Code} {Q : State → Prop} {A : Nat → Prop} {D : va_G} {nL cells slots : Nat} {pc : Nat} {L : List (Nat × Value)} {S : List Value} {cc : ByteArray} {ret : Option FieldType} {gt : Nat → Nat} {ba ad : Nat → Nat} {ct : Nat → ClassId} {Nw : Nat} {τ σ ξ : Nat → Nat → Int32} (E : En p s m args meth c A cc nL RX4 ret D (tysA ct) gt) (d : decode cc pc = .ok (.getfield 11, 3)) (K : Sm p l e R s m args below meth c Q A D nL cells slots (aw ba ct Nw σ ad τ ξ) (pc + 3) L (.ref (ad 0) :: S)) : Sm p l e R s m args below meth c Q A D nL cells slots (aw ba ct Nw σ ad τ ξ) pc L (.ref (ba 0) :: S) := s_get E in_X4 0 rfl rfl 28 (Nat.le_of_ble_eq_true rfl) q320 rfl rfl d K
theorem awX4_g10_4 {p : Program} {l : Launch} {e : Env} {R : Room} {s : State} {m : MethodId} {args : Array Value} {below : List Frame} {meth : Method} {c : Code} {Q : State → Prop} {A : Nat → Prop} {D : va_G} {nL cells slots : Nat} {pc : Nat} {L : List (Nat × Value)} {S : List Value} {cc : ByteArray} {ret : Option FieldType} {gt : Nat → Nat} {ba ad : Nat → Nat} {ct : Nat → ClassId} {Nw : Nat} {τ σ ξ : Nat → Nat → Int32} (E : En p s m args meth c A cc nL RX4 ret D (tysA ct) gt) (d : decode cc pc = .ok (.getfield 52, 3)) (K : Sm p l e R s m args below meth c Q A D nL cells slots (aw ba ct Nw σ ad τ ξ) (pc + 3) L (.ref (ad 2) :: S)) : Sm p l e R s m args below meth c Q A D nL cells slots (aw ba ct Nw σ ad τ ξ) pc L (.ref (ad 0) :: S) := s_getN E in_X1 10 rfl rfl 4 (Nat.le_of_ble_eq_true rfl) q395 rfl rfl d K
theorem awX4_g11_3 {p : Program} {l : Launch} {e : Env} {R : Room} {s : State} {m : MethodId} {args : Array Value} {below : List Frame} {meth : Method} {c : Code} {Q : State → Prop} {A : Nat → Prop} {D : va_G} {nL cells slots : Nat} {pc : Nat} {L : List (Nat × Value)} {S : List Value} {cc : ByteArray} {ret : Option FieldType} {gt : Nat → Nat} {ba ad : Nat → Nat} {ct : Nat → ClassId} {Nw : Nat} {τ σ ξ : Nat → Nat → Int32} (E : En p s m args meth c A cc nL RX4 ret D (tysA ct) gt) (d : decode cc pc = .ok (.getfield 185, 3)) (K : Sm p l e R s m args below meth c Q A D nL cells slots (aw ba ct Nw σ ad τ ξ) (pc + 3) L (.ref (ad 6) :: S)) : Sm p l e R s m args below meth c Q A D nL cells slots (aw ba ct Nw σ ad τ ξ) pc L (.ref (ad 2) :: S) := s_getN E in_X2 11 rfl rfl 3 (Nat.le_of_ble_eq_true rfl) q165 rfl rfl d K
theorem aw_l13 {p : Program} {l : Launch} {e : Env} {R : Room} {s : State} {m : MethodId} {args : Array Value} {below : List Frame} {meth : Method} {c : Code} {Q : State → Prop} {A : Nat → Prop} {D : va_G} {nL cells slots : Nat} {pc : Nat} {L : List (Nat × Value)} {S : List Value} {cc : ByteArray} {ret : Option FieldType} {gt : Nat → Nat} {ba ad : Nat → Nat} {ct : Nat → ClassId} {Nw : Nat} {τ σ ξ : Nat → Nat → Int32} {own : String} (E : En p s m args meth c A cc nL own ret D (tysA ct) gt) {i v : Int32} (N : Nat) (hi : i = nI N) (hN : N < 9) (hv : lnkF τ N = v) (d : decode cc pc = .ok (.iaload, 1)) (K : Sm p l e R s m args below meth c Q A D nL cells slots (aw ba ct Nw σ ad τ ξ) (pc + 1) L (.int v :: S)) : Sm p l e R s m args below meth c Q A D nL cells slots (aw ba ct Nw σ ad τ ξ) pc L (.int i :: .ref (ad 6) :: S) := s_iald E 13 0 rfl rfl N hi hN (Nat.le_of_ble_eq_true rfl) hv d K
theorem awX4_g0_7 {p : Program} {l : Launch} {e : Env} {R : Room} {s : State} {m : MethodId} {args : Array Value} {below : List Frame} {meth : Method} {c : Code} {Q : State → Prop} {A : Nat → Prop} {D : va_G} {nL cells slots : Nat} {pc : Nat} {L : List (Nat × Value)} {S : List Value} {cc : ByteArray} {ret : Option FieldType} {gt : Nat → Nat} {ba ad : Nat → Nat} {ct : Nat → ClassId} {Nw : Nat} {τ σ ξ : Nat → Nat → Int32} (E : En p s m args meth c A cc nL RX4 ret D (tysA ct) gt) (d : decode cc pc = .ok (.getfield 49, 3)) (K : Sm p l e R s m args below meth c Q A D nL cells slots (aw ba ct Nw σ ad τ ξ) (pc + 3) L (.ref (ba 8) :: S)) : Sm p l e R s m args below meth c Q A D nL cells slots (aw ba ct Nw σ ad τ ξ) pc L (.ref (ba 0) :: S) := s_get E in_X4 0 rfl rfl 7 (Nat.le_of_ble_eq_true rfl) q280 rfl rfl d K
theorem aw_l8 {p : Program} {l : Launch} {e : Env} {R : Room} {s : State} {m : MethodId} {args : Array Value} {below : List Frame} {meth : Method} {c : Code} {Q : State → Prop} {A : Nat → Prop} {D : va_G} {nL cells slots : Nat} {pc : Nat} {L : List (Nat × Value)} {S : List Value} {cc : ByteArray} {ret : Option FieldType} {gt : Nat → Nat} {ba ad : Nat → Nat} {ct : Nat → ClassId} {Nw : Nat} {τ σ ξ : Nat → Nat → Int32} {own : String} (E : En p s m args meth c A cc nL own ret D (tysA ct) gt) {i v : Int32} (N : Nat) (hi : i = nI N) (hN : N < Nw) (h8 : Nw ≤ 8) (hv : σ 8 N = v) (d : decode cc pc = .ok (.iaload, 1)) (K : Sm p l e R s m args below meth c Q A D nL cells slots (aw ba ct Nw σ ad τ ξ) (pc + 1) L (.int v :: S)) : Sm p l e R s m args below meth c Q A D nL cells slots (aw ba ct Nw σ ad τ ξ) pc L (.int i :: .ref (ba 8) :: S) := s_iald E 8 0 rfl rfl N hi hN (by omega) hv d K
theorem K_X4_188 : KSN RX4 188 yX1_lesser "QuietChannels" cX1_lesser 2 (some .int) 2 := ⟨q919, q920, q113, q921, by decide +kernel⟩
theorem aw_s8 {p : Program} {l : Launch} {e : Env} {R : Room} {s : State} {m : MethodId} {args : Array Value} {below : List Frame} {meth : Method} {c : Code} {Q : State → Prop} {A : Nat → Prop} {D : va_G} {nL cells slots : Nat} {pc : Nat} {L : List (Nat × Value)} {S : List Value} {cc : ByteArray} {ret : Option FieldType} {gt : Nat → Nat} {ba ad : Nat → Nat} {ct : Nat → ClassId} {Nw : Nat} {τ σ ξ : Nat → Nat → Int32} {own : String} (E : En p s m args meth c A cc nL own ret D (tysA ct) gt) {i v : Int32} (N : Nat) (hi : i = nI N) (hN : N < Nw) (h8 : Nw ≤ 8) (d : decode cc pc = .ok (.iastore, 1)) (K : Sm p l e R s m args below meth c Q A D nL cells slots (aw ba ct Nw (st1 σ 8 N v) ad τ ξ) (pc + 1) L S) : Sm p l e R s m args below meth c Q A D nL cells slots (aw ba ct Nw σ ad τ ξ) pc L (.int v :: .int i :: .ref (ba 8) :: S) := s_iast E 8 0 rfl rfl N hi hN (by omega) rfl d K
theorem awX4_g0_11 {p : Program} {l : Launch} {e : Env} {R : Room} {s : State} {m : MethodId} {args : Array Value} {below : List Frame} {meth : Method} {c : Code} {Q : State → Prop} {A : Nat → Prop} {D : va_G} {nL cells slots : Nat} {pc : Nat} {L : List (Nat × Value)} {S : List Value} {cc : ByteArray} {ret : Option FieldType} {gt : Nat → Nat} {ba ad : Nat → Nat} {ct : Nat → ClassId} {Nw : Nat} {τ σ ξ : Nat → Nat → Int32} (E : En p s m args meth c A cc nL RX4 ret D (tysA ct) gt) {v : Int32} (hv : σ 0 11 = v) (d : decode cc pc = .ok (.getfield 69, 3)) (K : Sm p l e R s m args below meth c Q A D nL cells slots (aw ba ct Nw σ ad τ ξ) (pc + 3) L (.int v :: S)) : Sm p l e R s m args below meth c Q A D nL cells slots (aw ba ct Nw σ ad τ ξ) pc L (.ref (ba 0) :: S) := s_get E in_X4 0 rfl rfl 11 (Nat.le_of_ble_eq_true rfl) q288 (congrArg (fun z => some (Value.int z)) hv) rfl d K
set_option maxHeartbeats 1000000 in
set_option maxRecDepth 100000 in
theorem x4z_isHit {l : Launch} {D : va_G} {gt : Nat → Nat} {ba ad : Nat → Nat} {ct : Nat → ClassId} {Nw : Nat} {τ σ ξ : Nat → Nat → Int32} (s : Nat → Nat → Int32) (n : Nat) (q : Pr) (o : Nat) (hA : AI s σ n) (hnN : n ≤ Nw) (hN8 : Nw ≤ 8) (hT : TA s τ n) (hqa : q.2.1 < n) (ho : o < n) (hin : inQ q o = false) (hpl : ¬ plF s q < 0) : Ct l D gt yX4_isHit cX4_isHit 8 .boolean 1 21 0 0 [.ref (ba 0), .int (nI o), .int (s 6 q.2.1), .int (pvF s q), .int (plF s q), .int (pcF s q)] (aw ba ct Nw σ ad τ ξ) (tysA ct) (fun r σ2 => bI (hitQ s q o = true) = r ∧ nearU s q o σ = σ2) (fun σ2 : Nat → Nat → Int32 => aw ba ct Nw σ2 ad τ ξ) (fun _ => tysA ct) := by
  refine Ct.start RX4 (by decide) rfl (Nat.le_of_ble_eq_true rfl) rfl ?_
  intro pP eE sS mM aA bB hM cC QQ AA E Rt
  have hm := may_iff hT hqa ho hin hpl
  have t1 := hT.2.2.2 _ hqa
  have t2 := hT.2.2.2 _ ho
  refine s_aload_n E dX4_isHit_0 (i := 0) (j := 0) rfl rfl ?_
  refine awX4_g0_28 E dX4_isHit_1 ?_
  refine awX4_g10_4 E dX4_isHit_4 ?_
  refine awX4_g11_3 E dX4_isHit_7 ?_
  refine s_iconst E dX4_isHit_10 (v := nI 3) (by decide) ?_
  refine s_iload_n E dX4_isHit_11 (i := 2) (j := 2) rfl rfl ?_
  refine s_imul_ E dX4_isHit_12 (v := nI (3 * tN (s 6 q.2.1))) (by rw [← pk_mul, ← t1.1]) ?_
  refine s_aload_n E dX4_isHit_13 (i := 0) (j := 0) rfl rfl ?_
  refine awX4_g0_0 E dX4_isHit_14 ?_
  refine s_iload_n E dX4_isHit_17 (i := 1) (j := 1) rfl rfl ?_
  refine aw_l1 E (v := nI (tN (s 6 o))) (o) (rfl) (by omega) hN8 (((hA.2.2.2.2.2 o (by omega)).1).trans t2.1) dX4_isHit_18 ?_
  refine s_iadd_ E dX4_isHit_19 (v := nI ((3 * tN (s 6 q.2.1)) + (tN (s 6 o)))) (nI_add _ _) ?_
  refine aw_l13 E (v := lnQ s q o) ((3 * tN (s 6 q.2.1)) + (tN (s 6 o))) (rfl) (by have := t1.2; have := t2.2; omega) (lnk_at hT hqa ho) dX4_isHit_20 ?_
  refine s_istore E (L2 := [(6, .int (lnQ s q o)), (0, .ref (ba 0)), (1, .int (nI o)), (2, .int (s 6 q.2.1)), (3, .int (pvF s q)), (4, .int (plF s q)), (5, .int (pcF s q))]) dX4_isHit_21 (Nat.le_of_ble_eq_true rfl) rfl ?_
  refine s_aload_n E dX4_isHit_23 (i := 0) (j := 1) rfl rfl ?_
  refine awX4_g0_2 E dX4_isHit_24 ?_
  refine s_iload_n E dX4_isHit_27 (i := 1) (j := 2) rfl rfl ?_
  refine aw_l3 E (v := s 25 o) (o) (rfl) (by omega) hN8 ((hA.2.2.2.2.2 o (by omega)).2.2.1) dX4_isHit_28 ?_
  refine s_if_eq E dX4_isHit_29 (tgt := 56) rfl (fun c29 => ?_) (fun c29 => ?_)
  · refine s_iconst E dX4_isHit_56 (v := nI 0) (by decide) ?_
    exact Rt (nI 0) (σ) dX4_isHit_57 (⟨bI_f (fun h => absurd (hm.mp (hit_may h)) (by intro hh; first | exact hh.1 c29 | exact hh.2.1 c41 | exact hh.2.2.1 c46 | exact hh.2.2.2 c53)), if_neg (fun h => absurd (hm.mp h) (by intro hh; first | exact hh.1 c29 | exact hh.2.1 c41 | exact hh.2.2.1 c46 | exact hh.2.2.2 c53))⟩) rfl (Nat.le_refl _) (Nat.le_refl _) rfl E.2.2.2.2.2.1
  · refine s_aload_n E dX4_isHit_32 (i := 0) (j := 1) rfl rfl ?_
    refine awX4_g0_5 E dX4_isHit_33 ?_
    refine s_iload_n E dX4_isHit_36 (i := 1) (j := 2) rfl rfl ?_
    refine aw_l6 E (v := s 25 (73 + o)) (o) (rfl) (by omega) hN8 ((hA.2.2.2.2.2 o (by omega)).2.2.2) dX4_isHit_37 ?_
    refine s_iload E dX4_isHit_38 (i := 5) (j := 6) rfl ?_
    refine s_iand_ E dX4_isHit_40 (v := pcF s q &&& s 25 (73 + o)) (Int32.and_comm _ _) ?_
    refine s_if_eq E dX4_isHit_41 (tgt := 56) rfl (fun c41 => ?_) (fun c41 => ?_)
    · refine s_iconst E dX4_isHit_56 (v := nI 0) (by decide) ?_
      exact Rt (nI 0) (σ) dX4_isHit_57 (⟨bI_f (fun h => absurd (hm.mp (hit_may h)) (by intro hh; first | exact hh.1 c29 | exact hh.2.1 c41 | exact hh.2.2.1 c46 | exact hh.2.2.2 c53)), if_neg (fun h => absurd (hm.mp h) (by intro hh; first | exact hh.1 c29 | exact hh.2.1 c41 | exact hh.2.2.1 c46 | exact hh.2.2.2 c53))⟩) rfl (Nat.le_refl _) (Nat.le_refl _) rfl E.2.2.2.2.2.1
    · refine s_iload E dX4_isHit_44 (i := 6) (j := 0) rfl ?_
      refine s_if_lt E dX4_isHit_46 (tgt := 56) rfl (fun c46 => ?_) (fun c46 => ?_)
      · refine s_iconst E dX4_isHit_56 (v := nI 0) (by decide) ?_
        exact Rt (nI 0) (σ) dX4_isHit_57 (⟨bI_f (fun h => absurd (hm.mp (hit_may h)) (by intro hh; first | exact hh.1 c29 | exact hh.2.1 c41 | exact hh.2.2.1 c46 | exact hh.2.2.2 c53)), if_neg (fun h => absurd (hm.mp h) (by intro hh; first | exact hh.1 c29 | exact hh.2.1 c41 | exact hh.2.2.1 c46 | exact hh.2.2.2 c53))⟩) rfl (Nat.le_refl _) (Nat.le_refl _) rfl E.2.2.2.2.2.1
      · refine s_iload E dX4_isHit_49 (i := 4) (j := 5) rfl ?_
        refine s_iload E dX4_isHit_51 (i := 6) (j := 0) rfl ?_
        refine s_icmp_ge E dX4_isHit_53 (tgt := 58) rfl (fun c53 => ?_) (fun c53 => ?_)
        · have c53 := Int32.not_lt.mpr c53
          refine s_aload_n E dX4_isHit_58 (i := 0) (j := 1) rfl rfl ?_
          refine awX4_g0_2 E dX4_isHit_59 ?_
          refine s_iload_n E dX4_isHit_62 (i := 1) (j := 2) rfl rfl ?_
          refine aw_l3 E (v := s 25 o) (o) (rfl) (by omega) hN8 ((hA.2.2.2.2.2 o (by omega)).2.2.1) dX4_isHit_63 ?_
          refine s_iload_n E dX4_isHit_64 (i := 3) (j := 4) rfl rfl ?_
          refine s_isub E dX4_isHit_65 ?_
          refine s_mabs E (v := absI (s 25 o - pvF s q)) (abs_eq _) q911 q912 q121 q913 (Nat.le_of_ble_eq_true rfl) (Nat.le_of_ble_eq_true rfl) (Nat.zero_le _) (Nat.zero_le _) dX4_isHit_66 ?_
          refine s_istore E (L2 := [(7, .int (absI (s 25 o - pvF s q))), (6, .int (lnQ s q o)), (0, .ref (ba 0)), (1, .int (nI o)), (2, .int (s 6 q.2.1)), (3, .int (pvF s q)), (4, .int (plF s q)), (5, .int (pcF s q))]) dX4_isHit_69 (Nat.le_of_ble_eq_true rfl) rfl ?_
          refine s_aload_n E dX4_isHit_71 (i := 0) (j := 2) rfl rfl ?_
          refine awX4_g0_7 E dX4_isHit_72 ?_
          refine s_iload_n E dX4_isHit_75 (i := 1) (j := 3) rfl rfl ?_
          refine s_aload_n E dX4_isHit_76 (i := 0) (j := 2) rfl rfl ?_
          refine awX4_g0_7 E dX4_isHit_77 ?_
          refine s_iload_n E dX4_isHit_80 (i := 1) (j := 3) rfl rfl ?_
          refine aw_l8 E (v := σ 8 o) (o) (rfl) (by omega) hN8 (rfl) dX4_isHit_81 ?_
          refine s_if_ge E dX4_isHit_82 (tgt := 90) rfl (fun c82 => ?_) (fun c82 => ?_)
          · have c82 := Int32.not_lt.mpr c82
            refine s_aload_n E dX4_isHit_90 (i := 0) (j := 2) rfl rfl ?_
            refine awX4_g0_7 E dX4_isHit_91 ?_
            refine s_iload_n E dX4_isHit_94 (i := 1) (j := 3) rfl rfl ?_
            refine aw_l8 E (v := σ 8 o) (o) (rfl) (by omega) hN8 (rfl) dX4_isHit_95 ?_
            refine s_iload E dX4_isHit_96 (i := 7) (j := 0) rfl ?_
            refine c_gos E (rSN E (cutZ _ _) (x1z_lesser (σ 8 o) (absI (s 25 o - pvF s q))) K_X4_188 (Nat.le_of_ble_eq_true rfl) (Nat.le_of_ble_eq_true rfl) (Nat.zero_le _) (Nat.zero_le _) rfl rfl (Nat.le_of_ble_eq_true rfl) dX4_isHit_98) (fun r98 h98 => ?_)
            subst h98
            refine aw_s8 E (o) (rfl) (by omega) hN8 dX4_isHit_101 ?_
            refine s_iload E dX4_isHit_102 (i := 7) (j := 0) rfl ?_
            refine s_aload_n E dX4_isHit_104 (i := 0) (j := 2) rfl rfl ?_
            refine awX4_g0_11 E (v := s 0 31) (hA.2.2.1) dX4_isHit_105 ?_
            refine s_icmp_gt E dX4_isHit_108 (tgt := 115) rfl (fun c108 => ?_) (fun c108 => ?_)
            · refine s_iconst E dX4_isHit_115 (v := nI 0) (by decide) ?_
              exact Rt (nI 0) (st1 σ 8 o (if (σ 8 o) < (absI (s 25 o - pvF s q)) then (σ 8 o) else (absI (s 25 o - pvF s q)))) dX4_isHit_116 (⟨bI_f (fun h => (hit_iff (hm.mpr ⟨c29, c41, c46, c53⟩)).mp h c108), by unfold nearU; rw [if_pos (hm.mpr ⟨c29, c41, c46, c53⟩)]; unfold nvF farQ; first | rw [if_pos c82] | rw [if_neg c82]⟩) rfl (Nat.le_refl _) (Nat.le_refl _) rfl E.2.2.2.2.2.1
            · refine s_iconst E dX4_isHit_111 (v := nI 1) (by decide) ?_
              refine s_goto E dX4_isHit_112 (tgt := 116) rfl ?_
              exact Rt (nI 1) (st1 σ 8 o (if (σ 8 o) < (absI (s 25 o - pvF s q)) then (σ 8 o) else (absI (s 25 o - pvF s q)))) dX4_isHit_116 (⟨bI_t ((hit_iff (hm.mpr ⟨c29, c41, c46, c53⟩)).mpr c108), by unfold nearU; rw [if_pos (hm.mpr ⟨c29, c41, c46, c53⟩)]; unfold nvF farQ; first | rw [if_pos c82] | rw [if_neg c82]⟩) rfl (Nat.le_refl _) (Nat.le_refl _) rfl E.2.2.2.2.2.1
          · have c82 := Int32.not_le.mp c82
            refine s_iload E dX4_isHit_85 (i := 7) (j := 0) rfl ?_
            refine s_goto E dX4_isHit_87 (tgt := 101) rfl ?_
            refine aw_s8 E (o) (rfl) (by omega) hN8 dX4_isHit_101 ?_
            refine s_iload E dX4_isHit_102 (i := 7) (j := 0) rfl ?_
            refine s_aload_n E dX4_isHit_104 (i := 0) (j := 2) rfl rfl ?_
            refine awX4_g0_11 E (v := s 0 31) (hA.2.2.1) dX4_isHit_105 ?_
            refine s_icmp_gt E dX4_isHit_108 (tgt := 115) rfl (fun c108 => ?_) (fun c108 => ?_)
            · refine s_iconst E dX4_isHit_115 (v := nI 0) (by decide) ?_
              exact Rt (nI 0) (st1 σ 8 o (absI (s 25 o - pvF s q))) dX4_isHit_116 (⟨bI_f (fun h => (hit_iff (hm.mpr ⟨c29, c41, c46, c53⟩)).mp h c108), by unfold nearU; rw [if_pos (hm.mpr ⟨c29, c41, c46, c53⟩)]; unfold nvF farQ; first | rw [if_pos c82] | rw [if_neg c82]⟩) rfl (Nat.le_refl _) (Nat.le_refl _) rfl E.2.2.2.2.2.1
            · refine s_iconst E dX4_isHit_111 (v := nI 1) (by decide) ?_
              refine s_goto E dX4_isHit_112 (tgt := 116) rfl ?_
              exact Rt (nI 1) (st1 σ 8 o (absI (s 25 o - pvF s q))) dX4_isHit_116 (⟨bI_t ((hit_iff (hm.mpr ⟨c29, c41, c46, c53⟩)).mpr c108), by unfold nearU; rw [if_pos (hm.mpr ⟨c29, c41, c46, c53⟩)]; unfold nvF farQ; first | rw [if_pos c82] | rw [if_neg c82]⟩) rfl (Nat.le_refl _) (Nat.le_refl _) rfl E.2.2.2.2.2.1
        · have c53 := Int32.not_le.mp c53
          refine s_iconst E dX4_isHit_56 (v := nI 0) (by decide) ?_
          exact Rt (nI 0) (σ) dX4_isHit_57 (⟨bI_f (fun h => absurd (hm.mp (hit_may h)) (by intro hh; first | exact hh.1 c29 | exact hh.2.1 c41 | exact hh.2.2.1 c46 | exact hh.2.2.2 c53)), if_neg (fun h => absurd (hm.mp h) (by intro hh; first | exact hh.1 c29 | exact hh.2.1 c41 | exact hh.2.2.1 c46 | exact hh.2.2.2 c53))⟩) rfl (Nat.le_refl _) (Nat.le_refl _) rfl E.2.2.2.2.2.1
theorem K_X4_156 : KS RX4 156 yJ8_bitCount cJ8_bitCount 1 (some .int) 1 := ⟨q926, q927, q131, q928, by decide +kernel⟩
theorem awX4_g0_4 {p : Program} {l : Launch} {e : Env} {R : Room} {s : State} {m : MethodId} {args : Array Value} {below : List Frame} {meth : Method} {c : Code} {Q : State → Prop} {A : Nat → Prop} {D : va_G} {nL cells slots : Nat} {pc : Nat} {L : List (Nat × Value)} {S : List Value} {cc : ByteArray} {ret : Option FieldType} {gt : Nat → Nat} {ba ad : Nat → Nat} {ct : Nat → ClassId} {Nw : Nat} {τ σ ξ : Nat → Nat → Int32} (E : En p s m args meth c A cc nL RX4 ret D (tysA ct) gt) (d : decode cc pc = .ok (.getfield 40, 3)) (K : Sm p l e R s m args below meth c Q A D nL cells slots (aw ba ct Nw σ ad τ ξ) (pc + 3) L (.ref (ba 5) :: S)) : Sm p l e R s m args below meth c Q A D nL cells slots (aw ba ct Nw σ ad τ ξ) pc L (.ref (ba 0) :: S) := s_get E in_X4 0 rfl rfl 4 (Nat.le_of_ble_eq_true rfl) q274 rfl rfl d K
theorem aw_l5 {p : Program} {l : Launch} {e : Env} {R : Room} {s : State} {m : MethodId} {args : Array Value} {below : List Frame} {meth : Method} {c : Code} {Q : State → Prop} {A : Nat → Prop} {D : va_G} {nL cells slots : Nat} {pc : Nat} {L : List (Nat × Value)} {S : List Value} {cc : ByteArray} {ret : Option FieldType} {gt : Nat → Nat} {ba ad : Nat → Nat} {ct : Nat → ClassId} {Nw : Nat} {τ σ ξ : Nat → Nat → Int32} {own : String} (E : En p s m args meth c A cc nL own ret D (tysA ct) gt) {i v : Int32} (N : Nat) (hi : i = nI N) (hN : N < Nw) (h8 : Nw ≤ 8) (hv : σ 5 N = v) (d : decode cc pc = .ok (.iaload, 1)) (K : Sm p l e R s m args below meth c Q A D nL cells slots (aw ba ct Nw σ ad τ ξ) (pc + 1) L (.int v :: S)) : Sm p l e R s m args below meth c Q A D nL cells slots (aw ba ct Nw σ ad τ ξ) pc L (.int i :: .ref (ba 5) :: S) := s_iald E 5 0 rfl rfl N hi hN (by omega) hv d K
theorem aw_s5 {p : Program} {l : Launch} {e : Env} {R : Room} {s : State} {m : MethodId} {args : Array Value} {below : List Frame} {meth : Method} {c : Code} {Q : State → Prop} {A : Nat → Prop} {D : va_G} {nL cells slots : Nat} {pc : Nat} {L : List (Nat × Value)} {S : List Value} {cc : ByteArray} {ret : Option FieldType} {gt : Nat → Nat} {ba ad : Nat → Nat} {ct : Nat → ClassId} {Nw : Nat} {τ σ ξ : Nat → Nat → Int32} {own : String} (E : En p s m args meth c A cc nL own ret D (tysA ct) gt) {i v : Int32} (N : Nat) (hi : i = nI N) (hN : N < Nw) (h8 : Nw ≤ 8) (d : decode cc pc = .ok (.iastore, 1)) (K : Sm p l e R s m args below meth c Q A D nL cells slots (aw ba ct Nw (st1 σ 5 N v) ad τ ξ) (pc + 1) L S) : Sm p l e R s m args below meth c Q A D nL cells slots (aw ba ct Nw σ ad τ ξ) pc L (.int v :: .int i :: .ref (ba 5) :: S) := s_iast E 5 0 rfl rfl N hi hN (by omega) rfl d K
theorem awX4_g0_9 {p : Program} {l : Launch} {e : Env} {R : Room} {s : State} {m : MethodId} {args : Array Value} {below : List Frame} {meth : Method} {c : Code} {Q : State → Prop} {A : Nat → Prop} {D : va_G} {nL cells slots : Nat} {pc : Nat} {L : List (Nat × Value)} {S : List Value} {cc : ByteArray} {ret : Option FieldType} {gt : Nat → Nat} {ba ad : Nat → Nat} {ct : Nat → ClassId} {Nw : Nat} {τ σ ξ : Nat → Nat → Int32} (E : En p s m args meth c A cc nL RX4 ret D (tysA ct) gt) {v : Int32} (hv : σ 0 9 = v) (d : decode cc pc = .ok (.getfield 61, 3)) (K : Sm p l e R s m args below meth c Q A D nL cells slots (aw ba ct Nw σ ad τ ξ) (pc + 3) L (.int v :: S)) : Sm p l e R s m args below meth c Q A D nL cells slots (aw ba ct Nw σ ad τ ξ) pc L (.ref (ba 0) :: S) := s_get E in_X4 0 rfl rfl 9 (Nat.le_of_ble_eq_true rfl) q284 (congrArg (fun z => some (Value.int z)) hv) rfl d K
theorem awX4_g0_3 {p : Program} {l : Launch} {e : Env} {R : Room} {s : State} {m : MethodId} {args : Array Value} {below : List Frame} {meth : Method} {c : Code} {Q : State → Prop} {A : Nat → Prop} {D : va_G} {nL cells slots : Nat} {pc : Nat} {L : List (Nat × Value)} {S : List Value} {cc : ByteArray} {ret : Option FieldType} {gt : Nat → Nat} {ba ad : Nat → Nat} {ct : Nat → ClassId} {Nw : Nat} {τ σ ξ : Nat → Nat → Int32} (E : En p s m args meth c A cc nL RX4 ret D (tysA ct) gt) (d : decode cc pc = .ok (.getfield 37, 3)) (K : Sm p l e R s m args below meth c Q A D nL cells slots (aw ba ct Nw σ ad τ ξ) (pc + 3) L (.ref (ba 4) :: S)) : Sm p l e R s m args below meth c Q A D nL cells slots (aw ba ct Nw σ ad τ ξ) pc L (.ref (ba 0) :: S) := s_get E in_X4 0 rfl rfl 3 (Nat.le_of_ble_eq_true rfl) q272 rfl rfl d K
theorem aw_l4 {p : Program} {l : Launch} {e : Env} {R : Room} {s : State} {m : MethodId} {args : Array Value} {below : List Frame} {meth : Method} {c : Code} {Q : State → Prop} {A : Nat → Prop} {D : va_G} {nL cells slots : Nat} {pc : Nat} {L : List (Nat × Value)} {S : List Value} {cc : ByteArray} {ret : Option FieldType} {gt : Nat → Nat} {ba ad : Nat → Nat} {ct : Nat → ClassId} {Nw : Nat} {τ σ ξ : Nat → Nat → Int32} {own : String} (E : En p s m args meth c A cc nL own ret D (tysA ct) gt) {i v : Int32} (N : Nat) (hi : i = nI N) (hN : N < Nw) (h8 : Nw ≤ 8) (hv : σ 4 N = v) (d : decode cc pc = .ok (.iaload, 1)) (K : Sm p l e R s m args below meth c Q A D nL cells slots (aw ba ct Nw σ ad τ ξ) (pc + 1) L (.int v :: S)) : Sm p l e R s m args below meth c Q A D nL cells slots (aw ba ct Nw σ ad τ ξ) pc L (.int i :: .ref (ba 4) :: S) := s_iald E 4 0 rfl rfl N hi hN (by omega) hv d K
theorem aw_s4 {p : Program} {l : Launch} {e : Env} {R : Room} {s : State} {m : MethodId} {args : Array Value} {below : List Frame} {meth : Method} {c : Code} {Q : State → Prop} {A : Nat → Prop} {D : va_G} {nL cells slots : Nat} {pc : Nat} {L : List (Nat × Value)} {S : List Value} {cc : ByteArray} {ret : Option FieldType} {gt : Nat → Nat} {ba ad : Nat → Nat} {ct : Nat → ClassId} {Nw : Nat} {τ σ ξ : Nat → Nat → Int32} {own : String} (E : En p s m args meth c A cc nL own ret D (tysA ct) gt) {i v : Int32} (N : Nat) (hi : i = nI N) (hN : N < Nw) (h8 : Nw ≤ 8) (d : decode cc pc = .ok (.iastore, 1)) (K : Sm p l e R s m args below meth c Q A D nL cells slots (aw ba ct Nw (st1 σ 4 N v) ad τ ξ) (pc + 1) L S) : Sm p l e R s m args below meth c Q A D nL cells slots (aw ba ct Nw σ ad τ ξ) pc L (.int v :: .int i :: .ref (ba 4) :: S) := s_iast E 4 0 rfl rfl N hi hN (by omega) rfl d K
theorem awX4_g0_6 {p : Program} {l : Launch} {e : Env} {R : Room} {s : State} {m : MethodId} {args : Array Value} {below : List Frame} {meth : Method} {c : Code} {Q : State → Prop} {A : Nat → Prop} {D : va_G} {nL cells slots : Nat} {pc : Nat} {L : List (Nat × Value)} {S : List Value} {cc : ByteArray} {ret : Option FieldType} {gt : Nat → Nat} {ba ad : Nat → Nat} {ct : Nat → ClassId} {Nw : Nat} {τ σ ξ : Nat → Nat → Int32} (E : En p s m args meth c A cc nL RX4 ret D (tysA ct) gt) (d : decode cc pc = .ok (.getfield 46, 3)) (K : Sm p l e R s m args below meth c Q A D nL cells slots (aw ba ct Nw σ ad τ ξ) (pc + 3) L (.ref (ba 7) :: S)) : Sm p l e R s m args below meth c Q A D nL cells slots (aw ba ct Nw σ ad τ ξ) pc L (.ref (ba 0) :: S) := s_get E in_X4 0 rfl rfl 6 (Nat.le_of_ble_eq_true rfl) q278 rfl rfl d K
theorem aw_l7 {p : Program} {l : Launch} {e : Env} {R : Room} {s : State} {m : MethodId} {args : Array Value} {below : List Frame} {meth : Method} {c : Code} {Q : State → Prop} {A : Nat → Prop} {D : va_G} {nL cells slots : Nat} {pc : Nat} {L : List (Nat × Value)} {S : List Value} {cc : ByteArray} {ret : Option FieldType} {gt : Nat → Nat} {ba ad : Nat → Nat} {ct : Nat → ClassId} {Nw : Nat} {τ σ ξ : Nat → Nat → Int32} {own : String} (E : En p s m args meth c A cc nL own ret D (tysA ct) gt) {i v : Int32} (N : Nat) (hi : i = nI N) (hN : N < Nw) (h8 : Nw ≤ 8) (hv : σ 7 N = v) (d : decode cc pc = .ok (.iaload, 1)) (K : Sm p l e R s m args below meth c Q A D nL cells slots (aw ba ct Nw σ ad τ ξ) (pc + 1) L (.int v :: S)) : Sm p l e R s m args below meth c Q A D nL cells slots (aw ba ct Nw σ ad τ ξ) pc L (.int i :: .ref (ba 7) :: S) := s_iald E 7 0 rfl rfl N hi hN (by omega) hv d K
theorem aw_s7 {p : Program} {l : Launch} {e : Env} {R : Room} {s : State} {m : MethodId} {args : Array Value} {below : List Frame} {meth : Method} {c : Code} {Q : State → Prop} {A : Nat → Prop} {D : va_G} {nL cells slots : Nat} {pc : Nat} {L : List (Nat × Value)} {S : List Value} {cc : ByteArray} {ret : Option FieldType} {gt : Nat → Nat} {ba ad : Nat → Nat} {ct : Nat → ClassId} {Nw : Nat} {τ σ ξ : Nat → Nat → Int32} {own : String} (E : En p s m args meth c A cc nL own ret D (tysA ct) gt) {i v : Int32} (N : Nat) (hi : i = nI N) (hN : N < Nw) (h8 : Nw ≤ 8) (d : decode cc pc = .ok (.iastore, 1)) (K : Sm p l e R s m args below meth c Q A D nL cells slots (aw ba ct Nw (st1 σ 7 N v) ad τ ξ) (pc + 1) L S) : Sm p l e R s m args below meth c Q A D nL cells slots (aw ba ct Nw σ ad τ ξ) pc L (.int v :: .int i :: .ref (ba 7) :: S) := s_iast E 7 0 rfl rfl N hi hN (by omega) rfl d K
set_option maxHeartbeats 1000000 in
set_option maxRecDepth 100000 in
theorem x4z_counts {l : Launch} {D : va_G} {gt : Nat → Nat} {ba ad : Nat → Nat} {ct : Nat → ClassId} {Nw : Nat} {τ σ ξ : Nat → Nat → Int32} (s : Nat → Nat → Int32) (n k u v S : Nat) (cm : Int32) (hA : AI s σ n) (hnN : n ≤ Nw) (hN8 : Nw ≤ 8) (hu : u < n) (hv : v < n) (huv : u ≠ v) (hS : S < 256) : Cv l D gt yX4_counts cX4_counts 8 1 20 0 0 [.ref (ba 0), .int (nI S), .int (cm), .int (nI u), .int (nI v), .int ((-1))] (aw ba ct Nw σ ad τ ξ) (tysA ct) (fun σ2 => cntS s (k, u, v, none) S cm σ n = σ2) (fun σ2 : Nat → Nat → Int32 => aw ba ct Nw σ2 ad τ ξ) (fun _ => tysA ct) := by
  refine Cv.start RX4 (by decide) rfl (Nat.le_of_ble_eq_true rfl) rfl ?_
  intro pP eE sS mM aA bB hM cC QQ AA E Rt
  refine s_iload_n E dX4_counts_0 (i := 1) (j := 1) rfl rfl ?_
  refine c_gos E (rS E (cutZ _ _) (j8z_bitCount S (hS)) K_X4_156 (Nat.le_of_ble_eq_true rfl) (Nat.le_of_ble_eq_true rfl) (Nat.zero_le _) (Nat.zero_le _) rfl rfl (Nat.le_of_ble_eq_true rfl) dX4_counts_1) (fun r1 h1 => ?_)
  subst h1
  refine s_istore E (L2 := [(6, .int (nI (pop S))), (0, .ref (ba 0)), (1, .int (nI S)), (2, .int (cm)), (3, .int (nI u)), (4, .int (nI v)), (5, .int ((-1)))]) dX4_counts_4 (Nat.le_of_ble_eq_true rfl) rfl ?_
  refine s_aload_n E dX4_counts_6 (i := 0) (j := 1) rfl rfl ?_
  refine awX4_g0_4 E dX4_counts_7 ?_
  refine s_iload_n E dX4_counts_10 (i := 3) (j := 4) rfl rfl ?_
  refine s_dup2 E dX4_counts_11 rfl rfl ?_
  refine aw_l5 E (v := σ 5 u) (u) (rfl) (by omega) hN8 (rfl) dX4_counts_12 ?_
  refine s_iload E dX4_counts_13 (i := 6) (j := 0) rfl ?_
  refine s_iadd E dX4_counts_15 ?_
  refine aw_s5 E (u) (rfl) (by omega) hN8 dX4_counts_16 ?_
  refine s_aload_n E dX4_counts_17 (i := 0) (j := 1) rfl rfl ?_
  refine awX4_g0_4 E dX4_counts_18 ?_
  refine s_iload E dX4_counts_21 (i := 4) (j := 5) rfl ?_
  refine s_dup2 E dX4_counts_23 rfl rfl ?_
  refine aw_l5 E (v := σ 5 v) (v) (rfl) (by omega) hN8 (st1_nj (fun e => huv e.symm)) dX4_counts_24 ?_
  refine s_iload E dX4_counts_25 (i := 6) (j := 0) rfl ?_
  refine s_iadd E dX4_counts_27 ?_
  refine aw_s5 E (v) (rfl) (by omega) hN8 dX4_counts_28 ?_
  refine s_iload E dX4_counts_29 (i := 5) (j := 6) rfl ?_
  refine s_if_lt E dX4_counts_31 (tgt := 46) rfl (fun c31 => ?_) (fun c31 => absurd (by decide) c31)
  refine s_ws (ws2 := aw ba ct Nw (cntS s (k, u, v, none) S cm σ 0) ad τ ξ) (congrArg (fun z => aw ba ct Nw z ad τ ξ) (show _ = _ from by exact cntS_0n huv)) ?_
  refine s_iconst E dX4_counts_46 (v := nI 0) (by decide) ?_
  refine s_istore E (L2 := [(7, .int (nI 0)), (6, .int (nI (pop S))), (0, .ref (ba 0)), (1, .int (nI S)), (2, .int (cm)), (3, .int (nI u)), (4, .int (nI v)), (5, .int ((-1)))]) dX4_counts_47 (Nat.le_of_ble_eq_true rfl) rfl ?_
  have L49 : ∀ (fuel : Nat) (i : Nat), (i ≤ n) → (n - i) < fuel → Sm pP l eE { frames := 1, cells := 0, slots := 0, locals := 20 } sS mM aA bB hM cC QQ AA D 8 0 0 (aw ba ct Nw (cntS s (k, u, v, none) S cm σ i) ad τ ξ) 49 [(0, .ref (ba 0)), (1, .int (nI S)), (2, .int (cm)), (7, .int (nI i))] [] := by
    intro fuel
    induction fuel with
    | zero =>
      intro i hi hf49
      exact absurd hf49 (Nat.not_lt_zero _)
    | succ fuel ih49 =>
      intro i hi hf49
      refine s_iload E dX4_counts_49 (i := 7) (j := 3) rfl ?_
      refine s_aload_n E dX4_counts_51 (i := 0) (j := 0) rfl rfl ?_
      refine awX4_g0_9 E (v := nI n) (by exact (congrFun (cntS_r (by decide) (by decide) (by decide)) _).trans hA.1) dX4_counts_52 ?_
      refine s_icmp_ge E dX4_counts_55 (tgt := 106) rfl (fun c55 => ?_) (fun c55 => ?_)
      · have c55 : ¬ i < n := fun h => absurd c55 (Int32.not_le.mpr ((nI_ltI (a := i) (b := n) (by omega) (by omega)).mpr h))
        exact Rt (cntS s (k, u, v, none) S cm σ i) dX4_counts_106 (by rw [show i = n by omega]) rfl (Nat.le_refl _) (Nat.le_refl _) E.2.2.2.2.2.1
      · have c55 : i < n := (nI_ltI (a := i) (b := n) (by omega) (by omega)).mp (Int32.not_le.mp c55)
        refine s_iload_n E dX4_counts_58 (i := 1) (j := 1) rfl rfl ?_
        refine s_iload E dX4_counts_59 (i := 7) (j := 3) rfl ?_
        refine s_ishr E dX4_counts_61 ?_
        refine s_iconst E dX4_counts_62 (v := nI 1) (by decide) ?_
        refine s_iand_ E dX4_counts_63 (v := nI (bit S i)) (bit_at i (by omega) S hS) ?_
        refine s_if_ne E dX4_counts_64 (tgt := 70) rfl (fun c64 => ?_) (fun c64 => ?_)
        · have c64 : ¬ bit S i = 0 := fun e => c64 (by rw [e]; rfl)
          have c64 : bit S i = 1 := by have := bit_01 S i; omega
          refine s_aload_n E dX4_counts_70 (i := 0) (j := 0) rfl rfl ?_
          refine awX4_g0_3 E dX4_counts_71 ?_
          refine s_iload E dX4_counts_74 (i := 7) (j := 3) rfl ?_
          refine s_dup2 E dX4_counts_76 rfl rfl ?_
          refine aw_l4 E (v := σ 4 i) (i) (rfl) (by omega) hN8 (by unfold cntS; simp) dX4_counts_77 ?_
          refine s_iconst E dX4_counts_78 (v := nI 1) (by decide) ?_
          refine s_iadd E dX4_counts_79 ?_
          refine aw_s4 E (i) (rfl) (by omega) hN8 dX4_counts_80 ?_
          refine s_aload_n E dX4_counts_81 (i := 0) (j := 0) rfl rfl ?_
          refine awX4_g0_6 E dX4_counts_82 ?_
          refine s_iload E dX4_counts_85 (i := 7) (j := 3) rfl ?_
          refine s_dup2 E dX4_counts_87 rfl rfl ?_
          refine aw_l7 E (v := σ 7 i) (i) (rfl) (by omega) hN8 (by rw [st1_ne (by decide)]; unfold cntS; simp) dX4_counts_88 ?_
          refine s_iload_n E dX4_counts_89 (i := 2) (j := 2) rfl rfl ?_
          refine s_aload_n E dX4_counts_90 (i := 0) (j := 0) rfl rfl ?_
          refine awX4_g0_5 E dX4_counts_91 ?_
          refine s_iload E dX4_counts_94 (i := 7) (j := 3) rfl ?_
          refine aw_l6 E (v := s 25 (73 + i)) (i) (rfl) (by omega) hN8 (by rw [st1_ne (by decide), cntS_r (by decide) (by decide) (by decide)]; exact (hA.2.2.2.2.2 i (by omega)).2.2.2) dX4_counts_96 ?_
          refine s_iand E dX4_counts_97 ?_
          refine s_ior E dX4_counts_98 ?_
          refine aw_s7 E (i) (rfl) (by omega) hN8 dX4_counts_99 ?_
          refine s_iinc E (L2 := [(7, .int (nI (i + 1))), (0, .ref (ba 0)), (1, .int (nI S)), (2, .int (cm))]) dX4_counts_100 (k := 3) rfl (v := nI (i + 1)) (nI_inc _) (Nat.le_of_ble_eq_true rfl) rfl ?_
          refine s_goto E dX4_counts_103 (tgt := 49) rfl ?_
          refine s_ws (ws2 := aw ba ct Nw (cntS s (k, u, v, none) S cm σ (i + 1)) ad τ ξ) (congrArg (fun z => aw ba ct Nw z ad τ ξ) (cntS_t c64)) ?_
          refine s_loc (L2 := [(0, .ref (ba 0)), (1, .int (nI S)), (2, .int (cm)), (7, .int (nI (i + 1)))]) [1, 2, 3, 0] rfl ?_
          exact ih49 (i + 1) (by omega) (by omega)
        · have c64 : bit S i = 0 := by have := bit_01 S i; rcases this with e | e; exact e; rw [e] at c64; exact absurd c64 (by decide)
          refine s_goto E dX4_counts_67 (tgt := 100) rfl ?_
          refine s_iinc E (L2 := [(7, .int (nI (i + 1))), (0, .ref (ba 0)), (1, .int (nI S)), (2, .int (cm))]) dX4_counts_100 (k := 3) rfl (v := nI (i + 1)) (nI_inc _) (Nat.le_of_ble_eq_true rfl) rfl ?_
          refine s_goto E dX4_counts_103 (tgt := 49) rfl ?_
          refine s_ws (ws2 := aw ba ct Nw (cntS s (k, u, v, none) S cm σ (i + 1)) ad τ ξ) (congrArg (fun z => aw ba ct Nw z ad τ ξ) (cntS_f (by rw [c64]; decide))) ?_
          refine s_loc (L2 := [(0, .ref (ba 0)), (1, .int (nI S)), (2, .int (cm)), (7, .int (nI (i + 1)))]) [1, 2, 3, 0] rfl ?_
          exact ih49 (i + 1) (by omega) (by omega)
  refine s_loc (L2 := [(0, .ref (ba 0)), (1, .int (nI S)), (2, .int (cm)), (7, .int (nI 0))]) [2, 3, 4, 0] rfl ?_
  exact L49 (_ + 1) 0 (Nat.zero_le _) (Nat.lt_succ_self _)
set_option maxHeartbeats 1000000 in
set_option maxRecDepth 100000 in
theorem x4z_counts3 {l : Launch} {D : va_G} {gt : Nat → Nat} {ba ad : Nat → Nat} {ct : Nat → ClassId} {Nw : Nat} {τ σ ξ : Nat → Nat → Int32} (s : Nat → Nat → Int32) (n k u v w S : Nat) (cm : Int32) (hA : AI s σ n) (hnN : n ≤ Nw) (hN8 : Nw ≤ 8) (hu : u < n) (hv : v < n) (hw : w < n) (huw : w ≠ u) (hvw : w ≠ v) (huv : u ≠ v) (hS : S < 256) : Cv l D gt yX4_counts cX4_counts 8 1 20 0 0 [.ref (ba 0), .int (nI S), .int (cm), .int (nI u), .int (nI v), .int (nI w)] (aw ba ct Nw σ ad τ ξ) (tysA ct) (fun σ2 => cntS s (k, u, v, some w) S cm σ n = σ2) (fun σ2 : Nat → Nat → Int32 => aw ba ct Nw σ2 ad τ ξ) (fun _ => tysA ct) := by
  refine Cv.start RX4 (by decide) rfl (Nat.le_of_ble_eq_true rfl) rfl ?_
  intro pP eE sS mM aA bB hM cC QQ AA E Rt
  refine s_iload_n E dX4_counts_0 (i := 1) (j := 1) rfl rfl ?_
  refine c_gos E (rS E (cutZ _ _) (j8z_bitCount S (hS)) K_X4_156 (Nat.le_of_ble_eq_true rfl) (Nat.le_of_ble_eq_true rfl) (Nat.zero_le _) (Nat.zero_le _) rfl rfl (Nat.le_of_ble_eq_true rfl) dX4_counts_1) (fun r1 h1 => ?_)
  subst h1
  refine s_istore E (L2 := [(6, .int (nI (pop S))), (0, .ref (ba 0)), (1, .int (nI S)), (2, .int (cm)), (3, .int (nI u)), (4, .int (nI v)), (5, .int (nI w))]) dX4_counts_4 (Nat.le_of_ble_eq_true rfl) rfl ?_
  refine s_aload_n E dX4_counts_6 (i := 0) (j := 1) rfl rfl ?_
  refine awX4_g0_4 E dX4_counts_7 ?_
  refine s_iload_n E dX4_counts_10 (i := 3) (j := 4) rfl rfl ?_
  refine s_dup2 E dX4_counts_11 rfl rfl ?_
  refine aw_l5 E (v := σ 5 u) (u) (rfl) (by omega) hN8 (rfl) dX4_counts_12 ?_
  refine s_iload E dX4_counts_13 (i := 6) (j := 0) rfl ?_
  refine s_iadd E dX4_counts_15 ?_
  refine aw_s5 E (u) (rfl) (by omega) hN8 dX4_counts_16 ?_
  refine s_aload_n E dX4_counts_17 (i := 0) (j := 1) rfl rfl ?_
  refine awX4_g0_4 E dX4_counts_18 ?_
  refine s_iload E dX4_counts_21 (i := 4) (j := 5) rfl ?_
  refine s_dup2 E dX4_counts_23 rfl rfl ?_
  refine aw_l5 E (v := σ 5 v) (v) (rfl) (by omega) hN8 (st1_nj (fun e => huv e.symm)) dX4_counts_24 ?_
  refine s_iload E dX4_counts_25 (i := 6) (j := 0) rfl ?_
  refine s_iadd E dX4_counts_27 ?_
  refine aw_s5 E (v) (rfl) (by omega) hN8 dX4_counts_28 ?_
  refine s_iload E dX4_counts_29 (i := 5) (j := 6) rfl ?_
  refine s_if_lt E dX4_counts_31 (tgt := 46) rfl (fun c31 => absurd c31 (nI_pos (by omega))) (fun c31 => ?_)
  have c31 : ¬ w < 0 := fun h => c31 ((nI_ltI (a := w) (b := 0) (by omega) (by omega)).mpr h)
  refine s_aload_n E dX4_counts_34 (i := 0) (j := 1) rfl rfl ?_
  refine awX4_g0_4 E dX4_counts_35 ?_
  refine s_iload E dX4_counts_38 (i := 5) (j := 6) rfl ?_
  refine s_dup2 E dX4_counts_40 rfl rfl ?_
  refine aw_l5 E (v := σ 5 w) (w) (rfl) (by omega) hN8 ((st1_nj hvw).trans (st1_nj huw)) dX4_counts_41 ?_
  refine s_iload E dX4_counts_42 (i := 6) (j := 0) rfl ?_
  refine s_iadd E dX4_counts_44 ?_
  refine aw_s5 E (w) (rfl) (by omega) hN8 dX4_counts_45 ?_
  refine s_ws (ws2 := aw ba ct Nw (cntS s (k, u, v, some w) S cm σ 0) ad τ ξ) (congrArg (fun z => aw ba ct Nw z ad τ ξ) (show _ = _ from by exact cntS_0s huv huw hvw)) ?_
  refine s_iconst E dX4_counts_46 (v := nI 0) (by decide) ?_
  refine s_istore E (L2 := [(7, .int (nI 0)), (6, .int (nI (pop S))), (0, .ref (ba 0)), (1, .int (nI S)), (2, .int (cm)), (3, .int (nI u)), (4, .int (nI v)), (5, .int (nI w))]) dX4_counts_47 (Nat.le_of_ble_eq_true rfl) rfl ?_
  have L49 : ∀ (fuel : Nat) (i : Nat), (i ≤ n) → (n - i) < fuel → Sm pP l eE { frames := 1, cells := 0, slots := 0, locals := 20 } sS mM aA bB hM cC QQ AA D 8 0 0 (aw ba ct Nw (cntS s (k, u, v, some w) S cm σ i) ad τ ξ) 49 [(0, .ref (ba 0)), (1, .int (nI S)), (2, .int (cm)), (7, .int (nI i))] [] := by
    intro fuel
    induction fuel with
    | zero =>
      intro i hi hf49
      exact absurd hf49 (Nat.not_lt_zero _)
    | succ fuel ih49 =>
      intro i hi hf49
      refine s_iload E dX4_counts_49 (i := 7) (j := 3) rfl ?_
      refine s_aload_n E dX4_counts_51 (i := 0) (j := 0) rfl rfl ?_
      refine awX4_g0_9 E (v := nI n) (by exact (congrFun (cntS_r (by decide) (by decide) (by decide)) _).trans hA.1) dX4_counts_52 ?_
      refine s_icmp_ge E dX4_counts_55 (tgt := 106) rfl (fun c55 => ?_) (fun c55 => ?_)
      · have c55 : ¬ i < n := fun h => absurd c55 (Int32.not_le.mpr ((nI_ltI (a := i) (b := n) (by omega) (by omega)).mpr h))
        exact Rt (cntS s (k, u, v, some w) S cm σ i) dX4_counts_106 (by rw [show i = n by omega]) rfl (Nat.le_refl _) (Nat.le_refl _) E.2.2.2.2.2.1
      · have c55 : i < n := (nI_ltI (a := i) (b := n) (by omega) (by omega)).mp (Int32.not_le.mp c55)
        refine s_iload_n E dX4_counts_58 (i := 1) (j := 1) rfl rfl ?_
        refine s_iload E dX4_counts_59 (i := 7) (j := 3) rfl ?_
        refine s_ishr E dX4_counts_61 ?_
        refine s_iconst E dX4_counts_62 (v := nI 1) (by decide) ?_
        refine s_iand_ E dX4_counts_63 (v := nI (bit S i)) (bit_at i (by omega) S hS) ?_
        refine s_if_ne E dX4_counts_64 (tgt := 70) rfl (fun c64 => ?_) (fun c64 => ?_)
        · have c64 : ¬ bit S i = 0 := fun e => c64 (by rw [e]; rfl)
          have c64 : bit S i = 1 := by have := bit_01 S i; omega
          refine s_aload_n E dX4_counts_70 (i := 0) (j := 0) rfl rfl ?_
          refine awX4_g0_3 E dX4_counts_71 ?_
          refine s_iload E dX4_counts_74 (i := 7) (j := 3) rfl ?_
          refine s_dup2 E dX4_counts_76 rfl rfl ?_
          refine aw_l4 E (v := σ 4 i) (i) (rfl) (by omega) hN8 (by unfold cntS; simp) dX4_counts_77 ?_
          refine s_iconst E dX4_counts_78 (v := nI 1) (by decide) ?_
          refine s_iadd E dX4_counts_79 ?_
          refine aw_s4 E (i) (rfl) (by omega) hN8 dX4_counts_80 ?_
          refine s_aload_n E dX4_counts_81 (i := 0) (j := 0) rfl rfl ?_
          refine awX4_g0_6 E dX4_counts_82 ?_
          refine s_iload E dX4_counts_85 (i := 7) (j := 3) rfl ?_
          refine s_dup2 E dX4_counts_87 rfl rfl ?_
          refine aw_l7 E (v := σ 7 i) (i) (rfl) (by omega) hN8 (by rw [st1_ne (by decide)]; unfold cntS; simp) dX4_counts_88 ?_
          refine s_iload_n E dX4_counts_89 (i := 2) (j := 2) rfl rfl ?_
          refine s_aload_n E dX4_counts_90 (i := 0) (j := 0) rfl rfl ?_
          refine awX4_g0_5 E dX4_counts_91 ?_
          refine s_iload E dX4_counts_94 (i := 7) (j := 3) rfl ?_
          refine aw_l6 E (v := s 25 (73 + i)) (i) (rfl) (by omega) hN8 (by rw [st1_ne (by decide), cntS_r (by decide) (by decide) (by decide)]; exact (hA.2.2.2.2.2 i (by omega)).2.2.2) dX4_counts_96 ?_
          refine s_iand E dX4_counts_97 ?_
          refine s_ior E dX4_counts_98 ?_
          refine aw_s7 E (i) (rfl) (by omega) hN8 dX4_counts_99 ?_
          refine s_iinc E (L2 := [(7, .int (nI (i + 1))), (0, .ref (ba 0)), (1, .int (nI S)), (2, .int (cm))]) dX4_counts_100 (k := 3) rfl (v := nI (i + 1)) (nI_inc _) (Nat.le_of_ble_eq_true rfl) rfl ?_
          refine s_goto E dX4_counts_103 (tgt := 49) rfl ?_
          refine s_ws (ws2 := aw ba ct Nw (cntS s (k, u, v, some w) S cm σ (i + 1)) ad τ ξ) (congrArg (fun z => aw ba ct Nw z ad τ ξ) (cntS_t c64)) ?_
          refine s_loc (L2 := [(0, .ref (ba 0)), (1, .int (nI S)), (2, .int (cm)), (7, .int (nI (i + 1)))]) [1, 2, 3, 0] rfl ?_
          exact ih49 (i + 1) (by omega) (by omega)
        · have c64 : bit S i = 0 := by have := bit_01 S i; rcases this with e | e; exact e; rw [e] at c64; exact absurd c64 (by decide)
          refine s_goto E dX4_counts_67 (tgt := 100) rfl ?_
          refine s_iinc E (L2 := [(7, .int (nI (i + 1))), (0, .ref (ba 0)), (1, .int (nI S)), (2, .int (cm))]) dX4_counts_100 (k := 3) rfl (v := nI (i + 1)) (nI_inc _) (Nat.le_of_ble_eq_true rfl) rfl ?_
          refine s_goto E dX4_counts_103 (tgt := 49) rfl ?_
          refine s_ws (ws2 := aw ba ct Nw (cntS s (k, u, v, some w) S cm σ (i + 1)) ad τ ξ) (congrArg (fun z => aw ba ct Nw z ad τ ξ) (cntS_f (by rw [c64]; decide))) ?_
          refine s_loc (L2 := [(0, .ref (ba 0)), (1, .int (nI S)), (2, .int (cm)), (7, .int (nI (i + 1)))]) [1, 2, 3, 0] rfl ?_
          exact ih49 (i + 1) (by omega) (by omega)
  refine s_loc (L2 := [(0, .ref (ba 0)), (1, .int (nI S)), (2, .int (cm)), (7, .int (nI 0))]) [2, 3, 4, 0] rfl ?_
  exact L49 (_ + 1) 0 (Nat.zero_le _) (Nat.lt_succ_self _)
