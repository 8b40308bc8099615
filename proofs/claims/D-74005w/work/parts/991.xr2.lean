set_option maxRecDepth 100000
theorem rwX6_gR_0 {p : Program} {l : Launch} {e : Env} {R : Room} {s : State} {m : MethodId} {args : Array Value} {below : List Frame} {meth : Method} {c : Code} {Q : State → Prop} {A : Nat → Prop} {D : va_G} {nL cells slots : Nat} {pc : Nat} {L : List (Nat × Value)} {S : List Value} {cc : ByteArray} {ret : Option FieldType} {gt : Nat → Nat} {ad ra : Nat → Nat} {ct : Nat → ClassId} {ξ σ : Nat → Nat → Int32} {T : va_W} (E : En p s m args meth c A cc nL RX6 ret D (tysA ct) gt) {v : Int32} (hv : σ 0 16 = v) (d : decode cc pc = .ok (.getfield 21, 3)) (K : Sm p l e R s m args below meth c Q A D nL cells slots (rw ad ra ct ξ σ T) (pc + 3) L (.int v :: S)) : Sm p l e R s m args below meth c Q A D nL cells slots (rw ad ra ct ξ σ T) pc L (.ref (ra 0) :: S) := s_get E in_X6 0 rfl rfl 0 (Nat.le_of_ble_eq_true rfl) q591 (congrArg (fun z => some (Value.int z)) hv) rfl d K
theorem rwX6_gR_7 {p : Program} {l : Launch} {e : Env} {R : Room} {s : State} {m : MethodId} {args : Array Value} {below : List Frame} {meth : Method} {c : Code} {Q : State → Prop} {A : Nat → Prop} {D : va_G} {nL cells slots : Nat} {pc : Nat} {L : List (Nat × Value)} {S : List Value} {cc : ByteArray} {ret : Option FieldType} {gt : Nat → Nat} {ad ra : Nat → Nat} {ct : Nat → ClassId} {ξ σ : Nat → Nat → Int32} {T : va_W} (E : En p s m args meth c A cc nL RX6 ret D (tysA ct) gt) (d : decode cc pc = .ok (.getfield 14, 3)) (K : Sm p l e R s m args below meth c Q A D nL cells slots (rw ad ra ct ξ σ T) (pc + 3) L (.ref (ad 0) :: S)) : Sm p l e R s m args below meth c Q A D nL cells slots (rw ad ra ct ξ σ T) pc L (.ref (ra 0) :: S) := s_get E in_X6 0 rfl rfl 7 (Nat.le_of_ble_eq_true rfl) q598 rfl rfl d K
theorem rwX6_gX_0 {p : Program} {l : Launch} {e : Env} {R : Room} {s : State} {m : MethodId} {args : Array Value} {below : List Frame} {meth : Method} {c : Code} {Q : State → Prop} {A : Nat → Prop} {D : va_G} {nL cells slots : Nat} {pc : Nat} {L : List (Nat × Value)} {S : List Value} {cc : ByteArray} {ret : Option FieldType} {gt : Nat → Nat} {ad ra : Nat → Nat} {ct : Nat → ClassId} {ξ σ : Nat → Nat → Int32} {T : va_W} (E : En p s m args meth c A cc nL RX6 ret D (tysA ct) gt) (d : decode cc pc = .ok (.getfield 32, 3)) (K : Sm p l e R s m args below meth c Q A D nL cells slots (rw ad ra ct ξ σ T) (pc + 3) L (.ref (ad 1) :: S)) : Sm p l e R s m args below meth c Q A D nL cells slots (rw ad ra ct ξ σ T) pc L (.ref (ad 0) :: S) := s_getN E in_X1 1 rfl rfl 0 (Nat.le_of_ble_eq_true rfl) q389 rfl rfl d K
theorem rw_lT {p : Program} {l : Launch} {e : Env} {R : Room} {s : State} {m : MethodId} {args : Array Value} {below : List Frame} {meth : Method} {c : Code} {Q : State → Prop} {A : Nat → Prop} {D : va_G} {nL cells slots : Nat} {pc : Nat} {L : List (Nat × Value)} {S : List Value} {cc : ByteArray} {ret : Option FieldType} {gt : Nat → Nat} {ad ra : Nat → Nat} {ct : Nat → ClassId} {ξ σ : Nat → Nat → Int32} {T : va_W} {own : String} (E : En p s m args meth c A cc nL own ret D (tysA ct) gt) {i v : Int32} (N : Nat) (hi : i = nI N) (hN : N < 700) (hv : ξ 9 N = v) (d : decode cc pc = .ok (.baload, 1)) (K : Sm p l e R s m args below meth c Q A D nL cells slots (rw ad ra ct ξ σ T) (pc + 1) L (.int v :: S)) : Sm p l e R s m args below meth c Q A D nL cells slots (rw ad ra ct ξ σ T) pc L (.int i :: .ref (ad 1) :: S) := s_bald E 2 2 rfl rfl N hi hN (Nat.le_of_ble_eq_true rfl) hv d K
set_option maxHeartbeats 1000000 in
set_option maxRecDepth 100000 in
theorem x6z_see {l : Launch} {D : va_G} {gt : Nat → Nat} {ad ra : Nat → Nat} {ct : Nat → ClassId} {ξ σ : Nat → Nat → Int32} {T : va_W} (t : Nat → Int32) (n k : Nat) (hb : BT ξ t) (hz : σ 0 16 = nI n) (hn7 : n ≤ 700) (hk : k ≤ 700) : Ct l D gt yX6_see cX6_see 2 .int 0 0 0 0 [.ref (ra 0), .int (nI k)] (rw ad ra ct ξ σ T) (tysA ct) (fun r σ2 => see t n k = r ∧ σ = σ2) (fun σ2 : Nat → Nat → Int32 => rw ad ra ct ξ σ2 T) (fun _ => tysA ct) := by
  refine Ct.start RX6 (by decide) rfl (Nat.le_of_ble_eq_true rfl) rfl ?_
  intro pP eE sS mM aA bB hM cC QQ AA E Rt
  refine s_iload_n E dX6_see_0 (i := 1) (j := 1) rfl rfl ?_
  refine s_aload_n E dX6_see_1 (i := 0) (j := 0) rfl rfl ?_
  refine rwX6_gR_0 E (v := nI n) (hz) dX6_see_2 ?_
  refine s_icmp_ge E dX6_see_5 (tgt := 24) rfl (fun c5 => ?_) (fun c5 => ?_)
  · have c5 : ¬ k < n := fun h => absurd c5 (Int32.not_le.mpr ((nI_ltI (a := k) (b := n) (by omega) (by omega)).mpr h))
    refine s_iconst E dX6_see_24 (v := (-1)) (by decide) ?_
    exact Rt ((-1)) (σ) dX6_see_25 (⟨by unfold see; rw [if_neg c5], rfl⟩) rfl (Nat.le_refl _) (Nat.le_refl _) rfl E.2.2.2.2.2.1
  · have c5 : k < n := (nI_ltI (a := k) (b := n) (by omega) (by omega)).mp (Int32.not_le.mp c5)
    refine s_aload_n E dX6_see_8 (i := 0) (j := 0) rfl rfl ?_
    refine rwX6_gR_7 E dX6_see_9 ?_
    refine rwX6_gX_0 E dX6_see_12 ?_
    refine s_iload_n E dX6_see_15 (i := 1) (j := 1) rfl rfl ?_
    refine rw_lT E (v := ξ 9 k) (k) (rfl) (by omega) (rfl) dX6_see_16 ?_
    refine s_sipush E dX6_see_17 (v := nI 255) (by decide) ?_
    refine s_iand_ E dX6_see_20 (v := t k) ((hb k (by omega)).1) ?_
    refine s_goto E dX6_see_21 (tgt := 25) rfl ?_
    exact Rt (t k) (σ) dX6_see_25 (⟨by unfold see; rw [if_pos c5], rfl⟩) rfl (Nat.le_refl _) (Nat.le_refl _) rfl E.2.2.2.2.2.1
theorem K_X6_36 : KV RX6 36 RX6 yX6_see cX6_see 2 (some .int) 1 := ⟨q464, q466, qs2, q118, q467, by decide +kernel⟩
theorem K_X6_40 : KSN RX6 40 yX1_isIn "QuietChannels" cX1_isIn 3 (some .boolean) 3 := ⟨q472, q447, q113, q448, by decide +kernel⟩
set_option maxHeartbeats 1000000 in
set_option maxRecDepth 100000 in
theorem x6z_isSmall {l : Launch} {D : va_G} {gt : Nat → Nat} {ad ra : Nat → Nat} {ct : Nat → ClassId} {ξ σ : Nat → Nat → Int32} {T : va_W} (t : Nat → Int32) (n k : Nat) (hb : BT ξ t) (hz : σ 0 16 = nI n) (hn7 : n ≤ 700) (hk : k ≤ 700) : Ct l D gt yX6_isSmall cX6_isSmall 2 .boolean 1 22 0 0 [.ref (ra 0), .int (nI k)] (rw ad ra ct ξ σ T) (tysA ct) (fun r σ2 => bI (k < n ∧ smB (t k) = true) = r ∧ σ = σ2) (fun σ2 : Nat → Nat → Int32 => rw ad ra ct ξ σ2 T) (fun _ => tysA ct) := by
  refine Ct.start RX6 (by decide) rfl (Nat.le_of_ble_eq_true rfl) rfl ?_
  intro pP eE sS mM aA bB hM cC QQ AA E Rt
  refine s_aload_n E dX6_isSmall_0 (i := 0) (j := 0) rfl rfl ?_
  refine s_iload_n E dX6_isSmall_1 (i := 1) (j := 1) rfl rfl ?_
  refine c_goi0 E (rV E (cutS _ _) (x6z_see t n k (hb) (hz) (hn7) (hk)) K_X6_36 (Nat.le_of_ble_eq_true rfl) (Nat.le_of_ble_eq_true rfl) (Nat.zero_le _) (Nat.zero_le _) 0 rfl rfl rfl rfl (Nat.le_of_ble_eq_true rfl) dX6_isSmall_2) (fun r2 w2 h2 => ?_)
  obtain ⟨rfl, rfl⟩ := h2
  refine s_bipush E dX6_isSmall_5 (v := nI 97) (by decide) ?_
  refine s_bipush E dX6_isSmall_7 (v := nI 122) (by decide) ?_
  refine c_gos E (rSN E (cutZ _ _) (x1z_isIn (see t n k) (nI 97) (nI 122)) K_X6_40 (Nat.le_of_ble_eq_true rfl) (Nat.le_of_ble_eq_true rfl) (Nat.zero_le _) (Nat.zero_le _) rfl rfl (Nat.le_of_ble_eq_true rfl) dX6_isSmall_9) (fun r9 h9 => ?_)
  subst h9
  exact Rt (bI (¬ (see t n k) < (nI 97) ∧ ¬ (nI 122) < (see t n k))) (σ) dX6_isSmall_12 (⟨bI_cg (Iff.symm see_sm), rfl⟩) rfl (Nat.le_refl _) (Nat.le_refl _) bI_nar E.2.2.2.2.2.1
set_option maxHeartbeats 1000000 in
set_option maxRecDepth 100000 in
theorem x6z_isDigit {l : Launch} {D : va_G} {gt : Nat → Nat} {ad ra : Nat → Nat} {ct : Nat → ClassId} {ξ σ : Nat → Nat → Int32} {T : va_W} (t : Nat → Int32) (n k : Nat) (hb : BT ξ t) (hz : σ 0 16 = nI n) (hn7 : n ≤ 700) (hk : k ≤ 700) : Ct l D gt yX6_isDigit cX6_isDigit 2 .boolean 1 22 0 0 [.ref (ra 0), .int (nI k)] (rw ad ra ct ξ σ T) (tysA ct) (fun r σ2 => bI (k < n ∧ dgB (t k) = true) = r ∧ σ = σ2) (fun σ2 : Nat → Nat → Int32 => rw ad ra ct ξ σ2 T) (fun _ => tysA ct) := by
  refine Ct.start RX6 (by decide) rfl (Nat.le_of_ble_eq_true rfl) rfl ?_
  intro pP eE sS mM aA bB hM cC QQ AA E Rt
  refine s_aload_n E dX6_isDigit_0 (i := 0) (j := 0) rfl rfl ?_
  refine s_iload_n E dX6_isDigit_1 (i := 1) (j := 1) rfl rfl ?_
  refine c_goi0 E (rV E (cutS _ _) (x6z_see t n k (hb) (hz) (hn7) (hk)) K_X6_36 (Nat.le_of_ble_eq_true rfl) (Nat.le_of_ble_eq_true rfl) (Nat.zero_le _) (Nat.zero_le _) 0 rfl rfl rfl rfl (Nat.le_of_ble_eq_true rfl) dX6_isDigit_2) (fun r2 w2 h2 => ?_)
  obtain ⟨rfl, rfl⟩ := h2
  refine s_bipush E dX6_isDigit_5 (v := nI 48) (by decide) ?_
  refine s_bipush E dX6_isDigit_7 (v := nI 57) (by decide) ?_
  refine c_gos E (rSN E (cutZ _ _) (x1z_isIn (see t n k) (nI 48) (nI 57)) K_X6_40 (Nat.le_of_ble_eq_true rfl) (Nat.le_of_ble_eq_true rfl) (Nat.zero_le _) (Nat.zero_le _) rfl rfl (Nat.le_of_ble_eq_true rfl) dX6_isDigit_9) (fun r9 h9 => ?_)
  subst h9
  exact Rt (bI (¬ (see t n k) < (nI 48) ∧ ¬ (nI 57) < (see t n k))) (σ) dX6_isDigit_12 (⟨bI_cg (Iff.symm see_dg), rfl⟩) rfl (Nat.le_refl _) (Nat.le_refl _) bI_nar E.2.2.2.2.2.1
