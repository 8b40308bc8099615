set_option maxRecDepth 100000
theorem twX6_gR_3 {p : Program} {l : Launch} {e : Env} {R : Room} {s : State} {m : MethodId} {args : Array Value} {below : List Frame} {meth : Method} {c : Code} {Q : State → Prop} {A : Nat → Prop} {D : va_G} {nL cells slots : Nat} {pc : Nat} {L : List (Nat × Value)} {S : List Value} {cc : ByteArray} {ret : Option FieldType} {gt : Nat → Nat} {ad ra : Nat → Nat} {ct : Nat → ClassId} {n : Nat} {ξ σ : Nat → Nat → Int32} (E : En p s m args meth c A cc nL RX6 ret D (tysA ct) gt) {v : Int32} (hv : σ 0 19 = v) (d : decode cc pc = .ok (.getfield 50, 3)) (K : Sm p l e R s m args below meth c Q A D nL cells slots (rw ad ra ct ξ σ (tW ra ct n σ)) (pc + 3) L (.int v :: S)) : Sm p l e R s m args below meth c Q A D nL cells slots (rw ad ra ct ξ σ (tW ra ct n σ)) pc L (.ref (ra 0) :: S) := s_get E in_X6 0 rfl rfl 3 (Nat.le_of_ble_eq_true rfl) q594 (congrArg (fun z => some (Value.int z)) hv) rfl d K
theorem twX6_gR_1 {p : Program} {l : Launch} {e : Env} {R : Room} {s : State} {m : MethodId} {args : Array Value} {below : List Frame} {meth : Method} {c : Code} {Q : State → Prop} {A : Nat → Prop} {D : va_G} {nL cells slots : Nat} {pc : Nat} {L : List (Nat × Value)} {S : List Value} {cc : ByteArray} {ret : Option FieldType} {gt : Nat → Nat} {ad ra : Nat → Nat} {ct : Nat → ClassId} {n : Nat} {ξ σ : Nat → Nat → Int32} (E : En p s m args meth c A cc nL RX6 ret D (tysA ct) gt) (d : decode cc pc = .ok (.getfield 25, 3)) (K : Sm p l e R s m args below meth c Q A D nL cells slots (rw ad ra ct ξ σ (tW ra ct n σ)) (pc + 3) L (.ref (ra 1) :: S)) : Sm p l e R s m args below meth c Q A D nL cells slots (rw ad ra ct ξ σ (tW ra ct n σ)) pc L (.ref (ra 0) :: S) := s_get E in_X6 0 rfl rfl 1 (Nat.le_of_ble_eq_true rfl) q592 rfl rfl d K
theorem twX6_gR_4 {p : Program} {l : Launch} {e : Env} {R : Room} {s : State} {m : MethodId} {args : Array Value} {below : List Frame} {meth : Method} {c : Code} {Q : State → Prop} {A : Nat → Prop} {D : va_G} {nL cells slots : Nat} {pc : Nat} {L : List (Nat × Value)} {S : List Value} {cc : ByteArray} {ret : Option FieldType} {gt : Nat → Nat} {ad ra : Nat → Nat} {ct : Nat → ClassId} {n : Nat} {ξ σ : Nat → Nat → Int32} (E : En p s m args meth c A cc nL RX6 ret D (tysA ct) gt) {v : Int32} (hv : σ 0 20 = v) (d : decode cc pc = .ok (.getfield 63, 3)) (K : Sm p l e R s m args below meth c Q A D nL cells slots (rw ad ra ct ξ σ (tW ra ct n σ)) (pc + 3) L (.int v :: S)) : Sm p l e R s m args below meth c Q A D nL cells slots (rw ad ra ct ξ σ (tW ra ct n σ)) pc L (.ref (ra 0) :: S) := s_get E in_X6 0 rfl rfl 4 (Nat.le_of_ble_eq_true rfl) q595 (congrArg (fun z => some (Value.int z)) hv) rfl d K
theorem K_X6_155 : KV RX6 155 RX2 yX2_user cX2_user 3 (some .int) 1 := ⟨q702, q703, q704, q114, q705, by decide +kernel⟩
set_option maxHeartbeats 2000000 in
set_option maxRecDepth 100000 in
theorem x6z_known {l : Launch} {D : va_G} {gt : Nat → Nat} {ad ra : Nat → Nat} {ct : Nat → ClassId} {n : Nat} {ξ σ : Nat → Nat → Int32} (s : Nat → Nat → Int32) (hb : BT ξ (s 1)) (hr : RL s σ) (hn6 : n ≤ 6) (hn : s 3 17 = nI n) : CtX l D gt yX6_known cX6_known 2 .int 7 151 2 16 [.ref (ra 0)] (rw ad ra ct ξ σ (tW ra ct n σ)) (tysA ct) (fun r σ2 => tokS s 0 19 = nI 1 ∧ (∃ k, k < n ∧ nameF (tokS s) 6 (tokS s 0 20) n = nI k ∧ nI k = r) ∧ RL (tokS s) σ2 ∧ RF σ σ2) (fun σ2 : Nat → Nat → Int32 => rw ad ra ct ξ σ2 (tW ra ct n σ2)) (fun _ => tysA ct) (fun _ : Nat => ¬ (tokS s 0 19 = nI 1 ∧ ¬ nameF (tokS s) 6 (tokS s 0 20) n = -1)) (fun q : Nat => xtW ad ct ξ ++ [faultC q (if tokS s 0 19 = nI 1 then nI 4 else nI 1) (tokS s 0 18)]) (fun _ => tysA ct) (fun q => q) (fun _ => RX7) := by
  refine CtX.start RX6 (by decide) rfl (Nat.le_of_ble_eq_true rfl) rfl ?_
  intro pP eE sS mM aA bB hM cC QQ AA E Rt Tt
  have hz := hr.2.2.1.trans hr.1.1.1.1
  have hn7 : tN (s 0 16) ≤ 700 := by have := hr.1.1.1.2; omega
  have h17 := hr.2.2.2.1.trans hr.1.1.2.1.1
  have han : tN (s 0 17) ≤ tN (s 0 16) := by have := hr.1.1.2.1.2; omega
  have h0 := hr.2.1
  have hkd := hr.2.2.2.2.2.1
  have h18 := hr.2.2.2.2.1
  refine s_aload_n E dX6_known_0 (i := 0) (j := 0) rfl rfl ?_
  refine c_gov0 E (rV E (cutS _ _) (x6z_take (s 1) (tN (s 0 16)) (tN (s 0 17)) (hb) (hz) (hn7) (h17) (han)) K_X6_29 (Nat.le_of_ble_eq_true rfl) (Nat.le_of_ble_eq_true rfl) (Nat.zero_le _) (Nat.zero_le _) 0 rfl rfl rfl rfl (Nat.le_of_ble_eq_true rfl) dX6_known_1) (fun w1 h1 => ?_)
  subst h1
  refine s_ws (ws2 := rw ad ra ct ξ (setT σ (tokX (s 1) (tN (s 0 16)) (tN (s 0 17)) (σ 0 20))) (tW ra ct n (setT σ (tokX (s 1) (tN (s 0 16)) (tN (s 0 17)) (σ 0 20))))) (congrArg (rw ad ra ct ξ _) (tW_rf RF.set)) ?_
  obtain ⟨w1, hw1⟩ : ∃ z, z = setT σ (tokX (s 1) (tN (s 0 16)) (tN (s 0 17)) (σ 0 20)) := ⟨_, rfl⟩
  have hr1 : RL (tokS s) w1 := by rw [hw1]; exact hr.tok
  have hf1 : RF σ w1 := by rw [hw1]; exact RF.set
  have hk1 := hr1.2.2.2.2.2.1
  refine s_ws (ws2 := rw ad ra ct ξ w1 (tW ra ct n w1)) (congrArg (fun z => rw ad ra ct ξ z (tW ra ct n z)) (show _ = _ from by rw [hw1])) ?_
  refine s_aload_n E dX6_known_4 (i := 0) (j := 0) rfl rfl ?_
  refine s_aload_n E dX6_known_5 (i := 0) (j := 0) rfl rfl ?_
  refine twX6_gR_3 E (v := w1 0 19) (rfl) dX6_known_6 ?_
  refine s_iconst E dX6_known_9 (v := nI 2) (by decide) ?_
  have J18 : Sm pP l eE { frames := 7, cells := 2, slots := 16, locals := 151 } sS mM aA bB hM cC QQ AA D 2 0 0 (rw ad ra ct ξ w1 (tW ra ct n w1)) 18 [(0, .ref (ra 0))] [.int (bI (tokS s 0 19 = nI 1)), .ref (ra 0)] := by
    refine s_iconst E dX6_known_18 (v := nI 1) (by decide) ?_
    refine cx_gov E (rVX E (cutS _ _) (x6z_must (tokS s 0 19 = nI 1) (nI 1)) K_X6_96 (Nat.le_of_ble_eq_true rfl) (Nat.le_of_ble_eq_true rfl) (by show _ ≤ 2; omega) (by show _ ≤ 16; omega) 0 rfl rfl rfl rfl (Nat.le_of_ble_eq_true rfl) dX6_known_19) (fun qX hX => ?_) (fun w19 h19 => ?_)
    · exact Tt qX (fun h => hX h.1) (congrArg (fun z => xtW ad ct ξ ++ [z]) (by rw [if_neg hX, hr1.2.2.2.2.1])) (by show _ ≤ 2; omega) (by show _ ≤ 16; omega) E.2.2.2.2.2.1
    obtain ⟨hA, rfl⟩ := h19
    have hwv := hk1.wv hA
    refine s_aload_n E dX6_known_22 (i := 0) (j := 0) rfl rfl ?_
    refine twX6_gR_1 E dX6_known_23 ?_
    refine s_aload_n E dX6_known_26 (i := 0) (j := 0) rfl rfl ?_
    refine twX6_gR_4 E (v := w1 0 20) (rfl) dX6_known_27 ?_
    refine c_goi0 E (rV E (cutS _ _) (x2z_userR (w1 0 20) (hn6) (by rw [hr1.2.2.2.2.2.2.1 3 (Or.inl rfl), tokS_r (by decide)]; exact hn)) K_X6_155 (Nat.le_of_ble_eq_true rfl) (Nat.le_of_ble_eq_true rfl) (by show _ ≤ 2; omega) (by show _ ≤ 16; omega) 3 rfl rfl rfl rfl (Nat.le_of_ble_eq_true rfl) dX6_known_30) (fun r30 w30 h30 => ?_)
    obtain ⟨rfl, rfl⟩ := h30
    refine s_top (v2 := nameF (tokS s) 6 (tokS s 0 20) n) (by rw [hwv]; exact nameF_cg (hr1.2.2.2.2.2.2.1 5 (Or.inr (by omega)))) ?_
    refine s_istore_n E (L2 := [(1, .int (nameF (tokS s) 6 (tokS s 0 20) n)), (0, .ref (ra 0))]) dX6_known_33 rfl (Nat.le_of_ble_eq_true rfl) rfl ?_
    refine s_aload_n E dX6_known_34 (i := 0) (j := 1) rfl rfl ?_
    refine s_iload_n E dX6_known_35 (i := 1) (j := 0) rfl rfl ?_
    have J44 : Sm pP l eE { frames := 7, cells := 2, slots := 16, locals := 151 } sS mM aA bB hM cC QQ AA D 2 (0 + 1) (0 + 8) (rw ad ra ct ξ w1 (tW ra ct n w1)) 44 [(1, .int (nameF (tokS s) 6 (tokS s 0 20) n)), (0, .ref (ra 0))] [.int (bI (¬ nameF (tokS s) 6 (tokS s 0 20) n = -1)), .ref (ra 0)] := by
      refine s_iconst E dX6_known_44 (v := nI 4) (by decide) ?_
      refine cx_gov E (rVX E (cutS _ _) (x6z_must (¬ nameF (tokS s) 6 (tokS s 0 20) n = -1) (nI 4)) K_X6_96 (Nat.le_of_ble_eq_true rfl) (Nat.le_of_ble_eq_true rfl) (by show _ ≤ 2; omega) (by show _ ≤ 16; omega) 0 rfl rfl rfl rfl (Nat.le_of_ble_eq_true rfl) dX6_known_45) (fun qX hX => ?_) (fun w45 h45 => ?_)
      · exact Tt qX (fun h => hX h.2) (congrArg (fun z => xtW ad ct ξ ++ [z]) (by rw [if_pos hA, hr1.2.2.2.2.1])) (by show _ ≤ 2; omega) (by show _ ≤ 16; omega) E.2.2.2.2.2.1
      obtain ⟨hC, rfl⟩ := h45
      refine s_iload_n E dX6_known_48 (i := 1) (j := 0) rfl rfl ?_
      exact Rt (nameF (tokS s) 6 (tokS s 0 20) n) (w1) dX6_known_49 (⟨hA, by rcases nameF_of (s := tokS s) (b := 6) (x := tokS s 0 20) n with h9 | ⟨j, hj, h9⟩; exact absurd h9 hC; exact ⟨j, hj, h9, h9.symm⟩, hr1, hf1⟩) rfl (by first | exact Nat.le_refl _ | omega) (by first | exact Nat.le_refl _ | omega) rfl E.2.2.2.2.2.1
    refine s_if_lt E dX6_known_36 (tgt := 43) rfl (fun c36 => ?_) (fun c36 => ?_)
    · have hno := nameF_of (s := tokS s) (b := 6) (x := tokS s 0 20) n
      have c36 : ¬ ¬ nameF (tokS s) 6 (tokS s 0 20) n = -1 := fun h => by rcases hno with h9 | ⟨j, hj, h9⟩; exact h h9; rw [h9] at c36; exact absurd c36 (nI_pos (by omega))
      refine s_iconst E dX6_known_43 (v := nI 0) (by decide) ?_
      refine s_top (v2 := bI (¬ nameF (tokS s) 6 (tokS s 0 20) n = -1)) ((bI_f c36).symm) ?_
      exact J44
    · have hno := nameF_of (s := tokS s) (b := 6) (x := tokS s 0 20) n
      have c36 : ¬ nameF (tokS s) 6 (tokS s 0 20) n = -1 := fun h => c36 (by rw [h]; decide)
      refine s_iconst E dX6_known_39 (v := nI 1) (by decide) ?_
      refine s_goto E dX6_known_40 (tgt := 44) rfl ?_
      refine s_top (v2 := bI (¬ nameF (tokS s) 6 (tokS s 0 20) n = -1)) ((bI_t c36).symm) ?_
      exact J44
  refine s_icmp_ne E dX6_known_10 (tgt := 17) rfl (fun c10 => ?_) (fun c10 => ?_)
  · have c10 : ¬ tokS s 0 19 = nI 1 := fun h => c10 (hk1.k3.2.1.mpr h)
    refine s_iconst E dX6_known_17 (v := nI 0) (by decide) ?_
    refine s_top (v2 := bI (tokS s 0 19 = nI 1)) ((bI_f c10).symm) ?_
    exact J18
  · have c10 : tokS s 0 19 = nI 1 := hk1.k3.2.1.mp c10
    refine s_iconst E dX6_known_13 (v := nI 1) (by decide) ?_
    refine s_goto E dX6_known_14 (tgt := 18) rfl ?_
    refine s_top (v2 := bI (tokS s 0 19 = nI 1)) ((bI_t c10).symm) ?_
    exact J18
