set_option maxRecDepth 100000
theorem twX6_gV_4 {p : Program} {l : Launch} {e : Env} {R : Room} {s : State} {m : MethodId} {args : Array Value} {below : List Frame} {meth : Method} {c : Code} {Q : State → Prop} {A : Nat → Prop} {D : va_G} {nL cells slots : Nat} {pc : Nat} {L : List (Nat × Value)} {S : List Value} {cc : ByteArray} {ret : Option FieldType} {gt : Nat → Nat} {ad ra : Nat → Nat} {ct : Nat → ClassId} {n : Nat} {ξ σ : Nat → Nat → Int32} (E : En p s m args meth c A cc nL RX6 ret D (tysA ct) gt) {v : Int32} (hv : σ 3 17 = v) (d : decode cc pc = .ok (.getfield 152, 3)) (K : Sm p l e R s m args below meth c Q A D nL cells slots (rw ad ra ct ξ σ (tW ra ct n σ)) (pc + 3) L (.int v :: S)) : Sm p l e R s m args below meth c Q A D nL cells slots (rw ad ra ct ξ σ (tW ra ct n σ)) pc L (.ref (ra 1) :: S) := s_getN E in_X2 3 rfl rfl 4 (Nat.le_of_ble_eq_true rfl) q173 (congrArg (fun z => some (Value.int z)) hv) rfl d K
theorem tuX6_gR_1 {p : Program} {l : Launch} {e : Env} {R : Room} {s : State} {m : MethodId} {args : Array Value} {below : List Frame} {meth : Method} {c : Code} {Q : State → Prop} {A : Nat → Prop} {D : va_G} {nL cells slots : Nat} {pc : Nat} {L : List (Nat × Value)} {S : List Value} {cc : ByteArray} {ret : Option FieldType} {gt : Nat → Nat} {ad ra : Nat → Nat} {ct : Nat → ClassId} {n : Nat} {ξ σ : Nat → Nat → Int32} {q9 : Nat} (E : En p s m args meth c A cc nL RX6 ret D (tysA ct) gt) (d : decode cc pc = .ok (.getfield 25, 3)) (K : Sm p l e R s m args below meth c Q A D nL cells slots (rw ad ra ct ξ σ (tW ra ct n σ ++ [(q9, .inr (7, [.int 0, .int 0, .int 0, .int 0, .int 0, .int 0, .int 0]))])) (pc + 3) L (.ref (ra 1) :: S)) : Sm p l e R s m args below meth c Q A D nL cells slots (rw ad ra ct ξ σ (tW ra ct n σ ++ [(q9, .inr (7, [.int 0, .int 0, .int 0, .int 0, .int 0, .int 0, .int 0]))])) pc L (.ref (ra 0) :: S) := s_get E in_X6 0 rfl rfl 1 (Nat.le_of_ble_eq_true rfl) q592 rfl rfl d K
theorem tuX6_gV_6 {p : Program} {l : Launch} {e : Env} {R : Room} {s : State} {m : MethodId} {args : Array Value} {below : List Frame} {meth : Method} {c : Code} {Q : State → Prop} {A : Nat → Prop} {D : va_G} {nL cells slots : Nat} {pc : Nat} {L : List (Nat × Value)} {S : List Value} {cc : ByteArray} {ret : Option FieldType} {gt : Nat → Nat} {ad ra : Nat → Nat} {ct : Nat → ClassId} {n : Nat} {ξ σ : Nat → Nat → Int32} {q9 : Nat} (E : En p s m args meth c A cc nL RX6 ret D (tysA ct) gt) {v : Int32} (hv : σ 3 10 = v) (d : decode cc pc = .ok (.getfield 132, 3)) (K : Sm p l e R s m args below meth c Q A D nL cells slots (rw ad ra ct ξ σ (tW ra ct n σ ++ [(q9, .inr (7, [.int 0, .int 0, .int 0, .int 0, .int 0, .int 0, .int 0]))])) (pc + 3) L (.int v :: S)) : Sm p l e R s m args below meth c Q A D nL cells slots (rw ad ra ct ξ σ (tW ra ct n σ ++ [(q9, .inr (7, [.int 0, .int 0, .int 0, .int 0, .int 0, .int 0, .int 0]))])) pc L (.ref (ra 1) :: S) := s_getN E in_X2 3 rfl rfl 6 (Nat.le_of_ble_eq_true rfl) q179 (congrArg (fun z => some (Value.int z)) hv) rfl d K
theorem tvX6_gR_1 {p : Program} {l : Launch} {e : Env} {R : Room} {s : State} {m : MethodId} {args : Array Value} {below : List Frame} {meth : Method} {c : Code} {Q : State → Prop} {A : Nat → Prop} {D : va_G} {nL cells slots : Nat} {pc : Nat} {L : List (Nat × Value)} {S : List Value} {cc : ByteArray} {ret : Option FieldType} {gt : Nat → Nat} {ad ra : Nat → Nat} {ct : Nat → ClassId} {n : Nat} {ξ σ : Nat → Nat → Int32} {q9 : Nat} {V9 : List Value} (E : En p s m args meth c A cc nL RX6 ret D (tysA ct) gt) (d : decode cc pc = .ok (.getfield 25, 3)) (K : Sm p l e R s m args below meth c Q A D nL cells slots (rw ad ra ct ξ σ (tWq ra ct n q9 V9 σ)) (pc + 3) L (.ref (ra 1) :: S)) : Sm p l e R s m args below meth c Q A D nL cells slots (rw ad ra ct ξ σ (tWq ra ct n q9 V9 σ)) pc L (.ref (ra 0) :: S) := s_get E in_X6 0 rfl rfl 1 (Nat.le_of_ble_eq_true rfl) q592 rfl rfl d K
theorem tvX6_gV_4 {p : Program} {l : Launch} {e : Env} {R : Room} {s : State} {m : MethodId} {args : Array Value} {below : List Frame} {meth : Method} {c : Code} {Q : State → Prop} {A : Nat → Prop} {D : va_G} {nL cells slots : Nat} {pc : Nat} {L : List (Nat × Value)} {S : List Value} {cc : ByteArray} {ret : Option FieldType} {gt : Nat → Nat} {ad ra : Nat → Nat} {ct : Nat → ClassId} {n : Nat} {ξ σ : Nat → Nat → Int32} {q9 : Nat} {V9 : List Value} (E : En p s m args meth c A cc nL RX6 ret D (tysA ct) gt) {v : Int32} (hv : σ 3 17 = v) (d : decode cc pc = .ok (.getfield 152, 3)) (K : Sm p l e R s m args below meth c Q A D nL cells slots (rw ad ra ct ξ σ (tWq ra ct n q9 V9 σ)) (pc + 3) L (.int v :: S)) : Sm p l e R s m args below meth c Q A D nL cells slots (rw ad ra ct ξ σ (tWq ra ct n q9 V9 σ)) pc L (.ref (ra 1) :: S) := s_getN E in_X2 3 rfl rfl 4 (Nat.le_of_ble_eq_true rfl) q173 (congrArg (fun z => some (Value.int z)) hv) rfl d K
theorem tvX6_pV_4 {p : Program} {l : Launch} {e : Env} {R : Room} {s : State} {m : MethodId} {args : Array Value} {below : List Frame} {meth : Method} {c : Code} {Q : State → Prop} {A : Nat → Prop} {D : va_G} {nL cells slots : Nat} {pc : Nat} {L : List (Nat × Value)} {S : List Value} {cc : ByteArray} {ret : Option FieldType} {gt : Nat → Nat} {ad ra : Nat → Nat} {ct : Nat → ClassId} {n : Nat} {ξ σ : Nat → Nat → Int32} {q9 : Nat} {V9 : List Value} (E : En p s m args meth c A cc nL RX6 ret D (tysA ct) gt) {v : Int32} (d : decode cc pc = .ok (.putfield 152, 3)) (K : Sm p l e R s m args below meth c Q A D nL cells slots (rw ad ra ct ξ (st1 σ 3 17 v) (tWq ra ct n q9 V9 (st1 σ 3 17 v))) (pc + 3) L S) : Sm p l e R s m args below meth c Q A D nL cells slots (rw ad ra ct ξ σ (tWq ra ct n q9 V9 σ)) pc L (.int v :: .ref (ra 1) :: S) := s_putN E in_X2 tyX2 tyX2_ok nmX2 3 rfl rfl 4 (Nat.le_of_ble_eq_true rfl) q173 rfl rfl rfl rfl (Nat.le_of_ble_eq_true rfl) rq_3 d K
set_option maxHeartbeats 4000000 in
set_option maxRecDepth 100000 in
theorem x6z_user {l : Launch} {D : va_G} {gt : Nat → Nat} {ad ra : Nat → Nat} {ct : Nat → ClassId} {n : Nat} {ξ σ : Nat → Nat → Int32} (s0 s : Nat → Nat → Int32) (B : Nat) (hs0 : s = st1 s0 0 14 (nI 1)) (hb : BT ξ (s 1)) (hr : RL s σ) (hn6 : n ≤ 6) (hn : s 3 17 = nI n) (hB : s 3 10 = nI B) (hB60 : B ≤ 60) (hB1 : 1 ≤ B) : CvX l D gt yX6_user cX6_user 5 8 174 12 95 [.ref (ra 0)] (rw ad ra ct ξ σ (tW ra ct n σ)) (tysA ct) (fun u => (readUserS n s0) 0 21 = 0 ∧ RL (readUserS n s0) u.2.2 ∧ u.2.2 31 = σ 31 ∧ u.2.2 0 30 = σ 0 30 ∧ n < 6 ∧ u.2.1 = n + 1 ∧ (readUserS n s0) 3 17 = nI (n + 1) ∧ ∀ k, k < 100 → u.1 k = ra k) (fun u : ((Nat → Nat) × Nat × (Nat → Nat → Int32)) => rw ad u.1 ct ξ u.2.2 (tW u.1 ct u.2.1 u.2.2)) (fun _ => tysA ct) (fun _ : Nat => ¬ (readUserS n s0) 0 21 = 0) (fun q : Nat => xtW ad ct ξ ++ [faultC q ((readUserS n s0) 0 21) ((readUserS n s0) 0 22)]) (fun _ => tysA ct) (fun q => q) (fun _ => RX7) := by
  refine CvX.start RX6 (by decide) rfl (Nat.le_of_ble_eq_true rfl) rfl ?_
  intro pP eE sS mM aA bB hM cC QQ AA E Rt Tt
  have hz := hr.2.2.1.trans hr.1.1.1.1
  have hn7 : tN (s 0 16) ≤ 700 := by have := hr.1.1.1.2; omega
  have h17 := hr.2.2.2.1.trans hr.1.1.2.1.1
  have han : tN (s 0 17) ≤ tN (s 0 16) := by have := hr.1.1.2.1.2; omega
  have h0 := hr.2.1
  have hkd := hr.2.2.2.2.2.1
  have h18 := hr.2.2.2.2.1
  have h00 : s0 0 21 = 0 := by rw [hs0, st1_nj (by decide)] at h0; exact h0
  have hn0 : s0 3 17 = nI n := by rw [hs0, st1_ne (by decide)] at hn; exact hn
  have h180 : s 0 18 = s0 0 18 := by rw [hs0, st1_nj (by decide)]
  refine s_aload_n E dX6_user_0 (i := 0) (j := 0) rfl rfl ?_
  refine s_aload_n E dX6_user_1 (i := 0) (j := 0) rfl rfl ?_
  refine twX6_gR_1 E dX6_user_2 ?_
  refine twX6_gV_4 E (v := nI n) ((congrFun (hr.2.2.2.2.2.2.1 3 (Or.inl rfl)) 17).trans hn) dX6_user_5 ?_
  refine s_bipush E dX6_user_8 (v := nI 6) (by decide) ?_
  have J18 : Sm pP l eE { frames := 8, cells := 12, slots := 95, locals := 174 } sS mM aA bB hM cC QQ AA D 5 0 0 (rw ad ra ct ξ σ (tW ra ct n σ)) 18 [(0, .ref (ra 0))] [.int (bI (n < 6)), .ref (ra 0)] := by
    refine s_iconst E dX6_user_18 (v := nI 2) (by decide) ?_
    refine cx_gov E (rVX E (cutS _ _) (x6z_must (n < 6) (nI 2)) K_X6_96 (Nat.le_of_ble_eq_true rfl) (Nat.le_of_ble_eq_true rfl) (by show _ ≤ 12; omega) (by show _ ≤ 95; omega) 0 rfl rfl rfl rfl (Nat.le_of_ble_eq_true rfl) dX6_user_19) (fun qX hX => ?_) (fun w19 h19 => ?_)
    · exact Tt qX ((us_6 h00 (by rw [hn0, show n = 6 by omega])).2.2) (congrArg (fun z => xtW ad ct ξ ++ [z]) (by rw [(us_6 (n := n) h00 (by rw [hn0, show n = 6 by omega])).1, (us_6 (n := n) h00 (by rw [hn0, show n = 6 by omega])).2.1, h18, h180])) (by show _ ≤ 12; omega) (by show _ ≤ 95; omega) E.2.2.2.2.2.1
    obtain ⟨hn5, rfl⟩ := h19
    have hn6n : ¬ s0 3 17 = nI 6 := fun z => by rw [hn0] at z; have := (nI_eq (by omega) (by omega)).mp z; omega
    refine s_aload_n E dX6_user_22 (i := 0) (j := 0) rfl rfl ?_
    refine c_gov0 E (rV E (cutS _ _) (x6z_take (s 1) (tN (s 0 16)) (tN (s 0 17)) (hb) (hz) (hn7) (h17) (han)) K_X6_29 (Nat.le_of_ble_eq_true rfl) (Nat.le_of_ble_eq_true rfl) (by show _ ≤ 12; omega) (by show _ ≤ 95; omega) 0 rfl rfl rfl rfl (Nat.le_of_ble_eq_true rfl) dX6_user_23) (fun w23 h23 => ?_)
    subst h23
    refine s_ws (ws2 := rw ad ra ct ξ (setT σ (tokX (s 1) (tN (s 0 16)) (tN (s 0 17)) (σ 0 20))) (tW ra ct n (setT σ (tokX (s 1) (tN (s 0 16)) (tN (s 0 17)) (σ 0 20))))) (congrArg (rw ad ra ct ξ _) (tW_rf RF.set)) ?_
    obtain ⟨W, hW⟩ : ∃ z, z = tokS s := ⟨_, rfl⟩
    obtain ⟨w1, hw1⟩ : ∃ z, z = setT σ (tokX (s 1) (tN (s 0 16)) (tN (s 0 17)) (σ 0 20)) := ⟨_, rfl⟩
    have hr1 : RL W w1 := by rw [hW, hw1]; exact hr.tok
    have hf1 : RF σ w1 := by rw [hw1]; exact RF.set
    have hk1 := hr1.2.2.2.2.2.1
    have eW : us1 s0 = W := by rw [us1_of h00 hn6n, ← hs0, hW]
    have hW0 : W 0 21 = 0 := hr1.2.1
    have hWn : W 3 17 = nI n := by rw [hW, tokS_r (by decide)]; exact hn
    have hWB : W 3 10 = nI B := by rw [hW, tokS_r (by decide)]; exact hB
    have hbW : BT ξ (W 1) := by rw [hW, tokS_r (by decide)]; exact hb
    have eB3 : xc n W 3 10 = nI B := by rw [xc_r3]; exact hWB
    have eB9 : xd n W 3 10 = nI B := by rw [xd_r3]; exact hWB
    refine s_ws (ws2 := rw ad ra ct ξ w1 (tW ra ct n w1)) (congrArg (fun z => rw ad ra ct ξ z (tW ra ct n z)) (show _ = _ from by rw [hw1])) ?_
    refine s_aload_n E dX6_user_26 (i := 0) (j := 0) rfl rfl ?_
    refine s_aload_n E dX6_user_27 (i := 0) (j := 0) rfl rfl ?_
    refine twX6_gR_3 E (v := w1 0 19) (rfl) dX6_user_28 ?_
    refine s_iconst E dX6_user_31 (v := nI 2) (by decide) ?_
    have J40 : Sm pP l eE { frames := 8, cells := 12, slots := 95, locals := 174 } sS mM aA bB hM cC QQ AA D 5 (0 + 1) (0 + 8) (rw ad ra ct ξ w1 (tW ra ct n w1)) 40 [(0, .ref (ra 0))] [.int (bI (W 0 19 = nI 1)), .ref (ra 0)] := by
      refine s_iconst E dX6_user_40 (v := nI 1) (by decide) ?_
      refine cx_gov E (rVX E (cutS _ _) (x6z_must (W 0 19 = nI 1) (nI 1)) K_X6_96 (Nat.le_of_ble_eq_true rfl) (Nat.le_of_ble_eq_true rfl) (by show _ ≤ 12; omega) (by show _ ≤ 95; omega) 0 rfl rfl rfl rfl (Nat.le_of_ble_eq_true rfl) dX6_user_41) (fun qX hX => ?_) (fun w41 h41 => ?_)
      · exact Tt qX ((us_1 eW hW0 hX).2.2) (congrArg (fun z => xtW ad ct ξ ++ [z]) (by rw [(us_1 (n := n) eW hW0 hX).1, (us_1 (n := n) eW hW0 hX).2.1, hr1.2.2.2.2.1])) (by show _ ≤ 12; omega) (by show _ ≤ 95; omega) E.2.2.2.2.2.1
      obtain ⟨hA, rfl⟩ := h41
      have hwv := hk1.wv hA
      refine s_aload_n E dX6_user_44 (i := 0) (j := 0) rfl rfl ?_
      refine s_aload_n E dX6_user_45 (i := 0) (j := 0) rfl rfl ?_
      refine twX6_gR_1 E dX6_user_46 ?_
      refine s_aload_n E dX6_user_49 (i := 0) (j := 0) rfl rfl ?_
      refine twX6_gR_4 E (v := w1 0 20) (rfl) dX6_user_50 ?_
      refine c_goi0 E (rV E (cutS _ _) (x2z_userR (w1 0 20) (hn6) (by rw [hr1.2.2.2.2.2.2.1 3 (Or.inl rfl)]; exact hWn)) K_X6_155 (Nat.le_of_ble_eq_true rfl) (Nat.le_of_ble_eq_true rfl) (by show _ ≤ 12; omega) (by show _ ≤ 95; omega) 3 rfl rfl rfl rfl (Nat.le_of_ble_eq_true rfl) dX6_user_53) (fun r53 w53 h53 => ?_)
      obtain ⟨rfl, rfl⟩ := h53
      refine s_top (v2 := nameF W 6 (W 0 20) n) (by rw [hwv]; exact nameF_cg (hr1.2.2.2.2.2.2.1 5 (Or.inr (by omega)))) ?_
      have J64 : Sm pP l eE { frames := 8, cells := 12, slots := 95, locals := 174 } sS mM aA bB hM cC QQ AA D 5 (0 + 1 + 1) (0 + 8 + 8) (rw ad ra ct ξ w1 (tW ra ct n w1)) 64 [(0, .ref (ra 0))] [.int (bI (nameF W 6 (W 0 20) n = -1)), .ref (ra 0)] := by
        refine s_iconst E dX6_user_64 (v := nI 3) (by decide) ?_
        refine cx_gov E (rVX E (cutS _ _) (x6z_must (nameF W 6 (W 0 20) n = -1) (nI 3)) K_X6_96 (Nat.le_of_ble_eq_true rfl) (Nat.le_of_ble_eq_true rfl) (by show _ ≤ 12; omega) (by show _ ≤ 95; omega) 0 rfl rfl rfl rfl (Nat.le_of_ble_eq_true rfl) dX6_user_65) (fun qX hX => ?_) (fun w65 h65 => ?_)
        · exact Tt qX ((us_3 eW hW0 hA hX).2.2) (congrArg (fun z => xtW ad ct ξ ++ [z]) (by rw [(us_3 eW hW0 hA hX).1, (us_3 eW hW0 hA hX).2.1, hr1.2.2.2.2.1])) (by show _ ≤ 12; omega) (by show _ ≤ 95; omega) E.2.2.2.2.2.1
        obtain ⟨hC, rfl⟩ := h65
        have eU : readUserS n s0 = us3 n W := us_ok eW hW0 hA hC
        refine s_aload_n E dX6_user_68 (i := 0) (j := 0) rfl rfl ?_
        refine twX6_gR_4 E (v := W 0 20) (hwv) dX6_user_69 ?_
        refine s_istore_n E (L2 := [(1, .int (W 0 20)), (0, .ref (ra 0))]) dX6_user_72 rfl (Nat.le_of_ble_eq_true rfl) rfl ?_
        obtain ⟨w2, hw2⟩ : ∃ z, z = st1 w1 5 (6 + n) (W 0 20) := ⟨_, rfl⟩
        have hrw2 : RL (st1 W 5 (6 + n) (W 0 20)) w2 := by rw [hw2]; exact hr1.put (Or.inr (by decide))
        refine s_ws (ws2 := rw ad ra ct ξ w2 (tW ra ct n w2)) (by rw [hw2]; exact (rt_ahead (by decide)).symm) ?_
        refine s_aload_n E dX6_user_73 (i := 0) (j := 1) rfl rfl ?_
        refine c_gov0 E (rV E (cutS _ _) (x6z_take ((st1 W 5 (6 + n) (W 0 20)) 1) (tN ((st1 W 5 (6 + n) (W 0 20)) 0 16)) (tN ((st1 W 5 (6 + n) (W 0 20)) 0 17)) (by rw [st1_ne (by decide)]; exact hbW) (hrw2.2.2.1.trans hrw2.1.1.1.1) (by have := hrw2.1.1.1.2; omega) (hrw2.2.2.2.1.trans hrw2.1.1.2.1.1) (by have := hrw2.1.1.2.1.2; omega)) K_X6_29 (Nat.le_of_ble_eq_true rfl) (Nat.le_of_ble_eq_true rfl) (by show _ ≤ 12; omega) (by show _ ≤ 95; omega) 0 rfl rfl rfl rfl (Nat.le_of_ble_eq_true rfl) dX6_user_74) (fun w74 h74 => ?_)
        subst h74
        refine s_ws (ws2 := rw ad ra ct ξ (setT w2 (tokX ((st1 W 5 (6 + n) (W 0 20)) 1) (tN ((st1 W 5 (6 + n) (W 0 20)) 0 16)) (tN ((st1 W 5 (6 + n) (W 0 20)) 0 17)) (w2 0 20))) (tW ra ct n (setT w2 (tokX ((st1 W 5 (6 + n) (W 0 20)) 1) (tN ((st1 W 5 (6 + n) (W 0 20)) 0 16)) (tN ((st1 W 5 (6 + n) (W 0 20)) 0 17)) (w2 0 20))))) (congrArg (rw ad ra ct ξ _) (tW_rf RF.set)) ?_
        obtain ⟨w3, hw3⟩ : ∃ z, z = setT w2 (tokX ((st1 W 5 (6 + n) (W 0 20)) 1) (tN ((st1 W 5 (6 + n) (W 0 20)) 0 16)) (tN ((st1 W 5 (6 + n) (W 0 20)) 0 17)) (w2 0 20)) := ⟨_, rfl⟩
        have hr3 : RL (xa n W) w3 := by rw [hw3]; exact hrw2.tok
        have hf3 : RF w2 w3 := by rw [hw3]; exact RF.set
        refine s_ws (ws2 := rw ad ra ct ξ w3 (tW ra ct n w3)) (congrArg (fun z => rw ad ra ct ξ z (tW ra ct n z)) (show _ = _ from by rw [hw3])) ?_
        refine s_aload_n E dX6_user_77 (i := 0) (j := 1) rfl rfl ?_
        refine s_iconst E dX6_user_78 (v := nI 0) (by decide) ?_
        refine s_iconst E dX6_user_79 (v := nI 2) (by decide) ?_
        refine cx_goi E (rVX E (cutS _ _) (x6z_number (xa n W) 0 2 (by rw [x_r1.1]; exact hbW) (hr3) (by decide) (by decide)) K_X6_129 (Nat.le_of_ble_eq_true rfl) (Nat.le_of_ble_eq_true rfl) (by show _ ≤ 12; omega) (by show _ ≤ 95; omega) 0 rfl rfl rfl rfl (Nat.le_of_ble_eq_true rfl) dX6_user_80) (fun qX hX => ?_) (fun r80 w80 h80 => ?_)
        · exact Tt qX (by rw [eU, us_f1 hX]; exact hX) (congrArg (fun z => xtW ad ct ξ ++ [z]) (by rw [eU, us_f1 hX, us_f1 hX])) (by show _ ≤ 12; omega) (by show _ ≤ 95; omega) E.2.2.2.2.2.1
        obtain ⟨hN1, e80, hr4, hf4⟩ := h80
        subst e80
        refine s_ws (ws2 := rw ad ra ct ξ w80 (tW ra ct n w80)) (congrArg (rw ad ra ct ξ _) (tW_rf hf4)) ?_
        refine s_istore_n E (L2 := [(2, .int (numV (nI 0) (nI 2) (xa n W))), (1, .int (W 0 20)), (0, .ref (ra 0))]) dX6_user_83 rfl (Nat.le_of_ble_eq_true rfl) rfl ?_
        obtain ⟨w5, hw5⟩ : ∃ z, z = st1 w80 6 (6 + n) (numV (nI 0) (nI 2) (xa n W)) := ⟨_, rfl⟩
        have hrw5 : RL (xb n W) w5 := by rw [hw5]; exact hr4.put (Or.inr (by decide))
        refine s_ws (ws2 := rw ad ra ct ξ w5 (tW ra ct n w5)) (by rw [hw5]; exact (rt_ahead (by decide)).symm) ?_
        refine s_aload_n E dX6_user_84 (i := 0) (j := 2) rfl rfl ?_
        refine s_iconst E dX6_user_85 (v := nI 0) (by decide) ?_
        refine s_bipush E dX6_user_86 (v := nI 30) (by decide) ?_
        refine cx_goi E (rVX E (cutS _ _) (x6z_number (xb n W) 0 30 (by rw [x_r1.2.1]; exact hbW) (hrw5) (by decide) (by decide)) K_X6_129 (Nat.le_of_ble_eq_true rfl) (Nat.le_of_ble_eq_true rfl) (by show _ ≤ 12; omega) (by show _ ≤ 95; omega) 0 rfl rfl rfl rfl (Nat.le_of_ble_eq_true rfl) dX6_user_88) (fun qX hX => ?_) (fun r88 w88 h88 => ?_)
        · exact Tt qX (by rw [eU, us_f2 hX]; exact hX) (congrArg (fun z => xtW ad ct ξ ++ [z]) (by rw [eU, us_f2 hX, us_f2 hX])) (by show _ ≤ 12; omega) (by show _ ≤ 95; omega) E.2.2.2.2.2.1
        obtain ⟨hN2, e88, hr6, hf6⟩ := h88
        subst e88
        refine s_ws (ws2 := rw ad ra ct ξ w88 (tW ra ct n w88)) (congrArg (rw ad ra ct ξ _) (tW_rf hf6)) ?_
        refine s_istore_n E (L2 := [(3, .int (numV (nI 0) (nI 30) (xb n W))), (2, .int (numV (nI 0) (nI 2) (xa n W))), (1, .int (W 0 20)), (0, .ref (ra 0))]) dX6_user_91 rfl (Nat.le_of_ble_eq_true rfl) rfl ?_
        obtain ⟨w7, hw7⟩ : ∃ z, z = st1 w88 7 (6 + n) (numV (nI 0) (nI 30) (xb n W)) := ⟨_, rfl⟩
        have hrw7 : RL (xc n W) w7 := by rw [hw7]; exact hr6.put (Or.inr (by decide))
        refine s_ws (ws2 := rw ad ra ct ξ w7 (tW ra ct n w7)) (by rw [hw7]; exact (rt_ahead (by decide)).symm) ?_
        refine s_aload_n E dX6_user_92 (i := 0) (j := 3) rfl rfl ?_
        refine s_iconst E dX6_user_93 (v := nI 1) (by decide) ?_
        refine s_aload_n E dX6_user_94 (i := 0) (j := 3) rfl rfl ?_
        refine twX6_gR_1 E dX6_user_95 ?_
        refine twX6_gV_6 E (v := nI B) (by rw [hrw7.2.2.2.2.2.2.1 3 (Or.inl rfl)]; exact eB3) dX6_user_98 ?_
        refine cx_goi E (rVX E (cutS _ _) (x6z_number (xc n W) 1 B (by rw [x_r1.2.2.1]; exact hbW) (hrw7) (by decide) (by omega)) K_X6_129 (Nat.le_of_ble_eq_true rfl) (Nat.le_of_ble_eq_true rfl) (by show _ ≤ 12; omega) (by show _ ≤ 95; omega) 0 rfl rfl rfl rfl (Nat.le_of_ble_eq_true rfl) dX6_user_101) (fun qX hX => ?_) (fun r101 w101 h101 => ?_)
        · exact Tt qX (by rw [eU, us_f3 (by rw [eB3]; exact hX), eB3]; exact hX) (congrArg (fun z => xtW ad ct ξ ++ [z]) (by rw [eU, us_f3 (by rw [eB3]; exact hX), us_f3 (by rw [eB3]; exact hX), eB3])) (by show _ ≤ 12; omega) (by show _ ≤ 95; omega) E.2.2.2.2.2.1
        obtain ⟨hN3, e101, hr8, hf8⟩ := h101
        subst e101
        obtain ⟨lo, elo, hlo1, hloB⟩ : ∃ lo, numV (nI 1) (nI B) (xc n W) = nI lo ∧ 1 ≤ lo ∧ lo ≤ B := ⟨_, (numV_In (by omega) (by omega)).1.1, (numV_In (by omega) (by omega)).2, by have := (numV_In (s := xc n W) (a := 1) (b := B) (by omega) (by omega)).1.2; omega⟩
        have eL8 : xd n W 8 (6 + n) = nI lo := by rw [xd_rows.2.2.2, eB3]; exact elo
        refine s_ws (ws2 := rw ad ra ct ξ w101 (tW ra ct n w101)) (congrArg (rw ad ra ct ξ _) (tW_rf hf8)) ?_
        refine s_top (v2 := nI lo) (elo) ?_
        refine s_istore E (L2 := [(4, .int (nI lo)), (3, .int (numV (nI 0) (nI 30) (xb n W))), (2, .int (numV (nI 0) (nI 2) (xa n W))), (1, .int (W 0 20)), (0, .ref (ra 0))]) dX6_user_104 (Nat.le_of_ble_eq_true rfl) rfl ?_
        obtain ⟨w9, hw9⟩ : ∃ z, z = st1 w101 8 (6 + n) (nI lo) := ⟨_, rfl⟩
        have hrw9 : RL (xd n W) w9 := by rw [hw9]; unfold xd putN; rw [eB3, elo]; exact hr8.put (Or.inr (by decide))
        refine s_ws (ws2 := rw ad ra ct ξ w9 (tW ra ct n w9)) (by rw [hw9]; exact (rt_ahead (by decide)).symm) ?_
        refine s_aload_n E dX6_user_106 (i := 0) (j := 4) rfl rfl ?_
        refine twX6_gR_1 E dX6_user_107 ?_
        refine twX6_gV_0 E dX6_user_110 ?_
        refine s_aload_n E dX6_user_113 (i := 0) (j := 4) rfl rfl ?_
        refine twX6_gR_1 E dX6_user_114 ?_
        refine twX6_gV_4 E (v := nI n) (by rw [hrw9.2.2.2.2.2.2.1 3 (Or.inl rfl), xd_r3]; exact hWn) dX6_user_117 ?_
        refine s_new E in_X8 tyX8 tyX8_ok q710 q711 q128 (ci := 7) (fs := [.int 0, .int 0, .int 0, .int 0, .int 0, .int 0, .int 0]) rfl df_X8 (by show _ ≤ 12; omega) (by show _ ≤ 95; omega) dX6_user_120 (fun q9 => ?_)
        refine s_ws (ws2 := rw ad ra ct ξ w9 (tW ra ct n w9 ++ [(q9, .inr (7, [.int 0, .int 0, .int 0, .int 0, .int 0, .int 0, .int 0]))])) rw_snoc ?_
        refine s_dup E dX6_user_123 rfl ?_
        refine s_iload_n E dX6_user_124 (i := 1) (j := 3) rfl rfl ?_
        refine s_iload_n E dX6_user_125 (i := 2) (j := 2) rfl rfl ?_
        refine s_iload_n E dX6_user_126 (i := 3) (j := 1) rfl rfl ?_
        refine s_iload E dX6_user_127 (i := 4) (j := 0) rfl ?_
        refine s_aload_n E dX6_user_129 (i := 0) (j := 4) rfl rfl ?_
        refine s_iload E dX6_user_130 (i := 4) (j := 0) rfl ?_
        refine s_aload_n E dX6_user_132 (i := 0) (j := 4) rfl rfl ?_
        refine tuX6_gR_1 E dX6_user_133 ?_
        refine tuX6_gV_6 E (v := nI B) (by rw [hrw9.2.2.2.2.2.2.1 3 (Or.inl rfl)]; exact eB9) dX6_user_136 ?_
        refine cx_goi E (rVX E (cutS _ _) (x6z_number (xd n W) lo B (by rw [x_r1.2.2.2]; exact hbW) (hrw9) (by omega) (by omega)) K_X6_129 (Nat.le_of_ble_eq_true rfl) (Nat.le_of_ble_eq_true rfl) (by show _ ≤ 12; omega) (by show _ ≤ 95; omega) 0 rfl rfl rfl rfl (Nat.le_of_ble_eq_true rfl) dX6_user_139) (fun qX hX => ?_) (fun r139 w139 h139 => ?_)
        · exact Tt qX (by rw [eU, us_f4, eL8, eB9]; exact hX) (congrArg (fun z => xtW ad ct ξ ++ [z]) (by rw [eU, us_f4, us_f4, eL8, eB9])) (by show _ ≤ 12; omega) (by show _ ≤ 95; omega) E.2.2.2.2.2.1
        obtain ⟨hN4, e139, hr10, hf10⟩ := h139
        subst e139
        refine s_ws (ws2 := rw ad ra ct ξ w139 (tW ra ct n w139 ++ [(q9, .inr (7, [.int 0, .int 0, .int 0, .int 0, .int 0, .int 0, .int 0]))])) (congrArg (fun z => rw ad ra ct ξ _ (z ++ _)) (tW_rf hf10)) ?_
        refine p_gov (wc := [(q9, .inr (7, [.int 0, .int 0, .int 0, .int 0, .int 0, .int 0, .int 0]))]) (wr := rw ad ra ct ξ w139 (tW ra ct n w139)) (ws2 := fun _ => rw ad ra ct ξ w139 (tW ra ct n w139 ++ [(q9, .inr (7, [.int (W 0 20), .int (numV (nI 0) (nI 2) (xa n W)), .int (numV (nI 0) (nI 30) (xb n W)), .int (nI lo), .int (numV (nI lo) (nI B) (xd n W)), .int 0, .int 0]))])) E (tyc := tysA ct) (isT := ixT) rfl (by rw [← rw_snoc]; exact List.perm_append_comm) (rI E (cutP (tyc := tysA ct) (isT := ixT) rfl) (x8z_init (v1 := W 0 20) (v2 := numV (nI 0) (nI 2) (xa n W)) (v3 := numV (nI 0) (nI 30) (xb n W)) (v4 := nI lo) (v5 := numV (nI lo) (nI B) (xd n W))) (show KI RX6 163 yX8_init cX8_init 6 5 from ⟨q712, q713, q128, q714, rfl, by decide +kernel⟩) (Nat.le_of_ble_eq_true rfl) (Nat.le_of_ble_eq_true rfl) (by show _ ≤ 12; omega) (by show _ ≤ 95; omega) rfl rfl (Nat.le_of_ble_eq_true rfl) dX6_user_142) (fun _ => rw_snocP) (fun _ _ _ => ?_)
        refine s_aast E 4 3 (8 + n) rfl rfl rq_at (ci := 7) rfl n rfl (by omega) (Nat.le_of_ble_eq_true rfl) rq_set dX6_user_145 ?_
        obtain ⟨wA, hwA⟩ : ∃ z, z = st1 (st1 (st1 w139 9 (6 + n) (numV (nI lo) (nI B) (xd n W))) 10 (6 + n) (nI 0)) 11 (6 + n) (nI 0) := ⟨_, rfl⟩
        have hV9 : ufR wA n = [.int (W 0 20), .int (numV (nI 0) (nI 2) (xa n W)), .int (numV (nI 0) (nI 30) (xb n W)), .int (nI lo), .int (numV (nI lo) (nI B) (xd n W)), .int 0, .int 0] := by rw [hwA]; exact us_V (fun r hrr => by rw [hr10.2.2.2.2.2.2.1 r (Or.inr (by omega)), numS_r (by omega)]) eL8
        have hr11 : RL (st1 (st1 (st1 (numS (nI lo) (nI B) (xd n W)) 9 (6 + n) (numV (nI lo) (nI B) (xd n W))) 10 (6 + n) (nI 0)) 11 (6 + n) (nI 0)) wA := by rw [hwA]; exact ((hr10.put (Or.inr (by decide))).put (Or.inr (by decide))).put (Or.inr (by decide))
        refine s_ws (ws2 := rw ad ra ct ξ wA (tWq ra ct n q9 ([.int (W 0 20), .int (numV (nI 0) (nI 2) (xa n W)), .int (numV (nI 0) (nI 30) (xb n W)), .int (nI lo), .int (numV (nI lo) (nI B) (xd n W)), .int 0, .int 0]) wA)) (by rw [hwA, rq_ahead (by decide), rq_ahead (by decide), rq_ahead (by decide)]) ?_
        rw [← hV9]
        refine s_aload_n E dX6_user_146 (i := 0) (j := 4) rfl rfl ?_
        refine tvX6_gR_1 E dX6_user_147 ?_
        refine s_dup E dX6_user_150 rfl ?_
        refine tvX6_gV_4 E (v := nI n) (by rw [hr11.2.2.2.2.2.2.1 3 (Or.inl rfl), st1_ne (by decide), st1_ne (by decide), st1_ne (by decide), numS_r (by decide), xd_r3]; exact hWn) dX6_user_151 ?_
        refine s_iconst E dX6_user_154 (v := nI 1) (by decide) ?_
        refine s_iadd_ E dX6_user_155 (v := nI (n + 1)) (nI_add _ _) ?_
        refine tvX6_pV_4 E dX6_user_156 ?_
        obtain ⟨wB, hwB⟩ : ∃ z, z = st1 wA 3 17 (nI (n + 1)) := ⟨_, rfl⟩
        refine s_ws (ws2 := rw ad (raU ra n q9) ct ξ wB (tW (raU ra n q9) ct (n + 1) wB)) (by rw [hwB, rw_raU, ← tWq_end]; rfl) ?_
        exact Rt ((raU ra n q9, n + 1, wB)) dX6_user_159 (⟨by rw [eU, us_f4, eL8, eB9]; exact hN4, by rw [eU, us3_of hWn eL8 eB9]; show RL _ wB; rw [hwB]; exact hr11.put (Or.inl rfl), by show wB 31 = _; rw [hwB, st1_ne (by decide), hwA, st1_ne (by decide), st1_ne (by decide), st1_ne (by decide), hf10.1 31 (by decide), hw9, st1_ne (by decide), hf8.1 31 (by decide), hw7, st1_ne (by decide), hf6.1 31 (by decide), hw5, st1_ne (by decide), hf4.1 31 (by decide), hf3.1 31 (by decide), hw2, st1_ne (by decide), hf1.1 31 (by decide)], by show wB 0 30 = _; rw [hwB, st1_ne (by decide), hwA, st1_ne (by decide), st1_ne (by decide), st1_ne (by decide), hf10.2 30 (by decide), hw9, st1_ne (by decide), hf8.2 30 (by decide), hw7, st1_ne (by decide), hf6.2 30 (by decide), hw5, st1_ne (by decide), hf4.2 30 (by decide), hf3.2 30 (by decide), hw2, st1_ne (by decide), hf1.2 30 (by decide)], hn5, rfl, by rw [eU, us3_of hWn eL8 eB9, st1_eq], fun k hk => raU_lt (by omega)⟩) rfl (by first | exact Nat.le_refl _ | omega) (by first | exact Nat.le_refl _ | omega) E.2.2.2.2.2.1
      refine s_if_ge E dX6_user_56 (tgt := 63) rfl (fun c56 => ?_) (fun c56 => ?_)
      · have hno := nameF_of (s := W) (b := 6) (x := W 0 20) n
        have c56 := Int32.not_lt.mpr c56
        have c56 : ¬ nameF W 6 (W 0 20) n = -1 := fun h => c56 (by rw [h]; decide)
        refine s_iconst E dX6_user_63 (v := nI 0) (by decide) ?_
        refine s_top (v2 := bI (nameF W 6 (W 0 20) n = -1)) ((bI_f c56).symm) ?_
        exact J64
      · have hno := nameF_of (s := W) (b := 6) (x := W 0 20) n
        have c56 := Int32.not_le.mp c56
        have c56 : nameF W 6 (W 0 20) n = -1 := by rcases hno with h9 | ⟨j, hj, h9⟩; exact h9; rw [h9] at c56; exact absurd c56 (nI_pos (by omega))
        refine s_iconst E dX6_user_59 (v := nI 1) (by decide) ?_
        refine s_goto E dX6_user_60 (tgt := 64) rfl ?_
        refine s_top (v2 := bI (nameF W 6 (W 0 20) n = -1)) ((bI_t c56).symm) ?_
        exact J64
    refine s_icmp_ne E dX6_user_32 (tgt := 39) rfl (fun c32 => ?_) (fun c32 => ?_)
    · have c32 : ¬ W 0 19 = nI 1 := fun h => c32 (hk1.k3.2.1.mpr h)
      refine s_iconst E dX6_user_39 (v := nI 0) (by decide) ?_
      refine s_top (v2 := bI (W 0 19 = nI 1)) ((bI_f c32).symm) ?_
      exact J40
    · have c32 : W 0 19 = nI 1 := hk1.k3.2.1.mp c32
      refine s_iconst E dX6_user_35 (v := nI 1) (by decide) ?_
      refine s_goto E dX6_user_36 (tgt := 40) rfl ?_
      refine s_top (v2 := bI (W 0 19 = nI 1)) ((bI_t c32).symm) ?_
      exact J40
  refine s_icmp_ge E dX6_user_10 (tgt := 17) rfl (fun c10 => ?_) (fun c10 => ?_)
  · have c10 : ¬ n < 6 := fun h => absurd c10 (Int32.not_le.mpr ((nI_ltI (a := n) (b := 6) (by omega) (by omega)).mpr h))
    refine s_iconst E dX6_user_17 (v := nI 0) (by decide) ?_
    refine s_top (v2 := bI (n < 6)) ((bI_f (show ¬ n < 6 by omega)).symm) ?_
    exact J18
  · have c10 : n < 6 := (nI_ltI (a := n) (b := 6) (by omega) (by omega)).mp (Int32.not_le.mp c10)
    refine s_iconst E dX6_user_13 (v := nI 1) (by decide) ?_
    refine s_goto E dX6_user_14 (tgt := 18) rfl ?_
    refine s_top (v2 := bI (n < 6)) ((bI_t (show n < 6 by omega)).symm) ?_
    exact J18
