set_option maxRecDepth 100000
theorem K_X6_166 : KV RX6 166 RX6 yX6_known cX6_known 2 (some .int) 0 := ⟨q752, q754, qs13, q118, q755, by decide +kernel⟩
theorem twX6_gV_0 {p : Program} {l : Launch} {e : Env} {R : Room} {s : State} {m : MethodId} {args : Array Value} {below : List Frame} {meth : Method} {c : Code} {Q : State → Prop} {A : Nat → Prop} {D : va_G} {nL cells slots : Nat} {pc : Nat} {L : List (Nat × Value)} {S : List Value} {cc : ByteArray} {ret : Option FieldType} {gt : Nat → Nat} {ad ra : Nat → Nat} {ct : Nat → ClassId} {n : Nat} {ξ σ : Nat → Nat → Int32} (E : En p s m args meth c A cc nL RX6 ret D (tysA ct) gt) (d : decode cc pc = .ok (.getfield 157, 3)) (K : Sm p l e R s m args below meth c Q A D nL cells slots (rw ad ra ct ξ σ (tW ra ct n σ)) (pc + 3) L (.ref (ra 2) :: S)) : Sm p l e R s m args below meth c Q A D nL cells slots (rw ad ra ct ξ σ (tW ra ct n σ)) pc L (.ref (ra 1) :: S) := s_getN E in_X2 3 rfl rfl 0 (Nat.le_of_ble_eq_true rfl) q156 rfl rfl d K
theorem K_X6_129 : KV RX6 129 RX6 yX6_number cX6_number 4 (some .int) 2 := ⟨q706, q708, qs11, q118, q709, by decide +kernel⟩
set_option maxHeartbeats 2000000 in
set_option maxRecDepth 100000 in
theorem x6z_slots {l : Launch} {D : va_G} {gt : Nat → Nat} {ad ra : Nat → Nat} {ct : Nat → ClassId} {n : Nat} {ξ σ : Nat → Nat → Int32} (s : Nat → Nat → Int32) (hb : BT ξ (s 1)) (hr : RL s σ) (hn6 : n ≤ 6) (hn : s 3 17 = nI n) (hin : ∀ k, k < n → In (s 11 (6 + k)) 256) : CvX l D gt yX6_slots cX6_slots 2 8 174 5 40 [.ref (ra 0)] (rw ad ra ct ξ σ (tW ra ct n σ)) (tysA ct) (fun σ2 => (rgX 11 n 255 s) 0 21 = 0 ∧ RL (rgX 11 n 255 s) σ2 ∧ σ2 31 = σ 31 ∧ σ2 0 30 = σ 0 30) (fun σ2 : Nat → Nat → Int32 => rw ad ra ct ξ σ2 (tW ra ct n σ2)) (fun _ => tysA ct) (fun _ : Nat => ¬ (rgX 11 n 255 s) 0 21 = 0) (fun q : Nat => xtW ad ct ξ ++ [faultC q ((rgX 11 n 255 s) 0 21) ((rgX 11 n 255 s) 0 22)]) (fun _ => tysA ct) (fun q => q) (fun _ => RX7) := by
  refine CvX.start RX6 (by decide) rfl (Nat.le_of_ble_eq_true rfl) rfl ?_
  intro pP eE sS mM aA bB hM cC QQ AA E Rt Tt
  have hz := hr.2.2.1.trans hr.1.1.1.1
  have hn7 : tN (s 0 16) ≤ 700 := by have := hr.1.1.1.2; omega
  have h17 := hr.2.2.2.1.trans hr.1.1.2.1.1
  have han : tN (s 0 17) ≤ tN (s 0 16) := by have := hr.1.1.2.1.2; omega
  have h0 := hr.2.1
  have hkd := hr.2.2.2.2.2.1
  have h18 := hr.2.2.2.2.1
  refine s_aload_n E dX6_slots_0 (i := 0) (j := 0) rfl rfl ?_
  refine cx_goi E (rVX E (cutS _ _) (x6z_known s (hb) (hr) (hn6) (hn)) K_X6_166 (Nat.le_of_ble_eq_true rfl) (Nat.le_of_ble_eq_true rfl) (by show _ ≤ 5; omega) (by show _ ≤ 40; omega) 0 rfl rfl rfl rfl (Nat.le_of_ble_eq_true rfl) dX6_slots_1) (fun qX hX => ?_) (fun r1 w1 h1 => ?_)
  · exact Tt qX ((rg_bad h0 hX).2.2) (congrArg (fun z => xtW ad ct ξ ++ [z]) (by rw [(rg_bad h0 hX).1, (rg_bad h0 hX).2.1])) (by show _ ≤ 5; omega) (by show _ ≤ 40; omega) E.2.2.2.2.2.1
  obtain ⟨hA, ⟨k, hk, hNM, rfl⟩, hr1, hf1⟩ := h1
  have hb1 : BT ξ (tokS s 1) := by rw [tokS_r (by decide)]; exact hb
  have hik : In (tokS s 11 (6 + k)) 256 := by rw [tokS_r (by decide)]; exact hin k hk
  refine s_istore_n E (L2 := [(1, .int (nI k)), (0, .ref (ra 0))]) dX6_slots_4 rfl (Nat.le_of_ble_eq_true rfl) rfl ?_
  refine s_aload_n E dX6_slots_5 (i := 0) (j := 1) rfl rfl ?_
  refine s_aload_n E dX6_slots_6 (i := 0) (j := 1) rfl rfl ?_
  refine twX6_gR_1 E dX6_slots_7 ?_
  refine twX6_gV_0 E dX6_slots_10 ?_
  refine s_iload_n E dX6_slots_13 (i := 1) (j := 0) rfl rfl ?_
  refine s_aald E 4 3 rfl rfl k rfl (by omega) (Nat.le_of_ble_eq_true rfl) (by show va_rf (usR ra n k) = .ref (ra (100 + k)); unfold usR; rw [if_pos hk]; rfl) dX6_slots_14 ?_
  refine s_getN E in_X8 (v := .int (tokS s 11 (6 + k))) (8 + k) (rt_at hk) rfl 6 (Nat.le_of_ble_eq_true rfl) q732 (congrArg (fun z => some (Value.int z)) (congrFun (hr1.2.2.2.2.2.2.1 11 (Or.inr (by omega))) _)) rfl dX6_slots_15 ?_
  have J26 : Sm pP l eE { frames := 8, cells := 5, slots := 40, locals := 174 } sS mM aA bB hM cC QQ AA D 2 (0 + 2) (0 + 16) (rw ad ra ct ξ w1 (tW ra ct n w1)) 26 [(1, .int (nI k)), (0, .ref (ra 0))] [.int (bI (tokS s 11 (6 + k) = 0)), .ref (ra 0)] := by
    refine s_iconst E dX6_slots_26 (v := nI 3) (by decide) ?_
    refine cx_gov E (rVX E (cutS _ _) (x6z_must (tokS s 11 (6 + k) = 0) (nI 3)) K_X6_96 (Nat.le_of_ble_eq_true rfl) (Nat.le_of_ble_eq_true rfl) (by show _ ≤ 5; omega) (by show _ ≤ 40; omega) 0 rfl rfl rfl rfl (Nat.le_of_ble_eq_true rfl) dX6_slots_27) (fun qX hX => ?_) (fun w27 h27 => ?_)
    · exact Tt qX ((rg_3 h0 hA hNM (by omega) (hik.pos0 (by decide) hX)).2.2) (congrArg (fun z => xtW ad ct ξ ++ [z]) (by rw [(rg_3 h0 hA hNM (by omega) (hik.pos0 (by decide) hX)).1, (rg_3 h0 hA hNM (by omega) (hik.pos0 (by decide) hX)).2.1, hr1.2.2.2.2.1])) (by show _ ≤ 5; omega) (by show _ ≤ 40; omega) E.2.2.2.2.2.1
    obtain ⟨hZ, rfl⟩ := h27
    have hZ2 : ¬ 0 < tokS s 11 (6 + k) := by rw [hZ]; decide
    refine s_aload_n E dX6_slots_30 (i := 0) (j := 1) rfl rfl ?_
    refine c_gov0 E (rV E (cutS _ _) (x6z_take (tokS s 1) (tN (tokS s 0 16)) (tN (tokS s 0 17)) (hb1) (hr1.2.2.1.trans hr1.1.1.1.1) (by have := hr1.1.1.1.2; omega) (hr1.2.2.2.1.trans hr1.1.1.2.1.1) (by have := hr1.1.1.2.1.2; omega)) K_X6_29 (Nat.le_of_ble_eq_true rfl) (Nat.le_of_ble_eq_true rfl) (by show _ ≤ 5; omega) (by show _ ≤ 40; omega) 0 rfl rfl rfl rfl (Nat.le_of_ble_eq_true rfl) dX6_slots_31) (fun w31 h31 => ?_)
    subst h31
    refine s_ws (ws2 := rw ad ra ct ξ (setT w1 (tokX (tokS s 1) (tN (tokS s 0 16)) (tN (tokS s 0 17)) (w1 0 20))) (tW ra ct n (setT w1 (tokX (tokS s 1) (tN (tokS s 0 16)) (tN (tokS s 0 17)) (w1 0 20))))) (congrArg (rw ad ra ct ξ _) (tW_rf RF.set)) ?_
    obtain ⟨w2, hw2⟩ : ∃ z, z = setT w1 (tokX (tokS s 1) (tN (tokS s 0 16)) (tN (tokS s 0 17)) (w1 0 20)) := ⟨_, rfl⟩
    have hr2 : RL (tokS (tokS s)) w2 := by rw [hw2]; exact hr1.tok
    have hf2 : RF w1 w2 := by rw [hw2]; exact RF.set
    have hb2 : BT ξ ((tokS (tokS s)) 1) := by rw [tokS_r (by decide)]; exact hb1
    refine s_ws (ws2 := rw ad ra ct ξ w2 (tW ra ct n w2)) (congrArg (fun z => rw ad ra ct ξ z (tW ra ct n z)) (show _ = _ from by rw [hw2])) ?_
    refine s_aload_n E dX6_slots_34 (i := 0) (j := 1) rfl rfl ?_
    refine twX6_gR_1 E dX6_slots_35 ?_
    refine twX6_gV_0 E dX6_slots_38 ?_
    refine s_iload_n E dX6_slots_41 (i := 1) (j := 0) rfl rfl ?_
    refine s_aald E 4 3 rfl rfl k rfl (by omega) (Nat.le_of_ble_eq_true rfl) (by show va_rf (usR ra n k) = .ref (ra (100 + k)); unfold usR; rw [if_pos hk]; rfl) dX6_slots_42 ?_
    refine s_aload_n E dX6_slots_43 (i := 0) (j := 1) rfl rfl ?_
    refine s_iconst E dX6_slots_44 (v := nI 1) (by decide) ?_
    refine s_sipush E dX6_slots_45 (v := nI 255) (by decide) ?_
    refine cx_goi E (rVX E (cutS _ _) (x6z_number (tokS (tokS s)) 1 255 (hb2) (hr2) (by decide) (by omega)) K_X6_129 (Nat.le_of_ble_eq_true rfl) (Nat.le_of_ble_eq_true rfl) (by show _ ≤ 5; omega) (by show _ ≤ 40; omega) 0 rfl rfl rfl rfl (Nat.le_of_ble_eq_true rfl) dX6_slots_48) (fun qX hX => ?_) (fun r48 w48 h48 => ?_)
    · exact Tt qX (by rw [rg_n h0 hA hNM (by omega) hZ2 hX]; exact hX) (congrArg (fun z => xtW ad ct ξ ++ [z]) (by rw [rg_n h0 hA hNM (by omega) hZ2 hX])) (by show _ ≤ 5; omega) (by show _ ≤ 40; omega) E.2.2.2.2.2.1
    obtain ⟨hN, e9, hr3, hf3⟩ := h48
    subst e9
    refine s_ws (ws2 := rw ad ra ct ξ w48 (tW ra ct n w48)) (congrArg (rw ad ra ct ξ _) (tW_rf hf3)) ?_
    refine s_putN E in_X8 tyX8 tyX8_ok nmX8 (8 + k) (rt_at hk) rfl 6 (Nat.le_of_ble_eq_true rfl) q732 rfl rfl rfl rfl (Nat.le_of_ble_eq_true rfl) (rt_set11 hk) dX6_slots_51 ?_
    exact Rt (st1 w48 11 (6 + k) (numV (nI 1) (nI 255) (tokS (tokS s)))) dX6_slots_54 (⟨by rw [rg_ok h0 hA hNM (by omega) hZ2 hN, st1_ne (by decide)]; exact hN, by rw [rg_ok h0 hA hNM (by omega) hZ2 hN]; exact hr3.put (Or.inr (by omega)), by rw [st1_ne (by decide), hf3.1 31 (by decide), hf2.1 31 (by decide), hf1.1 31 (by decide)], by rw [st1_ne (by decide), hf3.2 30 (by decide), hf2.2 30 (by decide), hf1.2 30 (by decide)]⟩) rfl (by first | exact Nat.le_refl _ | omega) (by first | exact Nat.le_refl _ | omega) E.2.2.2.2.2.1
  refine s_if_ne E dX6_slots_18 (tgt := 25) rfl (fun c18 => ?_) (fun c18 => ?_)
  · refine s_iconst E dX6_slots_25 (v := nI 0) (by decide) ?_
    refine s_top (v2 := bI (tokS s 11 (6 + k) = 0)) ((bI_f c18).symm) ?_
    exact J26
  · refine s_iconst E dX6_slots_21 (v := nI 1) (by decide) ?_
    refine s_goto E dX6_slots_22 (tgt := 26) rfl ?_
    refine s_top (v2 := bI (tokS s 11 (6 + k) = 0)) ((bI_t c18).symm) ?_
    exact J26
theorem twX6_gV_6 {p : Program} {l : Launch} {e : Env} {R : Room} {s : State} {m : MethodId} {args : Array Value} {below : List Frame} {meth : Method} {c : Code} {Q : State → Prop} {A : Nat → Prop} {D : va_G} {nL cells slots : Nat} {pc : Nat} {L : List (Nat × Value)} {S : List Value} {cc : ByteArray} {ret : Option FieldType} {gt : Nat → Nat} {ad ra : Nat → Nat} {ct : Nat → ClassId} {n : Nat} {ξ σ : Nat → Nat → Int32} (E : En p s m args meth c A cc nL RX6 ret D (tysA ct) gt) {v : Int32} (hv : σ 3 10 = v) (d : decode cc pc = .ok (.getfield 132, 3)) (K : Sm p l e R s m args below meth c Q A D nL cells slots (rw ad ra ct ξ σ (tW ra ct n σ)) (pc + 3) L (.int v :: S)) : Sm p l e R s m args below meth c Q A D nL cells slots (rw ad ra ct ξ σ (tW ra ct n σ)) pc L (.ref (ra 1) :: S) := s_getN E in_X2 3 rfl rfl 6 (Nat.le_of_ble_eq_true rfl) q179 (congrArg (fun z => some (Value.int z)) hv) rfl d K
set_option maxHeartbeats 2000000 in
set_option maxRecDepth 100000 in
theorem x6z_fixed {l : Launch} {D : va_G} {gt : Nat → Nat} {ad ra : Nat → Nat} {ct : Nat → ClassId} {n : Nat} {ξ σ : Nat → Nat → Int32} (s : Nat → Nat → Int32) (B : Nat) (hb : BT ξ (s 1)) (hr : RL s σ) (hn6 : n ≤ 6) (hn : s 3 17 = nI n) (hB : s 3 10 = nI B) (hB60 : B ≤ 60) (hin : ∀ k, k < n → In (s 10 (6 + k)) 256) : CvX l D gt yX6_fixed cX6_fixed 2 8 174 5 40 [.ref (ra 0)] (rw ad ra ct ξ σ (tW ra ct n σ)) (tysA ct) (fun σ2 => (rgX 10 n B s) 0 21 = 0 ∧ RL (rgX 10 n B s) σ2 ∧ σ2 31 = σ 31 ∧ σ2 0 30 = σ 0 30) (fun σ2 : Nat → Nat → Int32 => rw ad ra ct ξ σ2 (tW ra ct n σ2)) (fun _ => tysA ct) (fun _ : Nat => ¬ (rgX 10 n B s) 0 21 = 0) (fun q : Nat => xtW ad ct ξ ++ [faultC q ((rgX 10 n B s) 0 21) ((rgX 10 n B s) 0 22)]) (fun _ => tysA ct) (fun q => q) (fun _ => RX7) := by
  refine CvX.start RX6 (by decide) rfl (Nat.le_of_ble_eq_true rfl) rfl ?_
  intro pP eE sS mM aA bB hM cC QQ AA E Rt Tt
  have hz := hr.2.2.1.trans hr.1.1.1.1
  have hn7 : tN (s 0 16) ≤ 700 := by have := hr.1.1.1.2; omega
  have h17 := hr.2.2.2.1.trans hr.1.1.2.1.1
  have han : tN (s 0 17) ≤ tN (s 0 16) := by have := hr.1.1.2.1.2; omega
  have h0 := hr.2.1
  have hkd := hr.2.2.2.2.2.1
  have h18 := hr.2.2.2.2.1
  refine s_aload_n E dX6_fixed_0 (i := 0) (j := 0) rfl rfl ?_
  refine cx_goi E (rVX E (cutS _ _) (x6z_known s (hb) (hr) (hn6) (hn)) K_X6_166 (Nat.le_of_ble_eq_true rfl) (Nat.le_of_ble_eq_true rfl) (by show _ ≤ 5; omega) (by show _ ≤ 40; omega) 0 rfl rfl rfl rfl (Nat.le_of_ble_eq_true rfl) dX6_fixed_1) (fun qX hX => ?_) (fun r1 w1 h1 => ?_)
  · exact Tt qX ((rg_bad h0 hX).2.2) (congrArg (fun z => xtW ad ct ξ ++ [z]) (by rw [(rg_bad h0 hX).1, (rg_bad h0 hX).2.1])) (by show _ ≤ 5; omega) (by show _ ≤ 40; omega) E.2.2.2.2.2.1
  obtain ⟨hA, ⟨k, hk, hNM, rfl⟩, hr1, hf1⟩ := h1
  have hb1 : BT ξ (tokS s 1) := by rw [tokS_r (by decide)]; exact hb
  have hik : In (tokS s 10 (6 + k)) 256 := by rw [tokS_r (by decide)]; exact hin k hk
  refine s_istore_n E (L2 := [(1, .int (nI k)), (0, .ref (ra 0))]) dX6_fixed_4 rfl (Nat.le_of_ble_eq_true rfl) rfl ?_
  refine s_aload_n E dX6_fixed_5 (i := 0) (j := 1) rfl rfl ?_
  refine s_aload_n E dX6_fixed_6 (i := 0) (j := 1) rfl rfl ?_
  refine twX6_gR_1 E dX6_fixed_7 ?_
  refine twX6_gV_0 E dX6_fixed_10 ?_
  refine s_iload_n E dX6_fixed_13 (i := 1) (j := 0) rfl rfl ?_
  refine s_aald E 4 3 rfl rfl k rfl (by omega) (Nat.le_of_ble_eq_true rfl) (by show va_rf (usR ra n k) = .ref (ra (100 + k)); unfold usR; rw [if_pos hk]; rfl) dX6_fixed_14 ?_
  refine s_getN E in_X8 (v := .int (tokS s 10 (6 + k))) (8 + k) (rt_at hk) rfl 5 (Nat.le_of_ble_eq_true rfl) q730 (congrArg (fun z => some (Value.int z)) (congrFun (hr1.2.2.2.2.2.2.1 10 (Or.inr (by omega))) _)) rfl dX6_fixed_15 ?_
  have J26 : Sm pP l eE { frames := 8, cells := 5, slots := 40, locals := 174 } sS mM aA bB hM cC QQ AA D 2 (0 + 2) (0 + 16) (rw ad ra ct ξ w1 (tW ra ct n w1)) 26 [(1, .int (nI k)), (0, .ref (ra 0))] [.int (bI (tokS s 10 (6 + k) = 0)), .ref (ra 0)] := by
    refine s_iconst E dX6_fixed_26 (v := nI 3) (by decide) ?_
    refine cx_gov E (rVX E (cutS _ _) (x6z_must (tokS s 10 (6 + k) = 0) (nI 3)) K_X6_96 (Nat.le_of_ble_eq_true rfl) (Nat.le_of_ble_eq_true rfl) (by show _ ≤ 5; omega) (by show _ ≤ 40; omega) 0 rfl rfl rfl rfl (Nat.le_of_ble_eq_true rfl) dX6_fixed_27) (fun qX hX => ?_) (fun w27 h27 => ?_)
    · exact Tt qX ((rg_3 h0 hA hNM (by omega) (hik.pos0 (by decide) hX)).2.2) (congrArg (fun z => xtW ad ct ξ ++ [z]) (by rw [(rg_3 h0 hA hNM (by omega) (hik.pos0 (by decide) hX)).1, (rg_3 h0 hA hNM (by omega) (hik.pos0 (by decide) hX)).2.1, hr1.2.2.2.2.1])) (by show _ ≤ 5; omega) (by show _ ≤ 40; omega) E.2.2.2.2.2.1
    obtain ⟨hZ, rfl⟩ := h27
    have hZ2 : ¬ 0 < tokS s 10 (6 + k) := by rw [hZ]; decide
    refine s_aload_n E dX6_fixed_30 (i := 0) (j := 1) rfl rfl ?_
    refine c_gov0 E (rV E (cutS _ _) (x6z_take (tokS s 1) (tN (tokS s 0 16)) (tN (tokS s 0 17)) (hb1) (hr1.2.2.1.trans hr1.1.1.1.1) (by have := hr1.1.1.1.2; omega) (hr1.2.2.2.1.trans hr1.1.1.2.1.1) (by have := hr1.1.1.2.1.2; omega)) K_X6_29 (Nat.le_of_ble_eq_true rfl) (Nat.le_of_ble_eq_true rfl) (by show _ ≤ 5; omega) (by show _ ≤ 40; omega) 0 rfl rfl rfl rfl (Nat.le_of_ble_eq_true rfl) dX6_fixed_31) (fun w31 h31 => ?_)
    subst h31
    refine s_ws (ws2 := rw ad ra ct ξ (setT w1 (tokX (tokS s 1) (tN (tokS s 0 16)) (tN (tokS s 0 17)) (w1 0 20))) (tW ra ct n (setT w1 (tokX (tokS s 1) (tN (tokS s 0 16)) (tN (tokS s 0 17)) (w1 0 20))))) (congrArg (rw ad ra ct ξ _) (tW_rf RF.set)) ?_
    obtain ⟨w2, hw2⟩ : ∃ z, z = setT w1 (tokX (tokS s 1) (tN (tokS s 0 16)) (tN (tokS s 0 17)) (w1 0 20)) := ⟨_, rfl⟩
    have hr2 : RL (tokS (tokS s)) w2 := by rw [hw2]; exact hr1.tok
    have hf2 : RF w1 w2 := by rw [hw2]; exact RF.set
    have hb2 : BT ξ ((tokS (tokS s)) 1) := by rw [tokS_r (by decide)]; exact hb1
    refine s_ws (ws2 := rw ad ra ct ξ w2 (tW ra ct n w2)) (congrArg (fun z => rw ad ra ct ξ z (tW ra ct n z)) (show _ = _ from by rw [hw2])) ?_
    refine s_aload_n E dX6_fixed_34 (i := 0) (j := 1) rfl rfl ?_
    refine twX6_gR_1 E dX6_fixed_35 ?_
    refine twX6_gV_0 E dX6_fixed_38 ?_
    refine s_iload_n E dX6_fixed_41 (i := 1) (j := 0) rfl rfl ?_
    refine s_aald E 4 3 rfl rfl k rfl (by omega) (Nat.le_of_ble_eq_true rfl) (by show va_rf (usR ra n k) = .ref (ra (100 + k)); unfold usR; rw [if_pos hk]; rfl) dX6_fixed_42 ?_
    refine s_aload_n E dX6_fixed_43 (i := 0) (j := 1) rfl rfl ?_
    refine s_iconst E dX6_fixed_44 (v := nI 1) (by decide) ?_
    refine s_aload_n E dX6_fixed_45 (i := 0) (j := 1) rfl rfl ?_
    refine twX6_gR_1 E dX6_fixed_46 ?_
    refine twX6_gV_6 E (v := nI B) (by rw [hr2.2.2.2.2.2.2.1 3 (Or.inl rfl), tokS_r (by decide), tokS_r (by decide)]; exact hB) dX6_fixed_49 ?_
    refine cx_goi E (rVX E (cutS _ _) (x6z_number (tokS (tokS s)) 1 B (hb2) (hr2) (by decide) (by omega)) K_X6_129 (Nat.le_of_ble_eq_true rfl) (Nat.le_of_ble_eq_true rfl) (by show _ ≤ 5; omega) (by show _ ≤ 40; omega) 0 rfl rfl rfl rfl (Nat.le_of_ble_eq_true rfl) dX6_fixed_52) (fun qX hX => ?_) (fun r52 w52 h52 => ?_)
    · exact Tt qX (by rw [rg_n h0 hA hNM (by omega) hZ2 hX]; exact hX) (congrArg (fun z => xtW ad ct ξ ++ [z]) (by rw [rg_n h0 hA hNM (by omega) hZ2 hX])) (by show _ ≤ 5; omega) (by show _ ≤ 40; omega) E.2.2.2.2.2.1
    obtain ⟨hN, e9, hr3, hf3⟩ := h52
    subst e9
    refine s_ws (ws2 := rw ad ra ct ξ w52 (tW ra ct n w52)) (congrArg (rw ad ra ct ξ _) (tW_rf hf3)) ?_
    refine s_putN E in_X8 tyX8 tyX8_ok nmX8 (8 + k) (rt_at hk) rfl 5 (Nat.le_of_ble_eq_true rfl) q730 rfl rfl rfl rfl (Nat.le_of_ble_eq_true rfl) (rt_set10 hk) dX6_fixed_55 ?_
    exact Rt (st1 w52 10 (6 + k) (numV (nI 1) (nI B) (tokS (tokS s)))) dX6_fixed_58 (⟨by rw [rg_ok h0 hA hNM (by omega) hZ2 hN, st1_ne (by decide)]; exact hN, by rw [rg_ok h0 hA hNM (by omega) hZ2 hN]; exact hr3.put (Or.inr (by omega)), by rw [st1_ne (by decide), hf3.1 31 (by decide), hf2.1 31 (by decide), hf1.1 31 (by decide)], by rw [st1_ne (by decide), hf3.2 30 (by decide), hf2.2 30 (by decide), hf1.2 30 (by decide)]⟩) rfl (by first | exact Nat.le_refl _ | omega) (by first | exact Nat.le_refl _ | omega) E.2.2.2.2.2.1
  refine s_if_ne E dX6_fixed_18 (tgt := 25) rfl (fun c18 => ?_) (fun c18 => ?_)
  · refine s_iconst E dX6_fixed_25 (v := nI 0) (by decide) ?_
    refine s_top (v2 := bI (tokS s 10 (6 + k) = 0)) ((bI_f c18).symm) ?_
    exact J26
  · refine s_iconst E dX6_fixed_21 (v := nI 1) (by decide) ?_
    refine s_goto E dX6_fixed_22 (tgt := 26) rfl ?_
    refine s_top (v2 := bI (tokS s 10 (6 + k) = 0)) ((bI_t c18).symm) ?_
    exact J26
