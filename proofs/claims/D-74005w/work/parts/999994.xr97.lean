set_option maxRecDepth 100000
theorem K_X6_100 : KV RX6 100 RX6 yX6_line cX6_line 3 none 1 := ⟨q694, q696, qs9, q118, q697, by decide +kernel⟩
theorem txX6_gR_3 {p : Program} {l : Launch} {e : Env} {R : Room} {s : State} {m : MethodId} {args : Array Value} {below : List Frame} {meth : Method} {c : Code} {Q : State → Prop} {A : Nat → Prop} {D : va_G} {nL cells slots : Nat} {pc : Nat} {L : List (Nat × Value)} {S : List Value} {cc : ByteArray} {ret : Option FieldType} {gt : Nat → Nat} {ad ra2 : Nat → Nat} {ct : Nat → ClassId} {n2 : Nat} {ξ σ : Nat → Nat → Int32} (E : En p s m args meth c A cc nL RX6 ret D (tysA ct) gt) {v : Int32} (hv : σ 0 19 = v) (d : decode cc pc = .ok (.getfield 50, 3)) (K : Sm p l e R s m args below meth c Q A D nL cells slots (rw ad ra2 ct ξ σ (tW ra2 ct n2 σ)) (pc + 3) L (.int v :: S)) : Sm p l e R s m args below meth c Q A D nL cells slots (rw ad ra2 ct ξ σ (tW ra2 ct n2 σ)) pc L (.ref (ra2 0) :: S) := s_get E in_X6 0 rfl rfl 3 (Nat.le_of_ble_eq_true rfl) q594 (congrArg (fun z => some (Value.int z)) hv) rfl d K
theorem txX6_gR_1 {p : Program} {l : Launch} {e : Env} {R : Room} {s : State} {m : MethodId} {args : Array Value} {below : List Frame} {meth : Method} {c : Code} {Q : State → Prop} {A : Nat → Prop} {D : va_G} {nL cells slots : Nat} {pc : Nat} {L : List (Nat × Value)} {S : List Value} {cc : ByteArray} {ret : Option FieldType} {gt : Nat → Nat} {ad ra2 : Nat → Nat} {ct : Nat → ClassId} {n2 : Nat} {ξ σ : Nat → Nat → Int32} (E : En p s m args meth c A cc nL RX6 ret D (tysA ct) gt) (d : decode cc pc = .ok (.getfield 25, 3)) (K : Sm p l e R s m args below meth c Q A D nL cells slots (rw ad ra2 ct ξ σ (tW ra2 ct n2 σ)) (pc + 3) L (.ref (ra2 1) :: S)) : Sm p l e R s m args below meth c Q A D nL cells slots (rw ad ra2 ct ξ σ (tW ra2 ct n2 σ)) pc L (.ref (ra2 0) :: S) := s_get E in_X6 0 rfl rfl 1 (Nat.le_of_ble_eq_true rfl) q592 rfl rfl d K
theorem txX6_gV_11 {p : Program} {l : Launch} {e : Env} {R : Room} {s : State} {m : MethodId} {args : Array Value} {below : List Frame} {meth : Method} {c : Code} {Q : State → Prop} {A : Nat → Prop} {D : va_G} {nL cells slots : Nat} {pc : Nat} {L : List (Nat × Value)} {S : List Value} {cc : ByteArray} {ret : Option FieldType} {gt : Nat → Nat} {ad ra2 : Nat → Nat} {ct : Nat → ClassId} {n2 : Nat} {ξ σ : Nat → Nat → Int32} (E : En p s m args meth c A cc nL RX6 ret D (tysA ct) gt) {v : Int32} (hv : σ 0 15 = v) (d : decode cc pc = .ok (.getfield 104, 3)) (K : Sm p l e R s m args below meth c Q A D nL cells slots (rw ad ra2 ct ξ σ (tW ra2 ct n2 σ)) (pc + 3) L (.int v :: S)) : Sm p l e R s m args below meth c Q A D nL cells slots (rw ad ra2 ct ξ σ (tW ra2 ct n2 σ)) pc L (.ref (ra2 1) :: S) := s_getN E in_X2 3 rfl rfl 11 (Nat.le_of_ble_eq_true rfl) q195 (congrArg (fun z => some (Value.int z)) hv) rfl d K
theorem txX6_pV_11 {p : Program} {l : Launch} {e : Env} {R : Room} {s : State} {m : MethodId} {args : Array Value} {below : List Frame} {meth : Method} {c : Code} {Q : State → Prop} {A : Nat → Prop} {D : va_G} {nL cells slots : Nat} {pc : Nat} {L : List (Nat × Value)} {S : List Value} {cc : ByteArray} {ret : Option FieldType} {gt : Nat → Nat} {ad ra2 : Nat → Nat} {ct : Nat → ClassId} {n2 : Nat} {ξ σ : Nat → Nat → Int32} (E : En p s m args meth c A cc nL RX6 ret D (tysA ct) gt) {v : Int32} (d : decode cc pc = .ok (.putfield 104, 3)) (K : Sm p l e R s m args below meth c Q A D nL cells slots (rw ad ra2 ct ξ (st1 σ 0 15 v) (tW ra2 ct n2 (st1 σ 0 15 v))) (pc + 3) L S) : Sm p l e R s m args below meth c Q A D nL cells slots (rw ad ra2 ct ξ σ (tW ra2 ct n2 σ)) pc L (.int v :: .ref (ra2 1) :: S) := s_putN E in_X2 tyX2 tyX2_ok nmX2 3 rfl rfl 11 (Nat.le_of_ble_eq_true rfl) q195 rfl rfl rfl rfl (Nat.le_of_ble_eq_true rfl) (by first | rfl | (unfold rw tW; rw [lsF_st (by decide)]; rfl)) d K
set_option maxHeartbeats 4000000 in
set_option maxRecDepth 100000 in
theorem x6z_text {l : Launch} {D : va_G} {gt : Nat → Nat} {ad ra : Nat → Nat} {ct : Nat → ClassId} {n : Nat} {ξ σ : Nat → Nat → Int32} (f0 : Nat) (s0 T9 : Nat → Nat → Int32) (hl0 : lnF f0 s0 = T9) (hr0 : RL s0 σ) (hb0 : BT ξ (s0 1)) (hRB0 : RB s0) (hbb0 : BIb s0 σ) (hbk0 : BIk s0 σ) (hn0 : s0 3 17 = nI n) (hn60 : n ≤ 6) (hf0_ : tN (s0 0 16) + 1 - tN (s0 0 17) ≤ f0) : CrX l D gt yX6_text cX6_text 1 (.object RX2) 10 220 10515 83419 [.ref (ra 0)] (rw ad ra ct ξ σ (tW ra ct n σ)) (tysA ct) (fun u => T9 0 21 = 0 ∧ RL T9 u.2.2 ∧ RB T9 ∧ BIk T9 u.2.2 ∧ T9 3 17 = nI u.2.1 ∧ u.2.1 ≤ 6 ∧ ∀ k, k < 100 → u.1 k = ra k) (fun u => u.1 1) (fun u : ((Nat → Nat) × Nat × (Nat → Nat → Int32)) => rw ad u.1 ct ξ u.2.2 (tW u.1 ct u.2.1 u.2.2)) (fun _ => tysA ct) (fun _ : Nat => ¬ T9 0 21 = 0) (fun q : Nat => xtW ad ct ξ ++ [faultC q (T9 0 21) (T9 0 22)]) (fun _ => tysA ct) (fun q => q) (fun _ => RX7) := by
  refine CrX.start (Or.inl ⟨_, rfl⟩) RX6 (by decide) rfl (Nat.le_of_ble_eq_true rfl) rfl ?_
  intro pP eE sS mM aA bB hM cC QQ AA E Rt Tt
  obtain ⟨ra0, hra0⟩ : ∃ z, z = ra := ⟨_, rfl⟩
  have L0 : ∀ (fuel : Nat) (f : Nat) (w1 : Nat → Nat → Int32) (ra : Nat → Nat) (n : Nat) (σ : Nat → Nat → Int32), (lnF f w1 = T9) → (RL w1 σ) → (BT ξ (w1 1)) → (RB w1) → (BIb w1 σ) → (BIk w1 σ) → (w1 3 17 = nI n) → (n ≤ 6) → (tN (w1 0 16) + 1 - tN (w1 0 17) ≤ f) → (∀ k, k < 100 → ra k = ra0 k) → f < fuel → Sm pP l eE { frames := 10, cells := 10515, slots := 83419, locals := 220 } sS mM aA bB hM cC QQ AA D 1 (15 * tN (w1 0 17)) (119 * tN (w1 0 17)) (rw ad ra ct ξ σ (tW ra ct n σ)) 0 [(0, .ref (ra 0))] [] := by
    intro fuel
    induction fuel with
    | zero =>
      intro f w1 ra n σ hl hr hb hRB hbb hbk hn hn6 hf hra hf0
      exact absurd hf0 (Nat.not_lt_zero _)
    | succ fuel ih0 =>
      intro f w1 ra n σ hl hr hb hRB hbb hbk hn hn6 hf hra hf0
      have hn7 : tN (w1 0 16) ≤ 700 := by have := hr.1.1.1.2; omega
      have han : tN (w1 0 17) ≤ tN (w1 0 16) := by have := hr.1.1.2.1.2; omega
      have h0 := hr.2.1
      have hkd := hr.2.2.2.2.2.1
      have h18 := hr.2.2.2.2.1
      have hnn : tN (w1 3 17) = n := by rw [hn, tN_nI (by omega)]
      refine s_aload_n E dX6_text_0 (i := 0) (j := 0) rfl rfl ?_
      refine twX6_gR_3 E (v := σ 0 19) (rfl) dX6_text_1 ?_
      refine s_if_eq E dX6_text_4 (tgt := 71) rfl (fun c4 => ?_) (fun c4 => ?_)
      · have c4 : w1 0 19 = nI 4 := hkd.k3.2.2.2.2.mp c4
        refine s_aload_n E dX6_text_71 (i := 0) (j := 0) rfl rfl ?_
        refine twX6_gR_1 E dX6_text_72 ?_
        exact Rt (ra 1) ((ra, n, σ)) dX6_text_75 (by have eT : w1 = T9 := (lnF_stop (fun h => h.2 c4)).symm.trans hl; rw [← eT]; exact ⟨h0, hr, hRB, hbk, hn, hn6, fun k hk => (hra k hk).trans (congrFun hra0 k)⟩) rfl rfl (by first | exact Nat.le_refl _ | omega) (by first | exact Nat.le_refl _ | omega) E.2.2.2.2.2.1
      · have c4 : ¬ w1 0 19 = nI 4 := fun h => c4 (hkd.k3.2.2.2.2.mpr h)
        obtain ⟨g, rfl⟩ : ∃ g, f = g + 1 := ⟨f - 1, by omega⟩
        have hst : lnF g (lineS n w1) = T9 := by rw [← hl, lnF_step h0 c4, hnn]
        refine s_aload_n E dX6_text_7 (i := 0) (j := 0) rfl rfl ?_
        refine s_aload_n E dX6_text_8 (i := 0) (j := 0) rfl rfl ?_
        refine twX6_gR_3 E (v := σ 0 19) (rfl) dX6_text_9 ?_
        refine s_iconst E dX6_text_12 (v := nI 1) (by decide) ?_
        have J21 : Sm pP l eE { frames := 10, cells := 10515, slots := 83419, locals := 220 } sS mM aA bB hM cC QQ AA D 1 (15 * tN (w1 0 17)) (119 * tN (w1 0 17)) (rw ad ra ct ξ σ (tW ra ct n σ)) 21 [(0, .ref (ra 0))] [.int (bI (w1 0 19 = nI 0)), .ref (ra 0)] := by
          refine s_iconst E dX6_text_21 (v := nI 1) (by decide) ?_
          refine cx_gov E (rVX E (cutS _ _) (x6z_must (w1 0 19 = nI 0) (nI 1)) K_X6_96 (Nat.le_of_ble_eq_true rfl) (Nat.le_of_ble_eq_true rfl) (by show _ ≤ 10515; omega) (by show _ ≤ 83419; omega) 0 rfl rfl rfl rfl (Nat.le_of_ble_eq_true rfl) dX6_text_22) (fun qX hX => ?_) (fun w22 h22 => ?_)
          · exact Tt qX (by rw [← hst, lnF_f (line_x h0 hX).2.2]; exact (line_x h0 hX).2.2) (congrArg (fun z => xtW ad ct ξ ++ [z]) (by rw [← hst, lnF_f (line_x (n := n) h0 hX).2.2, (line_x (n := n) h0 hX).1, (line_x (n := n) h0 hX).2.1, h18])) (by show _ ≤ 10515; omega) (by show _ ≤ 83419; omega) E.2.2.2.2.2.1
          obtain ⟨hA, rfl⟩ := h22
          obtain ⟨x, hx11, hx1, hx2⟩ := hkd.key hA
          refine s_aload_n E dX6_text_25 (i := 0) (j := 0) rfl rfl ?_
          refine s_aload_n E dX6_text_26 (i := 0) (j := 0) rfl rfl ?_
          refine twX6_gR_4 E (v := nI ((kp x))) (hx2) dX6_text_27 ?_
          refine cx_gov E (rVX E (cutS _ _) (x6z_line w1 (kp x) (tN (w1 3 18)) (tN (w1 3 10)) (hb) (hr) (hn6) (hn) ((kq_kp x hx11).2) (hA) (by rw [(kq_kp x hx11).1]; exact hx1) (hRB.1.2.1.1) (by have := hRB.1.2.1.2; omega) (hRB.1.2.2.1.1) (by have := hRB.1.2.2.1.2; omega) (by have := hRB.1.2.2.2.1; omega) (fun k hk => ((hRB.2.1 k (by rw [hn, tN_nI (by omega)]; exact hk)).2.2.2.2.2.1).mono (by decide)) (fun k hk => (hRB.2.1 k (by rw [hn, tN_nI (by omega)]; exact hk)).2.2.2.2.2.2) (hRB.2.2.1) (hbb) (hbk)) K_X6_100 (Nat.le_of_ble_eq_true rfl) (Nat.le_of_ble_eq_true rfl) (by show _ ≤ 10515; omega) (by show _ ≤ 83419; omega) 0 rfl rfl rfl rfl (Nat.le_of_ble_eq_true rfl) dX6_text_30) (fun qX hX => ?_) (fun w30 h30 => ?_)
          · exact Tt qX (by rw [← hst, lnF_f (line_f hX).2.2]; exact (line_f hX).2.2) (congrArg (fun z => xtW ad ct ξ ++ [z]) (by rw [← hst, lnF_f (line_f hX).2.2, (line_f hX).1, (line_f hX).2.1])) (by show _ ≤ 10515; omega) (by show _ ≤ 83419; omega) E.2.2.2.2.2.1
          obtain ⟨ra2, n2, σ2⟩ := w30
          obtain ⟨p1, p2, p3, p4, p5, hn26, p6⟩ := h30
          have p2 : RL (lnW n w1) σ2 := p2
          have p3 : BIb (lnW n w1) σ2 := p3
          have p4 : BIk (lnW n w1) σ2 := p4
          have p5 : lnW n w1 3 17 = nI n2 := p5
          have hn26 : n2 ≤ 6 := hn26
          have p6 : ∀ k, k < 100 → ra2 k = ra k := p6
          have hk2 := p2.2.2.2.2.2.1
          refine s_ws (ws2 := rw ad ra2 ct ξ σ2 (tW ra2 ct n2 σ2)) rfl ?_
          refine s_L (L2 := [(0, .ref (ra2 0))]) (by rw [p6 0 (by decide)]) ?_
          refine s_aload_n E dX6_text_33 (i := 0) (j := 0) rfl rfl ?_
          refine s_aload_n E dX6_text_34 (i := 0) (j := 0) rfl rfl ?_
          refine txX6_gR_3 E (v := σ2 0 19) (rfl) dX6_text_35 ?_
          refine s_iconst E dX6_text_38 (v := nI 4) (by decide) ?_
          have J47 : Sm pP l eE { frames := 10, cells := 10515, slots := 83419, locals := 220 } sS mM aA bB hM cC QQ AA D 1 ((15 * tN (w1 0 17)) + 1 + 13) ((119 * tN (w1 0 17)) + 8 + 103) (rw ad ra2 ct ξ σ2 (tW ra2 ct n2 σ2)) 47 [(0, .ref (ra2 0))] [.int (bI (lnW n w1 0 19 = nI 3)), .ref (ra2 0)] := by
            refine s_iconst E dX6_text_47 (v := nI 1) (by decide) ?_
            refine cx_gov E (rVX E (cutS _ _) (x6z_must (lnW n w1 0 19 = nI 3) (nI 1)) K_X6_96 (Nat.le_of_ble_eq_true rfl) (Nat.le_of_ble_eq_true rfl) (by show _ ≤ 10515; omega) (by show _ ≤ 83419; omega) 0 rfl rfl rfl rfl (Nat.le_of_ble_eq_true rfl) dX6_text_48) (fun qX hX => ?_) (fun w48 h48 => ?_)
            · exact Tt qX (by rw [← hst, lnF_f (line_1 p1 hX).2.2]; exact (line_1 p1 hX).2.2) (congrArg (fun z => xtW ad ct ξ ++ [z]) (by rw [← hst, lnF_f (line_1 p1 hX).2.2, (line_1 p1 hX).1, (line_1 p1 hX).2.1, p2.2.2.2.2.1])) (by show _ ≤ 10515; omega) (by show _ ≤ 83419; omega) E.2.2.2.2.2.1
            obtain ⟨hS, rfl⟩ := h48
            refine s_aload_n E dX6_text_51 (i := 0) (j := 0) rfl rfl ?_
            refine c_gov0 E (rV E (cutS _ _) (x6z_take ((lnW n w1) 1) (tN ((lnW n w1) 0 16)) (tN ((lnW n w1) 0 17)) (by rw [lnW_1 hRB.1.2.2.1.1]; exact hb) (p2.2.2.1.trans p2.1.1.1.1) (by have := p2.1.1.1.2; omega) (p2.2.2.2.1.trans p2.1.1.2.1.1) (by have := p2.1.1.2.1.2; omega)) K_X6_29 (Nat.le_of_ble_eq_true rfl) (Nat.le_of_ble_eq_true rfl) (by show _ ≤ 10515; omega) (by show _ ≤ 83419; omega) 0 rfl rfl rfl rfl (Nat.le_of_ble_eq_true rfl) dX6_text_52) (fun w52 h52 => ?_)
            subst h52
            refine s_ws (ws2 := rw ad ra2 ct ξ (setT σ2 (tokX ((lnW n w1) 1) (tN ((lnW n w1) 0 16)) (tN ((lnW n w1) 0 17)) (σ2 0 20))) (tW ra2 ct n2 (setT σ2 (tokX ((lnW n w1) 1) (tN ((lnW n w1) 0 16)) (tN ((lnW n w1) 0 17)) (σ2 0 20))))) (congrArg (rw ad ra2 ct ξ _) (tW_rf RF.set)) ?_
            obtain ⟨W9, hW9⟩ : ∃ z, z = tokS (lnW n w1) := ⟨_, rfl⟩
            obtain ⟨σ3, hσ3⟩ : ∃ z, z = setT σ2 (tokX ((lnW n w1) 1) (tN ((lnW n w1) 0 16)) (tN ((lnW n w1) 0 17)) (σ2 0 20)) := ⟨_, rfl⟩
            have hr3 : RL W9 σ3 := by rw [hW9, hσ3]; exact p2.tok
            have hf3 : RF σ2 σ3 := by rw [hσ3]; exact RF.set
            refine s_ws (ws2 := rw ad ra2 ct ξ σ3 (tW ra2 ct n2 σ3)) (by rw [hσ3]) ?_
            refine s_aload_n E dX6_text_55 (i := 0) (j := 0) rfl rfl ?_
            refine txX6_gR_1 E dX6_text_56 ?_
            refine s_dup E dX6_text_59 rfl ?_
            refine txX6_gV_11 E (v := W9 0 15) (hr3.2.2.2.2.2.2.2.2) dX6_text_60 ?_
            refine s_iconst E dX6_text_63 (v := nI 1) (by decide) ?_
            refine s_iadd E dX6_text_64 ?_
            refine txX6_pV_11 E dX6_text_65 ?_
            refine s_goto E dX6_text_68 (tgt := 0) rfl ?_
            obtain ⟨w9, hw9⟩ : ∃ z, z = lineS n w1 := ⟨_, rfl⟩
            have e9 : w9 = st1 W9 0 15 (W9 0 15 + nI 1) := by rw [hw9, hW9]; exact line_s p1 hS
            have hgo : tN (w1 0 17) < tN (w9 0 17) := by rw [hw9]; exact line_go hr.1 (by rw [← hw9, e9, st1_nj (by decide)]; exact hr3.2.1)
            have h16 : w9 0 16 = w1 0 16 := by rw [hw9]; exact (Re.line.2 hr.1).2.2
            obtain ⟨σ4, hσ4⟩ : ∃ z, z = st1 σ3 0 15 ((W9 0 15) + (nI 1)) := ⟨_, rfl⟩
            have hr4 : RL w9 σ4 := by rw [e9, hσ4]; exact hr3.x15
            have e9r : ∀ r, r ≠ 0 → w9 r = lnW n w1 r := fun r h => by rw [e9, st1_ne h, hW9, tokS_r h]
            refine s_ws (ws2 := rw ad ra2 ct ξ σ4 (tW ra2 ct n2 σ4)) (by rw [hσ4]) ?_
            refine s_widen (k := 15 * tN (w9 0 17)) (n := 119 * tN (w9 0 17)) (by omega) (by omega) ?_
            exact ih0 g w9 ra2 n2 σ4 (by rw [hw9]; exact hst) (hr4) (by rw [e9r 1 (by decide), lnW_1 hRB.1.2.2.1.1]; exact hb) (by rw [hw9]; exact hRB.line hn hn6 p1) (p3.cg (e9r 4 (by decide)) (by rw [hσ4, st1_nj (by decide), hf3.2 30 (by decide)])) (p4.cg (e9r 13 (by decide)) (by rw [hσ4, st1_ne (by decide), hf3.1 31 (by decide)]) (by rw [e9r 3 (by decide)])) (by rw [e9r 3 (by decide)]; exact p5) (hn26) (by rw [h16]; omega) (fun k hk => (p6 k hk).trans (hra k hk)) (by omega)
          refine s_icmp_ne E dX6_text_39 (tgt := 46) rfl (fun c39 => ?_) (fun c39 => ?_)
          · have c39 : ¬ lnW n w1 0 19 = nI 3 := fun h => c39 (hk2.k3.2.2.2.1.mpr h)
            refine s_iconst E dX6_text_46 (v := nI 0) (by decide) ?_
            refine s_top (v2 := bI (lnW n w1 0 19 = nI 3)) ((bI_f c39).symm) ?_
            exact J47
          · have c39 : lnW n w1 0 19 = nI 3 := hk2.k3.2.2.2.1.mp c39
            refine s_iconst E dX6_text_42 (v := nI 1) (by decide) ?_
            refine s_goto E dX6_text_43 (tgt := 47) rfl ?_
            refine s_top (v2 := bI (lnW n w1 0 19 = nI 3)) ((bI_t c39).symm) ?_
            exact J47
        refine s_icmp_ne E dX6_text_13 (tgt := 20) rfl (fun c13 => ?_) (fun c13 => ?_)
        · have c13 : ¬ w1 0 19 = nI 0 := fun h => c13 (hkd.k3.2.2.1.mpr h)
          refine s_iconst E dX6_text_20 (v := nI 0) (by decide) ?_
          refine s_top (v2 := bI (w1 0 19 = nI 0)) ((bI_f c13).symm) ?_
          exact J21
        · have c13 : w1 0 19 = nI 0 := hkd.k3.2.2.1.mp c13
          refine s_iconst E dX6_text_16 (v := nI 1) (by decide) ?_
          refine s_goto E dX6_text_17 (tgt := 21) rfl ?_
          refine s_top (v2 := bI (w1 0 19 = nI 0)) ((bI_t c13).symm) ?_
          exact J21
  refine s_widen (k := 15 * tN (s0 0 17)) (n := 119 * tN (s0 0 17)) (by omega) (by omega) ?_
  exact L0 (_ + 1) f0 s0 ra n σ (hl0) (hr0) (hb0) (hRB0) (hbb0) (hbk0) (hn0) (hn60) (hf0_) (fun k _ => by rw [hra0]) (Nat.lt_succ_self _)
