set_option maxRecDepth 100000
theorem twX6_gV_12 {p : Program} {l : Launch} {e : Env} {R : Room} {s : State} {m : MethodId} {args : Array Value} {below : List Frame} {meth : Method} {c : Code} {Q : State → Prop} {A : Nat → Prop} {D : va_G} {nL cells slots : Nat} {pc : Nat} {L : List (Nat × Value)} {S : List Value} {cc : ByteArray} {ret : Option FieldType} {gt : Nat → Nat} {ad ra : Nat → Nat} {ct : Nat → ClassId} {n : Nat} {ξ σ : Nat → Nat → Int32} (E : En p s m args meth c A cc nL RX6 ret D (tysA ct) gt) {v : Int32} (hv : σ 0 30 = v) (d : decode cc pc = .ok (.getfield 126, 3)) (K : Sm p l e R s m args below meth c Q A D nL cells slots (rw ad ra ct ξ σ (tW ra ct n σ)) (pc + 3) L (.int v :: S)) : Sm p l e R s m args below meth c Q A D nL cells slots (rw ad ra ct ξ σ (tW ra ct n σ)) pc L (.ref (ra 1) :: S) := s_getN E in_X2 3 rfl rfl 12 (Nat.le_of_ble_eq_true rfl) q196 (congrArg (fun z => some (Value.int z)) hv) rfl d K
theorem twX6_pV_12 {p : Program} {l : Launch} {e : Env} {R : Room} {s : State} {m : MethodId} {args : Array Value} {below : List Frame} {meth : Method} {c : Code} {Q : State → Prop} {A : Nat → Prop} {D : va_G} {nL cells slots : Nat} {pc : Nat} {L : List (Nat × Value)} {S : List Value} {cc : ByteArray} {ret : Option FieldType} {gt : Nat → Nat} {ad ra : Nat → Nat} {ct : Nat → ClassId} {n : Nat} {ξ σ : Nat → Nat → Int32} (E : En p s m args meth c A cc nL RX6 ret D (tysA ct) gt) {v : Int32} (d : decode cc pc = .ok (.putfield 126, 3)) (K : Sm p l e R s m args below meth c Q A D nL cells slots (rw ad ra ct ξ (st1 σ 0 30 v) (tW ra ct n (st1 σ 0 30 v))) (pc + 3) L S) : Sm p l e R s m args below meth c Q A D nL cells slots (rw ad ra ct ξ σ (tW ra ct n σ)) pc L (.int v :: .ref (ra 1) :: S) := s_putN E in_X2 tyX2 tyX2_ok nmX2 3 rfl rfl 12 (Nat.le_of_ble_eq_true rfl) q196 rfl rfl rfl rfl (Nat.le_of_ble_eq_true rfl) (by first | rfl | (unfold rw tW; rw [lsF_st (by decide)]; rfl)) d K
theorem twX6_pV_6 {p : Program} {l : Launch} {e : Env} {R : Room} {s : State} {m : MethodId} {args : Array Value} {below : List Frame} {meth : Method} {c : Code} {Q : State → Prop} {A : Nat → Prop} {D : va_G} {nL cells slots : Nat} {pc : Nat} {L : List (Nat × Value)} {S : List Value} {cc : ByteArray} {ret : Option FieldType} {gt : Nat → Nat} {ad ra : Nat → Nat} {ct : Nat → ClassId} {n : Nat} {ξ σ : Nat → Nat → Int32} (E : En p s m args meth c A cc nL RX6 ret D (tysA ct) gt) {v : Int32} (d : decode cc pc = .ok (.putfield 132, 3)) (K : Sm p l e R s m args below meth c Q A D nL cells slots (rw ad ra ct ξ (st1 σ 3 10 v) (tW ra ct n (st1 σ 3 10 v))) (pc + 3) L S) : Sm p l e R s m args below meth c Q A D nL cells slots (rw ad ra ct ξ σ (tW ra ct n σ)) pc L (.int v :: .ref (ra 1) :: S) := s_putN E in_X2 tyX2 tyX2_ok nmX2 3 rfl rfl 6 (Nat.le_of_ble_eq_true rfl) q179 rfl rfl rfl rfl (Nat.le_of_ble_eq_true rfl) (by first | rfl | (unfold rw tW; rw [lsF_st (by decide)]; rfl)) d K
theorem twX6_pV_7 {p : Program} {l : Launch} {e : Env} {R : Room} {s : State} {m : MethodId} {args : Array Value} {below : List Frame} {meth : Method} {c : Code} {Q : State → Prop} {A : Nat → Prop} {D : va_G} {nL cells slots : Nat} {pc : Nat} {L : List (Nat × Value)} {S : List Value} {cc : ByteArray} {ret : Option FieldType} {gt : Nat → Nat} {ad ra : Nat → Nat} {ct : Nat → ClassId} {n : Nat} {ξ σ : Nat → Nat → Int32} (E : En p s m args meth c A cc nL RX6 ret D (tysA ct) gt) {v : Int32} (d : decode cc pc = .ok (.putfield 135, 3)) (K : Sm p l e R s m args below meth c Q A D nL cells slots (rw ad ra ct ξ (st1 σ 3 11 v) (tW ra ct n (st1 σ 3 11 v))) (pc + 3) L S) : Sm p l e R s m args below meth c Q A D nL cells slots (rw ad ra ct ξ σ (tW ra ct n σ)) pc L (.int v :: .ref (ra 1) :: S) := s_putN E in_X2 tyX2 tyX2_ok nmX2 3 rfl rfl 7 (Nat.le_of_ble_eq_true rfl) q182 rfl rfl rfl rfl (Nat.le_of_ble_eq_true rfl) (by first | rfl | (unfold rw tW; rw [lsF_st (by decide)]; rfl)) d K
theorem twX6_pV_8 {p : Program} {l : Launch} {e : Env} {R : Room} {s : State} {m : MethodId} {args : Array Value} {below : List Frame} {meth : Method} {c : Code} {Q : State → Prop} {A : Nat → Prop} {D : va_G} {nL cells slots : Nat} {pc : Nat} {L : List (Nat × Value)} {S : List Value} {cc : ByteArray} {ret : Option FieldType} {gt : Nat → Nat} {ad ra : Nat → Nat} {ct : Nat → ClassId} {n : Nat} {ξ σ : Nat → Nat → Int32} (E : En p s m args meth c A cc nL RX6 ret D (tysA ct) gt) {v : Int32} (d : decode cc pc = .ok (.putfield 138, 3)) (K : Sm p l e R s m args below meth c Q A D nL cells slots (rw ad ra ct ξ (st1 σ 3 12 v) (tW ra ct n (st1 σ 3 12 v))) (pc + 3) L S) : Sm p l e R s m args below meth c Q A D nL cells slots (rw ad ra ct ξ σ (tW ra ct n σ)) pc L (.int v :: .ref (ra 1) :: S) := s_putN E in_X2 tyX2 tyX2_ok nmX2 3 rfl rfl 8 (Nat.le_of_ble_eq_true rfl) q186 rfl rfl rfl rfl (Nat.le_of_ble_eq_true rfl) (by first | rfl | (unfold rw tW; rw [lsF_st (by decide)]; rfl)) d K
theorem twX6_pV_9 {p : Program} {l : Launch} {e : Env} {R : Room} {s : State} {m : MethodId} {args : Array Value} {below : List Frame} {meth : Method} {c : Code} {Q : State → Prop} {A : Nat → Prop} {D : va_G} {nL cells slots : Nat} {pc : Nat} {L : List (Nat × Value)} {S : List Value} {cc : ByteArray} {ret : Option FieldType} {gt : Nat → Nat} {ad ra : Nat → Nat} {ct : Nat → ClassId} {n : Nat} {ξ σ : Nat → Nat → Int32} (E : En p s m args meth c A cc nL RX6 ret D (tysA ct) gt) {v : Int32} (d : decode cc pc = .ok (.putfield 141, 3)) (K : Sm p l e R s m args below meth c Q A D nL cells slots (rw ad ra ct ξ (st1 σ 3 13 v) (tW ra ct n (st1 σ 3 13 v))) (pc + 3) L S) : Sm p l e R s m args below meth c Q A D nL cells slots (rw ad ra ct ξ σ (tW ra ct n σ)) pc L (.int v :: .ref (ra 1) :: S) := s_putN E in_X2 tyX2 tyX2_ok nmX2 3 rfl rfl 9 (Nat.le_of_ble_eq_true rfl) q190 rfl rfl rfl rfl (Nat.le_of_ble_eq_true rfl) (by first | rfl | (unfold rw tW; rw [lsF_st (by decide)]; rfl)) d K
theorem twX6_gV_2 {p : Program} {l : Launch} {e : Env} {R : Room} {s : State} {m : MethodId} {args : Array Value} {below : List Frame} {meth : Method} {c : Code} {Q : State → Prop} {A : Nat → Prop} {D : va_G} {nL cells slots : Nat} {pc : Nat} {L : List (Nat × Value)} {S : List Value} {cc : ByteArray} {ret : Option FieldType} {gt : Nat → Nat} {ad ra : Nat → Nat} {ct : Nat → ClassId} {n : Nat} {ξ σ : Nat → Nat → Int32} (E : En p s m args meth c A cc nL RX6 ret D (tysA ct) gt) (d : decode cc pc = .ok (.getfield 144, 3)) (K : Sm p l e R s m args below meth c Q A D nL cells slots (rw ad ra ct ξ σ (tW ra ct n σ)) (pc + 3) L (.ref (ra 4) :: S)) : Sm p l e R s m args below meth c Q A D nL cells slots (rw ad ra ct ξ σ (tW ra ct n σ)) pc L (.ref (ra 1) :: S) := s_getN E in_X2 3 rfl rfl 2 (Nat.le_of_ble_eq_true rfl) q163 rfl rfl d K
theorem twX6_pV_10 {p : Program} {l : Launch} {e : Env} {R : Room} {s : State} {m : MethodId} {args : Array Value} {below : List Frame} {meth : Method} {c : Code} {Q : State → Prop} {A : Nat → Prop} {D : va_G} {nL cells slots : Nat} {pc : Nat} {L : List (Nat × Value)} {S : List Value} {cc : ByteArray} {ret : Option FieldType} {gt : Nat → Nat} {ad ra : Nat → Nat} {ct : Nat → ClassId} {n : Nat} {ξ σ : Nat → Nat → Int32} (E : En p s m args meth c A cc nL RX6 ret D (tysA ct) gt) {v : Int32} (d : decode cc pc = .ok (.putfield 149, 3)) (K : Sm p l e R s m args below meth c Q A D nL cells slots (rw ad ra ct ξ (st1 σ 3 19 v) (tW ra ct n (st1 σ 3 19 v))) (pc + 3) L S) : Sm p l e R s m args below meth c Q A D nL cells slots (rw ad ra ct ξ σ (tW ra ct n σ)) pc L (.int v :: .ref (ra 1) :: S) := s_putN E in_X2 tyX2 tyX2_ok nmX2 3 rfl rfl 10 (Nat.le_of_ble_eq_true rfl) q192 rfl rfl rfl rfl (Nat.le_of_ble_eq_true rfl) (by first | rfl | (unfold rw tW; rw [lsF_st (by decide)]; rfl)) d K
theorem twX6_pR_6 {p : Program} {l : Launch} {e : Env} {R : Room} {s : State} {m : MethodId} {args : Array Value} {below : List Frame} {meth : Method} {c : Code} {Q : State → Prop} {A : Nat → Prop} {D : va_G} {nL cells slots : Nat} {pc : Nat} {L : List (Nat × Value)} {S : List Value} {cc : ByteArray} {ret : Option FieldType} {gt : Nat → Nat} {ad ra : Nat → Nat} {ct : Nat → ClassId} {n : Nat} {ξ σ : Nat → Nat → Int32} (E : En p s m args meth c A cc nL RX6 ret D (tysA ct) gt) {v : Int32} (hn : narrow .boolean (.int v) = .int v) (hf : fits .boolean (.int v) = true) (d : decode cc pc = .ok (.putfield 107, 3)) (K : Sm p l e R s m args below meth c Q A D nL cells slots (rw ad ra ct ξ (st1 σ 0 14 v) (tW ra ct n (st1 σ 0 14 v))) (pc + 3) L S) : Sm p l e R s m args below meth c Q A D nL cells slots (rw ad ra ct ξ σ (tW ra ct n σ)) pc L (.int v :: .ref (ra 0) :: S) := s_put E in_X6 tyX6 tyX6_ok nmX6 0 rfl rfl 6 (Nat.le_of_ble_eq_true rfl) q597 rfl rfl hn hf (Nat.le_of_ble_eq_true rfl) rfl d K
theorem K_X6_111 : KV RX6 111 RX6 yX6_user cX6_user 5 none 0 := ⟨q698, q700, qs10, q118, q701, by decide +kernel⟩
theorem K_X6_114 : KV RX6 114 RX6 yX6_fixed cX6_fixed 2 none 0 := ⟨q748, q750, qs12, q118, q751, by decide +kernel⟩
theorem K_X6_117 : KV RX6 117 RX6 yX6_block cX6_block 2 none 0 := ⟨q756, q758, qs14, q118, q759, by decide +kernel⟩
theorem K_X6_120 : KV RX6 120 RX6 yX6_link cX6_link 4 none 0 := ⟨q760, q762, qs15, q118, q763, by decide +kernel⟩
theorem K_X6_123 : KV RX6 123 RX6 yX6_slots cX6_slots 2 none 0 := ⟨q764, q766, qs16, q118, q767, by decide +kernel⟩
theorem twX6_gR_6 {p : Program} {l : Launch} {e : Env} {R : Room} {s : State} {m : MethodId} {args : Array Value} {below : List Frame} {meth : Method} {c : Code} {Q : State → Prop} {A : Nat → Prop} {D : va_G} {nL cells slots : Nat} {pc : Nat} {L : List (Nat × Value)} {S : List Value} {cc : ByteArray} {ret : Option FieldType} {gt : Nat → Nat} {ad ra : Nat → Nat} {ct : Nat → ClassId} {n : Nat} {ξ σ : Nat → Nat → Int32} (E : En p s m args meth c A cc nL RX6 ret D (tysA ct) gt) {v : Int32} (hv : σ 0 14 = v) (d : decode cc pc = .ok (.getfield 107, 3)) (K : Sm p l e R s m args below meth c Q A D nL cells slots (rw ad ra ct ξ σ (tW ra ct n σ)) (pc + 3) L (.int v :: S)) : Sm p l e R s m args below meth c Q A D nL cells slots (rw ad ra ct ξ σ (tW ra ct n σ)) pc L (.ref (ra 0) :: S) := s_get E in_X6 0 rfl rfl 6 (Nat.le_of_ble_eq_true rfl) q597 (congrArg (fun z => some (Value.int z)) hv) rfl d K
set_option maxHeartbeats 6000000 in
set_option maxRecDepth 100000 in
theorem x6z_line {l : Launch} {D : va_G} {gt : Nat → Nat} {ad ra : Nat → Nat} {ct : Nat → ClassId} {n : Nat} {ξ σ : Nat → Nat → Int32} (s : Nat → Nat → Int32) (v m B : Nat) (hb : BT ξ (s 1)) (hr : RL s σ) (hn6 : n ≤ 6) (hn : s 3 17 = nI n) (hv : v < 11) (h19 : s 0 19 = 0) (h20 : s 0 20 = nI (kq v)) (hm : s 3 18 = nI m) (hm6 : m ≤ 6) (hB : s 3 10 = nI B) (hB60 : B ≤ 60) (hB1 : 1 ≤ B) (hi10 : ∀ k, k < n → In (s 10 (6 + k)) 256) (hi11 : ∀ k, k < n → In (s 11 (6 + k)) 256) (hlk : ∀ j, j < 9 → s 12 (9 + j) = -2 ∨ ¬ s 12 (9 + j) < 0) (hbb : BIb s σ) (hbk : BIk s σ) : CvX l D gt yX6_line cX6_line 3 9 198 13 103 [.ref (ra 0), .int (nI v)] (rw ad ra ct ξ σ (tW ra ct n σ)) (tysA ct) (fun u => (lnW n s) 0 21 = 0 ∧ RL (lnW n s) u.2.2 ∧ BIb (lnW n s) u.2.2 ∧ BIk (lnW n s) u.2.2 ∧ (lnW n s) 3 17 = nI u.2.1 ∧ u.2.1 ≤ 6 ∧ ∀ k, k < 100 → u.1 k = ra k) (fun u : ((Nat → Nat) × Nat × (Nat → Nat → Int32)) => rw ad u.1 ct ξ u.2.2 (tW u.1 ct u.2.1 u.2.2)) (fun _ => tysA ct) (fun _ : Nat => ¬ (lnW n s) 0 21 = 0) (fun q : Nat => xtW ad ct ξ ++ [faultC q ((lnW n s) 0 21) ((lnW n s) 0 22)]) (fun _ => tysA ct) (fun q => q) (fun _ => RX7) := by
  refine CvX.start RX6 (by decide) rfl (Nat.le_of_ble_eq_true rfl) rfl ?_
  intro pP eE sS mM aA bB hM cC QQ AA E Rt Tt
  have hz := hr.2.2.1.trans hr.1.1.1.1
  have hn7 : tN (s 0 16) ≤ 700 := by have := hr.1.1.1.2; omega
  have h17 := hr.2.2.2.1.trans hr.1.1.2.1.1
  have han : tN (s 0 17) ≤ tN (s 0 16) := by have := hr.1.1.2.1.2; omega
  have h0 := hr.2.1
  have hkd := hr.2.2.2.2.2.1
  have h18 := hr.2.2.2.2.1
  refine s_aload_n E dX6_line_0 (i := 0) (j := 0) rfl rfl ?_
  refine s_iload_n E dX6_line_1 (i := 1) (j := 1) rfl rfl ?_
  have J17 : Sm pP l eE { frames := 9, cells := 13, slots := 103, locals := 198 } sS mM aA bB hM cC QQ AA D 3 0 0 (rw ad ra ct ξ σ (tW ra ct n σ)) 17 [(0, .ref (ra 0)), (1, .int (nI v))] [.int (bI (¬ (v = 0 ∧ ¬ s 0 14 = 0))), .ref (ra 0)] := by
    refine s_iconst E dX6_line_17 (v := nI 1) (by decide) ?_
    refine cx_gov E (rVX E (cutS _ _) (x6z_must (¬ (v = 0 ∧ ¬ s 0 14 = 0)) (nI 1)) K_X6_96 (Nat.le_of_ble_eq_true rfl) (Nat.le_of_ble_eq_true rfl) (by show _ ≤ 13; omega) (by show _ ≤ 103; omega) 0 rfl rfl rfl rfl (Nat.le_of_ble_eq_true rfl) dX6_line_18) (fun qX hX => ?_) (fun w18 h18 => ?_)
    · exact Tt qX (by obtain ⟨rfl, h14⟩ := Classical.not_not.mp hX; rw [ln_0 h19 h20]; exact (band_1 h0 h14).2.2) (congrArg (fun z => xtW ad ct ξ ++ [z]) (by obtain ⟨rfl, h14⟩ := Classical.not_not.mp hX; rw [ln_0 h19 h20, (band_1 h0 h14).1, (band_1 h0 h14).2.1, h18])) (by show _ ≤ 13; omega) (by show _ ≤ 103; omega) E.2.2.2.2.2.1
    obtain ⟨hP, rfl⟩ := h18
    obtain rfl | rfl | rfl | rfl | rfl | rfl | rfl | rfl | rfl | rfl | rfl : v = 0 ∨ v = 1 ∨ v = 2 ∨ v = 3 ∨ v = 4 ∨ v = 5 ∨ v = 6 ∨ v = 7 ∨ v = 8 ∨ v = 9 ∨ v = 10 := by omega
    · refine s_iload_n E dX6_line_21 (i := 1) (j := 1) rfl rfl ?_
      refine s_iconst E dX6_line_22 (v := nI 5) (by decide) ?_
      refine s_icmp_le E dX6_line_23 (tgt := 37) rfl (fun c23 => ?_) (fun c23 => absurd c23 (by decide))
      refine s_iload_n E dX6_line_37 (i := 1) (j := 1) rfl rfl ?_
      refine s_tableOut E dX6_line_38 (by decide) (tgt := 97) rfl ?_
      have eL : lnW n s = readOnceS 0 0 (nI 4) (nI 60) s := (ln_0 h19 h20).trans (band_ok (Classical.byContradiction fun z => hP ⟨rfl, z⟩))
      refine s_aload_n E dX6_line_97 (i := 0) (j := 0) rfl rfl ?_
      refine s_aload_n E dX6_line_98 (i := 0) (j := 0) rfl rfl ?_
      refine twX6_gR_1 E dX6_line_99 ?_
      refine twX6_gV_12 E (v := σ 0 30) (rfl) dX6_line_102 ?_
      refine s_iload_n E dX6_line_105 (i := 1) (j := 1) rfl rfl ?_
      refine s_ishr E dX6_line_106 ?_
      refine s_iconst E dX6_line_107 (v := nI 1) (by decide) ?_
      refine s_iand E dX6_line_108 ?_
      refine s_top (v2 := bI (¬ s 4 0 = 0)) (hbb.one (v := 0) (by decide)) ?_
      have J117 : Sm pP l eE { frames := 9, cells := 13, slots := 103, locals := 198 } sS mM aA bB hM cC QQ AA D 3 (0 + 1) (0 + 8) (rw ad ra ct ξ σ (tW ra ct n σ)) 117 [(0, .ref (ra 0)), (1, .int (nI 0))] [.int (bI (s 4 0 = 0)), .ref (ra 0)] := by
        refine s_iconst E dX6_line_117 (v := nI 3) (by decide) ?_
        refine cx_gov E (rVX E (cutS _ _) (x6z_must (s 4 0 = 0) (nI 3)) K_X6_96 (Nat.le_of_ble_eq_true rfl) (Nat.le_of_ble_eq_true rfl) (by show _ ≤ 13; omega) (by show _ ≤ 103; omega) 0 rfl rfl rfl rfl (Nat.le_of_ble_eq_true rfl) dX6_line_118) (fun qX hX => ?_) (fun w118 h118 => ?_)
        · exact Tt qX (by rw [eL]; exact (ro_3 h0 hX).2.2) (congrArg (fun z => xtW ad ct ξ ++ [z]) (by rw [eL, (ro_3 h0 hX).1, (ro_3 h0 hX).2.1, h18])) (by show _ ≤ 13; omega) (by show _ ≤ 103; omega) E.2.2.2.2.2.1
        obtain ⟨hZ, rfl⟩ := h118
        refine s_aload_n E dX6_line_121 (i := 0) (j := 0) rfl rfl ?_
        refine twX6_gR_1 E dX6_line_122 ?_
        refine s_dup E dX6_line_125 rfl ?_
        refine twX6_gV_12 E (v := σ 0 30) (rfl) dX6_line_126 ?_
        refine s_iconst E dX6_line_129 (v := nI 1) (by decide) ?_
        refine s_iload_n E dX6_line_130 (i := 1) (j := 1) rfl rfl ?_
        refine s_ishl E dX6_line_131 ?_
        refine s_ior E dX6_line_132 ?_
        refine twX6_pV_12 E dX6_line_133 ?_
        obtain ⟨w1, hw1⟩ : ∃ z, z = st1 σ 0 30 ((σ 0 30) ||| ((nI 1) <<< ((nI 0) &&& 31))) := ⟨_, rfl⟩
        have hr1 : RL (st1 s 4 0 (nI 1)) w1 := by rw [hw1]; exact hr.r4.x30
        refine s_ws (ws2 := rw ad ra ct ξ w1 (tW ra ct n w1)) (by rw [hw1]) ?_
        refine s_aload_n E dX6_line_136 (i := 0) (j := 0) rfl rfl ?_
        refine c_gov0 E (rV E (cutS _ _) (x6z_take ((st1 s 4 0 (nI 1)) 1) (tN ((st1 s 4 0 (nI 1)) 0 16)) (tN ((st1 s 4 0 (nI 1)) 0 17)) (by rw [st1_ne (by decide)]; exact hb) (hr1.2.2.1.trans hr1.1.1.1.1) (by have := hr1.1.1.1.2; omega) (hr1.2.2.2.1.trans hr1.1.1.2.1.1) (by have := hr1.1.1.2.1.2; omega)) K_X6_29 (Nat.le_of_ble_eq_true rfl) (Nat.le_of_ble_eq_true rfl) (by show _ ≤ 13; omega) (by show _ ≤ 103; omega) 0 rfl rfl rfl rfl (Nat.le_of_ble_eq_true rfl) dX6_line_137) (fun w137 h137 => ?_)
        subst h137
        refine s_ws (ws2 := rw ad ra ct ξ (setT w1 (tokX ((st1 s 4 0 (nI 1)) 1) (tN ((st1 s 4 0 (nI 1)) 0 16)) (tN ((st1 s 4 0 (nI 1)) 0 17)) (w1 0 20))) (tW ra ct n (setT w1 (tokX ((st1 s 4 0 (nI 1)) 1) (tN ((st1 s 4 0 (nI 1)) 0 16)) (tN ((st1 s 4 0 (nI 1)) 0 17)) (w1 0 20))))) (congrArg (rw ad ra ct ξ _) (tW_rf RF.set)) ?_
        obtain ⟨W, hW⟩ : ∃ z, z = tokS (st1 s 4 0 (nI 1)) := ⟨_, rfl⟩
        obtain ⟨w2, hw2⟩ : ∃ z, z = setT w1 (tokX ((st1 s 4 0 (nI 1)) 1) (tN ((st1 s 4 0 (nI 1)) 0 16)) (tN ((st1 s 4 0 (nI 1)) 0 17)) (w1 0 20)) := ⟨_, rfl⟩
        have hr2 : RL W w2 := by rw [hW, hw2]; exact hr1.tok
        have hf2 : RF w1 w2 := by rw [hw2]; exact RF.set
        have eO : onceS 0 s = W := by rw [hW]; exact once_ok h0 hZ
        have hbW : BT ξ (W 1) := by rw [hW, tokS_r (by decide), st1_ne (by decide)]; exact hb
        have hW4 : W 4 = upd (s 4) 0 (nI 1) := by rw [hW, tokS_r (by decide), st1_row]
        have hWq : ∀ r, r ≠ 0 → r ≠ 4 → W r = s r := fun r p q => by rw [hW, tokS_r p, st1_ne q]
        have h30 : w2 0 30 = σ 0 30 ||| (nI 1 <<< (nI 0 &&& 31)) := by rw [hf2.2 30 (by decide), hw1, st1_eq]
        have h31 : w2 31 = σ 31 := by rw [hf2.1 31 (by decide), hw1, st1_ne (by decide)]
        refine s_ws (ws2 := rw ad ra ct ξ w2 (tW ra ct n w2)) (by rw [hw2]) ?_
        refine s_iload_n E dX6_line_140 (i := 1) (j := 1) rfl rfl ?_
        refine s_tableIn E dX6_line_141 (off := 35) (tgt := 176) (by decide) (by decide) rfl rfl ?_
        refine s_aload_n E dX6_line_176 (i := 0) (j := 0) rfl rfl ?_
        refine twX6_gR_1 E dX6_line_177 ?_
        refine s_aload_n E dX6_line_180 (i := 0) (j := 0) rfl rfl ?_
        refine s_iconst E dX6_line_181 (v := nI 4) (by decide) ?_
        refine s_bipush E dX6_line_182 (v := nI 60) (by decide) ?_
        refine cx_goi E (rVX E (cutS _ _) (x6z_number W 4 60 (hbW) (hr2) (by decide) (by decide)) K_X6_129 (Nat.le_of_ble_eq_true rfl) (Nat.le_of_ble_eq_true rfl) (by show _ ≤ 13; omega) (by show _ ≤ 103; omega) 0 rfl rfl rfl rfl (Nat.le_of_ble_eq_true rfl) dX6_line_184) (fun qX hX => ?_) (fun r184 w184 h184 => ?_)
        · exact Tt qX (by rw [eL, ro_n eO]; exact hX) (congrArg (fun z => xtW ad ct ξ ++ [z]) (by rw [eL, ro_n eO, ro_n eO])) (by show _ ≤ 13; omega) (by show _ ≤ 103; omega) E.2.2.2.2.2.1
        obtain ⟨hN, e9, hr3, hf3⟩ := h184
        subst e9
        refine s_ws (ws2 := rw ad ra ct ξ w184 (tW ra ct n w184)) (congrArg (rw ad ra ct ξ _) (tW_rf hf3)) ?_
        refine twX6_pV_6 E dX6_line_187 ?_
        refine s_goto E dX6_line_190 (tgt := 289) rfl ?_
        exact Rt ((ra, n, st1 w184 3 10 (numV (nI 4) (nI 60) W))) dX6_line_289 (⟨by rw [eL, ro_n eO]; exact hN, by rw [eL, ro_of eO]; exact hr3.put (Or.inl rfl), hbb.put (v := 0) (by decide) hZ (by rw [eL, ro_o eO (by decide) (by decide), hW4]; rfl) (show (st1 w184 3 10 (numV (nI 4) (nI 60) W)) 0 30 = _ from by rw [st1_ne (by decide), hf3.2 30 (by decide), h30]), hbk.cg (by rw [eL, ro_o eO (by decide) (by decide), hWq 13 (by decide) (by decide)]) (show (st1 w184 3 10 (numV (nI 4) (nI 60) W)) 31 = _ from by rw [st1_ne (by decide), hf3.1 31 (by decide), h31]) (by rw [eL, ro_3j eO (by decide), hWq 3 (by decide) (by decide)]), by rw [eL, ro_3j eO (by decide), hWq 3 (by decide) (by decide)]; exact hn, hn6, fun _ _ => rfl⟩) rfl (by first | exact Nat.le_refl _ | omega) (by first | exact Nat.le_refl _ | omega) E.2.2.2.2.2.1
      refine s_if_ne E dX6_line_109 (tgt := 116) rfl (fun c109 => ?_) (fun c109 => ?_)
      · have c109 := bI_n0 c109
        refine s_iconst E dX6_line_116 (v := nI 0) (by decide) ?_
        refine s_top (v2 := bI (s 4 0 = 0)) ((bI_f c109).symm) ?_
        exact J117
      · have c109 := bI_0 c109
        refine s_iconst E dX6_line_112 (v := nI 1) (by decide) ?_
        refine s_goto E dX6_line_113 (tgt := 117) rfl ?_
        refine s_top (v2 := bI (s 4 0 = 0)) ((bI_t (Classical.not_not.mp c109)).symm) ?_
        exact J117
    · refine s_iload_n E dX6_line_21 (i := 1) (j := 1) rfl rfl ?_
      refine s_iconst E dX6_line_22 (v := nI 5) (by decide) ?_
      refine s_icmp_le E dX6_line_23 (tgt := 37) rfl (fun c23 => ?_) (fun c23 => absurd c23 (by decide))
      refine s_iload_n E dX6_line_37 (i := 1) (j := 1) rfl rfl ?_
      refine s_tableOut E dX6_line_38 (by decide) (tgt := 97) rfl ?_
      have eL : lnW n s = readOnceS 1 1 (nI 0) (nI 5) s := ln_1 h19 h20
      refine s_aload_n E dX6_line_97 (i := 0) (j := 0) rfl rfl ?_
      refine s_aload_n E dX6_line_98 (i := 0) (j := 0) rfl rfl ?_
      refine twX6_gR_1 E dX6_line_99 ?_
      refine twX6_gV_12 E (v := σ 0 30) (rfl) dX6_line_102 ?_
      refine s_iload_n E dX6_line_105 (i := 1) (j := 1) rfl rfl ?_
      refine s_ishr E dX6_line_106 ?_
      refine s_iconst E dX6_line_107 (v := nI 1) (by decide) ?_
      refine s_iand E dX6_line_108 ?_
      refine s_top (v2 := bI (¬ s 4 1 = 0)) (hbb.one (v := 1) (by decide)) ?_
      have J117 : Sm pP l eE { frames := 9, cells := 13, slots := 103, locals := 198 } sS mM aA bB hM cC QQ AA D 3 (0 + 1) (0 + 8) (rw ad ra ct ξ σ (tW ra ct n σ)) 117 [(0, .ref (ra 0)), (1, .int (nI 1))] [.int (bI (s 4 1 = 0)), .ref (ra 0)] := by
        refine s_iconst E dX6_line_117 (v := nI 3) (by decide) ?_
        refine cx_gov E (rVX E (cutS _ _) (x6z_must (s 4 1 = 0) (nI 3)) K_X6_96 (Nat.le_of_ble_eq_true rfl) (Nat.le_of_ble_eq_true rfl) (by show _ ≤ 13; omega) (by show _ ≤ 103; omega) 0 rfl rfl rfl rfl (Nat.le_of_ble_eq_true rfl) dX6_line_118) (fun qX hX => ?_) (fun w118 h118 => ?_)
        · exact Tt qX (by rw [eL]; exact (ro_3 h0 hX).2.2) (congrArg (fun z => xtW ad ct ξ ++ [z]) (by rw [eL, (ro_3 h0 hX).1, (ro_3 h0 hX).2.1, h18])) (by show _ ≤ 13; omega) (by show _ ≤ 103; omega) E.2.2.2.2.2.1
        obtain ⟨hZ, rfl⟩ := h118
        refine s_aload_n E dX6_line_121 (i := 0) (j := 0) rfl rfl ?_
        refine twX6_gR_1 E dX6_line_122 ?_
        refine s_dup E dX6_line_125 rfl ?_
        refine twX6_gV_12 E (v := σ 0 30) (rfl) dX6_line_126 ?_
        refine s_iconst E dX6_line_129 (v := nI 1) (by decide) ?_
        refine s_iload_n E dX6_line_130 (i := 1) (j := 1) rfl rfl ?_
        refine s_ishl E dX6_line_131 ?_
        refine s_ior E dX6_line_132 ?_
        refine twX6_pV_12 E dX6_line_133 ?_
        obtain ⟨w1, hw1⟩ : ∃ z, z = st1 σ 0 30 ((σ 0 30) ||| ((nI 1) <<< ((nI 1) &&& 31))) := ⟨_, rfl⟩
        have hr1 : RL (st1 s 4 1 (nI 1)) w1 := by rw [hw1]; exact hr.r4.x30
        refine s_ws (ws2 := rw ad ra ct ξ w1 (tW ra ct n w1)) (by rw [hw1]) ?_
        refine s_aload_n E dX6_line_136 (i := 0) (j := 0) rfl rfl ?_
        refine c_gov0 E (rV E (cutS _ _) (x6z_take ((st1 s 4 1 (nI 1)) 1) (tN ((st1 s 4 1 (nI 1)) 0 16)) (tN ((st1 s 4 1 (nI 1)) 0 17)) (by rw [st1_ne (by decide)]; exact hb) (hr1.2.2.1.trans hr1.1.1.1.1) (by have := hr1.1.1.1.2; omega) (hr1.2.2.2.1.trans hr1.1.1.2.1.1) (by have := hr1.1.1.2.1.2; omega)) K_X6_29 (Nat.le_of_ble_eq_true rfl) (Nat.le_of_ble_eq_true rfl) (by show _ ≤ 13; omega) (by show _ ≤ 103; omega) 0 rfl rfl rfl rfl (Nat.le_of_ble_eq_true rfl) dX6_line_137) (fun w137 h137 => ?_)
        subst h137
        refine s_ws (ws2 := rw ad ra ct ξ (setT w1 (tokX ((st1 s 4 1 (nI 1)) 1) (tN ((st1 s 4 1 (nI 1)) 0 16)) (tN ((st1 s 4 1 (nI 1)) 0 17)) (w1 0 20))) (tW ra ct n (setT w1 (tokX ((st1 s 4 1 (nI 1)) 1) (tN ((st1 s 4 1 (nI 1)) 0 16)) (tN ((st1 s 4 1 (nI 1)) 0 17)) (w1 0 20))))) (congrArg (rw ad ra ct ξ _) (tW_rf RF.set)) ?_
        obtain ⟨W, hW⟩ : ∃ z, z = tokS (st1 s 4 1 (nI 1)) := ⟨_, rfl⟩
        obtain ⟨w2, hw2⟩ : ∃ z, z = setT w1 (tokX ((st1 s 4 1 (nI 1)) 1) (tN ((st1 s 4 1 (nI 1)) 0 16)) (tN ((st1 s 4 1 (nI 1)) 0 17)) (w1 0 20)) := ⟨_, rfl⟩
        have hr2 : RL W w2 := by rw [hW, hw2]; exact hr1.tok
        have hf2 : RF w1 w2 := by rw [hw2]; exact RF.set
        have eO : onceS 1 s = W := by rw [hW]; exact once_ok h0 hZ
        have hbW : BT ξ (W 1) := by rw [hW, tokS_r (by decide), st1_ne (by decide)]; exact hb
        have hW4 : W 4 = upd (s 4) 1 (nI 1) := by rw [hW, tokS_r (by decide), st1_row]
        have hWq : ∀ r, r ≠ 0 → r ≠ 4 → W r = s r := fun r p q => by rw [hW, tokS_r p, st1_ne q]
        have h30 : w2 0 30 = σ 0 30 ||| (nI 1 <<< (nI 1 &&& 31)) := by rw [hf2.2 30 (by decide), hw1, st1_eq]
        have h31 : w2 31 = σ 31 := by rw [hf2.1 31 (by decide), hw1, st1_ne (by decide)]
        refine s_ws (ws2 := rw ad ra ct ξ w2 (tW ra ct n w2)) (by rw [hw2]) ?_
        refine s_iload_n E dX6_line_140 (i := 1) (j := 1) rfl rfl ?_
        refine s_tableIn E dX6_line_141 (off := 52) (tgt := 193) (by decide) (by decide) rfl rfl ?_
        refine s_aload_n E dX6_line_193 (i := 0) (j := 0) rfl rfl ?_
        refine twX6_gR_1 E dX6_line_194 ?_
        refine s_aload_n E dX6_line_197 (i := 0) (j := 0) rfl rfl ?_
        refine s_iconst E dX6_line_198 (v := nI 0) (by decide) ?_
        refine s_iconst E dX6_line_199 (v := nI 5) (by decide) ?_
        refine cx_goi E (rVX E (cutS _ _) (x6z_number W 0 5 (hbW) (hr2) (by decide) (by decide)) K_X6_129 (Nat.le_of_ble_eq_true rfl) (Nat.le_of_ble_eq_true rfl) (by show _ ≤ 13; omega) (by show _ ≤ 103; omega) 0 rfl rfl rfl rfl (Nat.le_of_ble_eq_true rfl) dX6_line_200) (fun qX hX => ?_) (fun r200 w200 h200 => ?_)
        · exact Tt qX (by rw [eL, ro_n eO]; exact hX) (congrArg (fun z => xtW ad ct ξ ++ [z]) (by rw [eL, ro_n eO, ro_n eO])) (by show _ ≤ 13; omega) (by show _ ≤ 103; omega) E.2.2.2.2.2.1
        obtain ⟨hN, e9, hr3, hf3⟩ := h200
        subst e9
        refine s_ws (ws2 := rw ad ra ct ξ w200 (tW ra ct n w200)) (congrArg (rw ad ra ct ξ _) (tW_rf hf3)) ?_
        refine twX6_pV_7 E dX6_line_203 ?_
        refine s_goto E dX6_line_206 (tgt := 289) rfl ?_
        exact Rt ((ra, n, st1 w200 3 11 (numV (nI 0) (nI 5) W))) dX6_line_289 (⟨by rw [eL, ro_n eO]; exact hN, by rw [eL, ro_of eO]; exact hr3.put (Or.inl rfl), hbb.put (v := 1) (by decide) hZ (by rw [eL, ro_o eO (by decide) (by decide), hW4]; rfl) (show (st1 w200 3 11 (numV (nI 0) (nI 5) W)) 0 30 = _ from by rw [st1_ne (by decide), hf3.2 30 (by decide), h30]), hbk.cg (by rw [eL, ro_o eO (by decide) (by decide), hWq 13 (by decide) (by decide)]) (show (st1 w200 3 11 (numV (nI 0) (nI 5) W)) 31 = _ from by rw [st1_ne (by decide), hf3.1 31 (by decide), h31]) (by rw [eL, ro_3j eO (by decide), hWq 3 (by decide) (by decide)]), by rw [eL, ro_3j eO (by decide), hWq 3 (by decide) (by decide)]; exact hn, hn6, fun _ _ => rfl⟩) rfl (by first | exact Nat.le_refl _ | omega) (by first | exact Nat.le_refl _ | omega) E.2.2.2.2.2.1
      refine s_if_ne E dX6_line_109 (tgt := 116) rfl (fun c109 => ?_) (fun c109 => ?_)
      · have c109 := bI_n0 c109
        refine s_iconst E dX6_line_116 (v := nI 0) (by decide) ?_
        refine s_top (v2 := bI (s 4 1 = 0)) ((bI_f c109).symm) ?_
        exact J117
      · have c109 := bI_0 c109
        refine s_iconst E dX6_line_112 (v := nI 1) (by decide) ?_
        refine s_goto E dX6_line_113 (tgt := 117) rfl ?_
        refine s_top (v2 := bI (s 4 1 = 0)) ((bI_t (Classical.not_not.mp c109)).symm) ?_
        exact J117
    · refine s_iload_n E dX6_line_21 (i := 1) (j := 1) rfl rfl ?_
      refine s_iconst E dX6_line_22 (v := nI 5) (by decide) ?_
      refine s_icmp_le E dX6_line_23 (tgt := 37) rfl (fun c23 => ?_) (fun c23 => absurd c23 (by decide))
      refine s_iload_n E dX6_line_37 (i := 1) (j := 1) rfl rfl ?_
      refine s_tableOut E dX6_line_38 (by decide) (tgt := 97) rfl ?_
      have eL : lnW n s = readOnceS 2 2 (nI 1) (nI 20) s := ln_2 h19 h20
      refine s_aload_n E dX6_line_97 (i := 0) (j := 0) rfl rfl ?_
      refine s_aload_n E dX6_line_98 (i := 0) (j := 0) rfl rfl ?_
      refine twX6_gR_1 E dX6_line_99 ?_
      refine twX6_gV_12 E (v := σ 0 30) (rfl) dX6_line_102 ?_
      refine s_iload_n E dX6_line_105 (i := 1) (j := 1) rfl rfl ?_
      refine s_ishr E dX6_line_106 ?_
      refine s_iconst E dX6_line_107 (v := nI 1) (by decide) ?_
      refine s_iand E dX6_line_108 ?_
      refine s_top (v2 := bI (¬ s 4 2 = 0)) (hbb.one (v := 2) (by decide)) ?_
      have J117 : Sm pP l eE { frames := 9, cells := 13, slots := 103, locals := 198 } sS mM aA bB hM cC QQ AA D 3 (0 + 1) (0 + 8) (rw ad ra ct ξ σ (tW ra ct n σ)) 117 [(0, .ref (ra 0)), (1, .int (nI 2))] [.int (bI (s 4 2 = 0)), .ref (ra 0)] := by
        refine s_iconst E dX6_line_117 (v := nI 3) (by decide) ?_
        refine cx_gov E (rVX E (cutS _ _) (x6z_must (s 4 2 = 0) (nI 3)) K_X6_96 (Nat.le_of_ble_eq_true rfl) (Nat.le_of_ble_eq_true rfl) (by show _ ≤ 13; omega) (by show _ ≤ 103; omega) 0 rfl rfl rfl rfl (Nat.le_of_ble_eq_true rfl) dX6_line_118) (fun qX hX => ?_) (fun w118 h118 => ?_)
        · exact Tt qX (by rw [eL]; exact (ro_3 h0 hX).2.2) (congrArg (fun z => xtW ad ct ξ ++ [z]) (by rw [eL, (ro_3 h0 hX).1, (ro_3 h0 hX).2.1, h18])) (by show _ ≤ 13; omega) (by show _ ≤ 103; omega) E.2.2.2.2.2.1
        obtain ⟨hZ, rfl⟩ := h118
        refine s_aload_n E dX6_line_121 (i := 0) (j := 0) rfl rfl ?_
        refine twX6_gR_1 E dX6_line_122 ?_
        refine s_dup E dX6_line_125 rfl ?_
        refine twX6_gV_12 E (v := σ 0 30) (rfl) dX6_line_126 ?_
        refine s_iconst E dX6_line_129 (v := nI 1) (by decide) ?_
        refine s_iload_n E dX6_line_130 (i := 1) (j := 1) rfl rfl ?_
        refine s_ishl E dX6_line_131 ?_
        refine s_ior E dX6_line_132 ?_
        refine twX6_pV_12 E dX6_line_133 ?_
        obtain ⟨w1, hw1⟩ : ∃ z, z = st1 σ 0 30 ((σ 0 30) ||| ((nI 1) <<< ((nI 2) &&& 31))) := ⟨_, rfl⟩
        have hr1 : RL (st1 s 4 2 (nI 1)) w1 := by rw [hw1]; exact hr.r4.x30
        refine s_ws (ws2 := rw ad ra ct ξ w1 (tW ra ct n w1)) (by rw [hw1]) ?_
        refine s_aload_n E dX6_line_136 (i := 0) (j := 0) rfl rfl ?_
        refine c_gov0 E (rV E (cutS _ _) (x6z_take ((st1 s 4 2 (nI 1)) 1) (tN ((st1 s 4 2 (nI 1)) 0 16)) (tN ((st1 s 4 2 (nI 1)) 0 17)) (by rw [st1_ne (by decide)]; exact hb) (hr1.2.2.1.trans hr1.1.1.1.1) (by have := hr1.1.1.1.2; omega) (hr1.2.2.2.1.trans hr1.1.1.2.1.1) (by have := hr1.1.1.2.1.2; omega)) K_X6_29 (Nat.le_of_ble_eq_true rfl) (Nat.le_of_ble_eq_true rfl) (by show _ ≤ 13; omega) (by show _ ≤ 103; omega) 0 rfl rfl rfl rfl (Nat.le_of_ble_eq_true rfl) dX6_line_137) (fun w137 h137 => ?_)
        subst h137
        refine s_ws (ws2 := rw ad ra ct ξ (setT w1 (tokX ((st1 s 4 2 (nI 1)) 1) (tN ((st1 s 4 2 (nI 1)) 0 16)) (tN ((st1 s 4 2 (nI 1)) 0 17)) (w1 0 20))) (tW ra ct n (setT w1 (tokX ((st1 s 4 2 (nI 1)) 1) (tN ((st1 s 4 2 (nI 1)) 0 16)) (tN ((st1 s 4 2 (nI 1)) 0 17)) (w1 0 20))))) (congrArg (rw ad ra ct ξ _) (tW_rf RF.set)) ?_
        obtain ⟨W, hW⟩ : ∃ z, z = tokS (st1 s 4 2 (nI 1)) := ⟨_, rfl⟩
        obtain ⟨w2, hw2⟩ : ∃ z, z = setT w1 (tokX ((st1 s 4 2 (nI 1)) 1) (tN ((st1 s 4 2 (nI 1)) 0 16)) (tN ((st1 s 4 2 (nI 1)) 0 17)) (w1 0 20)) := ⟨_, rfl⟩
        have hr2 : RL W w2 := by rw [hW, hw2]; exact hr1.tok
        have hf2 : RF w1 w2 := by rw [hw2]; exact RF.set
        have eO : onceS 2 s = W := by rw [hW]; exact once_ok h0 hZ
        have hbW : BT ξ (W 1) := by rw [hW, tokS_r (by decide), st1_ne (by decide)]; exact hb
        have hW4 : W 4 = upd (s 4) 2 (nI 1) := by rw [hW, tokS_r (by decide), st1_row]
        have hWq : ∀ r, r ≠ 0 → r ≠ 4 → W r = s r := fun r p q => by rw [hW, tokS_r p, st1_ne q]
        have h30 : w2 0 30 = σ 0 30 ||| (nI 1 <<< (nI 2 &&& 31)) := by rw [hf2.2 30 (by decide), hw1, st1_eq]
        have h31 : w2 31 = σ 31 := by rw [hf2.1 31 (by decide), hw1, st1_ne (by decide)]
        refine s_ws (ws2 := rw ad ra ct ξ w2 (tW ra ct n w2)) (by rw [hw2]) ?_
        refine s_iload_n E dX6_line_140 (i := 1) (j := 1) rfl rfl ?_
        refine s_tableIn E dX6_line_141 (off := 68) (tgt := 209) (by decide) (by decide) rfl rfl ?_
        refine s_aload_n E dX6_line_209 (i := 0) (j := 0) rfl rfl ?_
        refine twX6_gR_1 E dX6_line_210 ?_
        refine s_aload_n E dX6_line_213 (i := 0) (j := 0) rfl rfl ?_
        refine s_iconst E dX6_line_214 (v := nI 1) (by decide) ?_
        refine s_bipush E dX6_line_215 (v := nI 20) (by decide) ?_
        refine cx_goi E (rVX E (cutS _ _) (x6z_number W 1 20 (hbW) (hr2) (by decide) (by decide)) K_X6_129 (Nat.le_of_ble_eq_true rfl) (Nat.le_of_ble_eq_true rfl) (by show _ ≤ 13; omega) (by show _ ≤ 103; omega) 0 rfl rfl rfl rfl (Nat.le_of_ble_eq_true rfl) dX6_line_217) (fun qX hX => ?_) (fun r217 w217 h217 => ?_)
        · exact Tt qX (by rw [eL, ro_n eO]; exact hX) (congrArg (fun z => xtW ad ct ξ ++ [z]) (by rw [eL, ro_n eO, ro_n eO])) (by show _ ≤ 13; omega) (by show _ ≤ 103; omega) E.2.2.2.2.2.1
        obtain ⟨hN, e9, hr3, hf3⟩ := h217
        subst e9
        refine s_ws (ws2 := rw ad ra ct ξ w217 (tW ra ct n w217)) (congrArg (rw ad ra ct ξ _) (tW_rf hf3)) ?_
        refine twX6_pV_8 E dX6_line_220 ?_
        refine s_goto E dX6_line_223 (tgt := 289) rfl ?_
        exact Rt ((ra, n, st1 w217 3 12 (numV (nI 1) (nI 20) W))) dX6_line_289 (⟨by rw [eL, ro_n eO]; exact hN, by rw [eL, ro_of eO]; exact hr3.put (Or.inl rfl), hbb.put (v := 2) (by decide) hZ (by rw [eL, ro_o eO (by decide) (by decide), hW4]; rfl) (show (st1 w217 3 12 (numV (nI 1) (nI 20) W)) 0 30 = _ from by rw [st1_ne (by decide), hf3.2 30 (by decide), h30]), hbk.cg (by rw [eL, ro_o eO (by decide) (by decide), hWq 13 (by decide) (by decide)]) (show (st1 w217 3 12 (numV (nI 1) (nI 20) W)) 31 = _ from by rw [st1_ne (by decide), hf3.1 31 (by decide), h31]) (by rw [eL, ro_3j eO (by decide), hWq 3 (by decide) (by decide)]), by rw [eL, ro_3j eO (by decide), hWq 3 (by decide) (by decide)]; exact hn, hn6, fun _ _ => rfl⟩) rfl (by first | exact Nat.le_refl _ | omega) (by first | exact Nat.le_refl _ | omega) E.2.2.2.2.2.1
      refine s_if_ne E dX6_line_109 (tgt := 116) rfl (fun c109 => ?_) (fun c109 => ?_)
      · have c109 := bI_n0 c109
        refine s_iconst E dX6_line_116 (v := nI 0) (by decide) ?_
        refine s_top (v2 := bI (s 4 2 = 0)) ((bI_f c109).symm) ?_
        exact J117
      · have c109 := bI_0 c109
        refine s_iconst E dX6_line_112 (v := nI 1) (by decide) ?_
        refine s_goto E dX6_line_113 (tgt := 117) rfl ?_
        refine s_top (v2 := bI (s 4 2 = 0)) ((bI_t (Classical.not_not.mp c109)).symm) ?_
        exact J117
    · refine s_iload_n E dX6_line_21 (i := 1) (j := 1) rfl rfl ?_
      refine s_iconst E dX6_line_22 (v := nI 5) (by decide) ?_
      refine s_icmp_le E dX6_line_23 (tgt := 37) rfl (fun c23 => ?_) (fun c23 => absurd c23 (by decide))
      refine s_iload_n E dX6_line_37 (i := 1) (j := 1) rfl rfl ?_
      refine s_tableOut E dX6_line_38 (by decide) (tgt := 97) rfl ?_
      have eL : lnW n s = readOnceS 3 3 (nI 0) (nI 7) s := ln_3 h19 h20
      refine s_aload_n E dX6_line_97 (i := 0) (j := 0) rfl rfl ?_
      refine s_aload_n E dX6_line_98 (i := 0) (j := 0) rfl rfl ?_
      refine twX6_gR_1 E dX6_line_99 ?_
      refine twX6_gV_12 E (v := σ 0 30) (rfl) dX6_line_102 ?_
      refine s_iload_n E dX6_line_105 (i := 1) (j := 1) rfl rfl ?_
      refine s_ishr E dX6_line_106 ?_
      refine s_iconst E dX6_line_107 (v := nI 1) (by decide) ?_
      refine s_iand E dX6_line_108 ?_
      refine s_top (v2 := bI (¬ s 4 3 = 0)) (hbb.one (v := 3) (by decide)) ?_
      have J117 : Sm pP l eE { frames := 9, cells := 13, slots := 103, locals := 198 } sS mM aA bB hM cC QQ AA D 3 (0 + 1) (0 + 8) (rw ad ra ct ξ σ (tW ra ct n σ)) 117 [(0, .ref (ra 0)), (1, .int (nI 3))] [.int (bI (s 4 3 = 0)), .ref (ra 0)] := by
        refine s_iconst E dX6_line_117 (v := nI 3) (by decide) ?_
        refine cx_gov E (rVX E (cutS _ _) (x6z_must (s 4 3 = 0) (nI 3)) K_X6_96 (Nat.le_of_ble_eq_true rfl) (Nat.le_of_ble_eq_true rfl) (by show _ ≤ 13; omega) (by show _ ≤ 103; omega) 0 rfl rfl rfl rfl (Nat.le_of_ble_eq_true rfl) dX6_line_118) (fun qX hX => ?_) (fun w118 h118 => ?_)
        · exact Tt qX (by rw [eL]; exact (ro_3 h0 hX).2.2) (congrArg (fun z => xtW ad ct ξ ++ [z]) (by rw [eL, (ro_3 h0 hX).1, (ro_3 h0 hX).2.1, h18])) (by show _ ≤ 13; omega) (by show _ ≤ 103; omega) E.2.2.2.2.2.1
        obtain ⟨hZ, rfl⟩ := h118
        refine s_aload_n E dX6_line_121 (i := 0) (j := 0) rfl rfl ?_
        refine twX6_gR_1 E dX6_line_122 ?_
        refine s_dup E dX6_line_125 rfl ?_
        refine twX6_gV_12 E (v := σ 0 30) (rfl) dX6_line_126 ?_
        refine s_iconst E dX6_line_129 (v := nI 1) (by decide) ?_
        refine s_iload_n E dX6_line_130 (i := 1) (j := 1) rfl rfl ?_
        refine s_ishl E dX6_line_131 ?_
        refine s_ior E dX6_line_132 ?_
        refine twX6_pV_12 E dX6_line_133 ?_
        obtain ⟨w1, hw1⟩ : ∃ z, z = st1 σ 0 30 ((σ 0 30) ||| ((nI 1) <<< ((nI 3) &&& 31))) := ⟨_, rfl⟩
        have hr1 : RL (st1 s 4 3 (nI 1)) w1 := by rw [hw1]; exact hr.r4.x30
        refine s_ws (ws2 := rw ad ra ct ξ w1 (tW ra ct n w1)) (by rw [hw1]) ?_
        refine s_aload_n E dX6_line_136 (i := 0) (j := 0) rfl rfl ?_
        refine c_gov0 E (rV E (cutS _ _) (x6z_take ((st1 s 4 3 (nI 1)) 1) (tN ((st1 s 4 3 (nI 1)) 0 16)) (tN ((st1 s 4 3 (nI 1)) 0 17)) (by rw [st1_ne (by decide)]; exact hb) (hr1.2.2.1.trans hr1.1.1.1.1) (by have := hr1.1.1.1.2; omega) (hr1.2.2.2.1.trans hr1.1.1.2.1.1) (by have := hr1.1.1.2.1.2; omega)) K_X6_29 (Nat.le_of_ble_eq_true rfl) (Nat.le_of_ble_eq_true rfl) (by show _ ≤ 13; omega) (by show _ ≤ 103; omega) 0 rfl rfl rfl rfl (Nat.le_of_ble_eq_true rfl) dX6_line_137) (fun w137 h137 => ?_)
        subst h137
        refine s_ws (ws2 := rw ad ra ct ξ (setT w1 (tokX ((st1 s 4 3 (nI 1)) 1) (tN ((st1 s 4 3 (nI 1)) 0 16)) (tN ((st1 s 4 3 (nI 1)) 0 17)) (w1 0 20))) (tW ra ct n (setT w1 (tokX ((st1 s 4 3 (nI 1)) 1) (tN ((st1 s 4 3 (nI 1)) 0 16)) (tN ((st1 s 4 3 (nI 1)) 0 17)) (w1 0 20))))) (congrArg (rw ad ra ct ξ _) (tW_rf RF.set)) ?_
        obtain ⟨W, hW⟩ : ∃ z, z = tokS (st1 s 4 3 (nI 1)) := ⟨_, rfl⟩
        obtain ⟨w2, hw2⟩ : ∃ z, z = setT w1 (tokX ((st1 s 4 3 (nI 1)) 1) (tN ((st1 s 4 3 (nI 1)) 0 16)) (tN ((st1 s 4 3 (nI 1)) 0 17)) (w1 0 20)) := ⟨_, rfl⟩
        have hr2 : RL W w2 := by rw [hW, hw2]; exact hr1.tok
        have hf2 : RF w1 w2 := by rw [hw2]; exact RF.set
        have eO : onceS 3 s = W := by rw [hW]; exact once_ok h0 hZ
        have hbW : BT ξ (W 1) := by rw [hW, tokS_r (by decide), st1_ne (by decide)]; exact hb
        have hW4 : W 4 = upd (s 4) 3 (nI 1) := by rw [hW, tokS_r (by decide), st1_row]
        have hWq : ∀ r, r ≠ 0 → r ≠ 4 → W r = s r := fun r p q => by rw [hW, tokS_r p, st1_ne q]
        have h30 : w2 0 30 = σ 0 30 ||| (nI 1 <<< (nI 3 &&& 31)) := by rw [hf2.2 30 (by decide), hw1, st1_eq]
        have h31 : w2 31 = σ 31 := by rw [hf2.1 31 (by decide), hw1, st1_ne (by decide)]
        refine s_ws (ws2 := rw ad ra ct ξ w2 (tW ra ct n w2)) (by rw [hw2]) ?_
        refine s_iload_n E dX6_line_140 (i := 1) (j := 1) rfl rfl ?_
        refine s_tableIn E dX6_line_141 (off := 85) (tgt := 226) (by decide) (by decide) rfl rfl ?_
        refine s_aload_n E dX6_line_226 (i := 0) (j := 0) rfl rfl ?_
        refine twX6_gR_1 E dX6_line_227 ?_
        refine s_aload_n E dX6_line_230 (i := 0) (j := 0) rfl rfl ?_
        refine s_iconst E dX6_line_231 (v := nI 0) (by decide) ?_
        refine s_bipush E dX6_line_232 (v := nI 7) (by decide) ?_
        refine cx_goi E (rVX E (cutS _ _) (x6z_number W 0 7 (hbW) (hr2) (by decide) (by decide)) K_X6_129 (Nat.le_of_ble_eq_true rfl) (Nat.le_of_ble_eq_true rfl) (by show _ ≤ 13; omega) (by show _ ≤ 103; omega) 0 rfl rfl rfl rfl (Nat.le_of_ble_eq_true rfl) dX6_line_234) (fun qX hX => ?_) (fun r234 w234 h234 => ?_)
        · exact Tt qX (by rw [eL, ro_n eO]; exact hX) (congrArg (fun z => xtW ad ct ξ ++ [z]) (by rw [eL, ro_n eO, ro_n eO])) (by show _ ≤ 13; omega) (by show _ ≤ 103; omega) E.2.2.2.2.2.1
        obtain ⟨hN, e9, hr3, hf3⟩ := h234
        subst e9
        refine s_ws (ws2 := rw ad ra ct ξ w234 (tW ra ct n w234)) (congrArg (rw ad ra ct ξ _) (tW_rf hf3)) ?_
        refine twX6_pV_9 E dX6_line_237 ?_
        refine s_goto E dX6_line_240 (tgt := 289) rfl ?_
        exact Rt ((ra, n, st1 w234 3 13 (numV (nI 0) (nI 7) W))) dX6_line_289 (⟨by rw [eL, ro_n eO]; exact hN, by rw [eL, ro_of eO]; exact hr3.put (Or.inl rfl), hbb.put (v := 3) (by decide) hZ (by rw [eL, ro_o eO (by decide) (by decide), hW4]; rfl) (show (st1 w234 3 13 (numV (nI 0) (nI 7) W)) 0 30 = _ from by rw [st1_ne (by decide), hf3.2 30 (by decide), h30]), hbk.cg (by rw [eL, ro_o eO (by decide) (by decide), hWq 13 (by decide) (by decide)]) (show (st1 w234 3 13 (numV (nI 0) (nI 7) W)) 31 = _ from by rw [st1_ne (by decide), hf3.1 31 (by decide), h31]) (by rw [eL, ro_3j eO (by decide), hWq 3 (by decide) (by decide)]), by rw [eL, ro_3j eO (by decide), hWq 3 (by decide) (by decide)]; exact hn, hn6, fun _ _ => rfl⟩) rfl (by first | exact Nat.le_refl _ | omega) (by first | exact Nat.le_refl _ | omega) E.2.2.2.2.2.1
      refine s_if_ne E dX6_line_109 (tgt := 116) rfl (fun c109 => ?_) (fun c109 => ?_)
      · have c109 := bI_n0 c109
        refine s_iconst E dX6_line_116 (v := nI 0) (by decide) ?_
        refine s_top (v2 := bI (s 4 3 = 0)) ((bI_f c109).symm) ?_
        exact J117
      · have c109 := bI_0 c109
        refine s_iconst E dX6_line_112 (v := nI 1) (by decide) ?_
        refine s_goto E dX6_line_113 (tgt := 117) rfl ?_
        refine s_top (v2 := bI (s 4 3 = 0)) ((bI_t (Classical.not_not.mp c109)).symm) ?_
        exact J117
    · refine s_iload_n E dX6_line_21 (i := 1) (j := 1) rfl rfl ?_
      refine s_iconst E dX6_line_22 (v := nI 5) (by decide) ?_
      refine s_icmp_le E dX6_line_23 (tgt := 37) rfl (fun c23 => ?_) (fun c23 => absurd c23 (by decide))
      refine s_iload_n E dX6_line_37 (i := 1) (j := 1) rfl rfl ?_
      refine s_tableOut E dX6_line_38 (by decide) (tgt := 97) rfl ?_
      have eL : lnW n s = readLossS s := ln_4 h19 h20
      refine s_aload_n E dX6_line_97 (i := 0) (j := 0) rfl rfl ?_
      refine s_aload_n E dX6_line_98 (i := 0) (j := 0) rfl rfl ?_
      refine twX6_gR_1 E dX6_line_99 ?_
      refine twX6_gV_12 E (v := σ 0 30) (rfl) dX6_line_102 ?_
      refine s_iload_n E dX6_line_105 (i := 1) (j := 1) rfl rfl ?_
      refine s_ishr E dX6_line_106 ?_
      refine s_iconst E dX6_line_107 (v := nI 1) (by decide) ?_
      refine s_iand E dX6_line_108 ?_
      refine s_top (v2 := bI (¬ s 4 4 = 0)) (hbb.one (v := 4) (by decide)) ?_
      have J117 : Sm pP l eE { frames := 9, cells := 13, slots := 103, locals := 198 } sS mM aA bB hM cC QQ AA D 3 (0 + 1) (0 + 8) (rw ad ra ct ξ σ (tW ra ct n σ)) 117 [(0, .ref (ra 0)), (1, .int (nI 4))] [.int (bI (s 4 4 = 0)), .ref (ra 0)] := by
        refine s_iconst E dX6_line_117 (v := nI 3) (by decide) ?_
        refine cx_gov E (rVX E (cutS _ _) (x6z_must (s 4 4 = 0) (nI 3)) K_X6_96 (Nat.le_of_ble_eq_true rfl) (Nat.le_of_ble_eq_true rfl) (by show _ ≤ 13; omega) (by show _ ≤ 103; omega) 0 rfl rfl rfl rfl (Nat.le_of_ble_eq_true rfl) dX6_line_118) (fun qX hX => ?_) (fun w118 h118 => ?_)
        · exact Tt qX (by rw [eL]; exact (loss_3 h0 hX).2.2) (congrArg (fun z => xtW ad ct ξ ++ [z]) (by rw [eL, (loss_3 h0 hX).1, (loss_3 h0 hX).2.1, h18])) (by show _ ≤ 13; omega) (by show _ ≤ 103; omega) E.2.2.2.2.2.1
        obtain ⟨hZ, rfl⟩ := h118
        refine s_aload_n E dX6_line_121 (i := 0) (j := 0) rfl rfl ?_
        refine twX6_gR_1 E dX6_line_122 ?_
        refine s_dup E dX6_line_125 rfl ?_
        refine twX6_gV_12 E (v := σ 0 30) (rfl) dX6_line_126 ?_
        refine s_iconst E dX6_line_129 (v := nI 1) (by decide) ?_
        refine s_iload_n E dX6_line_130 (i := 1) (j := 1) rfl rfl ?_
        refine s_ishl E dX6_line_131 ?_
        refine s_ior E dX6_line_132 ?_
        refine twX6_pV_12 E dX6_line_133 ?_
        obtain ⟨w1, hw1⟩ : ∃ z, z = st1 σ 0 30 ((σ 0 30) ||| ((nI 1) <<< ((nI 4) &&& 31))) := ⟨_, rfl⟩
        have hr1 : RL (st1 s 4 4 (nI 1)) w1 := by rw [hw1]; exact hr.r4.x30
        refine s_ws (ws2 := rw ad ra ct ξ w1 (tW ra ct n w1)) (by rw [hw1]) ?_
        refine s_aload_n E dX6_line_136 (i := 0) (j := 0) rfl rfl ?_
        refine c_gov0 E (rV E (cutS _ _) (x6z_take ((st1 s 4 4 (nI 1)) 1) (tN ((st1 s 4 4 (nI 1)) 0 16)) (tN ((st1 s 4 4 (nI 1)) 0 17)) (by rw [st1_ne (by decide)]; exact hb) (hr1.2.2.1.trans hr1.1.1.1.1) (by have := hr1.1.1.1.2; omega) (hr1.2.2.2.1.trans hr1.1.1.2.1.1) (by have := hr1.1.1.2.1.2; omega)) K_X6_29 (Nat.le_of_ble_eq_true rfl) (Nat.le_of_ble_eq_true rfl) (by show _ ≤ 13; omega) (by show _ ≤ 103; omega) 0 rfl rfl rfl rfl (Nat.le_of_ble_eq_true rfl) dX6_line_137) (fun w137 h137 => ?_)
        subst h137
        refine s_ws (ws2 := rw ad ra ct ξ (setT w1 (tokX ((st1 s 4 4 (nI 1)) 1) (tN ((st1 s 4 4 (nI 1)) 0 16)) (tN ((st1 s 4 4 (nI 1)) 0 17)) (w1 0 20))) (tW ra ct n (setT w1 (tokX ((st1 s 4 4 (nI 1)) 1) (tN ((st1 s 4 4 (nI 1)) 0 16)) (tN ((st1 s 4 4 (nI 1)) 0 17)) (w1 0 20))))) (congrArg (rw ad ra ct ξ _) (tW_rf RF.set)) ?_
        obtain ⟨W, hW⟩ : ∃ z, z = tokS (st1 s 4 4 (nI 1)) := ⟨_, rfl⟩
        obtain ⟨w2, hw2⟩ : ∃ z, z = setT w1 (tokX ((st1 s 4 4 (nI 1)) 1) (tN ((st1 s 4 4 (nI 1)) 0 16)) (tN ((st1 s 4 4 (nI 1)) 0 17)) (w1 0 20)) := ⟨_, rfl⟩
        have hr2 : RL W w2 := by rw [hW, hw2]; exact hr1.tok
        have hf2 : RF w1 w2 := by rw [hw2]; exact RF.set
        have eO : onceS 4 s = W := by rw [hW]; exact once_ok h0 hZ
        have hbW : BT ξ (W 1) := by rw [hW, tokS_r (by decide), st1_ne (by decide)]; exact hb
        have hW4 : W 4 = upd (s 4) 4 (nI 1) := by rw [hW, tokS_r (by decide), st1_row]
        have hWq : ∀ r, r ≠ 0 → r ≠ 4 → W r = s r := fun r p q => by rw [hW, tokS_r p, st1_ne q]
        have h30 : w2 0 30 = σ 0 30 ||| (nI 1 <<< (nI 4 &&& 31)) := by rw [hf2.2 30 (by decide), hw1, st1_eq]
        have h31 : w2 31 = σ 31 := by rw [hf2.1 31 (by decide), hw1, st1_ne (by decide)]
        refine s_ws (ws2 := rw ad ra ct ξ w2 (tW ra ct n w2)) (by rw [hw2]) ?_
        refine s_iload_n E dX6_line_140 (i := 1) (j := 1) rfl rfl ?_
        refine s_tableIn E dX6_line_141 (off := 102) (tgt := 243) (by decide) (by decide) rfl rfl ?_
        have hrx0 : RL (lossIt W 0) w2 := hr2
        have hx30_0 : w2 0 30 = w2 0 30 := rfl
        have hx31_0 : w2 31 = w2 31 := rfl
        refine s_iconst E dX6_line_243 (v := nI 0) (by decide) ?_
        refine s_istore_n E (L2 := [(2, .int (nI 0)), (0, .ref (ra 0)), (1, .int (nI 4))]) dX6_line_244 rfl (Nat.le_of_ble_eq_true rfl) rfl ?_
        refine s_iload_n E dX6_line_245 (i := 2) (j := 0) rfl rfl ?_
        refine s_iconst E dX6_line_246 (v := nI 3) (by decide) ?_
        refine s_icmp_ge E dX6_line_247 (tgt := 272) rfl (fun c247 => absurd c247 (by decide)) (fun c247 => ?_)
        refine s_aload_n E dX6_line_250 (i := 0) (j := 1) rfl rfl ?_
        refine twX6_gR_1 E dX6_line_251 ?_
        refine twX6_gV_2 E dX6_line_254 ?_
        refine s_iload_n E dX6_line_257 (i := 2) (j := 0) rfl rfl ?_
        refine s_aload_n E dX6_line_258 (i := 0) (j := 1) rfl rfl ?_
        refine s_iconst E dX6_line_259 (v := nI 0) (by decide) ?_
        refine s_bipush E dX6_line_260 (v := nI 99) (by decide) ?_
        refine cx_goi E (rVX E (cutS _ _) (x6z_number (lossIt W 0) 0 99 (by rw [lossIt_r (by decide) (by decide)]; exact hbW) (hrx0) (by decide) (by decide)) K_X6_129 (Nat.le_of_ble_eq_true rfl) (Nat.le_of_ble_eq_true rfl) (by show _ ≤ 13; omega) (by show _ ≤ 103; omega) 0 rfl rfl rfl rfl (Nat.le_of_ble_eq_true rfl) dX6_line_262) (fun qX hX => ?_) (fun r262 w262 h262 => ?_)
        · exact Tt qX (by rw [eL]; exact (loss_n eO (show 0 < 3 by decide) hX).2.2) (congrArg (fun z => xtW ad ct ξ ++ [z]) (by rw [eL, (loss_n eO (show 0 < 3 by decide) hX).1, (loss_n eO (show 0 < 3 by decide) hX).2.1])) (by show _ ≤ 13; omega) (by show _ ≤ 103; omega) E.2.2.2.2.2.1
        obtain ⟨hN0, e9, hr3, hf3⟩ := h262
        subst e9
        refine s_ws (ws2 := rw ad ra ct ξ w262 (tW ra ct n w262)) (congrArg (rw ad ra ct ξ _) (tW_rf hf3)) ?_
        refine s_iast E 6 0 rfl rfl 0 rfl (by decide) (Nat.le_of_ble_eq_true rfl) (rt_ls (by decide)) dX6_line_265 ?_
        obtain ⟨x1, hx1⟩ : ∃ z, z = st1 w262 3 (10 + (4 + 0)) (numV (nI 0) (nI 99) (lossIt W 0)) := ⟨_, rfl⟩
        have hrx1 : RL (lossIt W 1) x1 := by rw [hx1]; exact hr3.put (Or.inl rfl)
        have hx30_1 : x1 0 30 = w2 0 30 := by rw [hx1, st1_ne (by decide), hf3.2 30 (by decide), hx30_0]
        have hx31_1 : x1 31 = w2 31 := by rw [hx1, st1_ne (by decide), hf3.1 31 (by decide), hx31_0]
        refine s_ws (ws2 := rw ad ra ct ξ x1 (tW ra ct n x1)) (by rw [hx1]) ?_
        refine s_iinc E (L2 := [(2, .int (nI 1)), (0, .ref (ra 0)), (1, .int (nI 4))]) dX6_line_266 (k := 0) rfl (v := nI 1) (rfl) (Nat.le_of_ble_eq_true rfl) rfl ?_
        refine s_goto E dX6_line_269 (tgt := 245) rfl ?_
        refine s_iload_n E dX6_line_245 (i := 2) (j := 0) rfl rfl ?_
        refine s_iconst E dX6_line_246 (v := nI 3) (by decide) ?_
        refine s_icmp_ge E dX6_line_247 (tgt := 272) rfl (fun c247 => absurd c247 (by decide)) (fun c247 => ?_)
        refine s_aload_n E dX6_line_250 (i := 0) (j := 1) rfl rfl ?_
        refine twX6_gR_1 E dX6_line_251 ?_
        refine twX6_gV_2 E dX6_line_254 ?_
        refine s_iload_n E dX6_line_257 (i := 2) (j := 0) rfl rfl ?_
        refine s_aload_n E dX6_line_258 (i := 0) (j := 1) rfl rfl ?_
        refine s_iconst E dX6_line_259 (v := nI 0) (by decide) ?_
        refine s_bipush E dX6_line_260 (v := nI 99) (by decide) ?_
        refine cx_goi E (rVX E (cutS _ _) (x6z_number (lossIt W 1) 0 99 (by rw [lossIt_r (by decide) (by decide)]; exact hbW) (hrx1) (by decide) (by decide)) K_X6_129 (Nat.le_of_ble_eq_true rfl) (Nat.le_of_ble_eq_true rfl) (by show _ ≤ 13; omega) (by show _ ≤ 103; omega) 0 rfl rfl rfl rfl (Nat.le_of_ble_eq_true rfl) dX6_line_262) (fun qX hX => ?_) (fun r262 w262 h262 => ?_)
        · exact Tt qX (by rw [eL]; exact (loss_n eO (show 1 < 3 by decide) hX).2.2) (congrArg (fun z => xtW ad ct ξ ++ [z]) (by rw [eL, (loss_n eO (show 1 < 3 by decide) hX).1, (loss_n eO (show 1 < 3 by decide) hX).2.1])) (by show _ ≤ 13; omega) (by show _ ≤ 103; omega) E.2.2.2.2.2.1
        obtain ⟨hN1, e9, hr3, hf3⟩ := h262
        subst e9
        refine s_ws (ws2 := rw ad ra ct ξ w262 (tW ra ct n w262)) (congrArg (rw ad ra ct ξ _) (tW_rf hf3)) ?_
        refine s_iast E 6 0 rfl rfl 1 rfl (by decide) (Nat.le_of_ble_eq_true rfl) (rt_ls (by decide)) dX6_line_265 ?_
        obtain ⟨x2, hx2⟩ : ∃ z, z = st1 w262 3 (10 + (4 + 1)) (numV (nI 0) (nI 99) (lossIt W 1)) := ⟨_, rfl⟩
        have hrx2 : RL (lossIt W 2) x2 := by rw [hx2]; exact hr3.put (Or.inl rfl)
        have hx30_2 : x2 0 30 = w2 0 30 := by rw [hx2, st1_ne (by decide), hf3.2 30 (by decide), hx30_1]
        have hx31_2 : x2 31 = w2 31 := by rw [hx2, st1_ne (by decide), hf3.1 31 (by decide), hx31_1]
        refine s_ws (ws2 := rw ad ra ct ξ x2 (tW ra ct n x2)) (by rw [hx2]) ?_
        refine s_iinc E (L2 := [(2, .int (nI 2)), (0, .ref (ra 0)), (1, .int (nI 4))]) dX6_line_266 (k := 0) rfl (v := nI 2) (rfl) (Nat.le_of_ble_eq_true rfl) rfl ?_
        refine s_goto E dX6_line_269 (tgt := 245) rfl ?_
        refine s_iload_n E dX6_line_245 (i := 2) (j := 0) rfl rfl ?_
        refine s_iconst E dX6_line_246 (v := nI 3) (by decide) ?_
        refine s_icmp_ge E dX6_line_247 (tgt := 272) rfl (fun c247 => absurd c247 (by decide)) (fun c247 => ?_)
        refine s_aload_n E dX6_line_250 (i := 0) (j := 1) rfl rfl ?_
        refine twX6_gR_1 E dX6_line_251 ?_
        refine twX6_gV_2 E dX6_line_254 ?_
        refine s_iload_n E dX6_line_257 (i := 2) (j := 0) rfl rfl ?_
        refine s_aload_n E dX6_line_258 (i := 0) (j := 1) rfl rfl ?_
        refine s_iconst E dX6_line_259 (v := nI 0) (by decide) ?_
        refine s_bipush E dX6_line_260 (v := nI 99) (by decide) ?_
        refine cx_goi E (rVX E (cutS _ _) (x6z_number (lossIt W 2) 0 99 (by rw [lossIt_r (by decide) (by decide)]; exact hbW) (hrx2) (by decide) (by decide)) K_X6_129 (Nat.le_of_ble_eq_true rfl) (Nat.le_of_ble_eq_true rfl) (by show _ ≤ 13; omega) (by show _ ≤ 103; omega) 0 rfl rfl rfl rfl (Nat.le_of_ble_eq_true rfl) dX6_line_262) (fun qX hX => ?_) (fun r262 w262 h262 => ?_)
        · exact Tt qX (by rw [eL]; exact (loss_n eO (show 2 < 3 by decide) hX).2.2) (congrArg (fun z => xtW ad ct ξ ++ [z]) (by rw [eL, (loss_n eO (show 2 < 3 by decide) hX).1, (loss_n eO (show 2 < 3 by decide) hX).2.1])) (by show _ ≤ 13; omega) (by show _ ≤ 103; omega) E.2.2.2.2.2.1
        obtain ⟨hN2, e9, hr3, hf3⟩ := h262
        subst e9
        refine s_ws (ws2 := rw ad ra ct ξ w262 (tW ra ct n w262)) (congrArg (rw ad ra ct ξ _) (tW_rf hf3)) ?_
        refine s_iast E 6 0 rfl rfl 2 rfl (by decide) (Nat.le_of_ble_eq_true rfl) (rt_ls (by decide)) dX6_line_265 ?_
        obtain ⟨x3, hx3⟩ : ∃ z, z = st1 w262 3 (10 + (4 + 2)) (numV (nI 0) (nI 99) (lossIt W 2)) := ⟨_, rfl⟩
        have hrx3 : RL (lossIt W 3) x3 := by rw [hx3]; exact hr3.put (Or.inl rfl)
        have hx30_3 : x3 0 30 = w2 0 30 := by rw [hx3, st1_ne (by decide), hf3.2 30 (by decide), hx30_2]
        have hx31_3 : x3 31 = w2 31 := by rw [hx3, st1_ne (by decide), hf3.1 31 (by decide), hx31_2]
        refine s_ws (ws2 := rw ad ra ct ξ x3 (tW ra ct n x3)) (by rw [hx3]) ?_
        refine s_iinc E (L2 := [(2, .int (nI 3)), (0, .ref (ra 0)), (1, .int (nI 4))]) dX6_line_266 (k := 0) rfl (v := nI 3) (rfl) (Nat.le_of_ble_eq_true rfl) rfl ?_
        refine s_goto E dX6_line_269 (tgt := 245) rfl ?_
        refine s_iload_n E dX6_line_245 (i := 2) (j := 0) rfl rfl ?_
        refine s_iconst E dX6_line_246 (v := nI 3) (by decide) ?_
        refine s_icmp_ge E dX6_line_247 (tgt := 272) rfl (fun c247 => ?_) (fun c247 => absurd c247 (by decide))
        refine s_goto E dX6_line_272 (tgt := 289) rfl ?_
        exact Rt ((ra, n, x3)) dX6_line_289 (⟨by rw [eL]; show lossIt (onceS 4 s) 3 0 21 = 0; rw [eO, loss_s, st1_ne (by decide)]; exact hN2, by rw [eL]; show RL (lossIt (onceS 4 s) 3) x3; rw [eO]; exact hrx3, hbb.put (v := 4) (by decide) hZ (by rw [eL]; show lossIt (onceS 4 s) 3 4 = _; rw [eO, lossIt_r (by decide) (by decide), hW4]; rfl) (hx30_3.trans h30), hbk.cg (by rw [eL]; show lossIt (onceS 4 s) 3 13 = _; rw [eO, lossIt_r (by decide) (by decide), hWq 13 (by decide) (by decide)]) (hx31_3.trans h31) (by rw [eL]; show lossIt (onceS 4 s) 3 3 18 = _; rw [eO, lossIt_j (by decide) 3 (by decide), hWq 3 (by decide) (by decide)]), by rw [eL]; show lossIt (onceS 4 s) 3 3 17 = _; rw [eO, lossIt_j (by decide) 3 (by decide), hWq 3 (by decide) (by decide)]; exact hn, hn6, fun _ _ => rfl⟩) rfl (by first | exact Nat.le_refl _ | omega) (by first | exact Nat.le_refl _ | omega) E.2.2.2.2.2.1
      refine s_if_ne E dX6_line_109 (tgt := 116) rfl (fun c109 => ?_) (fun c109 => ?_)
      · have c109 := bI_n0 c109
        refine s_iconst E dX6_line_116 (v := nI 0) (by decide) ?_
        refine s_top (v2 := bI (s 4 4 = 0)) ((bI_f c109).symm) ?_
        exact J117
      · have c109 := bI_0 c109
        refine s_iconst E dX6_line_112 (v := nI 1) (by decide) ?_
        refine s_goto E dX6_line_113 (tgt := 117) rfl ?_
        refine s_top (v2 := bI (s 4 4 = 0)) ((bI_t (Classical.not_not.mp c109)).symm) ?_
        exact J117
    · refine s_iload_n E dX6_line_21 (i := 1) (j := 1) rfl rfl ?_
      refine s_iconst E dX6_line_22 (v := nI 5) (by decide) ?_
      refine s_icmp_le E dX6_line_23 (tgt := 37) rfl (fun c23 => ?_) (fun c23 => absurd c23 (by decide))
      refine s_iload_n E dX6_line_37 (i := 1) (j := 1) rfl rfl ?_
      refine s_tableOut E dX6_line_38 (by decide) (tgt := 97) rfl ?_
      have eL : lnW n s = readOnceS 10 9 (nI 0) (nI 99999) s := ln_10 h19 h20
      refine s_aload_n E dX6_line_97 (i := 0) (j := 0) rfl rfl ?_
      refine s_aload_n E dX6_line_98 (i := 0) (j := 0) rfl rfl ?_
      refine twX6_gR_1 E dX6_line_99 ?_
      refine twX6_gV_12 E (v := σ 0 30) (rfl) dX6_line_102 ?_
      refine s_iload_n E dX6_line_105 (i := 1) (j := 1) rfl rfl ?_
      refine s_ishr E dX6_line_106 ?_
      refine s_iconst E dX6_line_107 (v := nI 1) (by decide) ?_
      refine s_iand E dX6_line_108 ?_
      refine s_top (v2 := bI (¬ s 4 10 = 0)) (hbb.one (v := 5) (by decide)) ?_
      have J117 : Sm pP l eE { frames := 9, cells := 13, slots := 103, locals := 198 } sS mM aA bB hM cC QQ AA D 3 (0 + 1) (0 + 8) (rw ad ra ct ξ σ (tW ra ct n σ)) 117 [(0, .ref (ra 0)), (1, .int (nI 5))] [.int (bI (s 4 10 = 0)), .ref (ra 0)] := by
        refine s_iconst E dX6_line_117 (v := nI 3) (by decide) ?_
        refine cx_gov E (rVX E (cutS _ _) (x6z_must (s 4 10 = 0) (nI 3)) K_X6_96 (Nat.le_of_ble_eq_true rfl) (Nat.le_of_ble_eq_true rfl) (by show _ ≤ 13; omega) (by show _ ≤ 103; omega) 0 rfl rfl rfl rfl (Nat.le_of_ble_eq_true rfl) dX6_line_118) (fun qX hX => ?_) (fun w118 h118 => ?_)
        · exact Tt qX (by rw [eL]; exact (ro_3 h0 hX).2.2) (congrArg (fun z => xtW ad ct ξ ++ [z]) (by rw [eL, (ro_3 h0 hX).1, (ro_3 h0 hX).2.1, h18])) (by show _ ≤ 13; omega) (by show _ ≤ 103; omega) E.2.2.2.2.2.1
        obtain ⟨hZ, rfl⟩ := h118
        refine s_aload_n E dX6_line_121 (i := 0) (j := 0) rfl rfl ?_
        refine twX6_gR_1 E dX6_line_122 ?_
        refine s_dup E dX6_line_125 rfl ?_
        refine twX6_gV_12 E (v := σ 0 30) (rfl) dX6_line_126 ?_
        refine s_iconst E dX6_line_129 (v := nI 1) (by decide) ?_
        refine s_iload_n E dX6_line_130 (i := 1) (j := 1) rfl rfl ?_
        refine s_ishl E dX6_line_131 ?_
        refine s_ior E dX6_line_132 ?_
        refine twX6_pV_12 E dX6_line_133 ?_
        obtain ⟨w1, hw1⟩ : ∃ z, z = st1 σ 0 30 ((σ 0 30) ||| ((nI 1) <<< ((nI 5) &&& 31))) := ⟨_, rfl⟩
        have hr1 : RL (st1 s 4 10 (nI 1)) w1 := by rw [hw1]; exact hr.r4.x30
        refine s_ws (ws2 := rw ad ra ct ξ w1 (tW ra ct n w1)) (by rw [hw1]) ?_
        refine s_aload_n E dX6_line_136 (i := 0) (j := 0) rfl rfl ?_
        refine c_gov0 E (rV E (cutS _ _) (x6z_take ((st1 s 4 10 (nI 1)) 1) (tN ((st1 s 4 10 (nI 1)) 0 16)) (tN ((st1 s 4 10 (nI 1)) 0 17)) (by rw [st1_ne (by decide)]; exact hb) (hr1.2.2.1.trans hr1.1.1.1.1) (by have := hr1.1.1.1.2; omega) (hr1.2.2.2.1.trans hr1.1.1.2.1.1) (by have := hr1.1.1.2.1.2; omega)) K_X6_29 (Nat.le_of_ble_eq_true rfl) (Nat.le_of_ble_eq_true rfl) (by show _ ≤ 13; omega) (by show _ ≤ 103; omega) 0 rfl rfl rfl rfl (Nat.le_of_ble_eq_true rfl) dX6_line_137) (fun w137 h137 => ?_)
        subst h137
        refine s_ws (ws2 := rw ad ra ct ξ (setT w1 (tokX ((st1 s 4 10 (nI 1)) 1) (tN ((st1 s 4 10 (nI 1)) 0 16)) (tN ((st1 s 4 10 (nI 1)) 0 17)) (w1 0 20))) (tW ra ct n (setT w1 (tokX ((st1 s 4 10 (nI 1)) 1) (tN ((st1 s 4 10 (nI 1)) 0 16)) (tN ((st1 s 4 10 (nI 1)) 0 17)) (w1 0 20))))) (congrArg (rw ad ra ct ξ _) (tW_rf RF.set)) ?_
        obtain ⟨W, hW⟩ : ∃ z, z = tokS (st1 s 4 10 (nI 1)) := ⟨_, rfl⟩
        obtain ⟨w2, hw2⟩ : ∃ z, z = setT w1 (tokX ((st1 s 4 10 (nI 1)) 1) (tN ((st1 s 4 10 (nI 1)) 0 16)) (tN ((st1 s 4 10 (nI 1)) 0 17)) (w1 0 20)) := ⟨_, rfl⟩
        have hr2 : RL W w2 := by rw [hW, hw2]; exact hr1.tok
        have hf2 : RF w1 w2 := by rw [hw2]; exact RF.set
        have eO : onceS 10 s = W := by rw [hW]; exact once_ok h0 hZ
        have hbW : BT ξ (W 1) := by rw [hW, tokS_r (by decide), st1_ne (by decide)]; exact hb
        have hW4 : W 4 = upd (s 4) 10 (nI 1) := by rw [hW, tokS_r (by decide), st1_row]
        have hWq : ∀ r, r ≠ 0 → r ≠ 4 → W r = s r := fun r p q => by rw [hW, tokS_r p, st1_ne q]
        have h30 : w2 0 30 = σ 0 30 ||| (nI 1 <<< (nI 5 &&& 31)) := by rw [hf2.2 30 (by decide), hw1, st1_eq]
        have h31 : w2 31 = σ 31 := by rw [hf2.1 31 (by decide), hw1, st1_ne (by decide)]
        refine s_ws (ws2 := rw ad ra ct ξ w2 (tW ra ct n w2)) (by rw [hw2]) ?_
        refine s_iload_n E dX6_line_140 (i := 1) (j := 1) rfl rfl ?_
        refine s_tableOut E dX6_line_141 (by decide) (tgt := 275) rfl ?_
        refine s_aload_n E dX6_line_275 (i := 0) (j := 0) rfl rfl ?_
        refine twX6_gR_1 E dX6_line_276 ?_
        refine s_aload_n E dX6_line_279 (i := 0) (j := 0) rfl rfl ?_
        refine s_iconst E dX6_line_280 (v := nI 0) (by decide) ?_
        refine s_ldc E (v := nI 99999) dX6_line_281 q768 ?_
        refine cx_goi E (rVX E (cutS _ _) (x6z_number W 0 99999 (hbW) (hr2) (by decide) (by decide)) K_X6_129 (Nat.le_of_ble_eq_true rfl) (Nat.le_of_ble_eq_true rfl) (by show _ ≤ 13; omega) (by show _ ≤ 103; omega) 0 rfl rfl rfl rfl (Nat.le_of_ble_eq_true rfl) dX6_line_283) (fun qX hX => ?_) (fun r283 w283 h283 => ?_)
        · exact Tt qX (by rw [eL, ro_n eO]; exact hX) (congrArg (fun z => xtW ad ct ξ ++ [z]) (by rw [eL, ro_n eO, ro_n eO])) (by show _ ≤ 13; omega) (by show _ ≤ 103; omega) E.2.2.2.2.2.1
        obtain ⟨hN, e9, hr3, hf3⟩ := h283
        subst e9
        refine s_ws (ws2 := rw ad ra ct ξ w283 (tW ra ct n w283)) (congrArg (rw ad ra ct ξ _) (tW_rf hf3)) ?_
        refine twX6_pV_10 E dX6_line_286 ?_
        exact Rt ((ra, n, st1 w283 3 19 (numV (nI 0) (nI 99999) W))) dX6_line_289 (⟨by rw [eL, ro_n eO]; exact hN, by rw [eL, ro_of eO]; exact hr3.put (Or.inl rfl), hbb.put (v := 5) (by decide) hZ (by rw [eL, ro_o eO (by decide) (by decide), hW4]; rfl) (show (st1 w283 3 19 (numV (nI 0) (nI 99999) W)) 0 30 = _ from by rw [st1_ne (by decide), hf3.2 30 (by decide), h30]), hbk.cg (by rw [eL, ro_o eO (by decide) (by decide), hWq 13 (by decide) (by decide)]) (show (st1 w283 3 19 (numV (nI 0) (nI 99999) W)) 31 = _ from by rw [st1_ne (by decide), hf3.1 31 (by decide), h31]) (by rw [eL, ro_3j eO (by decide), hWq 3 (by decide) (by decide)]), by rw [eL, ro_3j eO (by decide), hWq 3 (by decide) (by decide)]; exact hn, hn6, fun _ _ => rfl⟩) rfl (by first | exact Nat.le_refl _ | omega) (by first | exact Nat.le_refl _ | omega) E.2.2.2.2.2.1
      refine s_if_ne E dX6_line_109 (tgt := 116) rfl (fun c109 => ?_) (fun c109 => ?_)
      · have c109 := bI_n0 c109
        refine s_iconst E dX6_line_116 (v := nI 0) (by decide) ?_
        refine s_top (v2 := bI (s 4 10 = 0)) ((bI_f c109).symm) ?_
        exact J117
      · have c109 := bI_0 c109
        refine s_iconst E dX6_line_112 (v := nI 1) (by decide) ?_
        refine s_goto E dX6_line_113 (tgt := 117) rfl ?_
        refine s_top (v2 := bI (s 4 10 = 0)) ((bI_t (Classical.not_not.mp c109)).symm) ?_
        exact J117
    · refine s_iload_n E dX6_line_21 (i := 1) (j := 1) rfl rfl ?_
      refine s_iconst E dX6_line_22 (v := nI 5) (by decide) ?_
      refine s_icmp_le E dX6_line_23 (tgt := 37) rfl (fun c23 => absurd c23 (by decide)) (fun c23 => ?_)
      refine s_iload_n E dX6_line_26 (i := 1) (j := 1) rfl rfl ?_
      refine s_bipush E dX6_line_27 (v := nI 9) (by decide) ?_
      refine s_icmp_ge E dX6_line_29 (tgt := 37) rfl (fun c29 => absurd c29 (by decide)) (fun c29 => ?_)
      refine s_aload_n E dX6_line_32 (i := 0) (j := 0) rfl rfl ?_
      refine s_iconst E dX6_line_33 (v := nI 1) (by decide) ?_
      refine twX6_pR_6 E rfl rfl dX6_line_34 ?_
      refine s_iload_n E dX6_line_37 (i := 1) (j := 1) rfl rfl ?_
      refine s_tableIn E dX6_line_38 (off := 34) (tgt := 72) (by decide) (by decide) rfl rfl ?_
      refine s_aload_n E dX6_line_72 (i := 0) (j := 0) rfl rfl ?_
      refine cx_gov E (rVX E (cutS _ _) (x6z_user s (st1 s 0 14 (nI 1)) B (rfl) (by rw [st1_ne (by decide)]; exact hb) (hr.x14) (hn6) (by rw [st1_ne (by decide)]; exact hn) (by rw [st1_ne (by decide)]; exact hB) (hB60) (hB1)) K_X6_111 (Nat.le_of_ble_eq_true rfl) (Nat.le_of_ble_eq_true rfl) (by show _ ≤ 13; omega) (by show _ ≤ 103; omega) 0 rfl rfl rfl rfl (Nat.le_of_ble_eq_true rfl) dX6_line_73) (fun qX hX => ?_) (fun w73 h73 => ?_)
      · exact Tt qX (by rw [ln_5 h19 h20]; exact hX) (congrArg (fun z => xtW ad ct ξ ++ [z]) (by rw [ln_5 h19 h20])) (by show _ ≤ 13; omega) (by show _ ≤ 103; omega) E.2.2.2.2.2.1
      obtain ⟨p1, p2, p3, p4, p5, p6, p7, p8⟩ := h73
      exact Rt (w73) dX6_line_76 (⟨by rw [ln_5 h19 h20]; exact p1, by rw [ln_5 h19 h20]; exact p2, hbb.cg (by rw [ln_5 h19 h20]; exact user_o (by decide) (by decide) (by decide)) p4, hbk.cg (by rw [ln_5 h19 h20]; exact user_o (by decide) (by decide) (by decide)) p3 (by rw [ln_5 h19 h20]; exact user_3 (by decide)), by rw [ln_5 h19 h20, p6]; exact p7, by rw [p6]; exact p5, p8⟩) rfl (by first | exact Nat.le_refl _ | omega) (by first | exact Nat.le_refl _ | omega) E.2.2.2.2.2.1
    · refine s_iload_n E dX6_line_21 (i := 1) (j := 1) rfl rfl ?_
      refine s_iconst E dX6_line_22 (v := nI 5) (by decide) ?_
      refine s_icmp_le E dX6_line_23 (tgt := 37) rfl (fun c23 => absurd c23 (by decide)) (fun c23 => ?_)
      refine s_iload_n E dX6_line_26 (i := 1) (j := 1) rfl rfl ?_
      refine s_bipush E dX6_line_27 (v := nI 9) (by decide) ?_
      refine s_icmp_ge E dX6_line_29 (tgt := 37) rfl (fun c29 => absurd c29 (by decide)) (fun c29 => ?_)
      refine s_aload_n E dX6_line_32 (i := 0) (j := 0) rfl rfl ?_
      refine s_iconst E dX6_line_33 (v := nI 1) (by decide) ?_
      refine twX6_pR_6 E rfl rfl dX6_line_34 ?_
      refine s_iload_n E dX6_line_37 (i := 1) (j := 1) rfl rfl ?_
      refine s_tableIn E dX6_line_38 (off := 39) (tgt := 77) (by decide) (by decide) rfl rfl ?_
      refine s_aload_n E dX6_line_77 (i := 0) (j := 0) rfl rfl ?_
      refine cx_gov E (rVX E (cutS _ _) (x6z_fixed (st1 s 0 14 (nI 1)) B (by rw [st1_ne (by decide)]; exact hb) (hr.x14) (hn6) (by rw [st1_ne (by decide)]; exact hn) (by rw [st1_ne (by decide)]; exact hB) (hB60) (fun k hk => by rw [st1_ne (by decide)]; exact hi10 k hk)) K_X6_114 (Nat.le_of_ble_eq_true rfl) (Nat.le_of_ble_eq_true rfl) (by show _ ≤ 13; omega) (by show _ ≤ 103; omega) 0 rfl rfl rfl rfl (Nat.le_of_ble_eq_true rfl) dX6_line_78) (fun qX hX => ?_) (fun w78 h78 => ?_)
      · exact Tt qX (by rw [ln_6 h19 h20, fixed_eq hB]; exact hX) (congrArg (fun z => xtW ad ct ξ ++ [z]) (by rw [ln_6 h19 h20, fixed_eq hB])) (by show _ ≤ 13; omega) (by show _ ≤ 103; omega) E.2.2.2.2.2.1
      obtain ⟨p1, p2, p3, p4⟩ := h78
      exact Rt ((ra, n, w78)) dX6_line_81 (⟨by rw [ln_6 h19 h20, fixed_eq hB]; exact p1, by rw [ln_6 h19 h20, fixed_eq hB]; exact p2, hbb.cg (by rw [ln_6 h19 h20]; exact fixed_o hB (by decide) (by decide)) (p4.trans (st1_nj (by decide))), hbk.cg (by rw [ln_6 h19 h20]; exact fixed_o hB (by decide) (by decide)) (p3.trans (st1_ne (by decide))) (by rw [ln_6 h19 h20, fixed_o hB (by decide) (by decide)]), by rw [ln_6 h19 h20, fixed_o hB (by decide) (by decide)]; exact hn, hn6, fun _ _ => rfl⟩) rfl (by first | exact Nat.le_refl _ | omega) (by first | exact Nat.le_refl _ | omega) E.2.2.2.2.2.1
    · refine s_iload_n E dX6_line_21 (i := 1) (j := 1) rfl rfl ?_
      refine s_iconst E dX6_line_22 (v := nI 5) (by decide) ?_
      refine s_icmp_le E dX6_line_23 (tgt := 37) rfl (fun c23 => absurd c23 (by decide)) (fun c23 => ?_)
      refine s_iload_n E dX6_line_26 (i := 1) (j := 1) rfl rfl ?_
      refine s_bipush E dX6_line_27 (v := nI 9) (by decide) ?_
      refine s_icmp_ge E dX6_line_29 (tgt := 37) rfl (fun c29 => absurd c29 (by decide)) (fun c29 => ?_)
      refine s_aload_n E dX6_line_32 (i := 0) (j := 0) rfl rfl ?_
      refine s_iconst E dX6_line_33 (v := nI 1) (by decide) ?_
      refine twX6_pR_6 E rfl rfl dX6_line_34 ?_
      refine s_iload_n E dX6_line_37 (i := 1) (j := 1) rfl rfl ?_
      refine s_tableIn E dX6_line_38 (off := 44) (tgt := 82) (by decide) (by decide) rfl rfl ?_
      refine s_aload_n E dX6_line_82 (i := 0) (j := 0) rfl rfl ?_
      refine cx_gov E (rVX E (cutS _ _) (x6z_block s (st1 s 0 14 (nI 1)) m B (rfl) (by rw [st1_ne (by decide)]; exact hb) (hr.x14) (hn6) (by rw [st1_ne (by decide)]; exact hn) (by rw [st1_ne (by decide)]; exact hm) (hm6) (by rw [st1_ne (by decide)]; exact hB) (hB60) (hB1)) K_X6_117 (Nat.le_of_ble_eq_true rfl) (Nat.le_of_ble_eq_true rfl) (by show _ ≤ 13; omega) (by show _ ≤ 103; omega) 0 rfl rfl rfl rfl (Nat.le_of_ble_eq_true rfl) dX6_line_83) (fun qX hX => ?_) (fun w83 h83 => ?_)
      · exact Tt qX (by rw [ln_7 h19 h20]; exact hX) (congrArg (fun z => xtW ad ct ξ ++ [z]) (by rw [ln_7 h19 h20])) (by show _ ≤ 13; omega) (by show _ ≤ 103; omega) E.2.2.2.2.2.1
      obtain ⟨p1, p2, p3, p4⟩ := h83
      have hm5 : m < 6 := by rcases Nat.lt_or_ge m 6 with z | z; exact z; exact absurd p1 (bk_6 h0 (by rw [hm, show m = 6 by omega])).2.2
      have hBi : In (s 3 10) 61 := by rw [hB]; exact In.of (by omega) (by decide)
      have hB1' : 1 ≤ tN (s 3 10) := by rw [hB, tN_nI (by omega)]; exact hB1
      have hBe : tN (s 3 10) = B := by rw [hB, tN_nI (by omega)]
      exact Rt ((ra, n, w83)) dX6_line_86 (⟨by rw [ln_7 h19 h20]; exact p1, by rw [ln_7 h19 h20]; exact p2, hbb.cg (by rw [ln_7 h19 h20]; exact block_o (by decide) (by decide) (by decide)) (p4.trans (st1_nj (by decide))), hbk.put (m := m) (a := blA s) (b := blB s) hm hm5 (by have := (blA_of (s := s) hBi hB1').2.1; omega) (by have := (blB_of (s := s) hBi hB1').2.1; omega) (by rw [ln_7 h19 h20]; exact (block_13 p1).1) (p3.trans (by rw [st1_ne (by decide)])) (by rw [ln_7 h19 h20, (block_13 p1).2.1, hm, nI_add]), by rw [ln_7 h19 h20, (block_13 p1).2.2 17 (by decide)]; exact hn, hn6, fun _ _ => rfl⟩) rfl (by first | exact Nat.le_refl _ | omega) (by first | exact Nat.le_refl _ | omega) E.2.2.2.2.2.1
    · refine s_iload_n E dX6_line_21 (i := 1) (j := 1) rfl rfl ?_
      refine s_iconst E dX6_line_22 (v := nI 5) (by decide) ?_
      refine s_icmp_le E dX6_line_23 (tgt := 37) rfl (fun c23 => absurd c23 (by decide)) (fun c23 => ?_)
      refine s_iload_n E dX6_line_26 (i := 1) (j := 1) rfl rfl ?_
      refine s_bipush E dX6_line_27 (v := nI 9) (by decide) ?_
      refine s_icmp_ge E dX6_line_29 (tgt := 37) rfl (fun c29 => ?_) (fun c29 => absurd c29 (by decide))
      refine s_iload_n E dX6_line_37 (i := 1) (j := 1) rfl rfl ?_
      refine s_tableIn E dX6_line_38 (off := 49) (tgt := 87) (by decide) (by decide) rfl rfl ?_
      refine s_aload_n E dX6_line_87 (i := 0) (j := 0) rfl rfl ?_
      refine cx_gov E (rVX E (cutS _ _) (x6z_link s (hb) (hr) (hn6) (hn) (hlk)) K_X6_120 (Nat.le_of_ble_eq_true rfl) (Nat.le_of_ble_eq_true rfl) (by show _ ≤ 13; omega) (by show _ ≤ 103; omega) 0 rfl rfl rfl rfl (Nat.le_of_ble_eq_true rfl) dX6_line_88) (fun qX hX => ?_) (fun w88 h88 => ?_)
      · exact Tt qX (by rw [ln_8 h19 h20]; exact hX) (congrArg (fun z => xtW ad ct ξ ++ [z]) (by rw [ln_8 h19 h20])) (by show _ ≤ 13; omega) (by show _ ≤ 103; omega) E.2.2.2.2.2.1
      obtain ⟨p1, p2, p3, p4⟩ := h88
      exact Rt ((ra, n, w88)) dX6_line_91 (⟨by rw [ln_8 h19 h20]; exact p1, by rw [ln_8 h19 h20]; exact p2, hbb.cg (by rw [ln_8 h19 h20]; exact link_o (q := 4) (by decide) (by decide)) p4, hbk.cg (by rw [ln_8 h19 h20]; exact link_o (q := 13) (by decide) (by decide)) p3 (by rw [ln_8 h19 h20, link_o (q := 3) (by decide) (by decide)]), by rw [ln_8 h19 h20, link_o (q := 3) (by decide) (by decide)]; exact hn, hn6, fun _ _ => rfl⟩) rfl (by first | exact Nat.le_refl _ | omega) (by first | exact Nat.le_refl _ | omega) E.2.2.2.2.2.1
    · refine s_iload_n E dX6_line_21 (i := 1) (j := 1) rfl rfl ?_
      refine s_iconst E dX6_line_22 (v := nI 5) (by decide) ?_
      refine s_icmp_le E dX6_line_23 (tgt := 37) rfl (fun c23 => absurd c23 (by decide)) (fun c23 => ?_)
      refine s_iload_n E dX6_line_26 (i := 1) (j := 1) rfl rfl ?_
      refine s_bipush E dX6_line_27 (v := nI 9) (by decide) ?_
      refine s_icmp_ge E dX6_line_29 (tgt := 37) rfl (fun c29 => ?_) (fun c29 => absurd c29 (by decide))
      refine s_iload_n E dX6_line_37 (i := 1) (j := 1) rfl rfl ?_
      refine s_tableIn E dX6_line_38 (off := 54) (tgt := 92) (by decide) (by decide) rfl rfl ?_
      refine s_aload_n E dX6_line_92 (i := 0) (j := 0) rfl rfl ?_
      refine cx_gov E (rVX E (cutS _ _) (x6z_slots s (hb) (hr) (hn6) (hn) (hi11)) K_X6_123 (Nat.le_of_ble_eq_true rfl) (Nat.le_of_ble_eq_true rfl) (by show _ ≤ 13; omega) (by show _ ≤ 103; omega) 0 rfl rfl rfl rfl (Nat.le_of_ble_eq_true rfl) dX6_line_93) (fun qX hX => ?_) (fun w93 h93 => ?_)
      · exact Tt qX (by rw [ln_9 h19 h20, slots_rg]; exact hX) (congrArg (fun z => xtW ad ct ξ ++ [z]) (by rw [ln_9 h19 h20, slots_rg])) (by show _ ≤ 13; omega) (by show _ ≤ 103; omega) E.2.2.2.2.2.1
      obtain ⟨p1, p2, p3, p4⟩ := h93
      exact Rt ((ra, n, w93)) dX6_line_96 (⟨by rw [ln_9 h19 h20, slots_rg]; exact p1, by rw [ln_9 h19 h20, slots_rg]; exact p2, hbb.cg (by rw [ln_9 h19 h20]; exact slots_o (by decide) (by decide)) p4, hbk.cg (by rw [ln_9 h19 h20]; exact slots_o (by decide) (by decide)) p3 (by rw [ln_9 h19 h20, slots_o (by decide) (by decide)]), by rw [ln_9 h19 h20, slots_o (by decide) (by decide)]; exact hn, hn6, fun _ _ => rfl⟩) rfl (by first | exact Nat.le_refl _ | omega) (by first | exact Nat.le_refl _ | omega) E.2.2.2.2.2.1
  refine s_if_ne E dX6_line_2 (tgt := 12) rfl (fun c2 => ?_) (fun c2 => ?_)
  · have c2 : ¬ v = 0 := fun h => c2 ((nI_eq (a := v) (b := 0) (by omega) (by omega)).mpr h)
    refine s_iconst E dX6_line_12 (v := nI 1) (by decide) ?_
    refine s_goto E dX6_line_13 (tgt := 17) rfl ?_
    refine s_top (v2 := bI (¬ (v = 0 ∧ ¬ s 0 14 = 0))) ((bI_t (P := ¬ (v = 0 ∧ ¬ s 0 14 = 0)) (fun z => by first | exact c2 z.1 | exact z.2 c9)).symm) ?_
    exact J17
  · have c2 : v = 0 := (nI_eq (a := v) (b := 0) (by omega) (by omega)).mp c2
    refine s_aload_n E dX6_line_5 (i := 0) (j := 0) rfl rfl ?_
    refine twX6_gR_6 E (v := s 0 14) (hr.2.2.2.2.2.2.2.1) dX6_line_6 ?_
    refine s_if_ne E dX6_line_9 (tgt := 16) rfl (fun c9 => ?_) (fun c9 => ?_)
    · refine s_iconst E dX6_line_16 (v := nI 0) (by decide) ?_
      refine s_top (v2 := bI (¬ (v = 0 ∧ ¬ s 0 14 = 0))) ((bI_f (P := ¬ (v = 0 ∧ ¬ s 0 14 = 0)) (fun z => z ⟨c2, c9⟩)).symm) ?_
      exact J17
    · refine s_iconst E dX6_line_12 (v := nI 1) (by decide) ?_
      refine s_goto E dX6_line_13 (tgt := 17) rfl ?_
      refine s_top (v2 := bI (¬ (v = 0 ∧ ¬ s 0 14 = 0))) ((bI_t (P := ¬ (v = 0 ∧ ¬ s 0 14 = 0)) (fun z => by first | exact c2 z.1 | exact z.2 c9)).symm) ?_
      exact J17
