set_option maxRecDepth 100000
theorem iwX3_g2_4 {p : Program} {l : Launch} {e : Env} {R : Room} {s : State} {m : MethodId} {args : Array Value} {below : List Frame} {meth : Method} {c : Code} {Q : State → Prop} {A : Nat → Prop} {D : va_G} {nL cells slots : Nat} {pc : Nat} {L : List (Nat × Value)} {S : List Value} {cc : ByteArray} {ret : Option FieldType} {gt : Nat → Nat} {ad : Nat → Nat} {ct : Nat → ClassId} {n : Nat} {τ σ : Nat → Nat → Int32} {T : va_W} (E : En p s m args meth c A cc nL RX3 ret D (tysA ct) gt) {v : Int32} (hv : τ 3 7 = v) (d : decode cc pc = .ok (.getfield 25, 3)) (K : Sm p l e R s m args below meth c Q A D nL cells slots (iw ad ct n τ σ T) (pc + 3) L (.int v :: S)) : Sm p l e R s m args below meth c Q A D nL cells slots (iw ad ct n τ σ T) pc L (.ref (ad 2) :: S) := s_getN E in_X2 2 rfl rfl 4 (Nat.le_of_ble_eq_true rfl) q168 (congrArg (fun z => some (Value.int z)) hv) rfl d K
theorem iwX3_g2_5 {p : Program} {l : Launch} {e : Env} {R : Room} {s : State} {m : MethodId} {args : Array Value} {below : List Frame} {meth : Method} {c : Code} {Q : State → Prop} {A : Nat → Prop} {D : va_G} {nL cells slots : Nat} {pc : Nat} {L : List (Nat × Value)} {S : List Value} {cc : ByteArray} {ret : Option FieldType} {gt : Nat → Nat} {ad : Nat → Nat} {ct : Nat → ClassId} {n : Nat} {τ σ : Nat → Nat → Int32} {T : va_W} (E : En p s m args meth c A cc nL RX3 ret D (tysA ct) gt) {v : Int32} (hv : τ 3 8 = v) (d : decode cc pc = .ok (.getfield 44, 3)) (K : Sm p l e R s m args below meth c Q A D nL cells slots (iw ad ct n τ σ T) (pc + 3) L (.int v :: S)) : Sm p l e R s m args below meth c Q A D nL cells slots (iw ad ct n τ σ T) pc L (.ref (ad 2) :: S) := s_getN E in_X2 2 rfl rfl 5 (Nat.le_of_ble_eq_true rfl) q174 (congrArg (fun z => some (Value.int z)) hv) rfl d K
theorem iwX3_g2_1 {p : Program} {l : Launch} {e : Env} {R : Room} {s : State} {m : MethodId} {args : Array Value} {below : List Frame} {meth : Method} {c : Code} {Q : State → Prop} {A : Nat → Prop} {D : va_G} {nL cells slots : Nat} {pc : Nat} {L : List (Nat × Value)} {S : List Value} {cc : ByteArray} {ret : Option FieldType} {gt : Nat → Nat} {ad : Nat → Nat} {ct : Nat → ClassId} {n : Nat} {τ σ : Nat → Nat → Int32} {T : va_W} (E : En p s m args meth c A cc nL RX3 ret D (tysA ct) gt) (d : decode cc pc = .ok (.getfield 47, 3)) (K : Sm p l e R s m args below meth c Q A D nL cells slots (iw ad ct n τ σ T) (pc + 3) L (.ref (ad 4) :: S)) : Sm p l e R s m args below meth c Q A D nL cells slots (iw ad ct n τ σ T) pc L (.ref (ad 2) :: S) := s_getN E in_X2 2 rfl rfl 1 (Nat.le_of_ble_eq_true rfl) q159 rfl rfl d K
theorem iw_l4 {p : Program} {l : Launch} {e : Env} {R : Room} {s : State} {m : MethodId} {args : Array Value} {below : List Frame} {meth : Method} {c : Code} {Q : State → Prop} {A : Nat → Prop} {D : va_G} {nL cells slots : Nat} {pc : Nat} {L : List (Nat × Value)} {S : List Value} {cc : ByteArray} {ret : Option FieldType} {gt : Nat → Nat} {ad : Nat → Nat} {ct : Nat → ClassId} {n : Nat} {τ σ : Nat → Nat → Int32} {T : va_W} {own : String} (E : En p s m args meth c A cc nL own ret D (tysA ct) gt) {i v : Int32} (N : Nat) (hi : i = nI N) (hN : N < 12) (hv : σ 31 N = v) (d : decode cc pc = .ok (.iaload, 1)) (K : Sm p l e R s m args below meth c Q A D nL cells slots (iw ad ct n τ σ T) (pc + 1) L (.int v :: S)) : Sm p l e R s m args below meth c Q A D nL cells slots (iw ad ct n τ σ T) pc L (.int i :: .ref (ad 4) :: S) := s_iald E 4 0 rfl rfl N hi hN (Nat.le_of_ble_eq_true rfl) hv d K
theorem iwX3_g7_3 {p : Program} {l : Launch} {e : Env} {R : Room} {s : State} {m : MethodId} {args : Array Value} {below : List Frame} {meth : Method} {c : Code} {Q : State → Prop} {A : Nat → Prop} {D : va_G} {nL cells slots : Nat} {pc : Nat} {L : List (Nat × Value)} {S : List Value} {cc : ByteArray} {ret : Option FieldType} {gt : Nat → Nat} {ad : Nat → Nat} {ct : Nat → ClassId} {n : Nat} {τ σ : Nat → Nat → Int32} {T : va_W} (E : En p s m args meth c A cc nL RX3 ret D (tysA ct) gt) (d : decode cc pc = .ok (.getfield 21, 3)) (K : Sm p l e R s m args below meth c Q A D nL cells slots (iw ad ct n τ σ T) (pc + 3) L (.ref (ad 11) :: S)) : Sm p l e R s m args below meth c Q A D nL cells slots (iw ad ct n τ σ T) pc L (.ref (ad 7) :: S) := s_get E in_X3 7 rfl rfl 3 (Nat.le_of_ble_eq_true rfl) q242 rfl rfl d K
theorem iwX3_g7_0 {p : Program} {l : Launch} {e : Env} {R : Room} {s : State} {m : MethodId} {args : Array Value} {below : List Frame} {meth : Method} {c : Code} {Q : State → Prop} {A : Nat → Prop} {D : va_G} {nL cells slots : Nat} {pc : Nat} {L : List (Nat × Value)} {S : List Value} {cc : ByteArray} {ret : Option FieldType} {gt : Nat → Nat} {ad : Nat → Nat} {ct : Nat → ClassId} {n : Nat} {τ σ : Nat → Nat → Int32} {T : va_W} (E : En p s m args meth c A cc nL RX3 ret D (tysA ct) gt) (d : decode cc pc = .ok (.getfield 9, 3)) (K : Sm p l e R s m args below meth c Q A D nL cells slots (iw ad ct n τ σ T) (pc + 3) L (.ref (ad 8) :: S)) : Sm p l e R s m args below meth c Q A D nL cells slots (iw ad ct n τ σ T) pc L (.ref (ad 7) :: S) := s_get E in_X3 7 rfl rfl 0 (Nat.le_of_ble_eq_true rfl) q232 rfl rfl d K
theorem iwX3_g2_0 {p : Program} {l : Launch} {e : Env} {R : Room} {s : State} {m : MethodId} {args : Array Value} {below : List Frame} {meth : Method} {c : Code} {Q : State → Prop} {A : Nat → Prop} {D : va_G} {nL cells slots : Nat} {pc : Nat} {L : List (Nat × Value)} {S : List Value} {cc : ByteArray} {ret : Option FieldType} {gt : Nat → Nat} {ad : Nat → Nat} {ct : Nat → ClassId} {n : Nat} {τ σ : Nat → Nat → Int32} {T : va_W} (E : En p s m args meth c A cc nL RX3 ret D (tysA ct) gt) (d : decode cc pc = .ok (.getfield 31, 3)) (K : Sm p l e R s m args below meth c Q A D nL cells slots (iw ad ct n τ σ T) (pc + 3) L (.ref (ad 3) :: S)) : Sm p l e R s m args below meth c Q A D nL cells slots (iw ad ct n τ σ T) pc L (.ref (ad 2) :: S) := s_getN E in_X2 2 rfl rfl 0 (Nat.le_of_ble_eq_true rfl) q153 rfl rfl d K
theorem iwX3_l3 {p : Program} {l : Launch} {e : Env} {R : Room} {s : State} {m : MethodId} {args : Array Value} {below : List Frame} {meth : Method} {c : Code} {Q : State → Prop} {A : Nat → Prop} {D : va_G} {nL cells slots : Nat} {pc : Nat} {L : List (Nat × Value)} {S : List Value} {cc : ByteArray} {ret : Option FieldType} {gt : Nat → Nat} {ad : Nat → Nat} {ct : Nat → ClassId} {n : Nat} {τ σ : Nat → Nat → Int32} {T : va_W} (E : En p s m args meth c A cc nL RX3 ret D (tysA ct) gt) {i : Int32} (N : Nat) (hi : i = nI N) (hN : N < n) (h6 : n ≤ 6) (d : decode cc pc = .ok (.aaload, 1)) (K : Sm p l e R s m args below meth c Q A D nL cells slots (iw ad ct n τ σ T) (pc + 1) L (.ref (ad (100 + N)) :: S)) : Sm p l e R s m args below meth c Q A D nL cells slots (iw ad ct n τ σ T) pc L (.int i :: .ref (ad 3) :: S) := s_aald E 3 3 rfl rfl N hi (Nat.lt_of_lt_of_le hN h6) (Nat.le_of_ble_eq_true rfl) (by show va_rf (usF ad n N) = _; unfold usF; rw [if_pos hN]; rfl) d K
theorem iwX3_gu5 {p : Program} {l : Launch} {e : Env} {R : Room} {s : State} {m : MethodId} {args : Array Value} {below : List Frame} {meth : Method} {c : Code} {Q : State → Prop} {A : Nat → Prop} {D : va_G} {nL cells slots : Nat} {pc : Nat} {L : List (Nat × Value)} {S : List Value} {cc : ByteArray} {ret : Option FieldType} {gt : Nat → Nat} {ad : Nat → Nat} {ct : Nat → ClassId} {n : Nat} {τ σ : Nat → Nat → Int32} {T : va_W} (E : En p s m args meth c A cc nL RX3 ret D (tysA ct) gt) {v : Int32} (k : Nat) (hk : k < n) (hT : UT ad n τ T) (hv : τ 10 k = v) (d : decode cc pc = .ok (.getfield 35, 3)) (K : Sm p l e R s m args below meth c Q A D nL cells slots (iw ad ct n τ σ T) (pc + 3) L (.int v :: S)) : Sm p l e R s m args below meth c Q A D nL cells slots (iw ad ct n τ σ T) pc L (.ref (ad (100 + k)) :: S) := s_getN E in_X8 (47 + k) (iw_u hT hk) rfl 5 (Nat.le_of_ble_eq_true rfl) q729 (congrArg (fun z => some (Value.int z)) hv) rfl d K
theorem iwX3_g7_1 {p : Program} {l : Launch} {e : Env} {R : Room} {s : State} {m : MethodId} {args : Array Value} {below : List Frame} {meth : Method} {c : Code} {Q : State → Prop} {A : Nat → Prop} {D : va_G} {nL cells slots : Nat} {pc : Nat} {L : List (Nat × Value)} {S : List Value} {cc : ByteArray} {ret : Option FieldType} {gt : Nat → Nat} {ad : Nat → Nat} {ct : Nat → ClassId} {n : Nat} {τ σ : Nat → Nat → Int32} {T : va_W} (E : En p s m args meth c A cc nL RX3 ret D (tysA ct) gt) (d : decode cc pc = .ok (.getfield 15, 3)) (K : Sm p l e R s m args below meth c Q A D nL cells slots (iw ad ct n τ σ T) (pc + 3) L (.ref (ad 9) :: S)) : Sm p l e R s m args below meth c Q A D nL cells slots (iw ad ct n τ σ T) pc L (.ref (ad 7) :: S) := s_get E in_X3 7 rfl rfl 1 (Nat.le_of_ble_eq_true rfl) q236 rfl rfl d K
theorem iwX3_gu2 {p : Program} {l : Launch} {e : Env} {R : Room} {s : State} {m : MethodId} {args : Array Value} {below : List Frame} {meth : Method} {c : Code} {Q : State → Prop} {A : Nat → Prop} {D : va_G} {nL cells slots : Nat} {pc : Nat} {L : List (Nat × Value)} {S : List Value} {cc : ByteArray} {ret : Option FieldType} {gt : Nat → Nat} {ad : Nat → Nat} {ct : Nat → ClassId} {n : Nat} {τ σ : Nat → Nat → Int32} {T : va_W} (E : En p s m args meth c A cc nL RX3 ret D (tysA ct) gt) {v : Int32} (k : Nat) (hk : k < n) (hT : UT ad n τ T) (hv : τ 7 k = v) (d : decode cc pc = .ok (.getfield 40, 3)) (K : Sm p l e R s m args below meth c Q A D nL cells slots (iw ad ct n τ σ T) (pc + 3) L (.int v :: S)) : Sm p l e R s m args below meth c Q A D nL cells slots (iw ad ct n τ σ T) pc L (.ref (ad (100 + k)) :: S) := s_getN E in_X8 (47 + k) (iw_u hT hk) rfl 2 (Nat.le_of_ble_eq_true rfl) q722 (congrArg (fun z => some (Value.int z)) hv) rfl d K
theorem iwX3_g7_2 {p : Program} {l : Launch} {e : Env} {R : Room} {s : State} {m : MethodId} {args : Array Value} {below : List Frame} {meth : Method} {c : Code} {Q : State → Prop} {A : Nat → Prop} {D : va_G} {nL cells slots : Nat} {pc : Nat} {L : List (Nat × Value)} {S : List Value} {cc : ByteArray} {ret : Option FieldType} {gt : Nat → Nat} {ad : Nat → Nat} {ct : Nat → ClassId} {n : Nat} {τ σ : Nat → Nat → Int32} {T : va_W} (E : En p s m args meth c A cc nL RX3 ret D (tysA ct) gt) (d : decode cc pc = .ok (.getfield 18, 3)) (K : Sm p l e R s m args below meth c Q A D nL cells slots (iw ad ct n τ σ T) (pc + 3) L (.ref (ad 10) :: S)) : Sm p l e R s m args below meth c Q A D nL cells slots (iw ad ct n τ σ T) pc L (.ref (ad 7) :: S) := s_get E in_X3 7 rfl rfl 2 (Nat.le_of_ble_eq_true rfl) q239 rfl rfl d K
theorem iwX3_gu6 {p : Program} {l : Launch} {e : Env} {R : Room} {s : State} {m : MethodId} {args : Array Value} {below : List Frame} {meth : Method} {c : Code} {Q : State → Prop} {A : Nat → Prop} {D : va_G} {nL cells slots : Nat} {pc : Nat} {L : List (Nat × Value)} {S : List Value} {cc : ByteArray} {ret : Option FieldType} {gt : Nat → Nat} {ad : Nat → Nat} {ct : Nat → ClassId} {n : Nat} {τ σ : Nat → Nat → Int32} {T : va_W} (E : En p s m args meth c A cc nL RX3 ret D (tysA ct) gt) {v : Int32} (k : Nat) (hk : k < n) (hT : UT ad n τ T) (hv : τ 11 k = v) (d : decode cc pc = .ok (.getfield 42, 3)) (K : Sm p l e R s m args below meth c Q A D nL cells slots (iw ad ct n τ σ T) (pc + 3) L (.int v :: S)) : Sm p l e R s m args below meth c Q A D nL cells slots (iw ad ct n τ σ T) pc L (.ref (ad (100 + k)) :: S) := s_getN E in_X8 (47 + k) (iw_u hT hk) rfl 6 (Nat.le_of_ble_eq_true rfl) q731 (congrArg (fun z => some (Value.int z)) hv) rfl d K
set_option maxHeartbeats 2000000 in
set_option maxRecDepth 100000 in
theorem x3z_fresh {l : Launch} {D : va_G} {gt : Nat → Nat} {ad : Nat → Nat} {ct : Nat → ClassId} {n : Nat} {τ σ : Nat → Nat → Int32} {T : va_W}  (hX : XT τ n) (hT : UT ad n τ T) (hm : In (τ 3 8) 7) (hbk : ∀ k, k < tN (τ 3 8) → In (σ 31 (2 * k)) 61 ∧ In (σ 31 (2 * k + 1)) 61) : Cv l D gt yX3_fresh cX3_fresh 4 0 0 0 0 [.ref (ad 7), .ref (ad 2)] (iw ad ct n τ σ T) (tysA ct) (fun σ2 => upR σ 1 (frP τ (σ 1) (σ 31) n (tN (τ 3 8))) = σ2) (fun σ2 : Nat → Nat → Int32 => iw ad ct n τ σ2 T) (fun _ => tysA ct) := by
  refine Cv.start RX3 (by decide) rfl (Nat.le_of_ble_eq_true rfl) rfl ?_
  intro pP eE sS mM aA bB hM cC QQ AA E Rt
  have hn6 := hX.2.1
  have hm7 := hm.2
  refine s_iconst E dX3_fresh_0 (v := nI 0) (by decide) ?_
  refine s_istore_n E (L2 := [(2, .int (nI 0)), (0, .ref (ad 7)), (1, .ref (ad 2))]) dX3_fresh_1 rfl (Nat.le_of_ble_eq_true rfl) rfl ?_
  have L2 : ∀ (fuel : Nat) (u : Nat), (u ≤ n) → (n - u) < fuel → Sm pP l eE { frames := 0, cells := 0, slots := 0, locals := 0 } sS mM aA bB hM cC QQ AA D 4 0 0 (iw ad ct n τ (upR σ 1 (usF2 τ (σ 1) u)) T) 2 [(0, .ref (ad 7)), (1, .ref (ad 2)), (2, .int (nI u))] [] := by
    intro fuel
    induction fuel with
    | zero =>
      intro u hu hf2
      exact absurd hf2 (Nat.not_lt_zero _)
    | succ fuel ih2 =>
      intro u hu hf2
      refine s_iload_n E dX3_fresh_2 (i := 2) (j := 2) rfl rfl ?_
      refine s_aload_n E dX3_fresh_3 (i := 1) (j := 1) rfl rfl ?_
      refine iwX3_g2_4 E (v := nI n) (hX.1) dX3_fresh_4 ?_
      refine s_icmp_ge E dX3_fresh_7 (tgt := 79) rfl (fun c7 => ?_) (fun c7 => ?_)
      · have c7 : ¬ u < n := fun h => absurd c7 (Int32.not_le.mpr ((nI_ltI (a := u) (b := n) (by omega) (by omega)).mpr h))
        refine s_iconst E dX3_fresh_79 (v := nI 0) (by decide) ?_
        refine s_istore_n E (L2 := [(2, .int (nI 0)), (0, .ref (ad 7)), (1, .ref (ad 2))]) dX3_fresh_80 rfl (Nat.le_of_ble_eq_true rfl) rfl ?_
        have L81 : ∀ (fuel : Nat) (c : Nat), (c ≤ 61) → (61 - c) < fuel → Sm pP l eE { frames := 0, cells := 0, slots := 0, locals := 0 } sS mM aA bB hM cC QQ AA D 4 0 0 (iw ad ct n τ (upR σ 1 (zrF (usF2 τ (σ 1) n) c)) T) 81 [(0, .ref (ad 7)), (1, .ref (ad 2)), (2, .int (nI c))] [] := by
          intro fuel
          induction fuel with
          | zero =>
            intro c hc hf81
            exact absurd hf81 (Nat.not_lt_zero _)
          | succ fuel ih81 =>
            intro c hc hf81
            refine s_iload_n E dX3_fresh_81 (i := 2) (j := 2) rfl rfl ?_
            refine s_bipush E dX3_fresh_82 (v := nI 60) (by decide) ?_
            refine s_icmp_gt E dX3_fresh_84 (tgt := 100) rfl (fun c84 => ?_) (fun c84 => ?_)
            · have c84 : 60 < c := (nI_ltI (a := 60) (b := c) (by omega) (by omega)).mp c84
              refine s_iconst E dX3_fresh_100 (v := nI 0) (by decide) ?_
              refine s_istore_n E (L2 := [(2, .int (nI 0)), (0, .ref (ad 7)), (1, .ref (ad 2))]) dX3_fresh_101 rfl (Nat.le_of_ble_eq_true rfl) rfl ?_
              have L102 : ∀ (fuel : Nat) (k : Nat), (k ≤ tN (τ 3 8)) → (tN (τ 3 8) - k) < fuel → Sm pP l eE { frames := 0, cells := 0, slots := 0, locals := 0 } sS mM aA bB hM cC QQ AA D 4 0 0 (iw ad ct n τ (upR σ 1 (bkF (zrF (usF2 τ (σ 1) n) 61) (σ 31) k 0 0)) T) 102 [(0, .ref (ad 7)), (1, .ref (ad 2)), (2, .int (nI k))] [] := by
                intro fuel
                induction fuel with
                | zero =>
                  intro k hk hf102
                  exact absurd hf102 (Nat.not_lt_zero _)
                | succ fuel ih102 =>
                  intro k hk hf102
                  refine s_iload_n E dX3_fresh_102 (i := 2) (j := 2) rfl rfl ?_
                  refine s_aload_n E dX3_fresh_103 (i := 1) (j := 1) rfl rfl ?_
                  refine iwX3_g2_5 E (v := nI (tN (τ 3 8))) (hm.1) dX3_fresh_104 ?_
                  refine s_icmp_ge E dX3_fresh_107 (tgt := 152) rfl (fun c107 => ?_) (fun c107 => ?_)
                  · have c107 : ¬ k < tN (τ 3 8) := fun h => absurd c107 (Int32.not_le.mpr ((nI_ltI (a := k) (b := tN (τ 3 8)) (by omega) (by omega)).mpr h))
                    exact Rt (upR σ 1 (bkF (zrF (usF2 τ (σ 1) n) 61) (σ 31) k 0 0)) dX3_fresh_152 (by rw [show k = tN (τ 3 8) by omega]; rfl) rfl (Nat.le_refl _) (Nat.le_refl _) E.2.2.2.2.2.1
                  · have c107 : k < tN (τ 3 8) := (nI_ltI (a := k) (b := tN (τ 3 8)) (by omega) (by omega)).mp (Int32.not_le.mp c107)
                    refine s_aload_n E dX3_fresh_110 (i := 1) (j := 1) rfl rfl ?_
                    refine iwX3_g2_1 E dX3_fresh_111 ?_
                    refine s_iconst E dX3_fresh_114 (v := nI 2) (by decide) ?_
                    refine s_iload_n E dX3_fresh_115 (i := 2) (j := 2) rfl rfl ?_
                    refine s_imul_ E dX3_fresh_116 (v := nI (2 * k)) (pk_mul _ _) ?_
                    refine iw_l4 E (v := nI (tN (σ 31 (2 * k)))) (2 * k) (rfl) (by omega) ((hbk k (by omega)).1.1) dX3_fresh_117 ?_
                    refine s_istore_n E (L2 := [(3, .int (nI (tN (σ 31 (2 * k))))), (0, .ref (ad 7)), (1, .ref (ad 2)), (2, .int (nI k))]) dX3_fresh_118 rfl (Nat.le_of_ble_eq_true rfl) rfl ?_
                    have L119 : ∀ (fuel : Nat) (d : Nat), (tN (σ 31 (2 * k)) ≤ d) → (d ≤ tN (σ 31 (2 * k + 1)) + 1 ∨ d = tN (σ 31 (2 * k))) → (d ≤ 61) → (61 - d) < fuel → Sm pP l eE { frames := 0, cells := 0, slots := 0, locals := 0 } sS mM aA bB hM cC QQ AA D 4 0 0 (iw ad ct n τ (upR σ 1 (bkF (zrF (usF2 τ (σ 1) n) 61) (σ 31) k (tN (σ 31 (2 * k))) d)) T) 119 [(0, .ref (ad 7)), (1, .ref (ad 2)), (2, .int (nI k)), (3, .int (nI d))] [] := by
                      intro fuel
                      induction fuel with
                      | zero =>
                        intro d hd0 hd hd61 hf119
                        exact absurd hf119 (Nat.not_lt_zero _)
                      | succ fuel ih119 =>
                        intro d hd0 hd hd61 hf119
                        have hb2 := (hbk k (by omega)).2.2
                        refine s_iload_n E dX3_fresh_119 (i := 3) (j := 3) rfl rfl ?_
                        refine s_aload_n E dX3_fresh_120 (i := 1) (j := 1) rfl rfl ?_
                        refine iwX3_g2_1 E dX3_fresh_121 ?_
                        refine s_iconst E dX3_fresh_124 (v := nI 2) (by decide) ?_
                        refine s_iload_n E dX3_fresh_125 (i := 2) (j := 2) rfl rfl ?_
                        refine s_imul_ E dX3_fresh_126 (v := nI (2 * k)) (pk_mul _ _) ?_
                        refine s_iconst E dX3_fresh_127 (v := nI 1) (by decide) ?_
                        refine s_iadd_ E dX3_fresh_128 (v := nI ((2 * k) + 1)) (nI_add _ _) ?_
                        refine iw_l4 E (v := nI (tN (σ 31 (2 * k + 1)))) ((2 * k) + 1) (rfl) (by omega) ((hbk k (by omega)).2.1) dX3_fresh_129 ?_
                        refine s_icmp_gt E dX3_fresh_130 (tgt := 146) rfl (fun c130 => ?_) (fun c130 => ?_)
                        · have c130 : tN (σ 31 (2 * k + 1)) < d := (nI_ltI (a := tN (σ 31 (2 * k + 1))) (b := d) (by omega) (by omega)).mp c130
                          refine s_iinc E (L2 := [(2, .int (nI (k + 1))), (0, .ref (ad 7)), (1, .ref (ad 2)), (3, .int (nI d))]) dX3_fresh_146 (k := 2) rfl (v := nI (k + 1)) (nI_inc _) (Nat.le_of_ble_eq_true rfl) rfl ?_
                          refine s_goto E dX3_fresh_149 (tgt := 102) rfl ?_
                          refine s_ws (ws2 := iw ad ct n τ (upR σ 1 (bkF (zrF (usF2 τ (σ 1) n) 61) (σ 31) (k + 1) 0 0)) T) (congrArg (fun z => iw ad ct n τ z T) (by rw [bkF_n (by omega) hd])) ?_
                          refine s_loc (L2 := [(0, .ref (ad 7)), (1, .ref (ad 2)), (2, .int (nI (k + 1)))]) [1, 2, 0] rfl ?_
                          exact ih102 (k + 1) (by omega) (by omega)
                        · have c130 : ¬ tN (σ 31 (2 * k + 1)) < d := fun h => c130 ((nI_ltI (a := tN (σ 31 (2 * k + 1))) (b := d) (by omega) (by omega)).mpr h)
                          refine s_aload_n E dX3_fresh_133 (i := 0) (j := 0) rfl rfl ?_
                          refine iwX3_g7_3 E dX3_fresh_134 ?_
                          refine s_iload_n E dX3_fresh_137 (i := 3) (j := 3) rfl rfl ?_
                          refine s_iconst E dX3_fresh_138 (v := nI 1) (by decide) ?_
                          refine iw_s11 E rfl (d) (rfl) (by omega) hn6 dX3_fresh_139 ?_
                          refine s_ws (ws2 := iw ad ct n τ (upR σ 1 (bkF (zrF (usF2 τ (σ 1) n) 61) (σ 31) k (tN (σ 31 (2 * k))) (d + 1))) T) (congrArg (fun z => iw ad ct n τ z T) (bkF_s hd0 (by omega))) ?_
                          refine s_iinc E (L2 := [(3, .int (nI (d + 1))), (0, .ref (ad 7)), (1, .ref (ad 2)), (2, .int (nI k))]) dX3_fresh_140 (k := 3) rfl (v := nI (d + 1)) (nI_inc _) (Nat.le_of_ble_eq_true rfl) rfl ?_
                          refine s_goto E dX3_fresh_143 (tgt := 119) rfl ?_
                          refine s_loc (L2 := [(0, .ref (ad 7)), (1, .ref (ad 2)), (2, .int (nI k)), (3, .int (nI (d + 1)))]) [1, 2, 3, 0] rfl ?_
                          exact ih119 (d + 1) (by omega) (Or.inl (by omega)) (by omega) (by omega)
                    refine s_ws (ws2 := iw ad ct n τ (upR σ 1 (bkF (zrF (usF2 τ (σ 1) n) 61) (σ 31) k (tN (σ 31 (2 * k))) (tN (σ 31 (2 * k))))) T) (congrArg (fun z => iw ad ct n τ z T) (by rw [bkF_l])) ?_
                    refine s_loc (L2 := [(0, .ref (ad 7)), (1, .ref (ad 2)), (2, .int (nI k)), (3, .int (nI (tN (σ 31 (2 * k)))))]) [1, 2, 3, 0] rfl ?_
                    exact L119 (_ + 1) (tN (σ 31 (2 * k))) (Nat.le_refl _) (Or.inr rfl) (by have := (hbk k (by omega)).1.2; omega) (Nat.lt_succ_self _)
              refine s_ws (ws2 := iw ad ct n τ (upR σ 1 (bkF (zrF (usF2 τ (σ 1) n) 61) (σ 31) 0 0 0)) T) (congrArg (fun z => iw ad ct n τ z T) (by rw [bkF_0, show c = 61 by omega])) ?_
              refine s_loc (L2 := [(0, .ref (ad 7)), (1, .ref (ad 2)), (2, .int (nI 0))]) [1, 2, 0] rfl ?_
              exact L102 (_ + 1) 0 (Nat.zero_le _) (Nat.lt_succ_self _)
            · have c84 : ¬ 60 < c := fun h => c84 ((nI_ltI (a := 60) (b := c) (by omega) (by omega)).mpr h)
              refine s_aload_n E dX3_fresh_87 (i := 0) (j := 0) rfl rfl ?_
              refine iwX3_g7_3 E dX3_fresh_88 ?_
              refine s_iload_n E dX3_fresh_91 (i := 2) (j := 2) rfl rfl ?_
              refine s_iconst E dX3_fresh_92 (v := nI 0) (by decide) ?_
              refine iw_s11 E rfl (c) (rfl) (by omega) hn6 dX3_fresh_93 ?_
              refine s_ws (ws2 := iw ad ct n τ (upR σ 1 (zrF (usF2 τ (σ 1) n) (c + 1))) T) (congrArg (fun z => iw ad ct n τ z T) (zrF_s)) ?_
              refine s_iinc E (L2 := [(2, .int (nI (c + 1))), (0, .ref (ad 7)), (1, .ref (ad 2))]) dX3_fresh_94 (k := 2) rfl (v := nI (c + 1)) (nI_inc _) (Nat.le_of_ble_eq_true rfl) rfl ?_
              refine s_goto E dX3_fresh_97 (tgt := 81) rfl ?_
              refine s_loc (L2 := [(0, .ref (ad 7)), (1, .ref (ad 2)), (2, .int (nI (c + 1)))]) [1, 2, 0] rfl ?_
              exact ih81 (c + 1) (by omega) (by omega)
        refine s_ws (ws2 := iw ad ct n τ (upR σ 1 (zrF (usF2 τ (σ 1) n) 0)) T) (congrArg (fun z => iw ad ct n τ z T) (by rw [zrF_0, show u = n by omega])) ?_
        refine s_loc (L2 := [(0, .ref (ad 7)), (1, .ref (ad 2)), (2, .int (nI 0))]) [1, 2, 0] rfl ?_
        exact L81 (_ + 1) 0 (Nat.zero_le _) (Nat.lt_succ_self _)
      · have c7 : u < n := (nI_ltI (a := u) (b := n) (by omega) (by omega)).mp (Int32.not_le.mp c7)
        refine s_aload_n E dX3_fresh_10 (i := 0) (j := 0) rfl rfl ?_
        refine iwX3_g7_0 E dX3_fresh_11 ?_
        refine s_iload_n E dX3_fresh_14 (i := 2) (j := 2) rfl rfl ?_
        refine s_aload_n E dX3_fresh_15 (i := 1) (j := 1) rfl rfl ?_
        refine iwX3_g2_0 E dX3_fresh_16 ?_
        refine s_iload_n E dX3_fresh_19 (i := 2) (j := 2) rfl rfl ?_
        refine iwX3_l3 E (u) (rfl) (by omega) hn6 dX3_fresh_20 ?_
        refine iwX3_gu5 E (v := τ 10 u) (u) (by omega) hT (rfl) dX3_fresh_21 ?_
        refine iw_s8 E (u) (rfl) (by omega) hn6 dX3_fresh_24 ?_
        refine s_aload_n E dX3_fresh_25 (i := 0) (j := 0) rfl rfl ?_
        refine iwX3_g7_1 E dX3_fresh_26 ?_
        refine s_iload_n E dX3_fresh_29 (i := 2) (j := 2) rfl rfl ?_
        refine s_aload_n E dX3_fresh_30 (i := 1) (j := 1) rfl rfl ?_
        refine iwX3_g2_0 E dX3_fresh_31 ?_
        refine s_iload_n E dX3_fresh_34 (i := 2) (j := 2) rfl rfl ?_
        refine iwX3_l3 E (u) (rfl) (by omega) hn6 dX3_fresh_35 ?_
        refine iwX3_gu2 E (v := τ 7 u) (u) (by omega) hT (rfl) dX3_fresh_36 ?_
        refine iw_s9 E (u) (rfl) (by omega) hn6 dX3_fresh_39 ?_
        refine s_aload_n E dX3_fresh_40 (i := 0) (j := 0) rfl rfl ?_
        refine iwX3_g7_2 E dX3_fresh_41 ?_
        refine s_iload_n E dX3_fresh_44 (i := 2) (j := 2) rfl rfl ?_
        refine s_aload_n E dX3_fresh_45 (i := 1) (j := 1) rfl rfl ?_
        refine iwX3_g2_0 E dX3_fresh_46 ?_
        refine s_iload_n E dX3_fresh_49 (i := 2) (j := 2) rfl rfl ?_
        refine iwX3_l3 E (u) (rfl) (by omega) hn6 dX3_fresh_50 ?_
        refine iwX3_gu6 E (v := τ 11 u) (u) (by omega) hT (rfl) dX3_fresh_51 ?_
        have J72 : Sm pP l eE { frames := 0, cells := 0, slots := 0, locals := 0 } sS mM aA bB hM cC QQ AA D 4 0 0 (iw ad ct n τ (st1 (st1 (upR σ 1 (usF2 τ (σ 1) u)) 1 u (τ 10 u)) 1 (6 + u) (τ 7 u)) T) 72 [(0, .ref (ad 7)), (1, .ref (ad 2)), (2, .int (nI u))] [.int (if τ 11 u = 0 then nI 255 else τ 11 u), .int (nI u), .ref (ad 10)] := by
          refine iw_s10 E (u) (rfl) (by omega) hn6 dX3_fresh_72 ?_
          refine s_ws (ws2 := iw ad ct n τ (upR σ 1 (usF2 τ (σ 1) (u + 1))) T) (congrArg (fun z => iw ad ct n τ z T) (usF2_s (by omega))) ?_
          refine s_iinc E (L2 := [(2, .int (nI (u + 1))), (0, .ref (ad 7)), (1, .ref (ad 2))]) dX3_fresh_73 (k := 2) rfl (v := nI (u + 1)) (nI_inc _) (Nat.le_of_ble_eq_true rfl) rfl ?_
          refine s_goto E dX3_fresh_76 (tgt := 2) rfl ?_
          refine s_loc (L2 := [(0, .ref (ad 7)), (1, .ref (ad 2)), (2, .int (nI (u + 1)))]) [1, 2, 0] rfl ?_
          exact ih2 (u + 1) (by omega) (by omega)
        refine s_if_ne E dX3_fresh_54 (tgt := 63) rfl (fun c54 => ?_) (fun c54 => ?_)
        · refine s_aload_n E dX3_fresh_63 (i := 1) (j := 1) rfl rfl ?_
          refine iwX3_g2_0 E dX3_fresh_64 ?_
          refine s_iload_n E dX3_fresh_67 (i := 2) (j := 2) rfl rfl ?_
          refine iwX3_l3 E (u) (rfl) (by omega) hn6 dX3_fresh_68 ?_
          refine iwX3_gu6 E (v := τ 11 u) (u) (by omega) hT (rfl) dX3_fresh_69 ?_
          refine s_top (v2 := if τ 11 u = 0 then nI 255 else τ 11 u) (by rw [if_neg c54]) ?_
          exact J72
        · refine s_sipush E dX3_fresh_57 (v := nI 255) (by decide) ?_
          refine s_goto E dX3_fresh_60 (tgt := 72) rfl ?_
          refine s_top (v2 := if τ 11 u = 0 then nI 255 else τ 11 u) (by rw [if_pos c54]) ?_
          exact J72
  refine s_ws (ws2 := iw ad ct n τ (upR σ 1 (usF2 τ (σ 1) 0)) T) (congrArg (fun z => iw ad ct n τ z T) (by rw [usF2_0, upR_self rfl])) ?_
  refine s_loc (L2 := [(0, .ref (ad 7)), (1, .ref (ad 2)), (2, .int (nI 0))]) [1, 2, 0] rfl ?_
  exact L2 (_ + 1) 0 (Nat.zero_le _) (Nat.lt_succ_self _)
theorem K_X1_104 : KV RX1 104 RX3 yX3_fresh cX3_fresh 4 none 1 := ⟨q384, q385, q386, q115, q387, by decide +kernel⟩
set_option maxHeartbeats 1000000 in
set_option maxRecDepth 100000 in
theorem x1z_begin {l : Launch} {D : va_G} {gt : Nat → Nat} {ad : Nat → Nat} {ct : Nat → ClassId} {n : Nat} {τ σ : Nat → Nat → Int32} {T : va_W}  (hX : XT τ n) (hT : UT ad n τ T) (hm : In (τ 3 8) 7) (hbk : ∀ k, k < tN (τ 3 8) → In (σ 31 (2 * k)) 61 ∧ In (σ 31 (2 * k + 1)) 61) : Cv l D gt yX1_begin cX1_begin 1 1 23 0 0 [.ref (ad 0)] (iw ad ct n τ σ T) (tysA ct) (fun σ2 => st1 (st1 (upR σ 1 (frP τ (σ 1) (σ 31) n (tN (τ 3 8)))) 0 9 (nI 0)) 0 10 (nI 0) = σ2) (fun σ2 : Nat → Nat → Int32 => iw ad ct n τ σ2 T) (fun _ => tysA ct) := by
  refine Cv.start RX1 (by decide) rfl (Nat.le_of_ble_eq_true rfl) rfl ?_
  intro pP eE sS mM aA bB hM cC QQ AA E Rt
  refine s_aload_n E dX1_begin_0 (i := 0) (j := 0) rfl rfl ?_
  refine iwX1_g0_5 E dX1_begin_1 ?_
  refine s_aload_n E dX1_begin_4 (i := 0) (j := 0) rfl rfl ?_
  refine iwX1_g0_4 E dX1_begin_5 ?_
  refine c_gov0 E (rV E (cutS _ _) (x3z_fresh (hX) (hT) (hm) (hbk)) K_X1_104 (Nat.le_of_ble_eq_true rfl) (Nat.le_of_ble_eq_true rfl) (Nat.zero_le _) (Nat.zero_le _) 7 rfl rfl rfl rfl (Nat.le_of_ble_eq_true rfl) dX1_begin_8) (fun w8 h8 => ?_)
  subst h8
  refine s_aload_n E dX1_begin_11 (i := 0) (j := 0) rfl rfl ?_
  refine s_iconst E dX1_begin_12 (v := nI 0) (by decide) ?_
  refine iwX1_p0_9 E dX1_begin_13 ?_
  refine s_aload_n E dX1_begin_16 (i := 0) (j := 0) rfl rfl ?_
  refine s_iconst E dX1_begin_17 (v := nI 0) (by decide) ?_
  refine iwX1_p0_10 E rfl rfl dX1_begin_18 ?_
  exact Rt (st1 (st1 (upR σ 1 (frP τ (σ 1) (σ 31) n (tN (τ 3 8)))) 0 9 (nI 0)) 0 10 (nI 0)) dX1_begin_21 (rfl) rfl (Nat.le_refl _) (Nat.le_refl _) E.2.2.2.2.2.1
