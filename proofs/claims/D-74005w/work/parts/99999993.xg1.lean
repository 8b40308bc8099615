set_option maxRecDepth 100000
theorem iwX1_g0_12 {p : Program} {l : Launch} {e : Env} {R : Room} {s : State} {m : MethodId} {args : Array Value} {below : List Frame} {meth : Method} {c : Code} {Q : State → Prop} {A : Nat → Prop} {D : va_G} {nL cells slots : Nat} {pc : Nat} {L : List (Nat × Value)} {S : List Value} {cc : ByteArray} {ret : Option FieldType} {gt : Nat → Nat} {ad : Nat → Nat} {ct : Nat → ClassId} {n : Nat} {τ σ : Nat → Nat → Int32} {T : va_W} (E : En p s m args meth c A cc nL RX1 ret D (tysA ct) gt) (d : decode cc pc = .ok (.getfield 63, 3)) (K : Sm p l e R s m args below meth c Q A D nL cells slots (iw ad ct n τ σ T) (pc + 3) L (.ref (ad 37) :: S)) : Sm p l e R s m args below meth c Q A D nL cells slots (iw ad ct n τ σ T) pc L (.ref (ad 0) :: S) := s_get E in_X1 0 rfl rfl 12 (Nat.le_of_ble_eq_true rfl) q403 rfl rfl d K
theorem iwX1_p37_10 {p : Program} {l : Launch} {e : Env} {R : Room} {s : State} {m : MethodId} {args : Array Value} {below : List Frame} {meth : Method} {c : Code} {Q : State → Prop} {A : Nat → Prop} {D : va_G} {nL cells slots : Nat} {pc : Nat} {L : List (Nat × Value)} {S : List Value} {cc : ByteArray} {ret : Option FieldType} {gt : Nat → Nat} {ad : Nat → Nat} {ct : Nat → ClassId} {n : Nat} {τ σ : Nat → Nat → Int32} {T : va_W} (E : En p s m args meth c A cc nL RX1 ret D (tysA ct) gt) {v : Int32} (d : decode cc pc = .ok (.putfield 176, 3)) (K : Sm p l e R s m args below meth c Q A D nL cells slots (iw ad ct n τ (st1 σ 20 10 v) T) (pc + 3) L S) : Sm p l e R s m args below meth c Q A D nL cells slots (iw ad ct n τ σ T) pc L (.int v :: .ref (ad 37) :: S) := s_putN E in_X4 tyX4 tyX4_ok nmX4 37 rfl rfl 10 (Nat.le_of_ble_eq_true rfl) q287 rfl rfl rfl rfl (Nat.le_of_ble_eq_true rfl) rfl d K
theorem iwX1_p37_11 {p : Program} {l : Launch} {e : Env} {R : Room} {s : State} {m : MethodId} {args : Array Value} {below : List Frame} {meth : Method} {c : Code} {Q : State → Prop} {A : Nat → Prop} {D : va_G} {nL cells slots : Nat} {pc : Nat} {L : List (Nat × Value)} {S : List Value} {cc : ByteArray} {ret : Option FieldType} {gt : Nat → Nat} {ad : Nat → Nat} {ct : Nat → ClassId} {n : Nat} {τ σ : Nat → Nat → Int32} {T : va_W} (E : En p s m args meth c A cc nL RX1 ret D (tysA ct) gt) {v : Int32} (d : decode cc pc = .ok (.putfield 308, 3)) (K : Sm p l e R s m args below meth c Q A D nL cells slots (iw ad ct n τ (st1 σ 20 11 v) T) (pc + 3) L S) : Sm p l e R s m args below meth c Q A D nL cells slots (iw ad ct n τ σ T) pc L (.int v :: .ref (ad 37) :: S) := s_putN E in_X4 tyX4 tyX4_ok nmX4 37 rfl rfl 11 (Nat.le_of_ble_eq_true rfl) q289 rfl rfl rfl rfl (Nat.le_of_ble_eq_true rfl) rfl d K
theorem iwX1_p37_12 {p : Program} {l : Launch} {e : Env} {R : Room} {s : State} {m : MethodId} {args : Array Value} {below : List Frame} {meth : Method} {c : Code} {Q : State → Prop} {A : Nat → Prop} {D : va_G} {nL cells slots : Nat} {pc : Nat} {L : List (Nat × Value)} {S : List Value} {cc : ByteArray} {ret : Option FieldType} {gt : Nat → Nat} {ad : Nat → Nat} {ct : Nat → ClassId} {n : Nat} {τ σ : Nat → Nat → Int32} {T : va_W} (E : En p s m args meth c A cc nL RX1 ret D (tysA ct) gt) {v : Int32} (d : decode cc pc = .ok (.putfield 296, 3)) (K : Sm p l e R s m args below meth c Q A D nL cells slots (iw ad ct n τ (st1 σ 20 12 v) T) (pc + 3) L S) : Sm p l e R s m args below meth c Q A D nL cells slots (iw ad ct n τ σ T) pc L (.int v :: .ref (ad 37) :: S) := s_putN E in_X4 tyX4 tyX4_ok nmX4 37 rfl rfl 12 (Nat.le_of_ble_eq_true rfl) q291 rfl rfl rfl rfl (Nat.le_of_ble_eq_true rfl) rfl d K
theorem iwX1_p37_13 {p : Program} {l : Launch} {e : Env} {R : Room} {s : State} {m : MethodId} {args : Array Value} {below : List Frame} {meth : Method} {c : Code} {Q : State → Prop} {A : Nat → Prop} {D : va_G} {nL cells slots : Nat} {pc : Nat} {L : List (Nat × Value)} {S : List Value} {cc : ByteArray} {ret : Option FieldType} {gt : Nat → Nat} {ad : Nat → Nat} {ct : Nat → ClassId} {n : Nat} {τ σ : Nat → Nat → Int32} {T : va_W} (E : En p s m args meth c A cc nL RX1 ret D (tysA ct) gt) {v : Int32} (d : decode cc pc = .ok (.putfield 311, 3)) (K : Sm p l e R s m args below meth c Q A D nL cells slots (iw ad ct n τ (st1 σ 20 13 v) T) (pc + 3) L S) : Sm p l e R s m args below meth c Q A D nL cells slots (iw ad ct n τ σ T) pc L (.int v :: .ref (ad 37) :: S) := s_putN E in_X4 tyX4 tyX4_ok nmX4 37 rfl rfl 13 (Nat.le_of_ble_eq_true rfl) q293 rfl rfl rfl rfl (Nat.le_of_ble_eq_true rfl) rfl d K
theorem iwX1_p37_9 {p : Program} {l : Launch} {e : Env} {R : Room} {s : State} {m : MethodId} {args : Array Value} {below : List Frame} {meth : Method} {c : Code} {Q : State → Prop} {A : Nat → Prop} {D : va_G} {nL cells slots : Nat} {pc : Nat} {L : List (Nat × Value)} {S : List Value} {cc : ByteArray} {ret : Option FieldType} {gt : Nat → Nat} {ad : Nat → Nat} {ct : Nat → ClassId} {n : Nat} {τ σ : Nat → Nat → Int32} {T : va_W} (E : En p s m args meth c A cc nL RX1 ret D (tysA ct) gt) {v : Int32} (d : decode cc pc = .ok (.putfield 314, 3)) (K : Sm p l e R s m args below meth c Q A D nL cells slots (iw ad ct n τ (st1 σ 20 9 v) T) (pc + 3) L S) : Sm p l e R s m args below meth c Q A D nL cells slots (iw ad ct n τ σ T) pc L (.int v :: .ref (ad 37) :: S) := s_putN E in_X4 tyX4 tyX4_ok nmX4 37 rfl rfl 9 (Nat.le_of_ble_eq_true rfl) q285 rfl rfl rfl rfl (Nat.le_of_ble_eq_true rfl) rfl d K
theorem iwX1_g37_9 {p : Program} {l : Launch} {e : Env} {R : Room} {s : State} {m : MethodId} {args : Array Value} {below : List Frame} {meth : Method} {c : Code} {Q : State → Prop} {A : Nat → Prop} {D : va_G} {nL cells slots : Nat} {pc : Nat} {L : List (Nat × Value)} {S : List Value} {cc : ByteArray} {ret : Option FieldType} {gt : Nat → Nat} {ad : Nat → Nat} {ct : Nat → ClassId} {n : Nat} {τ σ : Nat → Nat → Int32} {T : va_W} (E : En p s m args meth c A cc nL RX1 ret D (tysA ct) gt) {v : Int32} (hv : σ 20 9 = v) (d : decode cc pc = .ok (.getfield 314, 3)) (K : Sm p l e R s m args below meth c Q A D nL cells slots (iw ad ct n τ σ T) (pc + 3) L (.int v :: S)) : Sm p l e R s m args below meth c Q A D nL cells slots (iw ad ct n τ σ T) pc L (.ref (ad 37) :: S) := s_getN E in_X4 37 rfl rfl 9 (Nat.le_of_ble_eq_true rfl) q285 (congrArg (fun z => some (Value.int z)) hv) rfl d K
theorem iwX1_g37_2 {p : Program} {l : Launch} {e : Env} {R : Room} {s : State} {m : MethodId} {args : Array Value} {below : List Frame} {meth : Method} {c : Code} {Q : State → Prop} {A : Nat → Prop} {D : va_G} {nL cells slots : Nat} {pc : Nat} {L : List (Nat × Value)} {S : List Value} {cc : ByteArray} {ret : Option FieldType} {gt : Nat → Nat} {ad : Nat → Nat} {ct : Nat → ClassId} {n : Nat} {τ σ : Nat → Nat → Int32} {T : va_W} (E : En p s m args meth c A cc nL RX1 ret D (tysA ct) gt) (d : decode cc pc = .ok (.getfield 319, 3)) (K : Sm p l e R s m args below meth c Q A D nL cells slots (iw ad ct n τ σ T) (pc + 3) L (.ref (ad 40) :: S)) : Sm p l e R s m args below meth c Q A D nL cells slots (iw ad ct n τ σ T) pc L (.ref (ad 37) :: S) := s_getN E in_X4 37 rfl rfl 2 (Nat.le_of_ble_eq_true rfl) q271 rfl rfl d K
theorem iw_l40 {p : Program} {l : Launch} {e : Env} {R : Room} {s : State} {m : MethodId} {args : Array Value} {below : List Frame} {meth : Method} {c : Code} {Q : State → Prop} {A : Nat → Prop} {D : va_G} {nL cells slots : Nat} {pc : Nat} {L : List (Nat × Value)} {S : List Value} {cc : ByteArray} {ret : Option FieldType} {gt : Nat → Nat} {ad : Nat → Nat} {ct : Nat → ClassId} {n : Nat} {τ σ : Nat → Nat → Int32} {T : va_W} {own : String} (E : En p s m args meth c A cc nL own ret D (tysA ct) gt) {i v : Int32} (N : Nat) (hi : i = nI N) (hN : N < 8) (hv : σ 23 N = v) (d : decode cc pc = .ok (.iaload, 1)) (K : Sm p l e R s m args below meth c Q A D nL cells slots (iw ad ct n τ σ T) (pc + 1) L (.int v :: S)) : Sm p l e R s m args below meth c Q A D nL cells slots (iw ad ct n τ σ T) pc L (.int i :: .ref (ad 40) :: S) := s_iald E 40 0 rfl rfl N hi hN (Nat.le_of_ble_eq_true rfl) hv d K
theorem iwX1_g37_0 {p : Program} {l : Launch} {e : Env} {R : Room} {s : State} {m : MethodId} {args : Array Value} {below : List Frame} {meth : Method} {c : Code} {Q : State → Prop} {A : Nat → Prop} {D : va_G} {nL cells slots : Nat} {pc : Nat} {L : List (Nat × Value)} {S : List Value} {cc : ByteArray} {ret : Option FieldType} {gt : Nat → Nat} {ad : Nat → Nat} {ct : Nat → ClassId} {n : Nat} {τ σ : Nat → Nat → Int32} {T : va_W} (E : En p s m args meth c A cc nL RX1 ret D (tysA ct) gt) (d : decode cc pc = .ok (.getfield 315, 3)) (K : Sm p l e R s m args below meth c Q A D nL cells slots (iw ad ct n τ σ T) (pc + 3) L (.ref (ad 38) :: S)) : Sm p l e R s m args below meth c Q A D nL cells slots (iw ad ct n τ σ T) pc L (.ref (ad 37) :: S) := s_getN E in_X4 37 rfl rfl 0 (Nat.le_of_ble_eq_true rfl) q267 rfl rfl d K
theorem iw_s38 {p : Program} {l : Launch} {e : Env} {R : Room} {s : State} {m : MethodId} {args : Array Value} {below : List Frame} {meth : Method} {c : Code} {Q : State → Prop} {A : Nat → Prop} {D : va_G} {nL cells slots : Nat} {pc : Nat} {L : List (Nat × Value)} {S : List Value} {cc : ByteArray} {ret : Option FieldType} {gt : Nat → Nat} {ad : Nat → Nat} {ct : Nat → ClassId} {n : Nat} {τ σ : Nat → Nat → Int32} {T : va_W} {own : String} (E : En p s m args meth c A cc nL own ret D (tysA ct) gt) {i v : Int32} (N : Nat) (hi : i = nI N) (hN : N < 8) (d : decode cc pc = .ok (.iastore, 1)) (K : Sm p l e R s m args below meth c Q A D nL cells slots (iw ad ct n τ (st1 σ 21 N v) T) (pc + 1) L S) : Sm p l e R s m args below meth c Q A D nL cells slots (iw ad ct n τ σ T) pc L (.int v :: .int i :: .ref (ad 38) :: S) := s_iast E 38 0 rfl rfl N hi hN (Nat.le_of_ble_eq_true rfl) rfl d K
theorem iwX1_g37_1 {p : Program} {l : Launch} {e : Env} {R : Room} {s : State} {m : MethodId} {args : Array Value} {below : List Frame} {meth : Method} {c : Code} {Q : State → Prop} {A : Nat → Prop} {D : va_G} {nL cells slots : Nat} {pc : Nat} {L : List (Nat × Value)} {S : List Value} {cc : ByteArray} {ret : Option FieldType} {gt : Nat → Nat} {ad : Nat → Nat} {ct : Nat → ClassId} {n : Nat} {τ σ : Nat → Nat → Int32} {T : va_W} (E : En p s m args meth c A cc nL RX1 ret D (tysA ct) gt) (d : decode cc pc = .ok (.getfield 317, 3)) (K : Sm p l e R s m args below meth c Q A D nL cells slots (iw ad ct n τ σ T) (pc + 3) L (.ref (ad 39) :: S)) : Sm p l e R s m args below meth c Q A D nL cells slots (iw ad ct n τ σ T) pc L (.ref (ad 37) :: S) := s_getN E in_X4 37 rfl rfl 1 (Nat.le_of_ble_eq_true rfl) q269 rfl rfl d K
theorem iw_s39 {p : Program} {l : Launch} {e : Env} {R : Room} {s : State} {m : MethodId} {args : Array Value} {below : List Frame} {meth : Method} {c : Code} {Q : State → Prop} {A : Nat → Prop} {D : va_G} {nL cells slots : Nat} {pc : Nat} {L : List (Nat × Value)} {S : List Value} {cc : ByteArray} {ret : Option FieldType} {gt : Nat → Nat} {ad : Nat → Nat} {ct : Nat → ClassId} {n : Nat} {τ σ : Nat → Nat → Int32} {T : va_W} {own : String} (E : En p s m args meth c A cc nL own ret D (tysA ct) gt) {i v : Int32} (N : Nat) (hi : i = nI N) (hN : N < 8) (d : decode cc pc = .ok (.iastore, 1)) (K : Sm p l e R s m args below meth c Q A D nL cells slots (iw ad ct n τ (st1 σ 22 N v) T) (pc + 1) L S) : Sm p l e R s m args below meth c Q A D nL cells slots (iw ad ct n τ σ T) pc L (.int v :: .int i :: .ref (ad 39) :: S) := s_iast E 39 0 rfl rfl N hi hN (Nat.le_of_ble_eq_true rfl) rfl d K
theorem iwX1_g37_5 {p : Program} {l : Launch} {e : Env} {R : Room} {s : State} {m : MethodId} {args : Array Value} {below : List Frame} {meth : Method} {c : Code} {Q : State → Prop} {A : Nat → Prop} {D : va_G} {nL cells slots : Nat} {pc : Nat} {L : List (Nat × Value)} {S : List Value} {cc : ByteArray} {ret : Option FieldType} {gt : Nat → Nat} {ad : Nat → Nat} {ct : Nat → ClassId} {n : Nat} {τ σ : Nat → Nat → Int32} {T : va_W} (E : En p s m args meth c A cc nL RX1 ret D (tysA ct) gt) (d : decode cc pc = .ok (.getfield 318, 3)) (K : Sm p l e R s m args below meth c Q A D nL cells slots (iw ad ct n τ σ T) (pc + 3) L (.ref (ad 43) :: S)) : Sm p l e R s m args below meth c Q A D nL cells slots (iw ad ct n τ σ T) pc L (.ref (ad 37) :: S) := s_getN E in_X4 37 rfl rfl 5 (Nat.le_of_ble_eq_true rfl) q277 rfl rfl d K
theorem iw_s43 {p : Program} {l : Launch} {e : Env} {R : Room} {s : State} {m : MethodId} {args : Array Value} {below : List Frame} {meth : Method} {c : Code} {Q : State → Prop} {A : Nat → Prop} {D : va_G} {nL cells slots : Nat} {pc : Nat} {L : List (Nat × Value)} {S : List Value} {cc : ByteArray} {ret : Option FieldType} {gt : Nat → Nat} {ad : Nat → Nat} {ct : Nat → ClassId} {n : Nat} {τ σ : Nat → Nat → Int32} {T : va_W} {own : String} (E : En p s m args meth c A cc nL own ret D (tysA ct) gt) {i v : Int32} (N : Nat) (hi : i = nI N) (hN : N < 8) (d : decode cc pc = .ok (.iastore, 1)) (K : Sm p l e R s m args below meth c Q A D nL cells slots (iw ad ct n τ (st1 σ 26 N v) T) (pc + 1) L S) : Sm p l e R s m args below meth c Q A D nL cells slots (iw ad ct n τ σ T) pc L (.int v :: .int i :: .ref (ad 43) :: S) := s_iast E 43 0 rfl rfl N hi hN (Nat.le_of_ble_eq_true rfl) rfl d K
theorem iw_s40 {p : Program} {l : Launch} {e : Env} {R : Room} {s : State} {m : MethodId} {args : Array Value} {below : List Frame} {meth : Method} {c : Code} {Q : State → Prop} {A : Nat → Prop} {D : va_G} {nL cells slots : Nat} {pc : Nat} {L : List (Nat × Value)} {S : List Value} {cc : ByteArray} {ret : Option FieldType} {gt : Nat → Nat} {ad : Nat → Nat} {ct : Nat → ClassId} {n : Nat} {τ σ : Nat → Nat → Int32} {T : va_W} {own : String} (E : En p s m args meth c A cc nL own ret D (tysA ct) gt) {i v : Int32} (N : Nat) (hi : i = nI N) (hN : N < 8) (d : decode cc pc = .ok (.iastore, 1)) (K : Sm p l e R s m args below meth c Q A D nL cells slots (iw ad ct n τ (st1 σ 23 N v) T) (pc + 1) L S) : Sm p l e R s m args below meth c Q A D nL cells slots (iw ad ct n τ σ T) pc L (.int v :: .int i :: .ref (ad 40) :: S) := s_iast E 40 0 rfl rfl N hi hN (Nat.le_of_ble_eq_true rfl) rfl d K
set_option maxHeartbeats 4000000 in
set_option maxRecDepth 100000 in
theorem x1z_grown {l : Launch} {D : va_G} {gt : Nat → Nat} {ad : Nat → Nat} {ct : Nat → ClassId} {n : Nat} {τ σ : Nat → Nat → Int32} {T : va_W} (o g s i : Int32) (hX : XT τ n) (hls : ∀ j, j < 3 → In (τ 3 (4 + j)) 100) : Ct l D gt yX1_grown cX1_grown 6 .int 6 150 0 0 [.ref (ad 0), .int (o), .int (g), .int (s), .int (i)] (iw ad ct n τ σ T) (tysA ct) (fun r σ2 => grF o g s i = r ∧ XG σ σ2) (fun σ2 : Nat → Nat → Int32 => iw ad ct n τ σ2 T) (fun _ => tysA ct) := by
  refine Ct.start RX1 (by decide) rfl (Nat.le_of_ble_eq_true rfl) rfl ?_
  intro pP eE sS mM aA bB hM cC QQ AA E Rt
  refine s_iload_n E dX1_grown_0 (i := 1) (j := 1) rfl rfl ?_
  refine s_iconst E dX1_grown_1 (v := nI 0) (by decide) ?_
  refine s_bipush E dX1_grown_2 (v := nI 7) (by decide) ?_
  refine c_gos E (rS E (cutZ _ _) (x1z_isIn o (nI 0) (nI 7)) K_X1_75 (Nat.le_of_ble_eq_true rfl) (Nat.le_of_ble_eq_true rfl) (Nat.zero_le _) (Nat.zero_le _) rfl rfl (Nat.le_of_ble_eq_true rfl) dX1_grown_4) (fun r4 h4 => ?_)
  subst h4
  refine s_if_eq E dX1_grown_7 (tgt := 34) rfl (fun c7 => ?_) (fun c7 => ?_)
  · have c7 := bI_0 c7
    refine s_iconst E dX1_grown_34 (v := (-1)) (by decide) ?_
    exact Rt ((-1)) (σ) dX1_grown_35 (⟨by unfold grF; rw [if_neg (fun h => by unfold grOk at h; simp only [Bool.and_eq_true, Bool.not_eq_true', decide_eq_false_iff_not] at h; obtain ⟨⟨⟨⟨⟨⟨a1, a2⟩, a3⟩, a4⟩, a5⟩, a6⟩, a7⟩ := h; first | exact c7 ⟨a1, a2⟩ | exact c16 ⟨a3, a4⟩ | exact c26 ⟨a5, a6⟩ | exact a7 c31)], XG.rf _⟩) rfl (Nat.le_refl _) (Nat.le_refl _) rfl E.2.2.2.2.2.1
  · have c7 := bI_n0 c7
    refine s_iload_n E dX1_grown_10 (i := 2) (j := 2) rfl rfl ?_
    refine s_iconst E dX1_grown_11 (v := nI 0) (by decide) ?_
    refine s_iconst E dX1_grown_12 (v := nI 5) (by decide) ?_
    refine c_gos E (rS E (cutZ _ _) (x1z_isIn g (nI 0) (nI 5)) K_X1_75 (Nat.le_of_ble_eq_true rfl) (Nat.le_of_ble_eq_true rfl) (Nat.zero_le _) (Nat.zero_le _) rfl rfl (Nat.le_of_ble_eq_true rfl) dX1_grown_13) (fun r13 h13 => ?_)
    subst h13
    refine s_if_eq E dX1_grown_16 (tgt := 34) rfl (fun c16 => ?_) (fun c16 => ?_)
    · have c16 := bI_0 c16
      refine s_iconst E dX1_grown_34 (v := (-1)) (by decide) ?_
      exact Rt ((-1)) (σ) dX1_grown_35 (⟨by unfold grF; rw [if_neg (fun h => by unfold grOk at h; simp only [Bool.and_eq_true, Bool.not_eq_true', decide_eq_false_iff_not] at h; obtain ⟨⟨⟨⟨⟨⟨a1, a2⟩, a3⟩, a4⟩, a5⟩, a6⟩, a7⟩ := h; first | exact c7 ⟨a1, a2⟩ | exact c16 ⟨a3, a4⟩ | exact c26 ⟨a5, a6⟩ | exact a7 c31)], XG.rf _⟩) rfl (Nat.le_refl _) (Nat.le_refl _) rfl E.2.2.2.2.2.1
    · have c16 := bI_n0 c16
      refine s_iload_n E dX1_grown_19 (i := 3) (j := 3) rfl rfl ?_
      refine s_iconst E dX1_grown_20 (v := nI 1) (by decide) ?_
      refine s_bipush E dX1_grown_21 (v := nI 20) (by decide) ?_
      refine c_gos E (rS E (cutZ _ _) (x1z_isIn s (nI 1) (nI 20)) K_X1_75 (Nat.le_of_ble_eq_true rfl) (Nat.le_of_ble_eq_true rfl) (Nat.zero_le _) (Nat.zero_le _) rfl rfl (Nat.le_of_ble_eq_true rfl) dX1_grown_23) (fun r23 h23 => ?_)
      subst h23
      refine s_if_eq E dX1_grown_26 (tgt := 34) rfl (fun c26 => ?_) (fun c26 => ?_)
      · have c26 := bI_0 c26
        refine s_iconst E dX1_grown_34 (v := (-1)) (by decide) ?_
        exact Rt ((-1)) (σ) dX1_grown_35 (⟨by unfold grF; rw [if_neg (fun h => by unfold grOk at h; simp only [Bool.and_eq_true, Bool.not_eq_true', decide_eq_false_iff_not] at h; obtain ⟨⟨⟨⟨⟨⟨a1, a2⟩, a3⟩, a4⟩, a5⟩, a6⟩, a7⟩ := h; first | exact c7 ⟨a1, a2⟩ | exact c16 ⟨a3, a4⟩ | exact c26 ⟨a5, a6⟩ | exact a7 c31)], XG.rf _⟩) rfl (Nat.le_refl _) (Nat.le_refl _) rfl E.2.2.2.2.2.1
      · have c26 := bI_n0 c26
        refine s_iload E dX1_grown_29 (i := 4) (j := 4) rfl ?_
        refine s_if_ge E dX1_grown_31 (tgt := 36) rfl (fun c31 => ?_) (fun c31 => ?_)
        · have c31 := Int32.not_lt.mpr c31
          obtain ⟨k, hk, rfl⟩ := nI_of c31
          have ho8 : In o 8 := by obtain ⟨x, hx, -, hx2⟩ := rng (a := 0) (b := 7) c7 (by decide) (by decide); rw [hx]; exact In.of (by omega) (by decide)
          have hok : grOk o g s (nI k) = true := by unfold grOk; simp only [Bool.and_eq_true, Bool.not_eq_true', decide_eq_false_iff_not]; exact ⟨⟨⟨⟨⟨⟨c7.1, c7.2⟩, c16.1⟩, c16.2⟩, c26.1⟩, c26.2⟩, c31⟩
          refine s_aload_n E dX1_grown_36 (i := 0) (j := 0) rfl rfl ?_
          refine iwX1_g0_12 E dX1_grown_37 ?_
          refine s_bipush E dX1_grown_40 (v := nI 60) (by decide) ?_
          refine iwX1_p37_10 E dX1_grown_42 ?_
          refine s_aload_n E dX1_grown_45 (i := 0) (j := 0) rfl rfl ?_
          refine iwX1_g0_12 E dX1_grown_46 ?_
          refine s_iload_n E dX1_grown_49 (i := 2) (j := 2) rfl rfl ?_
          refine iwX1_p37_11 E dX1_grown_50 ?_
          refine s_aload_n E dX1_grown_53 (i := 0) (j := 0) rfl rfl ?_
          refine iwX1_g0_12 E dX1_grown_54 ?_
          refine s_iload_n E dX1_grown_57 (i := 3) (j := 3) rfl rfl ?_
          refine iwX1_p37_12 E dX1_grown_58 ?_
          refine s_aload_n E dX1_grown_61 (i := 0) (j := 0) rfl rfl ?_
          refine iwX1_g0_12 E dX1_grown_62 ?_
          refine s_iload_n E dX1_grown_65 (i := 1) (j := 1) rfl rfl ?_
          refine iwX1_p37_13 E dX1_grown_66 ?_
          refine s_aload_n E dX1_grown_69 (i := 0) (j := 0) rfl rfl ?_
          refine iwX1_g0_12 E dX1_grown_70 ?_
          refine s_iconst E dX1_grown_73 (v := nI 0) (by decide) ?_
          refine iwX1_p37_9 E dX1_grown_74 ?_
          refine s_iconst E dX1_grown_77 (v := nI 1) (by decide) ?_
          refine s_istore E (L2 := [(5, .int (nI 1)), (0, .ref (ad 0)), (1, .int (o)), (2, .int (g)), (3, .int (s)), (4, .int (nI k))]) dX1_grown_78 (Nat.le_of_ble_eq_true rfl) rfl ?_
          have L80 : ∀ (fuel : Nat) (c : Nat) (m : Nat) (w : Nat → Nat → Int32), (GW o g s c m σ w) → (62 - c) < fuel → Sm pP l eE { frames := 6, cells := 0, slots := 0, locals := 150 } sS mM aA bB hM cC QQ AA D 6 0 0 (iw ad ct n τ w T) 80 [(0, .ref (ad 0)), (1, .int (o)), (2, .int (g)), (3, .int (s)), (4, .int (nI k)), (5, .int (nI c))] [] := by
            intro fuel
            induction fuel with
            | zero =>
              intro c m w hg hf80
              exact absurd hf80 (Nat.not_lt_zero _)
            | succ fuel ih80 =>
              intro c m w hg hf80
              have hm8 := hg.2.2.1
              have hc61 := hg.2.2.2.2.1
              have hc1 := hg.2.2.2.1
              have h9 := hg.2.2.2.2.2.1
              refine s_iload E dX1_grown_80 (i := 5) (j := 5) rfl ?_
              refine s_bipush E dX1_grown_82 (v := nI 60) (by decide) ?_
              refine s_icmp_gt E dX1_grown_84 (tgt := 213) rfl (fun c84 => ?_) (fun c84 => ?_)
              · have c84 : 60 < c := (nI_ltI (a := 60) (b := c) (by omega) (by omega)).mp c84
                have hend : c = 61 ∨ m = 8 := Or.inl (by omega)
                refine s_iload E dX1_grown_213 (i := 4) (j := 4) rfl ?_
                refine s_aload_n E dX1_grown_215 (i := 0) (j := 0) rfl rfl ?_
                refine iwX1_g0_12 E dX1_grown_216 ?_
                refine iwX1_g37_9 E (v := nI m) (h9) dX1_grown_219 ?_
                refine s_icmp_ge E dX1_grown_222 (tgt := 238) rfl (fun c222 => ?_) (fun c222 => ?_)
                · have c222 : ¬ k < m := fun h => absurd c222 (Int32.not_le.mpr ((nI_ltI (a := k) (b := m) (by omega) (by omega)).mpr h))
                  refine s_bipush E dX1_grown_238 (v := (-2)) (by decide) ?_
                  exact Rt ((-2)) (w) dX1_grown_240 (⟨by unfold grF; rw [if_pos hok, ← hg.2.1.fin hm8 hk hend, if_neg c222], hg.1⟩) rfl (Nat.le_refl _) (Nat.le_refl _) rfl E.2.2.2.2.2.1
                · have c222 : k < m := (nI_ltI (a := k) (b := m) (by omega) (by omega)).mp (Int32.not_le.mp c222)
                  refine s_aload_n E dX1_grown_225 (i := 0) (j := 0) rfl rfl ?_
                  refine iwX1_g0_12 E dX1_grown_226 ?_
                  refine iwX1_g37_2 E dX1_grown_229 ?_
                  refine s_iload E dX1_grown_232 (i := 4) (j := 4) rfl ?_
                  refine iw_l40 E (v := nI (gN o g s 7 k)) (k) (rfl) (by omega) ((hg.2.2.2.2.2.2.2.2.2.2 k (by omega)).2.2.1) dX1_grown_234 ?_
                  refine s_goto E dX1_grown_235 (tgt := 240) rfl ?_
                  exact Rt (nI (gN o g s 7 k)) (w) dX1_grown_240 (⟨by unfold grF; rw [if_pos hok, ← hg.2.1.fin hm8 hk hend, if_pos c222], hg.1⟩) rfl (Nat.le_refl _) (Nat.le_refl _) rfl E.2.2.2.2.2.1
              · have c84 : ¬ 60 < c := fun h => c84 ((nI_ltI (a := 60) (b := c) (by omega) (by omega)).mpr h)
                refine s_aload_n E dX1_grown_87 (i := 0) (j := 0) rfl rfl ?_
                refine iwX1_g0_12 E dX1_grown_88 ?_
                refine iwX1_g37_9 E (v := nI m) (h9) dX1_grown_91 ?_
                refine s_bipush E dX1_grown_94 (v := nI 8) (by decide) ?_
                refine s_icmp_ge E dX1_grown_96 (tgt := 213) rfl (fun c96 => ?_) (fun c96 => ?_)
                · have c96 : ¬ m < 8 := fun h => absurd c96 (Int32.not_le.mpr ((nI_ltI (a := m) (b := 8) (by omega) (by omega)).mpr h))
                  have hend : c = 61 ∨ m = 8 := Or.inr (by omega)
                  refine s_iload E dX1_grown_213 (i := 4) (j := 4) rfl ?_
                  refine s_aload_n E dX1_grown_215 (i := 0) (j := 0) rfl rfl ?_
                  refine iwX1_g0_12 E dX1_grown_216 ?_
                  refine iwX1_g37_9 E (v := nI m) (h9) dX1_grown_219 ?_
                  refine s_icmp_ge E dX1_grown_222 (tgt := 238) rfl (fun c222 => ?_) (fun c222 => ?_)
                  · have c222 : ¬ k < m := fun h => absurd c222 (Int32.not_le.mpr ((nI_ltI (a := k) (b := m) (by omega) (by omega)).mpr h))
                    refine s_bipush E dX1_grown_238 (v := (-2)) (by decide) ?_
                    exact Rt ((-2)) (w) dX1_grown_240 (⟨by unfold grF; rw [if_pos hok, ← hg.2.1.fin hm8 hk hend, if_neg c222], hg.1⟩) rfl (Nat.le_refl _) (Nat.le_refl _) rfl E.2.2.2.2.2.1
                  · have c222 : k < m := (nI_ltI (a := k) (b := m) (by omega) (by omega)).mp (Int32.not_le.mp c222)
                    refine s_aload_n E dX1_grown_225 (i := 0) (j := 0) rfl rfl ?_
                    refine iwX1_g0_12 E dX1_grown_226 ?_
                    refine iwX1_g37_2 E dX1_grown_229 ?_
                    refine s_iload E dX1_grown_232 (i := 4) (j := 4) rfl ?_
                    refine iw_l40 E (v := nI (gN o g s 7 k)) (k) (rfl) (by omega) ((hg.2.2.2.2.2.2.2.2.2.2 k (by omega)).2.2.1) dX1_grown_234 ?_
                    refine s_goto E dX1_grown_235 (tgt := 240) rfl ?_
                    exact Rt (nI (gN o g s 7 k)) (w) dX1_grown_240 (⟨by unfold grF; rw [if_pos hok, ← hg.2.1.fin hm8 hk hend, if_pos c222], hg.1⟩) rfl (Nat.le_refl _) (Nat.le_refl _) rfl E.2.2.2.2.2.1
                · have c96 : m < 8 := (nI_ltI (a := m) (b := 8) (by omega) (by omega)).mp (Int32.not_le.mp c96)
                  refine s_aload_n E dX1_grown_99 (i := 0) (j := 0) rfl rfl ?_
                  refine iwX1_g0_12 E dX1_grown_100 ?_
                  refine iwX1_g37_0 E dX1_grown_103 ?_
                  refine s_aload_n E dX1_grown_106 (i := 0) (j := 0) rfl rfl ?_
                  refine iwX1_g0_12 E dX1_grown_107 ?_
                  refine iwX1_g37_9 E (v := nI m) (h9) dX1_grown_110 ?_
                  refine s_iconst E dX1_grown_113 (v := nI 0) (by decide) ?_
                  refine iw_s38 E (m) (rfl) (by omega) dX1_grown_114 ?_
                  refine s_aload_n E dX1_grown_115 (i := 0) (j := 0) rfl rfl ?_
                  refine iwX1_g0_12 E dX1_grown_116 ?_
                  refine iwX1_g37_1 E dX1_grown_119 ?_
                  refine s_aload_n E dX1_grown_122 (i := 0) (j := 0) rfl rfl ?_
                  refine iwX1_g0_12 E dX1_grown_123 ?_
                  refine iwX1_g37_9 E (v := nI m) (by rw [st1_ne (by decide)]; exact h9) dX1_grown_126 ?_
                  refine s_sipush E dX1_grown_129 (v := nI 999) (by decide) ?_
                  refine iw_s39 E (m) (rfl) (by omega) dX1_grown_132 ?_
                  refine s_aload_n E dX1_grown_133 (i := 0) (j := 0) rfl rfl ?_
                  refine iwX1_g0_12 E dX1_grown_134 ?_
                  refine iwX1_g37_5 E dX1_grown_137 ?_
                  refine s_aload_n E dX1_grown_140 (i := 0) (j := 0) rfl rfl ?_
                  refine iwX1_g0_12 E dX1_grown_141 ?_
                  refine iwX1_g37_9 E (v := nI m) (by rw [st1_ne (by decide), st1_ne (by decide)]; exact h9) dX1_grown_144 ?_
                  refine s_sipush E dX1_grown_147 (v := nI 255) (by decide) ?_
                  refine iw_s43 E (m) (rfl) (by omega) dX1_grown_150 ?_
                  refine s_aload_n E dX1_grown_151 (i := 0) (j := 0) rfl rfl ?_
                  refine iwX1_g0_12 E dX1_grown_152 ?_
                  refine iwX1_g37_2 E dX1_grown_155 ?_
                  refine s_aload_n E dX1_grown_158 (i := 0) (j := 0) rfl rfl ?_
                  refine iwX1_g0_12 E dX1_grown_159 ?_
                  refine iwX1_g37_9 E (v := nI m) (by rw [st1_ne (by decide), st1_ne (by decide), st1_ne (by decide)]; exact h9) dX1_grown_162 ?_
                  refine s_iload E dX1_grown_165 (i := 5) (j := 5) rfl ?_
                  refine iw_s40 E (m) (rfl) (by omega) dX1_grown_167 ?_
                  refine s_aload_n E dX1_grown_168 (i := 0) (j := 0) rfl rfl ?_
                  refine iwX1_g0_12 E dX1_grown_169 ?_
                  refine s_dup E dX1_grown_172 rfl ?_
                  refine iwX1_g37_9 E (v := nI m) (by rw [st1_ne (by decide), st1_ne (by decide), st1_ne (by decide), st1_ne (by decide)]; exact h9) dX1_grown_173 ?_
                  refine s_iconst E dX1_grown_176 (v := nI 1) (by decide) ?_
                  refine s_iadd_ E dX1_grown_177 (v := nI (m + 1)) (nI_add _ _) ?_
                  refine iwX1_p37_9 E dX1_grown_178 ?_
                  refine s_aload_n E dX1_grown_181 (i := 0) (j := 0) rfl rfl ?_
                  refine iwX1_g0_12 E dX1_grown_182 ?_
                  obtain ⟨w2, hw2⟩ : ∃ z, z = st1 (st1 (st1 (st1 (st1 w 21 m (nI 0)) 22 m (nI 999)) 26 m (nI 255)) 23 m (nI c)) 20 9 (nI (m + 1)) := ⟨_, rfl⟩
                  have hpos := hg.pos (show c ≤ 60 by omega)
                  have hx2 : XG σ w2 := by rw [hw2]; exact ((((hg.1.st (by decide)).st (by decide)).st (by decide)).st (by decide)).st (by decide)
                  refine s_ws (ws2 := iw ad ct n τ w2 T) (by rw [hw2]) ?_
                  refine ia1_gor E (x4z_countedg (gwS τ o g s (g1 w m c)) (m + 1) (by rw [hw2]; exact hg.ai (by omega)) (by omega) (by decide) (gw_ta hX) ⟨fun u hu => by rw [gwS_25 (by omega)]; exact (hpos u hu).1, In.of (n := 60) (by decide) (by decide)⟩ ho8) K_X1_156 (Nat.le_of_ble_eq_true rfl) (Nat.le_of_ble_eq_true rfl) (Nat.zero_le _) (Nat.zero_le _) rfl rfl (Nat.le_of_ble_eq_true rfl) dX1_grown_185 (fun Y hY => ?_)
                  refine s_ws (ws2 := iw ad ct n τ (airU1 w2 Y) T) rfl ?_
                  obtain ⟨⟨hAL, -⟩, h17⟩ := hY
                  obtain ⟨hq, -, -, -, h16, -⟩ := hAL
                  obtain ⟨N, hN⟩ : ∃ z, z = hitsTg (gwS τ o g s (g1 w m c)) (m + 1) (prods (gwS τ o g s (g1 w m c)) (m + 1)) + crowdsT (gwS τ o g s (g1 w m c)) (m + 1) := ⟨_, rfl⟩
                  have hNs : Y 0 16 + Y 0 17 = nI N := by rw [h16, h17, nI_add, hN]
                  have hNl : N < 2 ^ 31 := by rw [hN]; exact trg_le (by omega)
                  have hN0 : N = 0 ↔ rcB (g1 w m c) o g s (m + 1) = true := by rw [hN]; exact gw_iff (by omega) hpos hls
                  refine ia1_goi E (x4z_trouble ) K_X1_177 (Nat.le_of_ble_eq_true rfl) (Nat.le_of_ble_eq_true rfl) (Nat.zero_le _) (Nat.zero_le _) rfl rfl (Nat.le_of_ble_eq_true rfl) dX1_grown_188 (fun r188 w188 h188 => ?_)
                  obtain ⟨rfl, rfl⟩ := h188
                  refine s_ws (ws2 := iw ad ct n τ (airU1 w2 Y) T) (congrArg (fun z => iw ad ct n τ z T) airU_S1) ?_
                  refine s_top (v2 := nI N) (hNs) ?_
                  refine s_if_le E dX1_grown_191 (tgt := 207) rfl (fun c191 => ?_) (fun c191 => ?_)
                  · have c191 : ¬ 0 < N := fun h => absurd c191 (Int32.not_le.mpr ((nI_ltI (a := 0) (b := N) (by omega) (by omega)).mpr h))
                    have tpos : (rcB (g1 w m c) o g s (m + 1)) = true := hN0.mp (by omega)
                    refine s_iinc E (L2 := [(5, .int (nI (c + 1))), (0, .ref (ad 0)), (1, .int (o)), (2, .int (g)), (3, .int (s)), (4, .int (nI k))]) dX1_grown_207 (k := 5) rfl (v := nI (c + 1)) (nI_inc _) (Nat.le_of_ble_eq_true rfl) rfl ?_
                    refine s_goto E dX1_grown_210 (tgt := 80) rfl ?_
                    refine s_ws (ws2 := iw ad ct n τ (st1 (airU1 w2 Y) 20 9 (nI (m + 1))) T) (congrArg (fun z => iw ad ct n τ z T) (st1_self (show airU1 w2 Y 20 9 = nI (m + 1) from hq.1)).symm) ?_
                    refine s_loc (L2 := [(0, .ref (ad 0)), (1, .int (o)), (2, .int (g)), (3, .int (s)), (4, .int (nI k)), (5, .int (nI (c + 1)))]) [1, 2, 3, 4, 5, 0] rfl ?_
                    exact ih80 (c + 1) (m + 1) (st1 (airU1 w2 Y) 20 9 (nI (m + 1))) (hg.go (τ := τ) (by omega) (by omega) hx2 hq _ rfl (k := m + 1) (by rw [if_pos tpos])) (by omega)
                  · have c191 : 0 < N := (nI_ltI (a := 0) (b := N) (by omega) (by omega)).mp (Int32.not_le.mp c191)
                    have tneg : ¬ (rcB (g1 w m c) o g s (m + 1)) = true := fun h => by have := hN0.mpr h; omega
                    refine s_aload_n E dX1_grown_194 (i := 0) (j := 0) rfl rfl ?_
                    refine iwX1_g0_12 E dX1_grown_195 ?_
                    refine s_dup E dX1_grown_198 rfl ?_
                    refine iwX1_g37_9 E (v := nI (m + 1)) (hq.1) dX1_grown_199 ?_
                    refine s_iconst E dX1_grown_202 (v := nI 1) (by decide) ?_
                    refine s_isub_ E dX1_grown_203 (v := nI m) (by rw [pk_sub (by omega)]; rfl) ?_
                    refine iwX1_p37_9 E dX1_grown_204 ?_
                    refine s_iinc E (L2 := [(5, .int (nI (c + 1))), (0, .ref (ad 0)), (1, .int (o)), (2, .int (g)), (3, .int (s)), (4, .int (nI k))]) dX1_grown_207 (k := 5) rfl (v := nI (c + 1)) (nI_inc _) (Nat.le_of_ble_eq_true rfl) rfl ?_
                    refine s_goto E dX1_grown_210 (tgt := 80) rfl ?_
                    refine s_loc (L2 := [(0, .ref (ad 0)), (1, .int (o)), (2, .int (g)), (3, .int (s)), (4, .int (nI k)), (5, .int (nI (c + 1)))]) [1, 2, 3, 4, 5, 0] rfl ?_
                    exact ih80 (c + 1) m (st1 (airU1 w2 Y) 20 9 (nI m)) (hg.go (τ := τ) (by omega) (by omega) hx2 hq _ rfl (k := m) (by rw [if_neg tneg])) (by omega)
          refine s_loc (L2 := [(0, .ref (ad 0)), (1, .int (o)), (2, .int (g)), (3, .int (s)), (4, .int (nI k)), (5, .int (nI 1))]) [1, 2, 3, 4, 5, 0] rfl ?_
          exact L80 (_ + 1) 1 0 (st1 (st1 (st1 (st1 (st1 σ 20 10 (nI 60)) 20 11 g) 20 12 s) 20 13 o) 20 9 (nI 0)) (⟨((((((XG.rf σ).st (by decide)).st (by decide)).st (by decide)).st (by decide)).st (by decide)), Or.inl ⟨rfl, rfl⟩, by decide, by decide, by decide, by rw [st1_eq], by rw [st1_nj (by decide), st1_nj (by decide), st1_nj (by decide), st1_nj (by decide), st1_eq], by rw [st1_nj (by decide), st1_nj (by decide), st1_nj (by decide), st1_eq], by rw [st1_nj (by decide), st1_nj (by decide), st1_eq], by rw [st1_nj (by decide), st1_eq], fun u hu => absurd hu (Nat.not_lt_zero _)⟩) (Nat.lt_succ_self _)
        · have c31 := Int32.not_le.mp c31
          refine s_iconst E dX1_grown_34 (v := (-1)) (by decide) ?_
          exact Rt ((-1)) (σ) dX1_grown_35 (⟨by unfold grF; rw [if_neg (fun h => by unfold grOk at h; simp only [Bool.and_eq_true, Bool.not_eq_true', decide_eq_false_iff_not] at h; obtain ⟨⟨⟨⟨⟨⟨a1, a2⟩, a3⟩, a4⟩, a5⟩, a6⟩, a7⟩ := h; first | exact c7 ⟨a1, a2⟩ | exact c16 ⟨a3, a4⟩ | exact c26 ⟨a5, a6⟩ | exact a7 c31)], XG.rf _⟩) rfl (Nat.le_refl _) (Nat.le_refl _) rfl E.2.2.2.2.2.1
