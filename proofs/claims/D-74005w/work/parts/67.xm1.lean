set_option maxRecDepth 100000
theorem iwX4_g27_28 {p : Program} {l : Launch} {e : Env} {R : Room} {s : State} {m : MethodId} {args : Array Value} {below : List Frame} {meth : Method} {c : Code} {Q : State → Prop} {A : Nat → Prop} {D : va_G} {nL cells slots : Nat} {pc : Nat} {L : List (Nat × Value)} {S : List Value} {cc : ByteArray} {ret : Option FieldType} {gt : Nat → Nat} {ad : Nat → Nat} {ct : Nat → ClassId} {n : Nat} {τ σ : Nat → Nat → Int32} {T : va_W} (E : En p s m args meth c A cc nL RX4 ret D (tysA ct) gt) (d : decode cc pc = .ok (.getfield 11, 3)) (K : Sm p l e R s m args below meth c Q A D nL cells slots (iw ad ct n τ σ T) (pc + 3) L (.ref (ad 0) :: S)) : Sm p l e R s m args below meth c Q A D nL cells slots (iw ad ct n τ σ T) pc L (.ref (ad 27) :: S) := s_get E in_X4 27 rfl rfl 28 (Nat.le_of_ble_eq_true rfl) q320 rfl rfl d K
theorem iwX4_g0_4 {p : Program} {l : Launch} {e : Env} {R : Room} {s : State} {m : MethodId} {args : Array Value} {below : List Frame} {meth : Method} {c : Code} {Q : State → Prop} {A : Nat → Prop} {D : va_G} {nL cells slots : Nat} {pc : Nat} {L : List (Nat × Value)} {S : List Value} {cc : ByteArray} {ret : Option FieldType} {gt : Nat → Nat} {ad : Nat → Nat} {ct : Nat → ClassId} {n : Nat} {τ σ : Nat → Nat → Int32} {T : va_W} (E : En p s m args meth c A cc nL RX4 ret D (tysA ct) gt) (d : decode cc pc = .ok (.getfield 52, 3)) (K : Sm p l e R s m args below meth c Q A D nL cells slots (iw ad ct n τ σ T) (pc + 3) L (.ref (ad 2) :: S)) : Sm p l e R s m args below meth c Q A D nL cells slots (iw ad ct n τ σ T) pc L (.ref (ad 0) :: S) := s_getN E in_X1 0 rfl rfl 4 (Nat.le_of_ble_eq_true rfl) q395 rfl rfl d K
theorem iwX4_g2_4 {p : Program} {l : Launch} {e : Env} {R : Room} {s : State} {m : MethodId} {args : Array Value} {below : List Frame} {meth : Method} {c : Code} {Q : State → Prop} {A : Nat → Prop} {D : va_G} {nL cells slots : Nat} {pc : Nat} {L : List (Nat × Value)} {S : List Value} {cc : ByteArray} {ret : Option FieldType} {gt : Nat → Nat} {ad : Nat → Nat} {ct : Nat → ClassId} {n : Nat} {τ σ : Nat → Nat → Int32} {T : va_W} (E : En p s m args meth c A cc nL RX4 ret D (tysA ct) gt) {v : Int32} (hv : τ 3 7 = v) (d : decode cc pc = .ok (.getfield 56, 3)) (K : Sm p l e R s m args below meth c Q A D nL cells slots (iw ad ct n τ σ T) (pc + 3) L (.int v :: S)) : Sm p l e R s m args below meth c Q A D nL cells slots (iw ad ct n τ σ T) pc L (.ref (ad 2) :: S) := s_getN E in_X2 2 rfl rfl 4 (Nat.le_of_ble_eq_true rfl) q171 (congrArg (fun z => some (Value.int z)) hv) rfl d K
theorem iwX4_p27_9 {p : Program} {l : Launch} {e : Env} {R : Room} {s : State} {m : MethodId} {args : Array Value} {below : List Frame} {meth : Method} {c : Code} {Q : State → Prop} {A : Nat → Prop} {D : va_G} {nL cells slots : Nat} {pc : Nat} {L : List (Nat × Value)} {S : List Value} {cc : ByteArray} {ret : Option FieldType} {gt : Nat → Nat} {ad : Nat → Nat} {ct : Nat → ClassId} {n : Nat} {τ σ : Nat → Nat → Int32} {T : va_W} (E : En p s m args meth c A cc nL RX4 ret D (tysA ct) gt) {v : Int32} (d : decode cc pc = .ok (.putfield 61, 3)) (K : Sm p l e R s m args below meth c Q A D nL cells slots (iw ad ct n τ (st1 σ 10 9 v) T) (pc + 3) L S) : Sm p l e R s m args below meth c Q A D nL cells slots (iw ad ct n τ σ T) pc L (.int v :: .ref (ad 27) :: S) := s_put E in_X4 tyX4 tyX4_ok nmX4 27 rfl rfl 9 (Nat.le_of_ble_eq_true rfl) q284 rfl rfl rfl rfl (Nat.le_of_ble_eq_true rfl) rfl d K
theorem iwX4_g2_6 {p : Program} {l : Launch} {e : Env} {R : Room} {s : State} {m : MethodId} {args : Array Value} {below : List Frame} {meth : Method} {c : Code} {Q : State → Prop} {A : Nat → Prop} {D : va_G} {nL cells slots : Nat} {pc : Nat} {L : List (Nat × Value)} {S : List Value} {cc : ByteArray} {ret : Option FieldType} {gt : Nat → Nat} {ad : Nat → Nat} {ct : Nat → ClassId} {n : Nat} {τ σ : Nat → Nat → Int32} {T : va_W} (E : En p s m args meth c A cc nL RX4 ret D (tysA ct) gt) {v : Int32} (hv : τ 3 0 = v) (d : decode cc pc = .ok (.getfield 62, 3)) (K : Sm p l e R s m args below meth c Q A D nL cells slots (iw ad ct n τ σ T) (pc + 3) L (.int v :: S)) : Sm p l e R s m args below meth c Q A D nL cells slots (iw ad ct n τ σ T) pc L (.ref (ad 2) :: S) := s_getN E in_X2 2 rfl rfl 6 (Nat.le_of_ble_eq_true rfl) q178 (congrArg (fun z => some (Value.int z)) hv) rfl d K
theorem iwX4_p27_10 {p : Program} {l : Launch} {e : Env} {R : Room} {s : State} {m : MethodId} {args : Array Value} {below : List Frame} {meth : Method} {c : Code} {Q : State → Prop} {A : Nat → Prop} {D : va_G} {nL cells slots : Nat} {pc : Nat} {L : List (Nat × Value)} {S : List Value} {cc : ByteArray} {ret : Option FieldType} {gt : Nat → Nat} {ad : Nat → Nat} {ct : Nat → ClassId} {n : Nat} {τ σ : Nat → Nat → Int32} {T : va_W} (E : En p s m args meth c A cc nL RX4 ret D (tysA ct) gt) {v : Int32} (d : decode cc pc = .ok (.putfield 65, 3)) (K : Sm p l e R s m args below meth c Q A D nL cells slots (iw ad ct n τ (st1 σ 10 10 v) T) (pc + 3) L S) : Sm p l e R s m args below meth c Q A D nL cells slots (iw ad ct n τ σ T) pc L (.int v :: .ref (ad 27) :: S) := s_put E in_X4 tyX4 tyX4_ok nmX4 27 rfl rfl 10 (Nat.le_of_ble_eq_true rfl) q286 rfl rfl rfl rfl (Nat.le_of_ble_eq_true rfl) rfl d K
theorem iwX4_g2_7 {p : Program} {l : Launch} {e : Env} {R : Room} {s : State} {m : MethodId} {args : Array Value} {below : List Frame} {meth : Method} {c : Code} {Q : State → Prop} {A : Nat → Prop} {D : va_G} {nL cells slots : Nat} {pc : Nat} {L : List (Nat × Value)} {S : List Value} {cc : ByteArray} {ret : Option FieldType} {gt : Nat → Nat} {ad : Nat → Nat} {ct : Nat → ClassId} {n : Nat} {τ σ : Nat → Nat → Int32} {T : va_W} (E : En p s m args meth c A cc nL RX4 ret D (tysA ct) gt) {v : Int32} (hv : τ 3 1 = v) (d : decode cc pc = .ok (.getfield 66, 3)) (K : Sm p l e R s m args below meth c Q A D nL cells slots (iw ad ct n τ σ T) (pc + 3) L (.int v :: S)) : Sm p l e R s m args below meth c Q A D nL cells slots (iw ad ct n τ σ T) pc L (.ref (ad 2) :: S) := s_getN E in_X2 2 rfl rfl 7 (Nat.le_of_ble_eq_true rfl) q181 (congrArg (fun z => some (Value.int z)) hv) rfl d K
theorem iwX4_p27_11 {p : Program} {l : Launch} {e : Env} {R : Room} {s : State} {m : MethodId} {args : Array Value} {below : List Frame} {meth : Method} {c : Code} {Q : State → Prop} {A : Nat → Prop} {D : va_G} {nL cells slots : Nat} {pc : Nat} {L : List (Nat × Value)} {S : List Value} {cc : ByteArray} {ret : Option FieldType} {gt : Nat → Nat} {ad : Nat → Nat} {ct : Nat → ClassId} {n : Nat} {τ σ : Nat → Nat → Int32} {T : va_W} (E : En p s m args meth c A cc nL RX4 ret D (tysA ct) gt) {v : Int32} (d : decode cc pc = .ok (.putfield 69, 3)) (K : Sm p l e R s m args below meth c Q A D nL cells slots (iw ad ct n τ (st1 σ 10 11 v) T) (pc + 3) L S) : Sm p l e R s m args below meth c Q A D nL cells slots (iw ad ct n τ σ T) pc L (.int v :: .ref (ad 27) :: S) := s_put E in_X4 tyX4 tyX4_ok nmX4 27 rfl rfl 11 (Nat.le_of_ble_eq_true rfl) q288 rfl rfl rfl rfl (Nat.le_of_ble_eq_true rfl) rfl d K
theorem iwX4_g2_8 {p : Program} {l : Launch} {e : Env} {R : Room} {s : State} {m : MethodId} {args : Array Value} {below : List Frame} {meth : Method} {c : Code} {Q : State → Prop} {A : Nat → Prop} {D : va_G} {nL cells slots : Nat} {pc : Nat} {L : List (Nat × Value)} {S : List Value} {cc : ByteArray} {ret : Option FieldType} {gt : Nat → Nat} {ad : Nat → Nat} {ct : Nat → ClassId} {n : Nat} {τ σ : Nat → Nat → Int32} {T : va_W} (E : En p s m args meth c A cc nL RX4 ret D (tysA ct) gt) {v : Int32} (hv : τ 3 2 = v) (d : decode cc pc = .ok (.getfield 70, 3)) (K : Sm p l e R s m args below meth c Q A D nL cells slots (iw ad ct n τ σ T) (pc + 3) L (.int v :: S)) : Sm p l e R s m args below meth c Q A D nL cells slots (iw ad ct n τ σ T) pc L (.ref (ad 2) :: S) := s_getN E in_X2 2 rfl rfl 8 (Nat.le_of_ble_eq_true rfl) q185 (congrArg (fun z => some (Value.int z)) hv) rfl d K
theorem iwX4_p27_12 {p : Program} {l : Launch} {e : Env} {R : Room} {s : State} {m : MethodId} {args : Array Value} {below : List Frame} {meth : Method} {c : Code} {Q : State → Prop} {A : Nat → Prop} {D : va_G} {nL cells slots : Nat} {pc : Nat} {L : List (Nat × Value)} {S : List Value} {cc : ByteArray} {ret : Option FieldType} {gt : Nat → Nat} {ad : Nat → Nat} {ct : Nat → ClassId} {n : Nat} {τ σ : Nat → Nat → Int32} {T : va_W} (E : En p s m args meth c A cc nL RX4 ret D (tysA ct) gt) {v : Int32} (d : decode cc pc = .ok (.putfield 73, 3)) (K : Sm p l e R s m args below meth c Q A D nL cells slots (iw ad ct n τ (st1 σ 10 12 v) T) (pc + 3) L S) : Sm p l e R s m args below meth c Q A D nL cells slots (iw ad ct n τ σ T) pc L (.int v :: .ref (ad 27) :: S) := s_put E in_X4 tyX4 tyX4_ok nmX4 27 rfl rfl 12 (Nat.le_of_ble_eq_true rfl) q290 rfl rfl rfl rfl (Nat.le_of_ble_eq_true rfl) rfl d K
theorem iwX4_g2_9 {p : Program} {l : Launch} {e : Env} {R : Room} {s : State} {m : MethodId} {args : Array Value} {below : List Frame} {meth : Method} {c : Code} {Q : State → Prop} {A : Nat → Prop} {D : va_G} {nL cells slots : Nat} {pc : Nat} {L : List (Nat × Value)} {S : List Value} {cc : ByteArray} {ret : Option FieldType} {gt : Nat → Nat} {ad : Nat → Nat} {ct : Nat → ClassId} {n : Nat} {τ σ : Nat → Nat → Int32} {T : va_W} (E : En p s m args meth c A cc nL RX4 ret D (tysA ct) gt) {v : Int32} (hv : τ 3 3 = v) (d : decode cc pc = .ok (.getfield 74, 3)) (K : Sm p l e R s m args below meth c Q A D nL cells slots (iw ad ct n τ σ T) (pc + 3) L (.int v :: S)) : Sm p l e R s m args below meth c Q A D nL cells slots (iw ad ct n τ σ T) pc L (.ref (ad 2) :: S) := s_getN E in_X2 2 rfl rfl 9 (Nat.le_of_ble_eq_true rfl) q189 (congrArg (fun z => some (Value.int z)) hv) rfl d K
theorem iwX4_p27_13 {p : Program} {l : Launch} {e : Env} {R : Room} {s : State} {m : MethodId} {args : Array Value} {below : List Frame} {meth : Method} {c : Code} {Q : State → Prop} {A : Nat → Prop} {D : va_G} {nL cells slots : Nat} {pc : Nat} {L : List (Nat × Value)} {S : List Value} {cc : ByteArray} {ret : Option FieldType} {gt : Nat → Nat} {ad : Nat → Nat} {ct : Nat → ClassId} {n : Nat} {τ σ : Nat → Nat → Int32} {T : va_W} (E : En p s m args meth c A cc nL RX4 ret D (tysA ct) gt) {v : Int32} (d : decode cc pc = .ok (.putfield 77, 3)) (K : Sm p l e R s m args below meth c Q A D nL cells slots (iw ad ct n τ (st1 σ 10 13 v) T) (pc + 3) L S) : Sm p l e R s m args below meth c Q A D nL cells slots (iw ad ct n τ σ T) pc L (.int v :: .ref (ad 27) :: S) := s_put E in_X4 tyX4 tyX4_ok nmX4 27 rfl rfl 13 (Nat.le_of_ble_eq_true rfl) q292 rfl rfl rfl rfl (Nat.le_of_ble_eq_true rfl) rfl d K
theorem iwX4_g27_9 {p : Program} {l : Launch} {e : Env} {R : Room} {s : State} {m : MethodId} {args : Array Value} {below : List Frame} {meth : Method} {c : Code} {Q : State → Prop} {A : Nat → Prop} {D : va_G} {nL cells slots : Nat} {pc : Nat} {L : List (Nat × Value)} {S : List Value} {cc : ByteArray} {ret : Option FieldType} {gt : Nat → Nat} {ad : Nat → Nat} {ct : Nat → ClassId} {n : Nat} {τ σ : Nat → Nat → Int32} {T : va_W} (E : En p s m args meth c A cc nL RX4 ret D (tysA ct) gt) {v : Int32} (hv : σ 10 9 = v) (d : decode cc pc = .ok (.getfield 61, 3)) (K : Sm p l e R s m args below meth c Q A D nL cells slots (iw ad ct n τ σ T) (pc + 3) L (.int v :: S)) : Sm p l e R s m args below meth c Q A D nL cells slots (iw ad ct n τ σ T) pc L (.ref (ad 27) :: S) := s_get E in_X4 27 rfl rfl 9 (Nat.le_of_ble_eq_true rfl) q284 (congrArg (fun z => some (Value.int z)) hv) rfl d K
theorem iwX4_g27_0 {p : Program} {l : Launch} {e : Env} {R : Room} {s : State} {m : MethodId} {args : Array Value} {below : List Frame} {meth : Method} {c : Code} {Q : State → Prop} {A : Nat → Prop} {D : va_G} {nL cells slots : Nat} {pc : Nat} {L : List (Nat × Value)} {S : List Value} {cc : ByteArray} {ret : Option FieldType} {gt : Nat → Nat} {ad : Nat → Nat} {ct : Nat → ClassId} {n : Nat} {τ σ : Nat → Nat → Int32} {T : va_W} (E : En p s m args meth c A cc nL RX4 ret D (tysA ct) gt) (d : decode cc pc = .ok (.getfield 28, 3)) (K : Sm p l e R s m args below meth c Q A D nL cells slots (iw ad ct n τ σ T) (pc + 3) L (.ref (ad 28) :: S)) : Sm p l e R s m args below meth c Q A D nL cells slots (iw ad ct n τ σ T) pc L (.ref (ad 27) :: S) := s_get E in_X4 27 rfl rfl 0 (Nat.le_of_ble_eq_true rfl) q266 rfl rfl d K
theorem iwX4_g2_0 {p : Program} {l : Launch} {e : Env} {R : Room} {s : State} {m : MethodId} {args : Array Value} {below : List Frame} {meth : Method} {c : Code} {Q : State → Prop} {A : Nat → Prop} {D : va_G} {nL cells slots : Nat} {pc : Nat} {L : List (Nat × Value)} {S : List Value} {cc : ByteArray} {ret : Option FieldType} {gt : Nat → Nat} {ad : Nat → Nat} {ct : Nat → ClassId} {n : Nat} {τ σ : Nat → Nat → Int32} {T : va_W} (E : En p s m args meth c A cc nL RX4 ret D (tysA ct) gt) (d : decode cc pc = .ok (.getfield 78, 3)) (K : Sm p l e R s m args below meth c Q A D nL cells slots (iw ad ct n τ σ T) (pc + 3) L (.ref (ad 3) :: S)) : Sm p l e R s m args below meth c Q A D nL cells slots (iw ad ct n τ σ T) pc L (.ref (ad 2) :: S) := s_getN E in_X2 2 rfl rfl 0 (Nat.le_of_ble_eq_true rfl) q154 rfl rfl d K
theorem iwX4_l3 {p : Program} {l : Launch} {e : Env} {R : Room} {s : State} {m : MethodId} {args : Array Value} {below : List Frame} {meth : Method} {c : Code} {Q : State → Prop} {A : Nat → Prop} {D : va_G} {nL cells slots : Nat} {pc : Nat} {L : List (Nat × Value)} {S : List Value} {cc : ByteArray} {ret : Option FieldType} {gt : Nat → Nat} {ad : Nat → Nat} {ct : Nat → ClassId} {n : Nat} {τ σ : Nat → Nat → Int32} {T : va_W} (E : En p s m args meth c A cc nL RX4 ret D (tysA ct) gt) {i : Int32} (N : Nat) (hi : i = nI N) (hN : N < n) (h6 : n ≤ 6) (d : decode cc pc = .ok (.aaload, 1)) (K : Sm p l e R s m args below meth c Q A D nL cells slots (iw ad ct n τ σ T) (pc + 1) L (.ref (ad (100 + N)) :: S)) : Sm p l e R s m args below meth c Q A D nL cells slots (iw ad ct n τ σ T) pc L (.int i :: .ref (ad 3) :: S) := s_aald E 3 3 rfl rfl N hi (Nat.lt_of_lt_of_le hN h6) (Nat.le_of_ble_eq_true rfl) (by show va_rf (usF ad n N) = _; unfold usF; rw [if_pos hN]; rfl) d K
theorem iwX4_gu1 {p : Program} {l : Launch} {e : Env} {R : Room} {s : State} {m : MethodId} {args : Array Value} {below : List Frame} {meth : Method} {c : Code} {Q : State → Prop} {A : Nat → Prop} {D : va_G} {nL cells slots : Nat} {pc : Nat} {L : List (Nat × Value)} {S : List Value} {cc : ByteArray} {ret : Option FieldType} {gt : Nat → Nat} {ad : Nat → Nat} {ct : Nat → ClassId} {n : Nat} {τ σ : Nat → Nat → Int32} {T : va_W} (E : En p s m args meth c A cc nL RX4 ret D (tysA ct) gt) {v : Int32} (k : Nat) (hk : k < n) (hT : UT ad n τ T) (hv : τ 6 k = v) (d : decode cc pc = .ok (.getfield 82, 3)) (K : Sm p l e R s m args below meth c Q A D nL cells slots (iw ad ct n τ σ T) (pc + 3) L (.int v :: S)) : Sm p l e R s m args below meth c Q A D nL cells slots (iw ad ct n τ σ T) pc L (.ref (ad (100 + k)) :: S) := s_getN E in_X8 (47 + k) (iw_u hT hk) rfl 1 (Nat.le_of_ble_eq_true rfl) q719 (congrArg (fun z => some (Value.int z)) hv) rfl d K
theorem iw_s28 {p : Program} {l : Launch} {e : Env} {R : Room} {s : State} {m : MethodId} {args : Array Value} {below : List Frame} {meth : Method} {c : Code} {Q : State → Prop} {A : Nat → Prop} {D : va_G} {nL cells slots : Nat} {pc : Nat} {L : List (Nat × Value)} {S : List Value} {cc : ByteArray} {ret : Option FieldType} {gt : Nat → Nat} {ad : Nat → Nat} {ct : Nat → ClassId} {n : Nat} {τ σ : Nat → Nat → Int32} {T : va_W} {own : String} (E : En p s m args meth c A cc nL own ret D (tysA ct) gt) {i v : Int32} (N : Nat) (hi : i = nI N) (hN : N < 6) (d : decode cc pc = .ok (.iastore, 1)) (K : Sm p l e R s m args below meth c Q A D nL cells slots (iw ad ct n τ (st1 σ 11 N v) T) (pc + 1) L S) : Sm p l e R s m args below meth c Q A D nL cells slots (iw ad ct n τ σ T) pc L (.int v :: .int i :: .ref (ad 28) :: S) := s_iast E 28 0 rfl rfl N hi hN (Nat.le_of_ble_eq_true rfl) rfl d K
theorem iwX4_g27_1 {p : Program} {l : Launch} {e : Env} {R : Room} {s : State} {m : MethodId} {args : Array Value} {below : List Frame} {meth : Method} {c : Code} {Q : State → Prop} {A : Nat → Prop} {D : va_G} {nL cells slots : Nat} {pc : Nat} {L : List (Nat × Value)} {S : List Value} {cc : ByteArray} {ret : Option FieldType} {gt : Nat → Nat} {ad : Nat → Nat} {ct : Nat → ClassId} {n : Nat} {τ σ : Nat → Nat → Int32} {T : va_W} (E : En p s m args meth c A cc nL RX4 ret D (tysA ct) gt) (d : decode cc pc = .ok (.getfield 31, 3)) (K : Sm p l e R s m args below meth c Q A D nL cells slots (iw ad ct n τ σ T) (pc + 3) L (.ref (ad 29) :: S)) : Sm p l e R s m args below meth c Q A D nL cells slots (iw ad ct n τ σ T) pc L (.ref (ad 27) :: S) := s_get E in_X4 27 rfl rfl 1 (Nat.le_of_ble_eq_true rfl) q268 rfl rfl d K
theorem iwX4_g7_1 {p : Program} {l : Launch} {e : Env} {R : Room} {s : State} {m : MethodId} {args : Array Value} {below : List Frame} {meth : Method} {c : Code} {Q : State → Prop} {A : Nat → Prop} {D : va_G} {nL cells slots : Nat} {pc : Nat} {L : List (Nat × Value)} {S : List Value} {cc : ByteArray} {ret : Option FieldType} {gt : Nat → Nat} {ad : Nat → Nat} {ct : Nat → ClassId} {n : Nat} {τ σ : Nat → Nat → Int32} {T : va_W} (E : En p s m args meth c A cc nL RX4 ret D (tysA ct) gt) (d : decode cc pc = .ok (.getfield 86, 3)) (K : Sm p l e R s m args below meth c Q A D nL cells slots (iw ad ct n τ σ T) (pc + 3) L (.ref (ad 9) :: S)) : Sm p l e R s m args below meth c Q A D nL cells slots (iw ad ct n τ σ T) pc L (.ref (ad 7) :: S) := s_getN E in_X3 7 rfl rfl 1 (Nat.le_of_ble_eq_true rfl) q237 rfl rfl d K
theorem iw_l9 {p : Program} {l : Launch} {e : Env} {R : Room} {s : State} {m : MethodId} {args : Array Value} {below : List Frame} {meth : Method} {c : Code} {Q : State → Prop} {A : Nat → Prop} {D : va_G} {nL cells slots : Nat} {pc : Nat} {L : List (Nat × Value)} {S : List Value} {cc : ByteArray} {ret : Option FieldType} {gt : Nat → Nat} {ad : Nat → Nat} {ct : Nat → ClassId} {n : Nat} {τ σ : Nat → Nat → Int32} {T : va_W} {own : String} (E : En p s m args meth c A cc nL own ret D (tysA ct) gt) {i v : Int32} (N : Nat) (hi : i = nI N) (hN : N < n) (h6 : n ≤ 6) (hv : σ 1 (6 + N) = v) (d : decode cc pc = .ok (.iaload, 1)) (K : Sm p l e R s m args below meth c Q A D nL cells slots (iw ad ct n τ σ T) (pc + 1) L (.int v :: S)) : Sm p l e R s m args below meth c Q A D nL cells slots (iw ad ct n τ σ T) pc L (.int i :: .ref (ad 9) :: S) := s_iald E 9 0 rfl rfl N hi (Nat.lt_of_lt_of_le hN h6) (Nat.le_of_ble_eq_true rfl) (by show pch n 6 (σ 1) (σ 5) N = v; rw [pch_at hN]; exact hv) d K
theorem iw_s29 {p : Program} {l : Launch} {e : Env} {R : Room} {s : State} {m : MethodId} {args : Array Value} {below : List Frame} {meth : Method} {c : Code} {Q : State → Prop} {A : Nat → Prop} {D : va_G} {nL cells slots : Nat} {pc : Nat} {L : List (Nat × Value)} {S : List Value} {cc : ByteArray} {ret : Option FieldType} {gt : Nat → Nat} {ad : Nat → Nat} {ct : Nat → ClassId} {n : Nat} {τ σ : Nat → Nat → Int32} {T : va_W} {own : String} (E : En p s m args meth c A cc nL own ret D (tysA ct) gt) {i v : Int32} (N : Nat) (hi : i = nI N) (hN : N < 6) (d : decode cc pc = .ok (.iastore, 1)) (K : Sm p l e R s m args below meth c Q A D nL cells slots (iw ad ct n τ (st1 σ 12 N v) T) (pc + 1) L S) : Sm p l e R s m args below meth c Q A D nL cells slots (iw ad ct n τ σ T) pc L (.int v :: .int i :: .ref (ad 29) :: S) := s_iast E 29 0 rfl rfl N hi hN (Nat.le_of_ble_eq_true rfl) rfl d K
theorem iwX4_g27_2 {p : Program} {l : Launch} {e : Env} {R : Room} {s : State} {m : MethodId} {args : Array Value} {below : List Frame} {meth : Method} {c : Code} {Q : State → Prop} {A : Nat → Prop} {D : va_G} {nL cells slots : Nat} {pc : Nat} {L : List (Nat × Value)} {S : List Value} {cc : ByteArray} {ret : Option FieldType} {gt : Nat → Nat} {ad : Nat → Nat} {ct : Nat → ClassId} {n : Nat} {τ σ : Nat → Nat → Int32} {T : va_W} (E : En p s m args meth c A cc nL RX4 ret D (tysA ct) gt) (d : decode cc pc = .ok (.getfield 34, 3)) (K : Sm p l e R s m args below meth c Q A D nL cells slots (iw ad ct n τ σ T) (pc + 3) L (.ref (ad 30) :: S)) : Sm p l e R s m args below meth c Q A D nL cells slots (iw ad ct n τ σ T) pc L (.ref (ad 27) :: S) := s_get E in_X4 27 rfl rfl 2 (Nat.le_of_ble_eq_true rfl) q270 rfl rfl d K
theorem iwX4_g7_0 {p : Program} {l : Launch} {e : Env} {R : Room} {s : State} {m : MethodId} {args : Array Value} {below : List Frame} {meth : Method} {c : Code} {Q : State → Prop} {A : Nat → Prop} {D : va_G} {nL cells slots : Nat} {pc : Nat} {L : List (Nat × Value)} {S : List Value} {cc : ByteArray} {ret : Option FieldType} {gt : Nat → Nat} {ad : Nat → Nat} {ct : Nat → ClassId} {n : Nat} {τ σ : Nat → Nat → Int32} {T : va_W} (E : En p s m args meth c A cc nL RX4 ret D (tysA ct) gt) (d : decode cc pc = .ok (.getfield 89, 3)) (K : Sm p l e R s m args below meth c Q A D nL cells slots (iw ad ct n τ σ T) (pc + 3) L (.ref (ad 8) :: S)) : Sm p l e R s m args below meth c Q A D nL cells slots (iw ad ct n τ σ T) pc L (.ref (ad 7) :: S) := s_getN E in_X3 7 rfl rfl 0 (Nat.le_of_ble_eq_true rfl) q234 rfl rfl d K
theorem iw_l8 {p : Program} {l : Launch} {e : Env} {R : Room} {s : State} {m : MethodId} {args : Array Value} {below : List Frame} {meth : Method} {c : Code} {Q : State → Prop} {A : Nat → Prop} {D : va_G} {nL cells slots : Nat} {pc : Nat} {L : List (Nat × Value)} {S : List Value} {cc : ByteArray} {ret : Option FieldType} {gt : Nat → Nat} {ad : Nat → Nat} {ct : Nat → ClassId} {n : Nat} {τ σ : Nat → Nat → Int32} {T : va_W} {own : String} (E : En p s m args meth c A cc nL own ret D (tysA ct) gt) {i v : Int32} (N : Nat) (hi : i = nI N) (hN : N < n) (h6 : n ≤ 6) (hv : σ 1 N = v) (d : decode cc pc = .ok (.iaload, 1)) (K : Sm p l e R s m args below meth c Q A D nL cells slots (iw ad ct n τ σ T) (pc + 1) L (.int v :: S)) : Sm p l e R s m args below meth c Q A D nL cells slots (iw ad ct n τ σ T) pc L (.int i :: .ref (ad 8) :: S) := s_iald E 8 0 rfl rfl N hi (Nat.lt_of_lt_of_le hN h6) (Nat.le_of_ble_eq_true rfl) (by show pch n 0 (σ 1) (σ 5) N = v; rw [pch_at hN, Nat.zero_add]; exact hv) d K
theorem iw_s30 {p : Program} {l : Launch} {e : Env} {R : Room} {s : State} {m : MethodId} {args : Array Value} {below : List Frame} {meth : Method} {c : Code} {Q : State → Prop} {A : Nat → Prop} {D : va_G} {nL cells slots : Nat} {pc : Nat} {L : List (Nat × Value)} {S : List Value} {cc : ByteArray} {ret : Option FieldType} {gt : Nat → Nat} {ad : Nat → Nat} {ct : Nat → ClassId} {n : Nat} {τ σ : Nat → Nat → Int32} {T : va_W} {own : String} (E : En p s m args meth c A cc nL own ret D (tysA ct) gt) {i v : Int32} (N : Nat) (hi : i = nI N) (hN : N < 6) (d : decode cc pc = .ok (.iastore, 1)) (K : Sm p l e R s m args below meth c Q A D nL cells slots (iw ad ct n τ (st1 σ 13 N v) T) (pc + 1) L S) : Sm p l e R s m args below meth c Q A D nL cells slots (iw ad ct n τ σ T) pc L (.int v :: .int i :: .ref (ad 30) :: S) := s_iast E 30 0 rfl rfl N hi hN (Nat.le_of_ble_eq_true rfl) rfl d K
theorem iwX4_g27_5 {p : Program} {l : Launch} {e : Env} {R : Room} {s : State} {m : MethodId} {args : Array Value} {below : List Frame} {meth : Method} {c : Code} {Q : State → Prop} {A : Nat → Prop} {D : va_G} {nL cells slots : Nat} {pc : Nat} {L : List (Nat × Value)} {S : List Value} {cc : ByteArray} {ret : Option FieldType} {gt : Nat → Nat} {ad : Nat → Nat} {ct : Nat → ClassId} {n : Nat} {τ σ : Nat → Nat → Int32} {T : va_W} (E : En p s m args meth c A cc nL RX4 ret D (tysA ct) gt) (d : decode cc pc = .ok (.getfield 43, 3)) (K : Sm p l e R s m args below meth c Q A D nL cells slots (iw ad ct n τ σ T) (pc + 3) L (.ref (ad 33) :: S)) : Sm p l e R s m args below meth c Q A D nL cells slots (iw ad ct n τ σ T) pc L (.ref (ad 27) :: S) := s_get E in_X4 27 rfl rfl 5 (Nat.le_of_ble_eq_true rfl) q276 rfl rfl d K
theorem iwX4_g7_2 {p : Program} {l : Launch} {e : Env} {R : Room} {s : State} {m : MethodId} {args : Array Value} {below : List Frame} {meth : Method} {c : Code} {Q : State → Prop} {A : Nat → Prop} {D : va_G} {nL cells slots : Nat} {pc : Nat} {L : List (Nat × Value)} {S : List Value} {cc : ByteArray} {ret : Option FieldType} {gt : Nat → Nat} {ad : Nat → Nat} {ct : Nat → ClassId} {n : Nat} {τ σ : Nat → Nat → Int32} {T : va_W} (E : En p s m args meth c A cc nL RX4 ret D (tysA ct) gt) (d : decode cc pc = .ok (.getfield 90, 3)) (K : Sm p l e R s m args below meth c Q A D nL cells slots (iw ad ct n τ σ T) (pc + 3) L (.ref (ad 10) :: S)) : Sm p l e R s m args below meth c Q A D nL cells slots (iw ad ct n τ σ T) pc L (.ref (ad 7) :: S) := s_getN E in_X3 7 rfl rfl 2 (Nat.le_of_ble_eq_true rfl) q240 rfl rfl d K
theorem iw_l10 {p : Program} {l : Launch} {e : Env} {R : Room} {s : State} {m : MethodId} {args : Array Value} {below : List Frame} {meth : Method} {c : Code} {Q : State → Prop} {A : Nat → Prop} {D : va_G} {nL cells slots : Nat} {pc : Nat} {L : List (Nat × Value)} {S : List Value} {cc : ByteArray} {ret : Option FieldType} {gt : Nat → Nat} {ad : Nat → Nat} {ct : Nat → ClassId} {n : Nat} {τ σ : Nat → Nat → Int32} {T : va_W} {own : String} (E : En p s m args meth c A cc nL own ret D (tysA ct) gt) {i v : Int32} (N : Nat) (hi : i = nI N) (hN : N < n) (h6 : n ≤ 6) (hv : σ 1 (73 + N) = v) (d : decode cc pc = .ok (.iaload, 1)) (K : Sm p l e R s m args below meth c Q A D nL cells slots (iw ad ct n τ σ T) (pc + 1) L (.int v :: S)) : Sm p l e R s m args below meth c Q A D nL cells slots (iw ad ct n τ σ T) pc L (.int i :: .ref (ad 10) :: S) := s_iald E 10 0 rfl rfl N hi (Nat.lt_of_lt_of_le hN h6) (Nat.le_of_ble_eq_true rfl) (by show pch n 73 (σ 1) (σ 5) N = v; rw [pch_at hN]; exact hv) d K
theorem iw_s33 {p : Program} {l : Launch} {e : Env} {R : Room} {s : State} {m : MethodId} {args : Array Value} {below : List Frame} {meth : Method} {c : Code} {Q : State → Prop} {A : Nat → Prop} {D : va_G} {nL cells slots : Nat} {pc : Nat} {L : List (Nat × Value)} {S : List Value} {cc : ByteArray} {ret : Option FieldType} {gt : Nat → Nat} {ad : Nat → Nat} {ct : Nat → ClassId} {n : Nat} {τ σ : Nat → Nat → Int32} {T : va_W} {own : String} (E : En p s m args meth c A cc nL own ret D (tysA ct) gt) {i v : Int32} (N : Nat) (hi : i = nI N) (hN : N < 6) (d : decode cc pc = .ok (.iastore, 1)) (K : Sm p l e R s m args below meth c Q A D nL cells slots (iw ad ct n τ (st1 σ 16 N v) T) (pc + 1) L S) : Sm p l e R s m args below meth c Q A D nL cells slots (iw ad ct n τ σ T) pc L (.int v :: .int i :: .ref (ad 33) :: S) := s_iast E 33 0 rfl rfl N hi hN (Nat.le_of_ble_eq_true rfl) rfl d K
set_option maxHeartbeats 1000000 in
set_option maxRecDepth 100000 in
theorem x4z_of0 {l : Launch} {D : va_G} {gt : Nat → Nat} {ad : Nat → Nat} {ct : Nat → ClassId} {n : Nat} {τ σ : Nat → Nat → Int32} {T : va_W}  (hX : XT τ n) (hT : UT ad n τ T) : Cr l D gt yX4_of cX4_of 3 (.object RX4) 0 0 0 0 [.ref (ad 27), .ref (ad 7)] (iw ad ct n τ σ T) (tysA ct) (fun σ2 => XA σ σ2 ∧ AI (vw τ (σ 1)) (airS0 σ2) n) (fun _ => ad 27) (fun σ2 : Nat → Nat → Int32 => iw ad ct n τ σ2 T) (fun _ => tysA ct) := by
  refine Cr.start (Or.inl ⟨_, rfl⟩) RX4 (by decide) rfl (Nat.le_of_ble_eq_true rfl) rfl ?_
  intro pP eE sS mM aA bB hM cC QQ AA E Rt
  have hn6 := hX.2.1
  refine s_aload_n E dX4_of_0 (i := 0) (j := 0) rfl rfl ?_
  refine s_aload_n E dX4_of_1 (i := 0) (j := 0) rfl rfl ?_
  refine iwX4_g27_28 E dX4_of_2 ?_
  refine iwX4_g0_4 E dX4_of_5 ?_
  refine iwX4_g2_4 E (v := nI n) (hX.1) dX4_of_8 ?_
  refine iwX4_p27_9 E dX4_of_11 ?_
  refine s_aload_n E dX4_of_14 (i := 0) (j := 0) rfl rfl ?_
  refine s_aload_n E dX4_of_15 (i := 0) (j := 0) rfl rfl ?_
  refine iwX4_g27_28 E dX4_of_16 ?_
  refine iwX4_g0_4 E dX4_of_19 ?_
  refine iwX4_g2_6 E (v := τ 3 0) (rfl) dX4_of_22 ?_
  refine iwX4_p27_10 E dX4_of_25 ?_
  refine s_aload_n E dX4_of_28 (i := 0) (j := 0) rfl rfl ?_
  refine s_aload_n E dX4_of_29 (i := 0) (j := 0) rfl rfl ?_
  refine iwX4_g27_28 E dX4_of_30 ?_
  refine iwX4_g0_4 E dX4_of_33 ?_
  refine iwX4_g2_7 E (v := τ 3 1) (rfl) dX4_of_36 ?_
  refine iwX4_p27_11 E dX4_of_39 ?_
  refine s_aload_n E dX4_of_42 (i := 0) (j := 0) rfl rfl ?_
  refine s_aload_n E dX4_of_43 (i := 0) (j := 0) rfl rfl ?_
  refine iwX4_g27_28 E dX4_of_44 ?_
  refine iwX4_g0_4 E dX4_of_47 ?_
  refine iwX4_g2_8 E (v := τ 3 2) (rfl) dX4_of_50 ?_
  refine iwX4_p27_12 E dX4_of_53 ?_
  refine s_aload_n E dX4_of_56 (i := 0) (j := 0) rfl rfl ?_
  refine s_aload_n E dX4_of_57 (i := 0) (j := 0) rfl rfl ?_
  refine iwX4_g27_28 E dX4_of_58 ?_
  refine iwX4_g0_4 E dX4_of_61 ?_
  refine iwX4_g2_9 E (v := τ 3 3) (rfl) dX4_of_64 ?_
  refine iwX4_p27_13 E dX4_of_67 ?_
  refine s_iconst E dX4_of_70 (v := nI 0) (by decide) ?_
  refine s_istore_n E (L2 := [(2, .int (nI 0)), (0, .ref (ad 27)), (1, .ref (ad 7))]) dX4_of_71 rfl (Nat.le_of_ble_eq_true rfl) rfl ?_
  have L72 : ∀ (fuel : Nat) (u : Nat) (w72 : Nat → Nat → Int32), (u ≤ n) → (OF τ (σ 1) n σ u w72) → (n - u) < fuel → Sm pP l eE { frames := 0, cells := 0, slots := 0, locals := 0 } sS mM aA bB hM cC QQ AA D 3 0 0 (iw ad ct n τ w72 T) 72 [(0, .ref (ad 27)), (1, .ref (ad 7)), (2, .int (nI u))] [] := by
    intro fuel
    induction fuel with
    | zero =>
      intro u w72 hui h72 hf72
      exact absurd hf72 (Nat.not_lt_zero _)
    | succ fuel ih72 =>
      intro u w72 hui h72 hf72
      refine s_iload_n E dX4_of_72 (i := 2) (j := 2) rfl rfl ?_
      refine s_aload_n E dX4_of_73 (i := 0) (j := 0) rfl rfl ?_
      refine iwX4_g27_9 E (v := nI n) (h72.2.1) dX4_of_74 ?_
      refine s_icmp_ge E dX4_of_77 (tgt := 143) rfl (fun c77 => ?_) (fun c77 => ?_)
      · have c77 : ¬ u < n := fun h => absurd c77 (Int32.not_le.mpr ((nI_ltI (a := u) (b := n) (by omega) (by omega)).mpr h))
        refine s_aload_n E dX4_of_143 (i := 0) (j := 0) rfl rfl ?_
        exact Rt (ad 27) (w72) dX4_of_144 (by obtain rfl : u = n := (by omega); exact ⟨h72.1, h72.ai⟩) rfl rfl (Nat.le_refl _) (Nat.le_refl _) E.2.2.2.2.2.1
      · have c77 : u < n := (nI_ltI (a := u) (b := n) (by omega) (by omega)).mp (Int32.not_le.mp c77)
        refine s_aload_n E dX4_of_80 (i := 0) (j := 0) rfl rfl ?_
        refine iwX4_g27_0 E dX4_of_81 ?_
        refine s_iload_n E dX4_of_84 (i := 2) (j := 2) rfl rfl ?_
        refine s_aload_n E dX4_of_85 (i := 0) (j := 0) rfl rfl ?_
        refine iwX4_g27_28 E dX4_of_86 ?_
        refine iwX4_g0_4 E dX4_of_89 ?_
        refine iwX4_g2_0 E dX4_of_92 ?_
        refine s_iload_n E dX4_of_95 (i := 2) (j := 2) rfl rfl ?_
        refine iwX4_l3 E (u) (rfl) (by omega) hn6 dX4_of_96 ?_
        refine iwX4_gu1 E (v := τ 6 u) (u) (by omega) hT (rfl) dX4_of_97 ?_
        refine iw_s28 E (u) (rfl) (by omega) dX4_of_100 ?_
        refine s_aload_n E dX4_of_101 (i := 0) (j := 0) rfl rfl ?_
        refine iwX4_g27_1 E dX4_of_102 ?_
        refine s_iload_n E dX4_of_105 (i := 2) (j := 2) rfl rfl ?_
        refine s_aload_n E dX4_of_106 (i := 1) (j := 1) rfl rfl ?_
        refine iwX4_g7_1 E dX4_of_107 ?_
        refine s_iload_n E dX4_of_110 (i := 2) (j := 2) rfl rfl ?_
        refine iw_l9 E (v := σ 1 (6 + u)) (u) (rfl) (by omega) hn6 (by rw [st1_ne (by decide), h72.1 1 (by decide)]) dX4_of_111 ?_
        refine iw_s29 E (u) (rfl) (by omega) dX4_of_112 ?_
        refine s_aload_n E dX4_of_113 (i := 0) (j := 0) rfl rfl ?_
        refine iwX4_g27_2 E dX4_of_114 ?_
        refine s_iload_n E dX4_of_117 (i := 2) (j := 2) rfl rfl ?_
        refine s_aload_n E dX4_of_118 (i := 1) (j := 1) rfl rfl ?_
        refine iwX4_g7_0 E dX4_of_119 ?_
        refine s_iload_n E dX4_of_122 (i := 2) (j := 2) rfl rfl ?_
        refine iw_l8 E (v := σ 1 u) (u) (rfl) (by omega) hn6 (by rw [st1_ne (by decide), st1_ne (by decide), h72.1 1 (by decide)]) dX4_of_123 ?_
        refine iw_s30 E (u) (rfl) (by omega) dX4_of_124 ?_
        refine s_aload_n E dX4_of_125 (i := 0) (j := 0) rfl rfl ?_
        refine iwX4_g27_5 E dX4_of_126 ?_
        refine s_iload_n E dX4_of_129 (i := 2) (j := 2) rfl rfl ?_
        refine s_aload_n E dX4_of_130 (i := 1) (j := 1) rfl rfl ?_
        refine iwX4_g7_2 E dX4_of_131 ?_
        refine s_iload_n E dX4_of_134 (i := 2) (j := 2) rfl rfl ?_
        refine iw_l10 E (v := σ 1 (73 + u)) (u) (rfl) (by omega) hn6 (by rw [st1_ne (by decide), st1_ne (by decide), st1_ne (by decide), h72.1 1 (by decide)]) dX4_of_135 ?_
        refine iw_s33 E (u) (rfl) (by omega) dX4_of_136 ?_
        refine s_iinc E (L2 := [(2, .int (nI (u + 1))), (0, .ref (ad 27)), (1, .ref (ad 7))]) dX4_of_137 (k := 2) rfl (v := nI (u + 1)) (nI_inc _) (Nat.le_of_ble_eq_true rfl) rfl ?_
        refine s_goto E dX4_of_140 (tgt := 72) rfl ?_
        refine s_loc (L2 := [(0, .ref (ad 27)), (1, .ref (ad 7)), (2, .int (nI (u + 1)))]) [1, 2, 0] rfl ?_
        exact ih72 (u + 1) _ (by omega) (h72.step) (by omega)
  refine s_loc (L2 := [(0, .ref (ad 27)), (1, .ref (ad 7)), (2, .int (nI 0))]) [1, 2, 0] rfl ?_
  exact L72 (_ + 1) 0 _ (Nat.zero_le _) (OF.zero) (Nat.lt_succ_self _)
theorem iwX4_g17_1 {p : Program} {l : Launch} {e : Env} {R : Room} {s : State} {m : MethodId} {args : Array Value} {below : List Frame} {meth : Method} {c : Code} {Q : State → Prop} {A : Nat → Prop} {D : va_G} {nL cells slots : Nat} {pc : Nat} {L : List (Nat × Value)} {S : List Value} {cc : ByteArray} {ret : Option FieldType} {gt : Nat → Nat} {ad : Nat → Nat} {ct : Nat → ClassId} {n : Nat} {τ σ : Nat → Nat → Int32} {T : va_W} (E : En p s m args meth c A cc nL RX4 ret D (tysA ct) gt) (d : decode cc pc = .ok (.getfield 86, 3)) (K : Sm p l e R s m args below meth c Q A D nL cells slots (iw ad ct n τ σ T) (pc + 3) L (.ref (ad 19) :: S)) : Sm p l e R s m args below meth c Q A D nL cells slots (iw ad ct n τ σ T) pc L (.ref (ad 17) :: S) := s_getN E in_X3 17 rfl rfl 1 (Nat.le_of_ble_eq_true rfl) q237 rfl rfl d K
theorem iw_l19 {p : Program} {l : Launch} {e : Env} {R : Room} {s : State} {m : MethodId} {args : Array Value} {below : List Frame} {meth : Method} {c : Code} {Q : State → Prop} {A : Nat → Prop} {D : va_G} {nL cells slots : Nat} {pc : Nat} {L : List (Nat × Value)} {S : List Value} {cc : ByteArray} {ret : Option FieldType} {gt : Nat → Nat} {ad : Nat → Nat} {ct : Nat → ClassId} {n : Nat} {τ σ : Nat → Nat → Int32} {T : va_W} {own : String} (E : En p s m args meth c A cc nL own ret D (tysA ct) gt) {i v : Int32} (N : Nat) (hi : i = nI N) (hN : N < n) (h6 : n ≤ 6) (hv : σ 3 (6 + N) = v) (d : decode cc pc = .ok (.iaload, 1)) (K : Sm p l e R s m args below meth c Q A D nL cells slots (iw ad ct n τ σ T) (pc + 1) L (.int v :: S)) : Sm p l e R s m args below meth c Q A D nL cells slots (iw ad ct n τ σ T) pc L (.int i :: .ref (ad 19) :: S) := s_iald E 19 0 rfl rfl N hi (Nat.lt_of_lt_of_le hN h6) (Nat.le_of_ble_eq_true rfl) (by show pch n 6 (σ 3) (σ 7) N = v; rw [pch_at hN]; exact hv) d K
theorem iwX4_g17_0 {p : Program} {l : Launch} {e : Env} {R : Room} {s : State} {m : MethodId} {args : Array Value} {below : List Frame} {meth : Method} {c : Code} {Q : State → Prop} {A : Nat → Prop} {D : va_G} {nL cells slots : Nat} {pc : Nat} {L : List (Nat × Value)} {S : List Value} {cc : ByteArray} {ret : Option FieldType} {gt : Nat → Nat} {ad : Nat → Nat} {ct : Nat → ClassId} {n : Nat} {τ σ : Nat → Nat → Int32} {T : va_W} (E : En p s m args meth c A cc nL RX4 ret D (tysA ct) gt) (d : decode cc pc = .ok (.getfield 89, 3)) (K : Sm p l e R s m args below meth c Q A D nL cells slots (iw ad ct n τ σ T) (pc + 3) L (.ref (ad 18) :: S)) : Sm p l e R s m args below meth c Q A D nL cells slots (iw ad ct n τ σ T) pc L (.ref (ad 17) :: S) := s_getN E in_X3 17 rfl rfl 0 (Nat.le_of_ble_eq_true rfl) q234 rfl rfl d K
theorem iw_l18 {p : Program} {l : Launch} {e : Env} {R : Room} {s : State} {m : MethodId} {args : Array Value} {below : List Frame} {meth : Method} {c : Code} {Q : State → Prop} {A : Nat → Prop} {D : va_G} {nL cells slots : Nat} {pc : Nat} {L : List (Nat × Value)} {S : List Value} {cc : ByteArray} {ret : Option FieldType} {gt : Nat → Nat} {ad : Nat → Nat} {ct : Nat → ClassId} {n : Nat} {τ σ : Nat → Nat → Int32} {T : va_W} {own : String} (E : En p s m args meth c A cc nL own ret D (tysA ct) gt) {i v : Int32} (N : Nat) (hi : i = nI N) (hN : N < n) (h6 : n ≤ 6) (hv : σ 3 N = v) (d : decode cc pc = .ok (.iaload, 1)) (K : Sm p l e R s m args below meth c Q A D nL cells slots (iw ad ct n τ σ T) (pc + 1) L (.int v :: S)) : Sm p l e R s m args below meth c Q A D nL cells slots (iw ad ct n τ σ T) pc L (.int i :: .ref (ad 18) :: S) := s_iald E 18 0 rfl rfl N hi (Nat.lt_of_lt_of_le hN h6) (Nat.le_of_ble_eq_true rfl) (by show pch n 0 (σ 3) (σ 7) N = v; rw [pch_at hN, Nat.zero_add]; exact hv) d K
theorem iwX4_g17_2 {p : Program} {l : Launch} {e : Env} {R : Room} {s : State} {m : MethodId} {args : Array Value} {below : List Frame} {meth : Method} {c : Code} {Q : State → Prop} {A : Nat → Prop} {D : va_G} {nL cells slots : Nat} {pc : Nat} {L : List (Nat × Value)} {S : List Value} {cc : ByteArray} {ret : Option FieldType} {gt : Nat → Nat} {ad : Nat → Nat} {ct : Nat → ClassId} {n : Nat} {τ σ : Nat → Nat → Int32} {T : va_W} (E : En p s m args meth c A cc nL RX4 ret D (tysA ct) gt) (d : decode cc pc = .ok (.getfield 90, 3)) (K : Sm p l e R s m args below meth c Q A D nL cells slots (iw ad ct n τ σ T) (pc + 3) L (.ref (ad 20) :: S)) : Sm p l e R s m args below meth c Q A D nL cells slots (iw ad ct n τ σ T) pc L (.ref (ad 17) :: S) := s_getN E in_X3 17 rfl rfl 2 (Nat.le_of_ble_eq_true rfl) q240 rfl rfl d K
theorem iw_l20 {p : Program} {l : Launch} {e : Env} {R : Room} {s : State} {m : MethodId} {args : Array Value} {below : List Frame} {meth : Method} {c : Code} {Q : State → Prop} {A : Nat → Prop} {D : va_G} {nL cells slots : Nat} {pc : Nat} {L : List (Nat × Value)} {S : List Value} {cc : ByteArray} {ret : Option FieldType} {gt : Nat → Nat} {ad : Nat → Nat} {ct : Nat → ClassId} {n : Nat} {τ σ : Nat → Nat → Int32} {T : va_W} {own : String} (E : En p s m args meth c A cc nL own ret D (tysA ct) gt) {i v : Int32} (N : Nat) (hi : i = nI N) (hN : N < n) (h6 : n ≤ 6) (hv : σ 3 (73 + N) = v) (d : decode cc pc = .ok (.iaload, 1)) (K : Sm p l e R s m args below meth c Q A D nL cells slots (iw ad ct n τ σ T) (pc + 1) L (.int v :: S)) : Sm p l e R s m args below meth c Q A D nL cells slots (iw ad ct n τ σ T) pc L (.int i :: .ref (ad 20) :: S) := s_iald E 20 0 rfl rfl N hi (Nat.lt_of_lt_of_le hN h6) (Nat.le_of_ble_eq_true rfl) (by show pch n 73 (σ 3) (σ 7) N = v; rw [pch_at hN]; exact hv) d K
set_option maxHeartbeats 1000000 in
set_option maxRecDepth 100000 in
theorem x4z_of2 {l : Launch} {D : va_G} {gt : Nat → Nat} {ad : Nat → Nat} {ct : Nat → ClassId} {n : Nat} {τ σ : Nat → Nat → Int32} {T : va_W}  (hX : XT τ n) (hT : UT ad n τ T) : Cr l D gt yX4_of cX4_of 3 (.object RX4) 0 0 0 0 [.ref (ad 27), .ref (ad 17)] (iw ad ct n τ σ T) (tysA ct) (fun σ2 => XA σ σ2 ∧ AI (vw τ (σ 3)) (airS0 σ2) n) (fun _ => ad 27) (fun σ2 : Nat → Nat → Int32 => iw ad ct n τ σ2 T) (fun _ => tysA ct) := by
  refine Cr.start (Or.inl ⟨_, rfl⟩) RX4 (by decide) rfl (Nat.le_of_ble_eq_true rfl) rfl ?_
  intro pP eE sS mM aA bB hM cC QQ AA E Rt
  have hn6 := hX.2.1
  refine s_aload_n E dX4_of_0 (i := 0) (j := 0) rfl rfl ?_
  refine s_aload_n E dX4_of_1 (i := 0) (j := 0) rfl rfl ?_
  refine iwX4_g27_28 E dX4_of_2 ?_
  refine iwX4_g0_4 E dX4_of_5 ?_
  refine iwX4_g2_4 E (v := nI n) (hX.1) dX4_of_8 ?_
  refine iwX4_p27_9 E dX4_of_11 ?_
  refine s_aload_n E dX4_of_14 (i := 0) (j := 0) rfl rfl ?_
  refine s_aload_n E dX4_of_15 (i := 0) (j := 0) rfl rfl ?_
  refine iwX4_g27_28 E dX4_of_16 ?_
  refine iwX4_g0_4 E dX4_of_19 ?_
  refine iwX4_g2_6 E (v := τ 3 0) (rfl) dX4_of_22 ?_
  refine iwX4_p27_10 E dX4_of_25 ?_
  refine s_aload_n E dX4_of_28 (i := 0) (j := 0) rfl rfl ?_
  refine s_aload_n E dX4_of_29 (i := 0) (j := 0) rfl rfl ?_
  refine iwX4_g27_28 E dX4_of_30 ?_
  refine iwX4_g0_4 E dX4_of_33 ?_
  refine iwX4_g2_7 E (v := τ 3 1) (rfl) dX4_of_36 ?_
  refine iwX4_p27_11 E dX4_of_39 ?_
  refine s_aload_n E dX4_of_42 (i := 0) (j := 0) rfl rfl ?_
  refine s_aload_n E dX4_of_43 (i := 0) (j := 0) rfl rfl ?_
  refine iwX4_g27_28 E dX4_of_44 ?_
  refine iwX4_g0_4 E dX4_of_47 ?_
  refine iwX4_g2_8 E (v := τ 3 2) (rfl) dX4_of_50 ?_
  refine iwX4_p27_12 E dX4_of_53 ?_
  refine s_aload_n E dX4_of_56 (i := 0) (j := 0) rfl rfl ?_
  refine s_aload_n E dX4_of_57 (i := 0) (j := 0) rfl rfl ?_
  refine iwX4_g27_28 E dX4_of_58 ?_
  refine iwX4_g0_4 E dX4_of_61 ?_
  refine iwX4_g2_9 E (v := τ 3 3) (rfl) dX4_of_64 ?_
  refine iwX4_p27_13 E dX4_of_67 ?_
  refine s_iconst E dX4_of_70 (v := nI 0) (by decide) ?_
  refine s_istore_n E (L2 := [(2, .int (nI 0)), (0, .ref (ad 27)), (1, .ref (ad 17))]) dX4_of_71 rfl (Nat.le_of_ble_eq_true rfl) rfl ?_
  have L72 : ∀ (fuel : Nat) (u : Nat) (w72 : Nat → Nat → Int32), (u ≤ n) → (OF τ (σ 3) n σ u w72) → (n - u) < fuel → Sm pP l eE { frames := 0, cells := 0, slots := 0, locals := 0 } sS mM aA bB hM cC QQ AA D 3 0 0 (iw ad ct n τ w72 T) 72 [(0, .ref (ad 27)), (1, .ref (ad 17)), (2, .int (nI u))] [] := by
    intro fuel
    induction fuel with
    | zero =>
      intro u w72 hui h72 hf72
      exact absurd hf72 (Nat.not_lt_zero _)
    | succ fuel ih72 =>
      intro u w72 hui h72 hf72
      refine s_iload_n E dX4_of_72 (i := 2) (j := 2) rfl rfl ?_
      refine s_aload_n E dX4_of_73 (i := 0) (j := 0) rfl rfl ?_
      refine iwX4_g27_9 E (v := nI n) (h72.2.1) dX4_of_74 ?_
      refine s_icmp_ge E dX4_of_77 (tgt := 143) rfl (fun c77 => ?_) (fun c77 => ?_)
      · have c77 : ¬ u < n := fun h => absurd c77 (Int32.not_le.mpr ((nI_ltI (a := u) (b := n) (by omega) (by omega)).mpr h))
        refine s_aload_n E dX4_of_143 (i := 0) (j := 0) rfl rfl ?_
        exact Rt (ad 27) (w72) dX4_of_144 (by obtain rfl : u = n := (by omega); exact ⟨h72.1, h72.ai⟩) rfl rfl (Nat.le_refl _) (Nat.le_refl _) E.2.2.2.2.2.1
      · have c77 : u < n := (nI_ltI (a := u) (b := n) (by omega) (by omega)).mp (Int32.not_le.mp c77)
        refine s_aload_n E dX4_of_80 (i := 0) (j := 0) rfl rfl ?_
        refine iwX4_g27_0 E dX4_of_81 ?_
        refine s_iload_n E dX4_of_84 (i := 2) (j := 2) rfl rfl ?_
        refine s_aload_n E dX4_of_85 (i := 0) (j := 0) rfl rfl ?_
        refine iwX4_g27_28 E dX4_of_86 ?_
        refine iwX4_g0_4 E dX4_of_89 ?_
        refine iwX4_g2_0 E dX4_of_92 ?_
        refine s_iload_n E dX4_of_95 (i := 2) (j := 2) rfl rfl ?_
        refine iwX4_l3 E (u) (rfl) (by omega) hn6 dX4_of_96 ?_
        refine iwX4_gu1 E (v := τ 6 u) (u) (by omega) hT (rfl) dX4_of_97 ?_
        refine iw_s28 E (u) (rfl) (by omega) dX4_of_100 ?_
        refine s_aload_n E dX4_of_101 (i := 0) (j := 0) rfl rfl ?_
        refine iwX4_g27_1 E dX4_of_102 ?_
        refine s_iload_n E dX4_of_105 (i := 2) (j := 2) rfl rfl ?_
        refine s_aload_n E dX4_of_106 (i := 1) (j := 1) rfl rfl ?_
        refine iwX4_g17_1 E dX4_of_107 ?_
        refine s_iload_n E dX4_of_110 (i := 2) (j := 2) rfl rfl ?_
        refine iw_l19 E (v := σ 3 (6 + u)) (u) (rfl) (by omega) hn6 (by rw [st1_ne (by decide), h72.1 3 (by decide)]) dX4_of_111 ?_
        refine iw_s29 E (u) (rfl) (by omega) dX4_of_112 ?_
        refine s_aload_n E dX4_of_113 (i := 0) (j := 0) rfl rfl ?_
        refine iwX4_g27_2 E dX4_of_114 ?_
        refine s_iload_n E dX4_of_117 (i := 2) (j := 2) rfl rfl ?_
        refine s_aload_n E dX4_of_118 (i := 1) (j := 1) rfl rfl ?_
        refine iwX4_g17_0 E dX4_of_119 ?_
        refine s_iload_n E dX4_of_122 (i := 2) (j := 2) rfl rfl ?_
        refine iw_l18 E (v := σ 3 u) (u) (rfl) (by omega) hn6 (by rw [st1_ne (by decide), st1_ne (by decide), h72.1 3 (by decide)]) dX4_of_123 ?_
        refine iw_s30 E (u) (rfl) (by omega) dX4_of_124 ?_
        refine s_aload_n E dX4_of_125 (i := 0) (j := 0) rfl rfl ?_
        refine iwX4_g27_5 E dX4_of_126 ?_
        refine s_iload_n E dX4_of_129 (i := 2) (j := 2) rfl rfl ?_
        refine s_aload_n E dX4_of_130 (i := 1) (j := 1) rfl rfl ?_
        refine iwX4_g17_2 E dX4_of_131 ?_
        refine s_iload_n E dX4_of_134 (i := 2) (j := 2) rfl rfl ?_
        refine iw_l20 E (v := σ 3 (73 + u)) (u) (rfl) (by omega) hn6 (by rw [st1_ne (by decide), st1_ne (by decide), st1_ne (by decide), h72.1 3 (by decide)]) dX4_of_135 ?_
        refine iw_s33 E (u) (rfl) (by omega) dX4_of_136 ?_
        refine s_iinc E (L2 := [(2, .int (nI (u + 1))), (0, .ref (ad 27)), (1, .ref (ad 17))]) dX4_of_137 (k := 2) rfl (v := nI (u + 1)) (nI_inc _) (Nat.le_of_ble_eq_true rfl) rfl ?_
        refine s_goto E dX4_of_140 (tgt := 72) rfl ?_
        refine s_loc (L2 := [(0, .ref (ad 27)), (1, .ref (ad 17)), (2, .int (nI (u + 1)))]) [1, 2, 0] rfl ?_
        exact ih72 (u + 1) _ (by omega) (h72.step) (by omega)
  refine s_loc (L2 := [(0, .ref (ad 27)), (1, .ref (ad 17)), (2, .int (nI 0))]) [1, 2, 0] rfl ?_
  exact L72 (_ + 1) 0 _ (Nat.zero_le _) (OF.zero) (Nat.lt_succ_self _)
theorem iwX4_g22_1 {p : Program} {l : Launch} {e : Env} {R : Room} {s : State} {m : MethodId} {args : Array Value} {below : List Frame} {meth : Method} {c : Code} {Q : State → Prop} {A : Nat → Prop} {D : va_G} {nL cells slots : Nat} {pc : Nat} {L : List (Nat × Value)} {S : List Value} {cc : ByteArray} {ret : Option FieldType} {gt : Nat → Nat} {ad : Nat → Nat} {ct : Nat → ClassId} {n : Nat} {τ σ : Nat → Nat → Int32} {T : va_W} (E : En p s m args meth c A cc nL RX4 ret D (tysA ct) gt) (d : decode cc pc = .ok (.getfield 86, 3)) (K : Sm p l e R s m args below meth c Q A D nL cells slots (iw ad ct n τ σ T) (pc + 3) L (.ref (ad 24) :: S)) : Sm p l e R s m args below meth c Q A D nL cells slots (iw ad ct n τ σ T) pc L (.ref (ad 22) :: S) := s_getN E in_X3 22 rfl rfl 1 (Nat.le_of_ble_eq_true rfl) q237 rfl rfl d K
theorem iw_l24 {p : Program} {l : Launch} {e : Env} {R : Room} {s : State} {m : MethodId} {args : Array Value} {below : List Frame} {meth : Method} {c : Code} {Q : State → Prop} {A : Nat → Prop} {D : va_G} {nL cells slots : Nat} {pc : Nat} {L : List (Nat × Value)} {S : List Value} {cc : ByteArray} {ret : Option FieldType} {gt : Nat → Nat} {ad : Nat → Nat} {ct : Nat → ClassId} {n : Nat} {τ σ : Nat → Nat → Int32} {T : va_W} {own : String} (E : En p s m args meth c A cc nL own ret D (tysA ct) gt) {i v : Int32} (N : Nat) (hi : i = nI N) (hN : N < n) (h6 : n ≤ 6) (hv : σ 4 (6 + N) = v) (d : decode cc pc = .ok (.iaload, 1)) (K : Sm p l e R s m args below meth c Q A D nL cells slots (iw ad ct n τ σ T) (pc + 1) L (.int v :: S)) : Sm p l e R s m args below meth c Q A D nL cells slots (iw ad ct n τ σ T) pc L (.int i :: .ref (ad 24) :: S) := s_iald E 24 0 rfl rfl N hi (Nat.lt_of_lt_of_le hN h6) (Nat.le_of_ble_eq_true rfl) (by show pch n 6 (σ 4) (σ 8) N = v; rw [pch_at hN]; exact hv) d K
theorem iwX4_g22_0 {p : Program} {l : Launch} {e : Env} {R : Room} {s : State} {m : MethodId} {args : Array Value} {below : List Frame} {meth : Method} {c : Code} {Q : State → Prop} {A : Nat → Prop} {D : va_G} {nL cells slots : Nat} {pc : Nat} {L : List (Nat × Value)} {S : List Value} {cc : ByteArray} {ret : Option FieldType} {gt : Nat → Nat} {ad : Nat → Nat} {ct : Nat → ClassId} {n : Nat} {τ σ : Nat → Nat → Int32} {T : va_W} (E : En p s m args meth c A cc nL RX4 ret D (tysA ct) gt) (d : decode cc pc = .ok (.getfield 89, 3)) (K : Sm p l e R s m args below meth c Q A D nL cells slots (iw ad ct n τ σ T) (pc + 3) L (.ref (ad 23) :: S)) : Sm p l e R s m args below meth c Q A D nL cells slots (iw ad ct n τ σ T) pc L (.ref (ad 22) :: S) := s_getN E in_X3 22 rfl rfl 0 (Nat.le_of_ble_eq_true rfl) q234 rfl rfl d K
theorem iw_l23 {p : Program} {l : Launch} {e : Env} {R : Room} {s : State} {m : MethodId} {args : Array Value} {below : List Frame} {meth : Method} {c : Code} {Q : State → Prop} {A : Nat → Prop} {D : va_G} {nL cells slots : Nat} {pc : Nat} {L : List (Nat × Value)} {S : List Value} {cc : ByteArray} {ret : Option FieldType} {gt : Nat → Nat} {ad : Nat → Nat} {ct : Nat → ClassId} {n : Nat} {τ σ : Nat → Nat → Int32} {T : va_W} {own : String} (E : En p s m args meth c A cc nL own ret D (tysA ct) gt) {i v : Int32} (N : Nat) (hi : i = nI N) (hN : N < n) (h6 : n ≤ 6) (hv : σ 4 N = v) (d : decode cc pc = .ok (.iaload, 1)) (K : Sm p l e R s m args below meth c Q A D nL cells slots (iw ad ct n τ σ T) (pc + 1) L (.int v :: S)) : Sm p l e R s m args below meth c Q A D nL cells slots (iw ad ct n τ σ T) pc L (.int i :: .ref (ad 23) :: S) := s_iald E 23 0 rfl rfl N hi (Nat.lt_of_lt_of_le hN h6) (Nat.le_of_ble_eq_true rfl) (by show pch n 0 (σ 4) (σ 8) N = v; rw [pch_at hN, Nat.zero_add]; exact hv) d K
theorem iwX4_g22_2 {p : Program} {l : Launch} {e : Env} {R : Room} {s : State} {m : MethodId} {args : Array Value} {below : List Frame} {meth : Method} {c : Code} {Q : State → Prop} {A : Nat → Prop} {D : va_G} {nL cells slots : Nat} {pc : Nat} {L : List (Nat × Value)} {S : List Value} {cc : ByteArray} {ret : Option FieldType} {gt : Nat → Nat} {ad : Nat → Nat} {ct : Nat → ClassId} {n : Nat} {τ σ : Nat → Nat → Int32} {T : va_W} (E : En p s m args meth c A cc nL RX4 ret D (tysA ct) gt) (d : decode cc pc = .ok (.getfield 90, 3)) (K : Sm p l e R s m args below meth c Q A D nL cells slots (iw ad ct n τ σ T) (pc + 3) L (.ref (ad 25) :: S)) : Sm p l e R s m args below meth c Q A D nL cells slots (iw ad ct n τ σ T) pc L (.ref (ad 22) :: S) := s_getN E in_X3 22 rfl rfl 2 (Nat.le_of_ble_eq_true rfl) q240 rfl rfl d K
theorem iw_l25 {p : Program} {l : Launch} {e : Env} {R : Room} {s : State} {m : MethodId} {args : Array Value} {below : List Frame} {meth : Method} {c : Code} {Q : State → Prop} {A : Nat → Prop} {D : va_G} {nL cells slots : Nat} {pc : Nat} {L : List (Nat × Value)} {S : List Value} {cc : ByteArray} {ret : Option FieldType} {gt : Nat → Nat} {ad : Nat → Nat} {ct : Nat → ClassId} {n : Nat} {τ σ : Nat → Nat → Int32} {T : va_W} {own : String} (E : En p s m args meth c A cc nL own ret D (tysA ct) gt) {i v : Int32} (N : Nat) (hi : i = nI N) (hN : N < n) (h6 : n ≤ 6) (hv : σ 4 (73 + N) = v) (d : decode cc pc = .ok (.iaload, 1)) (K : Sm p l e R s m args below meth c Q A D nL cells slots (iw ad ct n τ σ T) (pc + 1) L (.int v :: S)) : Sm p l e R s m args below meth c Q A D nL cells slots (iw ad ct n τ σ T) pc L (.int i :: .ref (ad 25) :: S) := s_iald E 25 0 rfl rfl N hi (Nat.lt_of_lt_of_le hN h6) (Nat.le_of_ble_eq_true rfl) (by show pch n 73 (σ 4) (σ 8) N = v; rw [pch_at hN]; exact hv) d K
set_option maxHeartbeats 1000000 in
set_option maxRecDepth 100000 in
theorem x4z_of3 {l : Launch} {D : va_G} {gt : Nat → Nat} {ad : Nat → Nat} {ct : Nat → ClassId} {n : Nat} {τ σ : Nat → Nat → Int32} {T : va_W}  (hX : XT τ n) (hT : UT ad n τ T) : Cr l D gt yX4_of cX4_of 3 (.object RX4) 0 0 0 0 [.ref (ad 27), .ref (ad 22)] (iw ad ct n τ σ T) (tysA ct) (fun σ2 => XA σ σ2 ∧ AI (vw τ (σ 4)) (airS0 σ2) n) (fun _ => ad 27) (fun σ2 : Nat → Nat → Int32 => iw ad ct n τ σ2 T) (fun _ => tysA ct) := by
  refine Cr.start (Or.inl ⟨_, rfl⟩) RX4 (by decide) rfl (Nat.le_of_ble_eq_true rfl) rfl ?_
  intro pP eE sS mM aA bB hM cC QQ AA E Rt
  have hn6 := hX.2.1
  refine s_aload_n E dX4_of_0 (i := 0) (j := 0) rfl rfl ?_
  refine s_aload_n E dX4_of_1 (i := 0) (j := 0) rfl rfl ?_
  refine iwX4_g27_28 E dX4_of_2 ?_
  refine iwX4_g0_4 E dX4_of_5 ?_
  refine iwX4_g2_4 E (v := nI n) (hX.1) dX4_of_8 ?_
  refine iwX4_p27_9 E dX4_of_11 ?_
  refine s_aload_n E dX4_of_14 (i := 0) (j := 0) rfl rfl ?_
  refine s_aload_n E dX4_of_15 (i := 0) (j := 0) rfl rfl ?_
  refine iwX4_g27_28 E dX4_of_16 ?_
  refine iwX4_g0_4 E dX4_of_19 ?_
  refine iwX4_g2_6 E (v := τ 3 0) (rfl) dX4_of_22 ?_
  refine iwX4_p27_10 E dX4_of_25 ?_
  refine s_aload_n E dX4_of_28 (i := 0) (j := 0) rfl rfl ?_
  refine s_aload_n E dX4_of_29 (i := 0) (j := 0) rfl rfl ?_
  refine iwX4_g27_28 E dX4_of_30 ?_
  refine iwX4_g0_4 E dX4_of_33 ?_
  refine iwX4_g2_7 E (v := τ 3 1) (rfl) dX4_of_36 ?_
  refine iwX4_p27_11 E dX4_of_39 ?_
  refine s_aload_n E dX4_of_42 (i := 0) (j := 0) rfl rfl ?_
  refine s_aload_n E dX4_of_43 (i := 0) (j := 0) rfl rfl ?_
  refine iwX4_g27_28 E dX4_of_44 ?_
  refine iwX4_g0_4 E dX4_of_47 ?_
  refine iwX4_g2_8 E (v := τ 3 2) (rfl) dX4_of_50 ?_
  refine iwX4_p27_12 E dX4_of_53 ?_
  refine s_aload_n E dX4_of_56 (i := 0) (j := 0) rfl rfl ?_
  refine s_aload_n E dX4_of_57 (i := 0) (j := 0) rfl rfl ?_
  refine iwX4_g27_28 E dX4_of_58 ?_
  refine iwX4_g0_4 E dX4_of_61 ?_
  refine iwX4_g2_9 E (v := τ 3 3) (rfl) dX4_of_64 ?_
  refine iwX4_p27_13 E dX4_of_67 ?_
  refine s_iconst E dX4_of_70 (v := nI 0) (by decide) ?_
  refine s_istore_n E (L2 := [(2, .int (nI 0)), (0, .ref (ad 27)), (1, .ref (ad 22))]) dX4_of_71 rfl (Nat.le_of_ble_eq_true rfl) rfl ?_
  have L72 : ∀ (fuel : Nat) (u : Nat) (w72 : Nat → Nat → Int32), (u ≤ n) → (OF τ (σ 4) n σ u w72) → (n - u) < fuel → Sm pP l eE { frames := 0, cells := 0, slots := 0, locals := 0 } sS mM aA bB hM cC QQ AA D 3 0 0 (iw ad ct n τ w72 T) 72 [(0, .ref (ad 27)), (1, .ref (ad 22)), (2, .int (nI u))] [] := by
    intro fuel
    induction fuel with
    | zero =>
      intro u w72 hui h72 hf72
      exact absurd hf72 (Nat.not_lt_zero _)
    | succ fuel ih72 =>
      intro u w72 hui h72 hf72
      refine s_iload_n E dX4_of_72 (i := 2) (j := 2) rfl rfl ?_
      refine s_aload_n E dX4_of_73 (i := 0) (j := 0) rfl rfl ?_
      refine iwX4_g27_9 E (v := nI n) (h72.2.1) dX4_of_74 ?_
      refine s_icmp_ge E dX4_of_77 (tgt := 143) rfl (fun c77 => ?_) (fun c77 => ?_)
      · have c77 : ¬ u < n := fun h => absurd c77 (Int32.not_le.mpr ((nI_ltI (a := u) (b := n) (by omega) (by omega)).mpr h))
        refine s_aload_n E dX4_of_143 (i := 0) (j := 0) rfl rfl ?_
        exact Rt (ad 27) (w72) dX4_of_144 (by obtain rfl : u = n := (by omega); exact ⟨h72.1, h72.ai⟩) rfl rfl (Nat.le_refl _) (Nat.le_refl _) E.2.2.2.2.2.1
      · have c77 : u < n := (nI_ltI (a := u) (b := n) (by omega) (by omega)).mp (Int32.not_le.mp c77)
        refine s_aload_n E dX4_of_80 (i := 0) (j := 0) rfl rfl ?_
        refine iwX4_g27_0 E dX4_of_81 ?_
        refine s_iload_n E dX4_of_84 (i := 2) (j := 2) rfl rfl ?_
        refine s_aload_n E dX4_of_85 (i := 0) (j := 0) rfl rfl ?_
        refine iwX4_g27_28 E dX4_of_86 ?_
        refine iwX4_g0_4 E dX4_of_89 ?_
        refine iwX4_g2_0 E dX4_of_92 ?_
        refine s_iload_n E dX4_of_95 (i := 2) (j := 2) rfl rfl ?_
        refine iwX4_l3 E (u) (rfl) (by omega) hn6 dX4_of_96 ?_
        refine iwX4_gu1 E (v := τ 6 u) (u) (by omega) hT (rfl) dX4_of_97 ?_
        refine iw_s28 E (u) (rfl) (by omega) dX4_of_100 ?_
        refine s_aload_n E dX4_of_101 (i := 0) (j := 0) rfl rfl ?_
        refine iwX4_g27_1 E dX4_of_102 ?_
        refine s_iload_n E dX4_of_105 (i := 2) (j := 2) rfl rfl ?_
        refine s_aload_n E dX4_of_106 (i := 1) (j := 1) rfl rfl ?_
        refine iwX4_g22_1 E dX4_of_107 ?_
        refine s_iload_n E dX4_of_110 (i := 2) (j := 2) rfl rfl ?_
        refine iw_l24 E (v := σ 4 (6 + u)) (u) (rfl) (by omega) hn6 (by rw [st1_ne (by decide), h72.1 4 (by decide)]) dX4_of_111 ?_
        refine iw_s29 E (u) (rfl) (by omega) dX4_of_112 ?_
        refine s_aload_n E dX4_of_113 (i := 0) (j := 0) rfl rfl ?_
        refine iwX4_g27_2 E dX4_of_114 ?_
        refine s_iload_n E dX4_of_117 (i := 2) (j := 2) rfl rfl ?_
        refine s_aload_n E dX4_of_118 (i := 1) (j := 1) rfl rfl ?_
        refine iwX4_g22_0 E dX4_of_119 ?_
        refine s_iload_n E dX4_of_122 (i := 2) (j := 2) rfl rfl ?_
        refine iw_l23 E (v := σ 4 u) (u) (rfl) (by omega) hn6 (by rw [st1_ne (by decide), st1_ne (by decide), h72.1 4 (by decide)]) dX4_of_123 ?_
        refine iw_s30 E (u) (rfl) (by omega) dX4_of_124 ?_
        refine s_aload_n E dX4_of_125 (i := 0) (j := 0) rfl rfl ?_
        refine iwX4_g27_5 E dX4_of_126 ?_
        refine s_iload_n E dX4_of_129 (i := 2) (j := 2) rfl rfl ?_
        refine s_aload_n E dX4_of_130 (i := 1) (j := 1) rfl rfl ?_
        refine iwX4_g22_2 E dX4_of_131 ?_
        refine s_iload_n E dX4_of_134 (i := 2) (j := 2) rfl rfl ?_
        refine iw_l25 E (v := σ 4 (73 + u)) (u) (rfl) (by omega) hn6 (by rw [st1_ne (by decide), st1_ne (by decide), st1_ne (by decide), h72.1 4 (by decide)]) dX4_of_135 ?_
        refine iw_s33 E (u) (rfl) (by omega) dX4_of_136 ?_
        refine s_iinc E (L2 := [(2, .int (nI (u + 1))), (0, .ref (ad 27)), (1, .ref (ad 22))]) dX4_of_137 (k := 2) rfl (v := nI (u + 1)) (nI_inc _) (Nat.le_of_ble_eq_true rfl) rfl ?_
        refine s_goto E dX4_of_140 (tgt := 72) rfl ?_
        refine s_loc (L2 := [(0, .ref (ad 27)), (1, .ref (ad 22)), (2, .int (nI (u + 1)))]) [1, 2, 0] rfl ?_
        exact ih72 (u + 1) _ (by omega) (h72.step) (by omega)
  refine s_loc (L2 := [(0, .ref (ad 27)), (1, .ref (ad 22)), (2, .int (nI 0))]) [1, 2, 0] rfl ?_
  exact L72 (_ + 1) 0 _ (Nat.zero_le _) (OF.zero) (Nat.lt_succ_self _)
set_option maxHeartbeats 1000000 in
set_option maxRecDepth 100000 in
theorem x3z_like10 {l : Launch} {D : va_G} {gt : Nat → Nat} {ad : Nat → Nat} {ct : Nat → ClassId} {n : Nat} {τ σ : Nat → Nat → Int32} {T : va_W}  (hn6 : n ≤ 6) (hb : BB (σ 1)) : Cr l D gt yX3_like cX3_like 2 (.object RX3) 1 40 0 0 [.ref (ad 12), .ref (ad 7)] (iw ad ct n τ σ T) (tysA ct) (fun σ2 => likS 1 0 σ = σ2) (fun _ => ad 12) (fun σ2 : Nat → Nat → Int32 => iw ad ct n τ σ2 T) (fun _ => tysA ct) := by
  refine Cr.start (Or.inl ⟨_, rfl⟩) RX3 (by decide) rfl (Nat.le_of_ble_eq_true rfl) rfl ?_
  intro pP eE sS mM aA bB hM cC QQ AA E Rt
  refine s_aload_n E dX3_like_0 (i := 1) (j := 1) rfl rfl ?_
  refine s_get E in_X3 (v := .ref (ad 8)) 7 rfl rfl 0 (Nat.le_of_ble_eq_true rfl) q232 rfl rfl dX3_like_1 ?_
  refine s_iconst E dX3_like_4 (v := nI 0) (by decide) ?_
  refine s_aload_n E dX3_like_5 (i := 0) (j := 0) rfl rfl ?_
  refine s_get E in_X3 (v := .ref (ad 13)) 12 rfl rfl 0 (Nat.le_of_ble_eq_true rfl) q232 rfl rfl dX3_like_6 ?_
  refine s_iconst E dX3_like_9 (v := nI 0) (by decide) ?_
  refine s_bipush E dX3_like_10 (v := nI 6) (by decide) ?_
  refine s_copy E 8 13 0 0 rfl rfl rfl rfl rfl 0 0 6 (by decide) (by decide) (by decide) (by decide) (by decide) (fun _ _ => rfl) (Nat.le_of_ble_eq_true rfl) (Nat.le_of_ble_eq_true rfl) q786 q788 q787 q129 rfl dX3_like_12 ?_
  refine s_aload_n E dX3_like_15 (i := 1) (j := 1) rfl rfl ?_
  refine s_get E in_X3 (v := .ref (ad 9)) 7 rfl rfl 1 (Nat.le_of_ble_eq_true rfl) q236 rfl rfl dX3_like_16 ?_
  refine s_iconst E dX3_like_19 (v := nI 0) (by decide) ?_
  refine s_aload_n E dX3_like_20 (i := 0) (j := 0) rfl rfl ?_
  refine s_get E in_X3 (v := .ref (ad 14)) 12 rfl rfl 1 (Nat.le_of_ble_eq_true rfl) q236 rfl rfl dX3_like_21 ?_
  refine s_iconst E dX3_like_24 (v := nI 0) (by decide) ?_
  refine s_bipush E dX3_like_25 (v := nI 6) (by decide) ?_
  refine s_copy E 9 14 0 0 rfl rfl rfl rfl rfl 0 0 6 (by decide) (by decide) (by decide) (by decide) (by decide) (fun _ _ => rfl) (Nat.le_of_ble_eq_true rfl) (Nat.le_of_ble_eq_true rfl) q786 q788 q787 q129 rfl dX3_like_27 ?_
  refine s_aload_n E dX3_like_30 (i := 1) (j := 1) rfl rfl ?_
  refine s_get E in_X3 (v := .ref (ad 10)) 7 rfl rfl 2 (Nat.le_of_ble_eq_true rfl) q239 rfl rfl dX3_like_31 ?_
  refine s_iconst E dX3_like_34 (v := nI 0) (by decide) ?_
  refine s_aload_n E dX3_like_35 (i := 0) (j := 0) rfl rfl ?_
  refine s_get E in_X3 (v := .ref (ad 15)) 12 rfl rfl 2 (Nat.le_of_ble_eq_true rfl) q239 rfl rfl dX3_like_36 ?_
  refine s_iconst E dX3_like_39 (v := nI 0) (by decide) ?_
  refine s_bipush E dX3_like_40 (v := nI 6) (by decide) ?_
  refine s_copy E 10 15 0 0 rfl rfl rfl rfl rfl 0 0 6 (by decide) (by decide) (by decide) (by decide) (by decide) (fun _ _ => rfl) (Nat.le_of_ble_eq_true rfl) (Nat.le_of_ble_eq_true rfl) q786 q788 q787 q129 rfl dX3_like_42 ?_
  refine s_aload_n E dX3_like_45 (i := 1) (j := 1) rfl rfl ?_
  refine s_get E in_X3 (v := .ref (ad 11)) 7 rfl rfl 3 (Nat.le_of_ble_eq_true rfl) q242 rfl rfl dX3_like_46 ?_
  refine s_iconst E dX3_like_49 (v := nI 0) (by decide) ?_
  refine s_aload_n E dX3_like_50 (i := 0) (j := 0) rfl rfl ?_
  refine s_get E in_X3 (v := .ref (ad 16)) 12 rfl rfl 3 (Nat.le_of_ble_eq_true rfl) q242 rfl rfl dX3_like_51 ?_
  refine s_iconst E dX3_like_54 (v := nI 0) (by decide) ?_
  refine s_bipush E dX3_like_55 (v := nI 61) (by decide) ?_
  refine s_copy E 11 16 1 1 rfl rfl rfl rfl rfl 0 0 61 (by decide) (by decide) (by decide) (by decide) (by decide) (hb.fits) (Nat.le_of_ble_eq_true rfl) (Nat.le_of_ble_eq_true rfl) q786 q788 q787 q129 rfl dX3_like_57 ?_
  refine s_ws (ws2 := iw ad ct n τ (likS 1 0 σ) T) (by unfold iw fw; rw [cpy_pch hn6, cpy_pch hn6, cpy_pch hn6, cpy_pbl]; rfl) ?_
  refine s_aload_n E dX3_like_60 (i := 0) (j := 0) rfl rfl ?_
  exact Rt (ad 12) (likS 1 0 σ) dX3_like_61 (rfl) rfl rfl (Nat.le_refl _) (Nat.le_refl _) E.2.2.2.2.2.1
set_option maxHeartbeats 1000000 in
set_option maxRecDepth 100000 in
theorem x3z_like01 {l : Launch} {D : va_G} {gt : Nat → Nat} {ad : Nat → Nat} {ct : Nat → ClassId} {n : Nat} {τ σ : Nat → Nat → Int32} {T : va_W}  (hn6 : n ≤ 6) (hb : BB (σ 2)) : Cr l D gt yX3_like cX3_like 2 (.object RX3) 1 40 0 0 [.ref (ad 7), .ref (ad 12)] (iw ad ct n τ σ T) (tysA ct) (fun σ2 => likS 0 1 σ = σ2) (fun _ => ad 7) (fun σ2 : Nat → Nat → Int32 => iw ad ct n τ σ2 T) (fun _ => tysA ct) := by
  refine Cr.start (Or.inl ⟨_, rfl⟩) RX3 (by decide) rfl (Nat.le_of_ble_eq_true rfl) rfl ?_
  intro pP eE sS mM aA bB hM cC QQ AA E Rt
  refine s_aload_n E dX3_like_0 (i := 1) (j := 1) rfl rfl ?_
  refine s_get E in_X3 (v := .ref (ad 13)) 12 rfl rfl 0 (Nat.le_of_ble_eq_true rfl) q232 rfl rfl dX3_like_1 ?_
  refine s_iconst E dX3_like_4 (v := nI 0) (by decide) ?_
  refine s_aload_n E dX3_like_5 (i := 0) (j := 0) rfl rfl ?_
  refine s_get E in_X3 (v := .ref (ad 8)) 7 rfl rfl 0 (Nat.le_of_ble_eq_true rfl) q232 rfl rfl dX3_like_6 ?_
  refine s_iconst E dX3_like_9 (v := nI 0) (by decide) ?_
  refine s_bipush E dX3_like_10 (v := nI 6) (by decide) ?_
  refine s_copy E 13 8 0 0 rfl rfl rfl rfl rfl 0 0 6 (by decide) (by decide) (by decide) (by decide) (by decide) (fun _ _ => rfl) (Nat.le_of_ble_eq_true rfl) (Nat.le_of_ble_eq_true rfl) q786 q788 q787 q129 rfl dX3_like_12 ?_
  refine s_aload_n E dX3_like_15 (i := 1) (j := 1) rfl rfl ?_
  refine s_get E in_X3 (v := .ref (ad 14)) 12 rfl rfl 1 (Nat.le_of_ble_eq_true rfl) q236 rfl rfl dX3_like_16 ?_
  refine s_iconst E dX3_like_19 (v := nI 0) (by decide) ?_
  refine s_aload_n E dX3_like_20 (i := 0) (j := 0) rfl rfl ?_
  refine s_get E in_X3 (v := .ref (ad 9)) 7 rfl rfl 1 (Nat.le_of_ble_eq_true rfl) q236 rfl rfl dX3_like_21 ?_
  refine s_iconst E dX3_like_24 (v := nI 0) (by decide) ?_
  refine s_bipush E dX3_like_25 (v := nI 6) (by decide) ?_
  refine s_copy E 14 9 0 0 rfl rfl rfl rfl rfl 0 0 6 (by decide) (by decide) (by decide) (by decide) (by decide) (fun _ _ => rfl) (Nat.le_of_ble_eq_true rfl) (Nat.le_of_ble_eq_true rfl) q786 q788 q787 q129 rfl dX3_like_27 ?_
  refine s_aload_n E dX3_like_30 (i := 1) (j := 1) rfl rfl ?_
  refine s_get E in_X3 (v := .ref (ad 15)) 12 rfl rfl 2 (Nat.le_of_ble_eq_true rfl) q239 rfl rfl dX3_like_31 ?_
  refine s_iconst E dX3_like_34 (v := nI 0) (by decide) ?_
  refine s_aload_n E dX3_like_35 (i := 0) (j := 0) rfl rfl ?_
  refine s_get E in_X3 (v := .ref (ad 10)) 7 rfl rfl 2 (Nat.le_of_ble_eq_true rfl) q239 rfl rfl dX3_like_36 ?_
  refine s_iconst E dX3_like_39 (v := nI 0) (by decide) ?_
  refine s_bipush E dX3_like_40 (v := nI 6) (by decide) ?_
  refine s_copy E 15 10 0 0 rfl rfl rfl rfl rfl 0 0 6 (by decide) (by decide) (by decide) (by decide) (by decide) (fun _ _ => rfl) (Nat.le_of_ble_eq_true rfl) (Nat.le_of_ble_eq_true rfl) q786 q788 q787 q129 rfl dX3_like_42 ?_
  refine s_aload_n E dX3_like_45 (i := 1) (j := 1) rfl rfl ?_
  refine s_get E in_X3 (v := .ref (ad 16)) 12 rfl rfl 3 (Nat.le_of_ble_eq_true rfl) q242 rfl rfl dX3_like_46 ?_
  refine s_iconst E dX3_like_49 (v := nI 0) (by decide) ?_
  refine s_aload_n E dX3_like_50 (i := 0) (j := 0) rfl rfl ?_
  refine s_get E in_X3 (v := .ref (ad 11)) 7 rfl rfl 3 (Nat.le_of_ble_eq_true rfl) q242 rfl rfl dX3_like_51 ?_
  refine s_iconst E dX3_like_54 (v := nI 0) (by decide) ?_
  refine s_bipush E dX3_like_55 (v := nI 61) (by decide) ?_
  refine s_copy E 16 11 1 1 rfl rfl rfl rfl rfl 0 0 61 (by decide) (by decide) (by decide) (by decide) (by decide) (hb.fits) (Nat.le_of_ble_eq_true rfl) (Nat.le_of_ble_eq_true rfl) q786 q788 q787 q129 rfl dX3_like_57 ?_
  refine s_ws (ws2 := iw ad ct n τ (likS 0 1 σ) T) (by unfold iw fw; rw [cpy_pch hn6, cpy_pch hn6, cpy_pch hn6, cpy_pbl]; rfl) ?_
  refine s_aload_n E dX3_like_60 (i := 0) (j := 0) rfl rfl ?_
  exact Rt (ad 7) (likS 0 1 σ) dX3_like_61 (rfl) rfl rfl (Nat.le_refl _) (Nat.le_refl _) E.2.2.2.2.2.1
set_option maxHeartbeats 1000000 in
set_option maxRecDepth 100000 in
theorem x3z_like02 {l : Launch} {D : va_G} {gt : Nat → Nat} {ad : Nat → Nat} {ct : Nat → ClassId} {n : Nat} {τ σ : Nat → Nat → Int32} {T : va_W}  (hn6 : n ≤ 6) (hb : BB (σ 3)) : Cr l D gt yX3_like cX3_like 2 (.object RX3) 1 40 0 0 [.ref (ad 7), .ref (ad 17)] (iw ad ct n τ σ T) (tysA ct) (fun σ2 => likS 0 2 σ = σ2) (fun _ => ad 7) (fun σ2 : Nat → Nat → Int32 => iw ad ct n τ σ2 T) (fun _ => tysA ct) := by
  refine Cr.start (Or.inl ⟨_, rfl⟩) RX3 (by decide) rfl (Nat.le_of_ble_eq_true rfl) rfl ?_
  intro pP eE sS mM aA bB hM cC QQ AA E Rt
  refine s_aload_n E dX3_like_0 (i := 1) (j := 1) rfl rfl ?_
  refine s_get E in_X3 (v := .ref (ad 18)) 17 rfl rfl 0 (Nat.le_of_ble_eq_true rfl) q232 rfl rfl dX3_like_1 ?_
  refine s_iconst E dX3_like_4 (v := nI 0) (by decide) ?_
  refine s_aload_n E dX3_like_5 (i := 0) (j := 0) rfl rfl ?_
  refine s_get E in_X3 (v := .ref (ad 8)) 7 rfl rfl 0 (Nat.le_of_ble_eq_true rfl) q232 rfl rfl dX3_like_6 ?_
  refine s_iconst E dX3_like_9 (v := nI 0) (by decide) ?_
  refine s_bipush E dX3_like_10 (v := nI 6) (by decide) ?_
  refine s_copy E 18 8 0 0 rfl rfl rfl rfl rfl 0 0 6 (by decide) (by decide) (by decide) (by decide) (by decide) (fun _ _ => rfl) (Nat.le_of_ble_eq_true rfl) (Nat.le_of_ble_eq_true rfl) q786 q788 q787 q129 rfl dX3_like_12 ?_
  refine s_aload_n E dX3_like_15 (i := 1) (j := 1) rfl rfl ?_
  refine s_get E in_X3 (v := .ref (ad 19)) 17 rfl rfl 1 (Nat.le_of_ble_eq_true rfl) q236 rfl rfl dX3_like_16 ?_
  refine s_iconst E dX3_like_19 (v := nI 0) (by decide) ?_
  refine s_aload_n E dX3_like_20 (i := 0) (j := 0) rfl rfl ?_
  refine s_get E in_X3 (v := .ref (ad 9)) 7 rfl rfl 1 (Nat.le_of_ble_eq_true rfl) q236 rfl rfl dX3_like_21 ?_
  refine s_iconst E dX3_like_24 (v := nI 0) (by decide) ?_
  refine s_bipush E dX3_like_25 (v := nI 6) (by decide) ?_
  refine s_copy E 19 9 0 0 rfl rfl rfl rfl rfl 0 0 6 (by decide) (by decide) (by decide) (by decide) (by decide) (fun _ _ => rfl) (Nat.le_of_ble_eq_true rfl) (Nat.le_of_ble_eq_true rfl) q786 q788 q787 q129 rfl dX3_like_27 ?_
  refine s_aload_n E dX3_like_30 (i := 1) (j := 1) rfl rfl ?_
  refine s_get E in_X3 (v := .ref (ad 20)) 17 rfl rfl 2 (Nat.le_of_ble_eq_true rfl) q239 rfl rfl dX3_like_31 ?_
  refine s_iconst E dX3_like_34 (v := nI 0) (by decide) ?_
  refine s_aload_n E dX3_like_35 (i := 0) (j := 0) rfl rfl ?_
  refine s_get E in_X3 (v := .ref (ad 10)) 7 rfl rfl 2 (Nat.le_of_ble_eq_true rfl) q239 rfl rfl dX3_like_36 ?_
  refine s_iconst E dX3_like_39 (v := nI 0) (by decide) ?_
  refine s_bipush E dX3_like_40 (v := nI 6) (by decide) ?_
  refine s_copy E 20 10 0 0 rfl rfl rfl rfl rfl 0 0 6 (by decide) (by decide) (by decide) (by decide) (by decide) (fun _ _ => rfl) (Nat.le_of_ble_eq_true rfl) (Nat.le_of_ble_eq_true rfl) q786 q788 q787 q129 rfl dX3_like_42 ?_
  refine s_aload_n E dX3_like_45 (i := 1) (j := 1) rfl rfl ?_
  refine s_get E in_X3 (v := .ref (ad 21)) 17 rfl rfl 3 (Nat.le_of_ble_eq_true rfl) q242 rfl rfl dX3_like_46 ?_
  refine s_iconst E dX3_like_49 (v := nI 0) (by decide) ?_
  refine s_aload_n E dX3_like_50 (i := 0) (j := 0) rfl rfl ?_
  refine s_get E in_X3 (v := .ref (ad 11)) 7 rfl rfl 3 (Nat.le_of_ble_eq_true rfl) q242 rfl rfl dX3_like_51 ?_
  refine s_iconst E dX3_like_54 (v := nI 0) (by decide) ?_
  refine s_bipush E dX3_like_55 (v := nI 61) (by decide) ?_
  refine s_copy E 21 11 1 1 rfl rfl rfl rfl rfl 0 0 61 (by decide) (by decide) (by decide) (by decide) (by decide) (hb.fits) (Nat.le_of_ble_eq_true rfl) (Nat.le_of_ble_eq_true rfl) q786 q788 q787 q129 rfl dX3_like_57 ?_
  refine s_ws (ws2 := iw ad ct n τ (likS 0 2 σ) T) (by unfold iw fw; rw [cpy_pch hn6, cpy_pch hn6, cpy_pch hn6, cpy_pbl]; rfl) ?_
  refine s_aload_n E dX3_like_60 (i := 0) (j := 0) rfl rfl ?_
  exact Rt (ad 7) (likS 0 2 σ) dX3_like_61 (rfl) rfl rfl (Nat.le_refl _) (Nat.le_refl _) E.2.2.2.2.2.1
set_option maxHeartbeats 1000000 in
set_option maxRecDepth 100000 in
theorem x3z_like20 {l : Launch} {D : va_G} {gt : Nat → Nat} {ad : Nat → Nat} {ct : Nat → ClassId} {n : Nat} {τ σ : Nat → Nat → Int32} {T : va_W}  (hn6 : n ≤ 6) (hb : BB (σ 1)) : Cr l D gt yX3_like cX3_like 2 (.object RX3) 1 40 0 0 [.ref (ad 17), .ref (ad 7)] (iw ad ct n τ σ T) (tysA ct) (fun σ2 => likS 2 0 σ = σ2) (fun _ => ad 17) (fun σ2 : Nat → Nat → Int32 => iw ad ct n τ σ2 T) (fun _ => tysA ct) := by
  refine Cr.start (Or.inl ⟨_, rfl⟩) RX3 (by decide) rfl (Nat.le_of_ble_eq_true rfl) rfl ?_
  intro pP eE sS mM aA bB hM cC QQ AA E Rt
  refine s_aload_n E dX3_like_0 (i := 1) (j := 1) rfl rfl ?_
  refine s_get E in_X3 (v := .ref (ad 8)) 7 rfl rfl 0 (Nat.le_of_ble_eq_true rfl) q232 rfl rfl dX3_like_1 ?_
  refine s_iconst E dX3_like_4 (v := nI 0) (by decide) ?_
  refine s_aload_n E dX3_like_5 (i := 0) (j := 0) rfl rfl ?_
  refine s_get E in_X3 (v := .ref (ad 18)) 17 rfl rfl 0 (Nat.le_of_ble_eq_true rfl) q232 rfl rfl dX3_like_6 ?_
  refine s_iconst E dX3_like_9 (v := nI 0) (by decide) ?_
  refine s_bipush E dX3_like_10 (v := nI 6) (by decide) ?_
  refine s_copy E 8 18 0 0 rfl rfl rfl rfl rfl 0 0 6 (by decide) (by decide) (by decide) (by decide) (by decide) (fun _ _ => rfl) (Nat.le_of_ble_eq_true rfl) (Nat.le_of_ble_eq_true rfl) q786 q788 q787 q129 rfl dX3_like_12 ?_
  refine s_aload_n E dX3_like_15 (i := 1) (j := 1) rfl rfl ?_
  refine s_get E in_X3 (v := .ref (ad 9)) 7 rfl rfl 1 (Nat.le_of_ble_eq_true rfl) q236 rfl rfl dX3_like_16 ?_
  refine s_iconst E dX3_like_19 (v := nI 0) (by decide) ?_
  refine s_aload_n E dX3_like_20 (i := 0) (j := 0) rfl rfl ?_
  refine s_get E in_X3 (v := .ref (ad 19)) 17 rfl rfl 1 (Nat.le_of_ble_eq_true rfl) q236 rfl rfl dX3_like_21 ?_
  refine s_iconst E dX3_like_24 (v := nI 0) (by decide) ?_
  refine s_bipush E dX3_like_25 (v := nI 6) (by decide) ?_
  refine s_copy E 9 19 0 0 rfl rfl rfl rfl rfl 0 0 6 (by decide) (by decide) (by decide) (by decide) (by decide) (fun _ _ => rfl) (Nat.le_of_ble_eq_true rfl) (Nat.le_of_ble_eq_true rfl) q786 q788 q787 q129 rfl dX3_like_27 ?_
  refine s_aload_n E dX3_like_30 (i := 1) (j := 1) rfl rfl ?_
  refine s_get E in_X3 (v := .ref (ad 10)) 7 rfl rfl 2 (Nat.le_of_ble_eq_true rfl) q239 rfl rfl dX3_like_31 ?_
  refine s_iconst E dX3_like_34 (v := nI 0) (by decide) ?_
  refine s_aload_n E dX3_like_35 (i := 0) (j := 0) rfl rfl ?_
  refine s_get E in_X3 (v := .ref (ad 20)) 17 rfl rfl 2 (Nat.le_of_ble_eq_true rfl) q239 rfl rfl dX3_like_36 ?_
  refine s_iconst E dX3_like_39 (v := nI 0) (by decide) ?_
  refine s_bipush E dX3_like_40 (v := nI 6) (by decide) ?_
  refine s_copy E 10 20 0 0 rfl rfl rfl rfl rfl 0 0 6 (by decide) (by decide) (by decide) (by decide) (by decide) (fun _ _ => rfl) (Nat.le_of_ble_eq_true rfl) (Nat.le_of_ble_eq_true rfl) q786 q788 q787 q129 rfl dX3_like_42 ?_
  refine s_aload_n E dX3_like_45 (i := 1) (j := 1) rfl rfl ?_
  refine s_get E in_X3 (v := .ref (ad 11)) 7 rfl rfl 3 (Nat.le_of_ble_eq_true rfl) q242 rfl rfl dX3_like_46 ?_
  refine s_iconst E dX3_like_49 (v := nI 0) (by decide) ?_
  refine s_aload_n E dX3_like_50 (i := 0) (j := 0) rfl rfl ?_
  refine s_get E in_X3 (v := .ref (ad 21)) 17 rfl rfl 3 (Nat.le_of_ble_eq_true rfl) q242 rfl rfl dX3_like_51 ?_
  refine s_iconst E dX3_like_54 (v := nI 0) (by decide) ?_
  refine s_bipush E dX3_like_55 (v := nI 61) (by decide) ?_
  refine s_copy E 11 21 1 1 rfl rfl rfl rfl rfl 0 0 61 (by decide) (by decide) (by decide) (by decide) (by decide) (hb.fits) (Nat.le_of_ble_eq_true rfl) (Nat.le_of_ble_eq_true rfl) q786 q788 q787 q129 rfl dX3_like_57 ?_
  refine s_ws (ws2 := iw ad ct n τ (likS 2 0 σ) T) (by unfold iw fw; rw [cpy_pch hn6, cpy_pch hn6, cpy_pch hn6, cpy_pbl]; rfl) ?_
  refine s_aload_n E dX3_like_60 (i := 0) (j := 0) rfl rfl ?_
  exact Rt (ad 17) (likS 2 0 σ) dX3_like_61 (rfl) rfl rfl (Nat.le_refl _) (Nat.le_refl _) E.2.2.2.2.2.1
set_option maxHeartbeats 1000000 in
set_option maxRecDepth 100000 in
theorem x3z_like30 {l : Launch} {D : va_G} {gt : Nat → Nat} {ad : Nat → Nat} {ct : Nat → ClassId} {n : Nat} {τ σ : Nat → Nat → Int32} {T : va_W}  (hn6 : n ≤ 6) (hb : BB (σ 1)) : Cr l D gt yX3_like cX3_like 2 (.object RX3) 1 40 0 0 [.ref (ad 22), .ref (ad 7)] (iw ad ct n τ σ T) (tysA ct) (fun σ2 => likS 3 0 σ = σ2) (fun _ => ad 22) (fun σ2 : Nat → Nat → Int32 => iw ad ct n τ σ2 T) (fun _ => tysA ct) := by
  refine Cr.start (Or.inl ⟨_, rfl⟩) RX3 (by decide) rfl (Nat.le_of_ble_eq_true rfl) rfl ?_
  intro pP eE sS mM aA bB hM cC QQ AA E Rt
  refine s_aload_n E dX3_like_0 (i := 1) (j := 1) rfl rfl ?_
  refine s_get E in_X3 (v := .ref (ad 8)) 7 rfl rfl 0 (Nat.le_of_ble_eq_true rfl) q232 rfl rfl dX3_like_1 ?_
  refine s_iconst E dX3_like_4 (v := nI 0) (by decide) ?_
  refine s_aload_n E dX3_like_5 (i := 0) (j := 0) rfl rfl ?_
  refine s_get E in_X3 (v := .ref (ad 23)) 22 rfl rfl 0 (Nat.le_of_ble_eq_true rfl) q232 rfl rfl dX3_like_6 ?_
  refine s_iconst E dX3_like_9 (v := nI 0) (by decide) ?_
  refine s_bipush E dX3_like_10 (v := nI 6) (by decide) ?_
  refine s_copy E 8 23 0 0 rfl rfl rfl rfl rfl 0 0 6 (by decide) (by decide) (by decide) (by decide) (by decide) (fun _ _ => rfl) (Nat.le_of_ble_eq_true rfl) (Nat.le_of_ble_eq_true rfl) q786 q788 q787 q129 rfl dX3_like_12 ?_
  refine s_aload_n E dX3_like_15 (i := 1) (j := 1) rfl rfl ?_
  refine s_get E in_X3 (v := .ref (ad 9)) 7 rfl rfl 1 (Nat.le_of_ble_eq_true rfl) q236 rfl rfl dX3_like_16 ?_
  refine s_iconst E dX3_like_19 (v := nI 0) (by decide) ?_
  refine s_aload_n E dX3_like_20 (i := 0) (j := 0) rfl rfl ?_
  refine s_get E in_X3 (v := .ref (ad 24)) 22 rfl rfl 1 (Nat.le_of_ble_eq_true rfl) q236 rfl rfl dX3_like_21 ?_
  refine s_iconst E dX3_like_24 (v := nI 0) (by decide) ?_
  refine s_bipush E dX3_like_25 (v := nI 6) (by decide) ?_
  refine s_copy E 9 24 0 0 rfl rfl rfl rfl rfl 0 0 6 (by decide) (by decide) (by decide) (by decide) (by decide) (fun _ _ => rfl) (Nat.le_of_ble_eq_true rfl) (Nat.le_of_ble_eq_true rfl) q786 q788 q787 q129 rfl dX3_like_27 ?_
  refine s_aload_n E dX3_like_30 (i := 1) (j := 1) rfl rfl ?_
  refine s_get E in_X3 (v := .ref (ad 10)) 7 rfl rfl 2 (Nat.le_of_ble_eq_true rfl) q239 rfl rfl dX3_like_31 ?_
  refine s_iconst E dX3_like_34 (v := nI 0) (by decide) ?_
  refine s_aload_n E dX3_like_35 (i := 0) (j := 0) rfl rfl ?_
  refine s_get E in_X3 (v := .ref (ad 25)) 22 rfl rfl 2 (Nat.le_of_ble_eq_true rfl) q239 rfl rfl dX3_like_36 ?_
  refine s_iconst E dX3_like_39 (v := nI 0) (by decide) ?_
  refine s_bipush E dX3_like_40 (v := nI 6) (by decide) ?_
  refine s_copy E 10 25 0 0 rfl rfl rfl rfl rfl 0 0 6 (by decide) (by decide) (by decide) (by decide) (by decide) (fun _ _ => rfl) (Nat.le_of_ble_eq_true rfl) (Nat.le_of_ble_eq_true rfl) q786 q788 q787 q129 rfl dX3_like_42 ?_
  refine s_aload_n E dX3_like_45 (i := 1) (j := 1) rfl rfl ?_
  refine s_get E in_X3 (v := .ref (ad 11)) 7 rfl rfl 3 (Nat.le_of_ble_eq_true rfl) q242 rfl rfl dX3_like_46 ?_
  refine s_iconst E dX3_like_49 (v := nI 0) (by decide) ?_
  refine s_aload_n E dX3_like_50 (i := 0) (j := 0) rfl rfl ?_
  refine s_get E in_X3 (v := .ref (ad 26)) 22 rfl rfl 3 (Nat.le_of_ble_eq_true rfl) q242 rfl rfl dX3_like_51 ?_
  refine s_iconst E dX3_like_54 (v := nI 0) (by decide) ?_
  refine s_bipush E dX3_like_55 (v := nI 61) (by decide) ?_
  refine s_copy E 11 26 1 1 rfl rfl rfl rfl rfl 0 0 61 (by decide) (by decide) (by decide) (by decide) (by decide) (hb.fits) (Nat.le_of_ble_eq_true rfl) (Nat.le_of_ble_eq_true rfl) q786 q788 q787 q129 rfl dX3_like_57 ?_
  refine s_ws (ws2 := iw ad ct n τ (likS 3 0 σ) T) (by unfold iw fw; rw [cpy_pch hn6, cpy_pch hn6, cpy_pch hn6, cpy_pbl]; rfl) ?_
  refine s_aload_n E dX3_like_60 (i := 0) (j := 0) rfl rfl ?_
  exact Rt (ad 22) (likS 3 0 σ) dX3_like_61 (rfl) rfl rfl (Nat.le_refl _) (Nat.le_refl _) E.2.2.2.2.2.1
set_option maxHeartbeats 1000000 in
set_option maxRecDepth 100000 in
theorem x3z_like23 {l : Launch} {D : va_G} {gt : Nat → Nat} {ad : Nat → Nat} {ct : Nat → ClassId} {n : Nat} {τ σ : Nat → Nat → Int32} {T : va_W}  (hn6 : n ≤ 6) (hb : BB (σ 4)) : Cr l D gt yX3_like cX3_like 2 (.object RX3) 1 40 0 0 [.ref (ad 17), .ref (ad 22)] (iw ad ct n τ σ T) (tysA ct) (fun σ2 => likS 2 3 σ = σ2) (fun _ => ad 17) (fun σ2 : Nat → Nat → Int32 => iw ad ct n τ σ2 T) (fun _ => tysA ct) := by
  refine Cr.start (Or.inl ⟨_, rfl⟩) RX3 (by decide) rfl (Nat.le_of_ble_eq_true rfl) rfl ?_
  intro pP eE sS mM aA bB hM cC QQ AA E Rt
  refine s_aload_n E dX3_like_0 (i := 1) (j := 1) rfl rfl ?_
  refine s_get E in_X3 (v := .ref (ad 23)) 22 rfl rfl 0 (Nat.le_of_ble_eq_true rfl) q232 rfl rfl dX3_like_1 ?_
  refine s_iconst E dX3_like_4 (v := nI 0) (by decide) ?_
  refine s_aload_n E dX3_like_5 (i := 0) (j := 0) rfl rfl ?_
  refine s_get E in_X3 (v := .ref (ad 18)) 17 rfl rfl 0 (Nat.le_of_ble_eq_true rfl) q232 rfl rfl dX3_like_6 ?_
  refine s_iconst E dX3_like_9 (v := nI 0) (by decide) ?_
  refine s_bipush E dX3_like_10 (v := nI 6) (by decide) ?_
  refine s_copy E 23 18 0 0 rfl rfl rfl rfl rfl 0 0 6 (by decide) (by decide) (by decide) (by decide) (by decide) (fun _ _ => rfl) (Nat.le_of_ble_eq_true rfl) (Nat.le_of_ble_eq_true rfl) q786 q788 q787 q129 rfl dX3_like_12 ?_
  refine s_aload_n E dX3_like_15 (i := 1) (j := 1) rfl rfl ?_
  refine s_get E in_X3 (v := .ref (ad 24)) 22 rfl rfl 1 (Nat.le_of_ble_eq_true rfl) q236 rfl rfl dX3_like_16 ?_
  refine s_iconst E dX3_like_19 (v := nI 0) (by decide) ?_
  refine s_aload_n E dX3_like_20 (i := 0) (j := 0) rfl rfl ?_
  refine s_get E in_X3 (v := .ref (ad 19)) 17 rfl rfl 1 (Nat.le_of_ble_eq_true rfl) q236 rfl rfl dX3_like_21 ?_
  refine s_iconst E dX3_like_24 (v := nI 0) (by decide) ?_
  refine s_bipush E dX3_like_25 (v := nI 6) (by decide) ?_
  refine s_copy E 24 19 0 0 rfl rfl rfl rfl rfl 0 0 6 (by decide) (by decide) (by decide) (by decide) (by decide) (fun _ _ => rfl) (Nat.le_of_ble_eq_true rfl) (Nat.le_of_ble_eq_true rfl) q786 q788 q787 q129 rfl dX3_like_27 ?_
  refine s_aload_n E dX3_like_30 (i := 1) (j := 1) rfl rfl ?_
  refine s_get E in_X3 (v := .ref (ad 25)) 22 rfl rfl 2 (Nat.le_of_ble_eq_true rfl) q239 rfl rfl dX3_like_31 ?_
  refine s_iconst E dX3_like_34 (v := nI 0) (by decide) ?_
  refine s_aload_n E dX3_like_35 (i := 0) (j := 0) rfl rfl ?_
  refine s_get E in_X3 (v := .ref (ad 20)) 17 rfl rfl 2 (Nat.le_of_ble_eq_true rfl) q239 rfl rfl dX3_like_36 ?_
  refine s_iconst E dX3_like_39 (v := nI 0) (by decide) ?_
  refine s_bipush E dX3_like_40 (v := nI 6) (by decide) ?_
  refine s_copy E 25 20 0 0 rfl rfl rfl rfl rfl 0 0 6 (by decide) (by decide) (by decide) (by decide) (by decide) (fun _ _ => rfl) (Nat.le_of_ble_eq_true rfl) (Nat.le_of_ble_eq_true rfl) q786 q788 q787 q129 rfl dX3_like_42 ?_
  refine s_aload_n E dX3_like_45 (i := 1) (j := 1) rfl rfl ?_
  refine s_get E in_X3 (v := .ref (ad 26)) 22 rfl rfl 3 (Nat.le_of_ble_eq_true rfl) q242 rfl rfl dX3_like_46 ?_
  refine s_iconst E dX3_like_49 (v := nI 0) (by decide) ?_
  refine s_aload_n E dX3_like_50 (i := 0) (j := 0) rfl rfl ?_
  refine s_get E in_X3 (v := .ref (ad 21)) 17 rfl rfl 3 (Nat.le_of_ble_eq_true rfl) q242 rfl rfl dX3_like_51 ?_
  refine s_iconst E dX3_like_54 (v := nI 0) (by decide) ?_
  refine s_bipush E dX3_like_55 (v := nI 61) (by decide) ?_
  refine s_copy E 26 21 1 1 rfl rfl rfl rfl rfl 0 0 61 (by decide) (by decide) (by decide) (by decide) (by decide) (hb.fits) (Nat.le_of_ble_eq_true rfl) (Nat.le_of_ble_eq_true rfl) q786 q788 q787 q129 rfl dX3_like_57 ?_
  refine s_ws (ws2 := iw ad ct n τ (likS 2 3 σ) T) (by unfold iw fw; rw [cpy_pch hn6, cpy_pch hn6, cpy_pch hn6, cpy_pbl]; rfl) ?_
  refine s_aload_n E dX3_like_60 (i := 0) (j := 0) rfl rfl ?_
  exact Rt (ad 17) (likS 2 3 σ) dX3_like_61 (rfl) rfl rfl (Nat.le_refl _) (Nat.le_refl _) E.2.2.2.2.2.1
theorem iwX2_g2_4 {p : Program} {l : Launch} {e : Env} {R : Room} {s : State} {m : MethodId} {args : Array Value} {below : List Frame} {meth : Method} {c : Code} {Q : State → Prop} {A : Nat → Prop} {D : va_G} {nL cells slots : Nat} {pc : Nat} {L : List (Nat × Value)} {S : List Value} {cc : ByteArray} {ret : Option FieldType} {gt : Nat → Nat} {ad : Nat → Nat} {ct : Nat → ClassId} {n : Nat} {τ σ : Nat → Nat → Int32} {T : va_W} (E : En p s m args meth c A cc nL RX2 ret D (tysA ct) gt) {v : Int32} (hv : τ 3 7 = v) (d : decode cc pc = .ok (.getfield 37, 3)) (K : Sm p l e R s m args below meth c Q A D nL cells slots (iw ad ct n τ σ T) (pc + 3) L (.int v :: S)) : Sm p l e R s m args below meth c Q A D nL cells slots (iw ad ct n τ σ T) pc L (.ref (ad 2) :: S) := s_get E in_X2 2 rfl rfl 4 (Nat.le_of_ble_eq_true rfl) q169 (congrArg (fun z => some (Value.int z)) hv) rfl d K
theorem iwX2_g2_0 {p : Program} {l : Launch} {e : Env} {R : Room} {s : State} {m : MethodId} {args : Array Value} {below : List Frame} {meth : Method} {c : Code} {Q : State → Prop} {A : Nat → Prop} {D : va_G} {nL cells slots : Nat} {pc : Nat} {L : List (Nat × Value)} {S : List Value} {cc : ByteArray} {ret : Option FieldType} {gt : Nat → Nat} {ad : Nat → Nat} {ct : Nat → ClassId} {n : Nat} {τ σ : Nat → Nat → Int32} {T : va_W} (E : En p s m args meth c A cc nL RX2 ret D (tysA ct) gt) (d : decode cc pc = .ok (.getfield 11, 3)) (K : Sm p l e R s m args below meth c Q A D nL cells slots (iw ad ct n τ σ T) (pc + 3) L (.ref (ad 3) :: S)) : Sm p l e R s m args below meth c Q A D nL cells slots (iw ad ct n τ σ T) pc L (.ref (ad 2) :: S) := s_get E in_X2 2 rfl rfl 0 (Nat.le_of_ble_eq_true rfl) q152 rfl rfl d K
theorem iwX2_l3 {p : Program} {l : Launch} {e : Env} {R : Room} {s : State} {m : MethodId} {args : Array Value} {below : List Frame} {meth : Method} {c : Code} {Q : State → Prop} {A : Nat → Prop} {D : va_G} {nL cells slots : Nat} {pc : Nat} {L : List (Nat × Value)} {S : List Value} {cc : ByteArray} {ret : Option FieldType} {gt : Nat → Nat} {ad : Nat → Nat} {ct : Nat → ClassId} {n : Nat} {τ σ : Nat → Nat → Int32} {T : va_W} (E : En p s m args meth c A cc nL RX2 ret D (tysA ct) gt) {i : Int32} (N : Nat) (hi : i = nI N) (hN : N < n) (h6 : n ≤ 6) (d : decode cc pc = .ok (.aaload, 1)) (K : Sm p l e R s m args below meth c Q A D nL cells slots (iw ad ct n τ σ T) (pc + 1) L (.ref (ad (100 + N)) :: S)) : Sm p l e R s m args below meth c Q A D nL cells slots (iw ad ct n τ σ T) pc L (.int i :: .ref (ad 3) :: S) := s_aald E 3 3 rfl rfl N hi (Nat.lt_of_lt_of_le hN h6) (Nat.le_of_ble_eq_true rfl) (by show va_rf (usF ad n N) = _; unfold usF; rw [if_pos hN]; rfl) d K
theorem iwX2_gu0 {p : Program} {l : Launch} {e : Env} {R : Room} {s : State} {m : MethodId} {args : Array Value} {below : List Frame} {meth : Method} {c : Code} {Q : State → Prop} {A : Nat → Prop} {D : va_G} {nL cells slots : Nat} {pc : Nat} {L : List (Nat × Value)} {S : List Value} {cc : ByteArray} {ret : Option FieldType} {gt : Nat → Nat} {ad : Nat → Nat} {ct : Nat → ClassId} {n : Nat} {τ σ : Nat → Nat → Int32} {T : va_W} (E : En p s m args meth c A cc nL RX2 ret D (tysA ct) gt) {v : Int32} (k : Nat) (hk : k < n) (hT : UT ad n τ T) (hv : τ 5 k = v) (d : decode cc pc = .ok (.getfield 40, 3)) (K : Sm p l e R s m args below meth c Q A D nL cells slots (iw ad ct n τ σ T) (pc + 3) L (.int v :: S)) : Sm p l e R s m args below meth c Q A D nL cells slots (iw ad ct n τ σ T) pc L (.ref (ad (100 + k)) :: S) := s_getN E in_X8 (47 + k) (iw_u hT hk) rfl 0 (Nat.le_of_ble_eq_true rfl) q717 (congrArg (fun z => some (Value.int z)) hv) rfl d K
set_option maxHeartbeats 1000000 in
set_option maxRecDepth 100000 in
theorem x2z_user {l : Launch} {D : va_G} {gt : Nat → Nat} {ad : Nat → Nat} {ct : Nat → ClassId} {n : Nat} {τ σ : Nat → Nat → Int32} {T : va_W} (x : Int32) (hX : XT τ n) (hT : UT ad n τ T) : Ct l D gt yX2_user cX2_user 3 .int 0 0 0 0 [.ref (ad 2), .int (x)] (iw ad ct n τ σ T) (tysA ct) (fun r σ2 => nameF τ 0 x n = r ∧ σ = σ2) (fun σ2 : Nat → Nat → Int32 => iw ad ct n τ σ2 T) (fun _ => tysA ct) := by
  refine Ct.start RX2 (by decide) rfl (Nat.le_of_ble_eq_true rfl) rfl ?_
  intro pP eE sS mM aA bB hM cC QQ AA E Rt
  have hn6 := hX.2.1
  refine s_iconst E dX2_user_0 (v := nI 0) (by decide) ?_
  refine s_istore_n E (L2 := [(2, .int (nI 0)), (0, .ref (ad 2)), (1, .int (x))]) dX2_user_1 rfl (Nat.le_of_ble_eq_true rfl) rfl ?_
  have L2 : ∀ (fuel : Nat) (k : Nat), (k ≤ n) → (nameF τ 0 x k = -1) → (n - k) < fuel → Sm pP l eE { frames := 0, cells := 0, slots := 0, locals := 0 } sS mM aA bB hM cC QQ AA D 3 0 0 (iw ad ct n τ σ T) 2 [(0, .ref (ad 2)), (1, .int (x)), (2, .int (nI k))] [] := by
    intro fuel
    induction fuel with
    | zero =>
      intro k hk hf hf2
      exact absurd hf2 (Nat.not_lt_zero _)
    | succ fuel ih2 =>
      intro k hk hf hf2
      refine s_iload_n E dX2_user_2 (i := 2) (j := 2) rfl rfl ?_
      refine s_aload_n E dX2_user_3 (i := 0) (j := 0) rfl rfl ?_
      refine iwX2_g2_4 E (v := nI n) (hX.1) dX2_user_4 ?_
      refine s_icmp_ge E dX2_user_7 (tgt := 31) rfl (fun c7 => ?_) (fun c7 => ?_)
      · have c7 : ¬ k < n := fun h => absurd c7 (Int32.not_le.mpr ((nI_ltI (a := k) (b := n) (by omega) (by omega)).mpr h))
        refine s_iconst E dX2_user_31 (v := (-1)) (by decide) ?_
        exact Rt ((-1)) (σ) dX2_user_32 (⟨by rw [show n = k by omega]; exact hf, rfl⟩) rfl (Nat.le_refl _) (Nat.le_refl _) rfl E.2.2.2.2.2.1
      · have c7 : k < n := (nI_ltI (a := k) (b := n) (by omega) (by omega)).mp (Int32.not_le.mp c7)
        refine s_aload_n E dX2_user_10 (i := 0) (j := 0) rfl rfl ?_
        refine iwX2_g2_0 E dX2_user_11 ?_
        refine s_iload_n E dX2_user_14 (i := 2) (j := 2) rfl rfl ?_
        refine iwX2_l3 E (k) (rfl) (by omega) hn6 dX2_user_15 ?_
        refine iwX2_gu0 E (v := τ 5 k) (k) (by omega) hT (rfl) dX2_user_16 ?_
        refine s_iload_n E dX2_user_19 (i := 1) (j := 1) rfl rfl ?_
        refine s_icmp_ne E dX2_user_20 (tgt := 25) rfl (fun c20 => ?_) (fun c20 => ?_)
        · refine s_iinc E (L2 := [(2, .int (nI (k + 1))), (0, .ref (ad 2)), (1, .int (x))]) dX2_user_25 (k := 2) rfl (v := nI (k + 1)) (nI_inc _) (Nat.le_of_ble_eq_true rfl) rfl ?_
          refine s_goto E dX2_user_28 (tgt := 2) rfl ?_
          refine s_loc (L2 := [(0, .ref (ad 2)), (1, .int (x)), (2, .int (nI (k + 1)))]) [1, 2, 0] rfl ?_
          exact ih2 (k + 1) (by omega) (by rw [nameF, if_pos hf, Nat.zero_add, if_neg c20]) (by omega)
        · refine s_iload_n E dX2_user_23 (i := 2) (j := 2) rfl rfl ?_
          exact Rt (nI k) (σ) dX2_user_24 (⟨nameF_keep (by omega) hf (by rw [Nat.zero_add]; exact c20) (by omega), rfl⟩) rfl (Nat.le_refl _) (Nat.le_refl _) rfl E.2.2.2.2.2.1
  refine s_loc (L2 := [(0, .ref (ad 2)), (1, .int (x)), (2, .int (nI 0))]) [1, 2, 0] rfl ?_
  exact L2 (_ + 1) 0 (Nat.zero_le _) (rfl) (Nat.lt_succ_self _)
theorem iwX1_g0_4 {p : Program} {l : Launch} {e : Env} {R : Room} {s : State} {m : MethodId} {args : Array Value} {below : List Frame} {meth : Method} {c : Code} {Q : State → Prop} {A : Nat → Prop} {D : va_G} {nL cells slots : Nat} {pc : Nat} {L : List (Nat × Value)} {S : List Value} {cc : ByteArray} {ret : Option FieldType} {gt : Nat → Nat} {ad : Nat → Nat} {ct : Nat → ClassId} {n : Nat} {τ σ : Nat → Nat → Int32} {T : va_W} (E : En p s m args meth c A cc nL RX1 ret D (tysA ct) gt) (d : decode cc pc = .ok (.getfield 33, 3)) (K : Sm p l e R s m args below meth c Q A D nL cells slots (iw ad ct n τ σ T) (pc + 3) L (.ref (ad 2) :: S)) : Sm p l e R s m args below meth c Q A D nL cells slots (iw ad ct n τ σ T) pc L (.ref (ad 0) :: S) := s_get E in_X1 0 rfl rfl 4 (Nat.le_of_ble_eq_true rfl) q394 rfl rfl d K
theorem iwX1_g2_4 {p : Program} {l : Launch} {e : Env} {R : Room} {s : State} {m : MethodId} {args : Array Value} {below : List Frame} {meth : Method} {c : Code} {Q : State → Prop} {A : Nat → Prop} {D : va_G} {nL cells slots : Nat} {pc : Nat} {L : List (Nat × Value)} {S : List Value} {cc : ByteArray} {ret : Option FieldType} {gt : Nat → Nat} {ad : Nat → Nat} {ct : Nat → ClassId} {n : Nat} {τ σ : Nat → Nat → Int32} {T : va_W} (E : En p s m args meth c A cc nL RX1 ret D (tysA ct) gt) {v : Int32} (hv : τ 3 7 = v) (d : decode cc pc = .ok (.getfield 119, 3)) (K : Sm p l e R s m args below meth c Q A D nL cells slots (iw ad ct n τ σ T) (pc + 3) L (.int v :: S)) : Sm p l e R s m args below meth c Q A D nL cells slots (iw ad ct n τ σ T) pc L (.ref (ad 2) :: S) := s_getN E in_X2 2 rfl rfl 4 (Nat.le_of_ble_eq_true rfl) q172 (congrArg (fun z => some (Value.int z)) hv) rfl d K
theorem K_X1_75 : KS RX1 75 yX1_isIn cX1_isIn 3 (some .boolean) 3 := ⟨q446, q447, q113, q448, by decide +kernel⟩
set_option maxHeartbeats 1000000 in
set_option maxRecDepth 100000 in
theorem x1z_isUser {l : Launch} {D : va_G} {gt : Nat → Nat} {ad : Nat → Nat} {ct : Nat → ClassId} {n : Nat} {τ σ : Nat → Nat → Int32} {T : va_W} (u : Int32) (hX : XT τ n) : Ct l D gt yX1_isUser cX1_isUser 2 .boolean 1 22 0 0 [.ref (ad 0), .int (u)] (iw ad ct n τ σ T) (tysA ct) (fun r σ2 => bI (isU n u = true) = r ∧ σ = σ2) (fun σ2 : Nat → Nat → Int32 => iw ad ct n τ σ2 T) (fun _ => tysA ct) := by
  refine Ct.start RX1 (by decide) rfl (Nat.le_of_ble_eq_true rfl) rfl ?_
  intro pP eE sS mM aA bB hM cC QQ AA E Rt
  have hn6 := hX.2.1
  refine s_iload_n E dX1_isUser_0 (i := 1) (j := 1) rfl rfl ?_
  refine s_iconst E dX1_isUser_1 (v := nI 0) (by decide) ?_
  refine s_aload_n E dX1_isUser_2 (i := 0) (j := 0) rfl rfl ?_
  refine iwX1_g0_4 E dX1_isUser_3 ?_
  refine iwX1_g2_4 E (v := nI n) (hX.1) dX1_isUser_6 ?_
  refine s_iconst E dX1_isUser_9 (v := nI 1) (by decide) ?_
  refine s_isub_ E dX1_isUser_10 (v := nI n - nI 1) (rfl) ?_
  refine c_gos E (rS E (cutZ _ _) (x1z_isIn u (nI 0) (nI n - nI 1)) K_X1_75 (Nat.le_of_ble_eq_true rfl) (Nat.le_of_ble_eq_true rfl) (Nat.zero_le _) (Nat.zero_le _) rfl rfl (Nat.le_of_ble_eq_true rfl) dX1_isUser_11) (fun r11 h11 => ?_)
  subst h11
  exact Rt (bI (¬ u < (nI 0) ∧ ¬ (nI n - nI 1) < u)) (σ) dX1_isUser_14 (⟨bI_cg (isU_iff hn6), rfl⟩) rfl (Nat.le_refl _) (Nat.le_refl _) bI_nar E.2.2.2.2.2.1
theorem iwX1_g2_6 {p : Program} {l : Launch} {e : Env} {R : Room} {s : State} {m : MethodId} {args : Array Value} {below : List Frame} {meth : Method} {c : Code} {Q : State → Prop} {A : Nat → Prop} {D : va_G} {nL cells slots : Nat} {pc : Nat} {L : List (Nat × Value)} {S : List Value} {cc : ByteArray} {ret : Option FieldType} {gt : Nat → Nat} {ad : Nat → Nat} {ct : Nat → ClassId} {n : Nat} {τ σ : Nat → Nat → Int32} {T : va_W} (E : En p s m args meth c A cc nL RX1 ret D (tysA ct) gt) {v : Int32} (hv : τ 3 0 = v) (d : decode cc pc = .ok (.getfield 129, 3)) (K : Sm p l e R s m args below meth c Q A D nL cells slots (iw ad ct n τ σ T) (pc + 3) L (.int v :: S)) : Sm p l e R s m args below meth c Q A D nL cells slots (iw ad ct n τ σ T) pc L (.ref (ad 2) :: S) := s_getN E in_X2 2 rfl rfl 6 (Nat.le_of_ble_eq_true rfl) q180 (congrArg (fun z => some (Value.int z)) hv) rfl d K
set_option maxHeartbeats 1000000 in
set_option maxRecDepth 100000 in
theorem x1z_isChannel {l : Launch} {D : va_G} {gt : Nat → Nat} {ad : Nat → Nat} {ct : Nat → ClassId} {n : Nat} {τ σ : Nat → Nat → Int32} {T : va_W} (u : Int32)  : Ct l D gt yX1_isChannel cX1_isChannel 2 .boolean 1 22 0 0 [.ref (ad 0), .int (u)] (iw ad ct n τ σ T) (tysA ct) (fun r σ2 => bI (isC τ u = true) = r ∧ σ = σ2) (fun σ2 : Nat → Nat → Int32 => iw ad ct n τ σ2 T) (fun _ => tysA ct) := by
  refine Ct.start RX1 (by decide) rfl (Nat.le_of_ble_eq_true rfl) rfl ?_
  intro pP eE sS mM aA bB hM cC QQ AA E Rt
  refine s_iload_n E dX1_isChannel_0 (i := 1) (j := 1) rfl rfl ?_
  refine s_iconst E dX1_isChannel_1 (v := nI 1) (by decide) ?_
  refine s_aload_n E dX1_isChannel_2 (i := 0) (j := 0) rfl rfl ?_
  refine iwX1_g0_4 E dX1_isChannel_3 ?_
  refine iwX1_g2_6 E (v := τ 3 0) (rfl) dX1_isChannel_6 ?_
  refine c_gos E (rS E (cutZ _ _) (x1z_isIn u (nI 1) (τ 3 0)) K_X1_75 (Nat.le_of_ble_eq_true rfl) (Nat.le_of_ble_eq_true rfl) (Nat.zero_le _) (Nat.zero_le _) rfl rfl (Nat.le_of_ble_eq_true rfl) dX1_isChannel_9) (fun r9 h9 => ?_)
  subst h9
  exact Rt (bI (¬ u < (nI 1) ∧ ¬ (τ 3 0) < u)) (σ) dX1_isChannel_12 (⟨bI_cg isC_iff, rfl⟩) rfl (Nat.le_refl _) (Nat.le_refl _) bI_nar E.2.2.2.2.2.1
theorem iwX1_g0_3 {p : Program} {l : Launch} {e : Env} {R : Room} {s : State} {m : MethodId} {args : Array Value} {below : List Frame} {meth : Method} {c : Code} {Q : State → Prop} {A : Nat → Prop} {D : va_G} {nL cells slots : Nat} {pc : Nat} {L : List (Nat × Value)} {S : List Value} {cc : ByteArray} {ret : Option FieldType} {gt : Nat → Nat} {ad : Nat → Nat} {ct : Nat → ClassId} {n : Nat} {τ σ : Nat → Nat → Int32} {T : va_W} (E : En p s m args meth c A cc nL RX1 ret D (tysA ct) gt) {v : Int32} (hv : σ 0 3 = v) (d : decode cc pc = .ok (.getfield 26, 3)) (K : Sm p l e R s m args below meth c Q A D nL cells slots (iw ad ct n τ σ T) (pc + 3) L (.int v :: S)) : Sm p l e R s m args below meth c Q A D nL cells slots (iw ad ct n τ σ T) pc L (.ref (ad 0) :: S) := s_get E in_X1 0 rfl rfl 3 (Nat.le_of_ble_eq_true rfl) q392 (congrArg (fun z => some (Value.int z)) hv) rfl d K
theorem iwX1_g0_2 {p : Program} {l : Launch} {e : Env} {R : Room} {s : State} {m : MethodId} {args : Array Value} {below : List Frame} {meth : Method} {c : Code} {Q : State → Prop} {A : Nat → Prop} {D : va_G} {nL cells slots : Nat} {pc : Nat} {L : List (Nat × Value)} {S : List Value} {cc : ByteArray} {ret : Option FieldType} {gt : Nat → Nat} {ad : Nat → Nat} {ct : Nat → ClassId} {n : Nat} {τ σ : Nat → Nat → Int32} {T : va_W} (E : En p s m args meth c A cc nL RX1 ret D (tysA ct) gt) {v : Int32} (hv : σ 0 2 = v) (d : decode cc pc = .ok (.getfield 79, 3)) (K : Sm p l e R s m args below meth c Q A D nL cells slots (iw ad ct n τ σ T) (pc + 3) L (.int v :: S)) : Sm p l e R s m args below meth c Q A D nL cells slots (iw ad ct n τ σ T) pc L (.ref (ad 0) :: S) := s_get E in_X1 0 rfl rfl 2 (Nat.le_of_ble_eq_true rfl) q391 (congrArg (fun z => some (Value.int z)) hv) rfl d K
set_option maxHeartbeats 1000000 in
set_option maxRecDepth 100000 in
theorem x1z_fault {l : Launch} {D : va_G} {gt : Nat → Nat} {ad : Nat → Nat} {ct : Nat → ClassId} {n : Nat} {τ σ : Nat → Nat → Int32} {T : va_W} (v : Int32)  : Ct l D gt yX1_fault cX1_fault 2 .int 0 0 0 0 [.ref (ad 0), .int (v)] (iw ad ct n τ σ T) (tysA ct) (fun r σ2 => (if v = 0 then σ 0 2 else if v = nI 1 then σ 0 3 else -1) = r ∧ σ = σ2) (fun σ2 : Nat → Nat → Int32 => iw ad ct n τ σ2 T) (fun _ => tysA ct) := by
  refine Ct.start RX1 (by decide) rfl (Nat.le_of_ble_eq_true rfl) rfl ?_
  intro pP eE sS mM aA bB hM cC QQ AA E Rt
  refine s_iload_n E dX1_fault_0 (i := 1) (j := 1) rfl rfl ?_
  refine s_if_ne E dX1_fault_1 (tgt := 11) rfl (fun c1 => ?_) (fun c1 => ?_)
  · refine s_iload_n E dX1_fault_11 (i := 1) (j := 1) rfl rfl ?_
    refine s_iconst E dX1_fault_12 (v := nI 1) (by decide) ?_
    refine s_icmp_ne E dX1_fault_13 (tgt := 23) rfl (fun c13 => ?_) (fun c13 => ?_)
    · refine s_iconst E dX1_fault_23 (v := (-1)) (by decide) ?_
      exact Rt ((-1)) (σ) dX1_fault_24 (⟨by first | rw [if_pos c1] | rw [if_neg c1, if_pos c13] | rw [if_neg c1, if_neg c13], rfl⟩) rfl (Nat.le_refl _) (Nat.le_refl _) rfl E.2.2.2.2.2.1
    · refine s_aload_n E dX1_fault_16 (i := 0) (j := 0) rfl rfl ?_
      refine iwX1_g0_3 E (v := σ 0 3) (rfl) dX1_fault_17 ?_
      refine s_goto E dX1_fault_20 (tgt := 24) rfl ?_
      exact Rt (σ 0 3) (σ) dX1_fault_24 (⟨by first | rw [if_pos c1] | rw [if_neg c1, if_pos c13] | rw [if_neg c1, if_neg c13], rfl⟩) rfl (Nat.le_refl _) (Nat.le_refl _) rfl E.2.2.2.2.2.1
  · refine s_aload_n E dX1_fault_4 (i := 0) (j := 0) rfl rfl ?_
    refine iwX1_g0_2 E (v := σ 0 2) (rfl) dX1_fault_5 ?_
    refine s_goto E dX1_fault_8 (tgt := 24) rfl ?_
    exact Rt (σ 0 2) (σ) dX1_fault_24 (⟨by first | rw [if_pos c1] | rw [if_neg c1, if_pos c13] | rw [if_neg c1, if_neg c13], rfl⟩) rfl (Nat.le_refl _) (Nat.le_refl _) rfl E.2.2.2.2.2.1
theorem K_X1_100 : KV RX1 100 RX2 yX2_user cX2_user 3 (some .int) 1 := ⟨q777, q703, q704, q114, q705, by decide +kernel⟩
set_option maxHeartbeats 1000000 in
set_option maxRecDepth 100000 in
theorem x1z_named {l : Launch} {D : va_G} {gt : Nat → Nat} {ad : Nat → Nat} {ct : Nat → ClassId} {n : Nat} {τ σ : Nat → Nat → Int32} {T : va_W} (v : Int32) (hX : XT τ n) (hT : UT ad n τ T) : Ct l D gt yX1_named cX1_named 2 .int 1 22 0 0 [.ref (ad 0), .int (v)] (iw ad ct n τ σ T) (tysA ct) (fun r σ2 => nameF τ 0 v n = r ∧ σ = σ2) (fun σ2 : Nat → Nat → Int32 => iw ad ct n τ σ2 T) (fun _ => tysA ct) := by
  refine Ct.start RX1 (by decide) rfl (Nat.le_of_ble_eq_true rfl) rfl ?_
  intro pP eE sS mM aA bB hM cC QQ AA E Rt
  refine s_aload_n E dX1_named_0 (i := 0) (j := 0) rfl rfl ?_
  refine iwX1_g0_4 E dX1_named_1 ?_
  refine s_iload_n E dX1_named_4 (i := 1) (j := 1) rfl rfl ?_
  refine c_goi0 E (rV E (cutS _ _) (x2z_user v (hX) (hT)) K_X1_100 (Nat.le_of_ble_eq_true rfl) (Nat.le_of_ble_eq_true rfl) (Nat.zero_le _) (Nat.zero_le _) 2 rfl rfl rfl rfl (Nat.le_of_ble_eq_true rfl) dX1_named_5) (fun r5 w5 h5 => ?_)
  obtain ⟨rfl, rfl⟩ := h5
  exact Rt (nameF τ 0 v n) (σ) dX1_named_8 (⟨rfl, rfl⟩) rfl (Nat.le_refl _) (Nat.le_refl _) rfl E.2.2.2.2.2.1
theorem iwX1_g7_0 {p : Program} {l : Launch} {e : Env} {R : Room} {s : State} {m : MethodId} {args : Array Value} {below : List Frame} {meth : Method} {c : Code} {Q : State → Prop} {A : Nat → Prop} {D : va_G} {nL cells slots : Nat} {pc : Nat} {L : List (Nat × Value)} {S : List Value} {cc : ByteArray} {ret : Option FieldType} {gt : Nat → Nat} {ad : Nat → Nat} {ct : Nat → ClassId} {n : Nat} {τ σ : Nat → Nat → Int32} {T : va_W} (E : En p s m args meth c A cc nL RX1 ret D (tysA ct) gt) (d : decode cc pc = .ok (.getfield 122, 3)) (K : Sm p l e R s m args below meth c Q A D nL cells slots (iw ad ct n τ σ T) (pc + 3) L (.ref (ad 8) :: S)) : Sm p l e R s m args below meth c Q A D nL cells slots (iw ad ct n τ σ T) pc L (.ref (ad 7) :: S) := s_getN E in_X3 7 rfl rfl 0 (Nat.le_of_ble_eq_true rfl) q235 rfl rfl d K
set_option maxHeartbeats 1000000 in
set_option maxRecDepth 100000 in
theorem x1z_tuned0 {l : Launch} {D : va_G} {gt : Nat → Nat} {ad : Nat → Nat} {ct : Nat → ClassId} {n : Nat} {τ σ : Nat → Nat → Int32} {T : va_W}  (hX : XT τ n) : Ct l D gt yX1_tuned cX1_tuned 4 .int 0 0 0 0 [.ref (ad 0), .ref (ad 7)] (iw ad ct n τ σ T) (tysA ct) (fun r σ2 => nI (tunedN (vw τ (σ 1)) n) = r ∧ σ = σ2) (fun σ2 : Nat → Nat → Int32 => iw ad ct n τ σ2 T) (fun _ => tysA ct) := by
  refine Ct.start RX1 (by decide) rfl (Nat.le_of_ble_eq_true rfl) rfl ?_
  intro pP eE sS mM aA bB hM cC QQ AA E Rt
  have hn6 := hX.2.1
  refine s_iconst E dX1_tuned_0 (v := nI 0) (by decide) ?_
  refine s_istore_n E (L2 := [(2, .int (nI 0)), (0, .ref (ad 0)), (1, .ref (ad 7))]) dX1_tuned_1 rfl (Nat.le_of_ble_eq_true rfl) rfl ?_
  refine s_iconst E dX1_tuned_2 (v := nI 0) (by decide) ?_
  refine s_istore_n E (L2 := [(3, .int (nI 0)), (2, .int (nI 0)), (0, .ref (ad 0)), (1, .ref (ad 7))]) dX1_tuned_3 rfl (Nat.le_of_ble_eq_true rfl) rfl ?_
  have L4 : ∀ (fuel : Nat) (u : Nat), (u ≤ n) → (n - u) < fuel → Sm pP l eE { frames := 0, cells := 0, slots := 0, locals := 0 } sS mM aA bB hM cC QQ AA D 4 0 0 (iw ad ct n τ σ T) 4 [(0, .ref (ad 0)), (1, .ref (ad 7)), (2, .int (nI (tunedN (vw τ (σ 1)) u))), (3, .int (nI u))] [] := by
    intro fuel
    induction fuel with
    | zero =>
      intro u hu hf4
      exact absurd hf4 (Nat.not_lt_zero _)
    | succ fuel ih4 =>
      intro u hu hf4
      refine s_iload_n E dX1_tuned_4 (i := 3) (j := 3) rfl rfl ?_
      refine s_aload_n E dX1_tuned_5 (i := 0) (j := 0) rfl rfl ?_
      refine iwX1_g0_4 E dX1_tuned_6 ?_
      refine iwX1_g2_4 E (v := nI n) (hX.1) dX1_tuned_9 ?_
      refine s_icmp_ge E dX1_tuned_12 (tgt := 38) rfl (fun c12 => ?_) (fun c12 => ?_)
      · have c12 : ¬ u < n := fun h => absurd c12 (Int32.not_le.mpr ((nI_ltI (a := u) (b := n) (by omega) (by omega)).mpr h))
        refine s_iload_n E dX1_tuned_38 (i := 2) (j := 2) rfl rfl ?_
        exact Rt (nI (tunedN (vw τ (σ 1)) u)) (σ) dX1_tuned_39 (by obtain rfl : u = n := (by omega); exact ⟨rfl, rfl⟩) rfl (Nat.le_refl _) (Nat.le_refl _) rfl E.2.2.2.2.2.1
      · have c12 : u < n := (nI_ltI (a := u) (b := n) (by omega) (by omega)).mp (Int32.not_le.mp c12)
        refine s_iload_n E dX1_tuned_15 (i := 2) (j := 2) rfl rfl ?_
        refine s_aload_n E dX1_tuned_16 (i := 1) (j := 1) rfl rfl ?_
        refine iwX1_g7_0 E dX1_tuned_17 ?_
        refine s_iload_n E dX1_tuned_20 (i := 3) (j := 3) rfl rfl ?_
        refine iw_l8 E (v := σ 1 u) (u) (rfl) (by omega) hn6 (rfl) dX1_tuned_21 ?_
        have J30 : Sm pP l eE { frames := 0, cells := 0, slots := 0, locals := 0 } sS mM aA bB hM cC QQ AA D 4 0 0 (iw ad ct n τ σ T) 30 [(0, .ref (ad 0)), (1, .ref (ad 7)), (2, .int (nI (tunedN (vw τ (σ 1)) u))), (3, .int (nI u))] [.int (nI (tunedF (vw τ (σ 1)) u)), .int (nI (tunedN (vw τ (σ 1)) u))] := by
          refine s_iadd_ E dX1_tuned_30 (v := nI (tunedN (vw τ (σ 1)) (u + 1))) (nI_add _ _) ?_
          refine s_istore_n E (L2 := [(2, .int (nI (tunedN (vw τ (σ 1)) (u + 1)))), (0, .ref (ad 0)), (1, .ref (ad 7)), (3, .int (nI u))]) dX1_tuned_31 rfl (Nat.le_of_ble_eq_true rfl) rfl ?_
          refine s_iinc E (L2 := [(3, .int (nI (u + 1))), (2, .int (nI (tunedN (vw τ (σ 1)) (u + 1)))), (0, .ref (ad 0)), (1, .ref (ad 7))]) dX1_tuned_32 (k := 3) rfl (v := nI (u + 1)) (nI_inc _) (Nat.le_of_ble_eq_true rfl) rfl ?_
          refine s_goto E dX1_tuned_35 (tgt := 4) rfl ?_
          refine s_loc (L2 := [(0, .ref (ad 0)), (1, .ref (ad 7)), (2, .int (nI (tunedN (vw τ (σ 1)) (u + 1)))), (3, .int (nI (u + 1)))]) [2, 3, 1, 0] rfl ?_
          exact ih4 (u + 1) (by omega) (by omega)
        refine s_if_le E dX1_tuned_22 (tgt := 29) rfl (fun c22 => ?_) (fun c22 => ?_)
        · have c22 := Int32.not_lt.mpr c22
          refine s_iconst E dX1_tuned_29 (v := nI 0) (by decide) ?_
          refine s_top (v2 := nI (tunedF (vw τ (σ 1)) u)) (congrArg nI (if_neg c22).symm) ?_
          exact J30
        · have c22 := Int32.not_le.mp c22
          refine s_iconst E dX1_tuned_25 (v := nI 1) (by decide) ?_
          refine s_goto E dX1_tuned_26 (tgt := 30) rfl ?_
          refine s_top (v2 := nI (tunedF (vw τ (σ 1)) u)) (congrArg nI (if_pos c22).symm) ?_
          exact J30
  refine s_loc (L2 := [(0, .ref (ad 0)), (1, .ref (ad 7)), (2, .int (nI 0)), (3, .int (nI 0))]) [2, 3, 1, 0] rfl ?_
  exact L4 (_ + 1) 0 (Nat.zero_le _) (Nat.lt_succ_self _)
theorem iwX1_g22_0 {p : Program} {l : Launch} {e : Env} {R : Room} {s : State} {m : MethodId} {args : Array Value} {below : List Frame} {meth : Method} {c : Code} {Q : State → Prop} {A : Nat → Prop} {D : va_G} {nL cells slots : Nat} {pc : Nat} {L : List (Nat × Value)} {S : List Value} {cc : ByteArray} {ret : Option FieldType} {gt : Nat → Nat} {ad : Nat → Nat} {ct : Nat → ClassId} {n : Nat} {τ σ : Nat → Nat → Int32} {T : va_W} (E : En p s m args meth c A cc nL RX1 ret D (tysA ct) gt) (d : decode cc pc = .ok (.getfield 122, 3)) (K : Sm p l e R s m args below meth c Q A D nL cells slots (iw ad ct n τ σ T) (pc + 3) L (.ref (ad 23) :: S)) : Sm p l e R s m args below meth c Q A D nL cells slots (iw ad ct n τ σ T) pc L (.ref (ad 22) :: S) := s_getN E in_X3 22 rfl rfl 0 (Nat.le_of_ble_eq_true rfl) q235 rfl rfl d K
set_option maxHeartbeats 1000000 in
set_option maxRecDepth 100000 in
theorem x1z_tuned3 {l : Launch} {D : va_G} {gt : Nat → Nat} {ad : Nat → Nat} {ct : Nat → ClassId} {n : Nat} {τ σ : Nat → Nat → Int32} {T : va_W}  (hX : XT τ n) : Ct l D gt yX1_tuned cX1_tuned 4 .int 0 0 0 0 [.ref (ad 0), .ref (ad 22)] (iw ad ct n τ σ T) (tysA ct) (fun r σ2 => nI (tunedN (vw τ (σ 4)) n) = r ∧ σ = σ2) (fun σ2 : Nat → Nat → Int32 => iw ad ct n τ σ2 T) (fun _ => tysA ct) := by
  refine Ct.start RX1 (by decide) rfl (Nat.le_of_ble_eq_true rfl) rfl ?_
  intro pP eE sS mM aA bB hM cC QQ AA E Rt
  have hn6 := hX.2.1
  refine s_iconst E dX1_tuned_0 (v := nI 0) (by decide) ?_
  refine s_istore_n E (L2 := [(2, .int (nI 0)), (0, .ref (ad 0)), (1, .ref (ad 22))]) dX1_tuned_1 rfl (Nat.le_of_ble_eq_true rfl) rfl ?_
  refine s_iconst E dX1_tuned_2 (v := nI 0) (by decide) ?_
  refine s_istore_n E (L2 := [(3, .int (nI 0)), (2, .int (nI 0)), (0, .ref (ad 0)), (1, .ref (ad 22))]) dX1_tuned_3 rfl (Nat.le_of_ble_eq_true rfl) rfl ?_
  have L4 : ∀ (fuel : Nat) (u : Nat), (u ≤ n) → (n - u) < fuel → Sm pP l eE { frames := 0, cells := 0, slots := 0, locals := 0 } sS mM aA bB hM cC QQ AA D 4 0 0 (iw ad ct n τ σ T) 4 [(0, .ref (ad 0)), (1, .ref (ad 22)), (2, .int (nI (tunedN (vw τ (σ 4)) u))), (3, .int (nI u))] [] := by
    intro fuel
    induction fuel with
    | zero =>
      intro u hu hf4
      exact absurd hf4 (Nat.not_lt_zero _)
    | succ fuel ih4 =>
      intro u hu hf4
      refine s_iload_n E dX1_tuned_4 (i := 3) (j := 3) rfl rfl ?_
      refine s_aload_n E dX1_tuned_5 (i := 0) (j := 0) rfl rfl ?_
      refine iwX1_g0_4 E dX1_tuned_6 ?_
      refine iwX1_g2_4 E (v := nI n) (hX.1) dX1_tuned_9 ?_
      refine s_icmp_ge E dX1_tuned_12 (tgt := 38) rfl (fun c12 => ?_) (fun c12 => ?_)
      · have c12 : ¬ u < n := fun h => absurd c12 (Int32.not_le.mpr ((nI_ltI (a := u) (b := n) (by omega) (by omega)).mpr h))
        refine s_iload_n E dX1_tuned_38 (i := 2) (j := 2) rfl rfl ?_
        exact Rt (nI (tunedN (vw τ (σ 4)) u)) (σ) dX1_tuned_39 (by obtain rfl : u = n := (by omega); exact ⟨rfl, rfl⟩) rfl (Nat.le_refl _) (Nat.le_refl _) rfl E.2.2.2.2.2.1
      · have c12 : u < n := (nI_ltI (a := u) (b := n) (by omega) (by omega)).mp (Int32.not_le.mp c12)
        refine s_iload_n E dX1_tuned_15 (i := 2) (j := 2) rfl rfl ?_
        refine s_aload_n E dX1_tuned_16 (i := 1) (j := 1) rfl rfl ?_
        refine iwX1_g22_0 E dX1_tuned_17 ?_
        refine s_iload_n E dX1_tuned_20 (i := 3) (j := 3) rfl rfl ?_
        refine iw_l23 E (v := σ 4 u) (u) (rfl) (by omega) hn6 (rfl) dX1_tuned_21 ?_
        have J30 : Sm pP l eE { frames := 0, cells := 0, slots := 0, locals := 0 } sS mM aA bB hM cC QQ AA D 4 0 0 (iw ad ct n τ σ T) 30 [(0, .ref (ad 0)), (1, .ref (ad 22)), (2, .int (nI (tunedN (vw τ (σ 4)) u))), (3, .int (nI u))] [.int (nI (tunedF (vw τ (σ 4)) u)), .int (nI (tunedN (vw τ (σ 4)) u))] := by
          refine s_iadd_ E dX1_tuned_30 (v := nI (tunedN (vw τ (σ 4)) (u + 1))) (nI_add _ _) ?_
          refine s_istore_n E (L2 := [(2, .int (nI (tunedN (vw τ (σ 4)) (u + 1)))), (0, .ref (ad 0)), (1, .ref (ad 22)), (3, .int (nI u))]) dX1_tuned_31 rfl (Nat.le_of_ble_eq_true rfl) rfl ?_
          refine s_iinc E (L2 := [(3, .int (nI (u + 1))), (2, .int (nI (tunedN (vw τ (σ 4)) (u + 1)))), (0, .ref (ad 0)), (1, .ref (ad 22))]) dX1_tuned_32 (k := 3) rfl (v := nI (u + 1)) (nI_inc _) (Nat.le_of_ble_eq_true rfl) rfl ?_
          refine s_goto E dX1_tuned_35 (tgt := 4) rfl ?_
          refine s_loc (L2 := [(0, .ref (ad 0)), (1, .ref (ad 22)), (2, .int (nI (tunedN (vw τ (σ 4)) (u + 1)))), (3, .int (nI (u + 1)))]) [2, 3, 1, 0] rfl ?_
          exact ih4 (u + 1) (by omega) (by omega)
        refine s_if_le E dX1_tuned_22 (tgt := 29) rfl (fun c22 => ?_) (fun c22 => ?_)
        · have c22 := Int32.not_lt.mpr c22
          refine s_iconst E dX1_tuned_29 (v := nI 0) (by decide) ?_
          refine s_top (v2 := nI (tunedF (vw τ (σ 4)) u)) (congrArg nI (if_neg c22).symm) ?_
          exact J30
        · have c22 := Int32.not_le.mp c22
          refine s_iconst E dX1_tuned_25 (v := nI 1) (by decide) ?_
          refine s_goto E dX1_tuned_26 (tgt := 30) rfl ?_
          refine s_top (v2 := nI (tunedF (vw τ (σ 4)) u)) (congrArg nI (if_pos c22).symm) ?_
          exact J30
  refine s_loc (L2 := [(0, .ref (ad 0)), (1, .ref (ad 22)), (2, .int (nI 0)), (3, .int (nI 0))]) [2, 3, 1, 0] rfl ?_
  exact L4 (_ + 1) 0 (Nat.zero_le _) (Nat.lt_succ_self _)
set_option maxHeartbeats 1000000 in
set_option maxRecDepth 100000 in
theorem x1z_untuned0 {l : Launch} {D : va_G} {gt : Nat → Nat} {ad : Nat → Nat} {ct : Nat → ClassId} {n : Nat} {τ σ : Nat → Nat → Int32} {T : va_W}  (hX : XT τ n) : Ct l D gt yX1_untuned cX1_untuned 4 .int 0 0 0 0 [.ref (ad 0), .ref (ad 7)] (iw ad ct n τ σ T) (tysA ct) (fun r σ2 => nI (FS (vw τ (σ 1)) n) = r ∧ σ = σ2) (fun σ2 : Nat → Nat → Int32 => iw ad ct n τ σ2 T) (fun _ => tysA ct) := by
  refine Ct.start RX1 (by decide) rfl (Nat.le_of_ble_eq_true rfl) rfl ?_
  intro pP eE sS mM aA bB hM cC QQ AA E Rt
  have hn6 := hX.2.1
  refine s_iconst E dX1_untuned_0 (v := nI 0) (by decide) ?_
  refine s_istore_n E (L2 := [(2, .int (nI 0)), (0, .ref (ad 0)), (1, .ref (ad 7))]) dX1_untuned_1 rfl (Nat.le_of_ble_eq_true rfl) rfl ?_
  refine s_iconst E dX1_untuned_2 (v := nI 0) (by decide) ?_
  refine s_istore_n E (L2 := [(3, .int (nI 0)), (2, .int (nI 0)), (0, .ref (ad 0)), (1, .ref (ad 7))]) dX1_untuned_3 rfl (Nat.le_of_ble_eq_true rfl) rfl ?_
  have L4 : ∀ (fuel : Nat) (u : Nat), (u ≤ n) → (n - u) < fuel → Sm pP l eE { frames := 0, cells := 0, slots := 0, locals := 0 } sS mM aA bB hM cC QQ AA D 4 0 0 (iw ad ct n τ σ T) 4 [(0, .ref (ad 0)), (1, .ref (ad 7)), (2, .int (nI (setN (freeF (vw τ (σ 1))) u))), (3, .int (nI u))] [] := by
    intro fuel
    induction fuel with
    | zero =>
      intro u hu hf4
      exact absurd hf4 (Nat.not_lt_zero _)
    | succ fuel ih4 =>
      intro u hu hf4
      refine s_iload_n E dX1_untuned_4 (i := 3) (j := 3) rfl rfl ?_
      refine s_aload_n E dX1_untuned_5 (i := 0) (j := 0) rfl rfl ?_
      refine iwX1_g0_4 E dX1_untuned_6 ?_
      refine iwX1_g2_4 E (v := nI n) (hX.1) dX1_untuned_9 ?_
      refine s_icmp_ge E dX1_untuned_12 (tgt := 40) rfl (fun c12 => ?_) (fun c12 => ?_)
      · have c12 : ¬ u < n := fun h => absurd c12 (Int32.not_le.mpr ((nI_ltI (a := u) (b := n) (by omega) (by omega)).mpr h))
        refine s_iload_n E dX1_untuned_40 (i := 2) (j := 2) rfl rfl ?_
        exact Rt (nI (setN (freeF (vw τ (σ 1))) u)) (σ) dX1_untuned_41 (by obtain rfl : u = n := (by omega); exact ⟨rfl, rfl⟩) rfl (Nat.le_refl _) (Nat.le_refl _) rfl E.2.2.2.2.2.1
      · have c12 : u < n := (nI_ltI (a := u) (b := n) (by omega) (by omega)).mp (Int32.not_le.mp c12)
        refine s_iload_n E dX1_untuned_15 (i := 2) (j := 2) rfl rfl ?_
        refine s_aload_n E dX1_untuned_16 (i := 1) (j := 1) rfl rfl ?_
        refine iwX1_g7_0 E dX1_untuned_17 ?_
        refine s_iload_n E dX1_untuned_20 (i := 3) (j := 3) rfl rfl ?_
        refine iw_l8 E (v := σ 1 u) (u) (rfl) (by omega) hn6 (rfl) dX1_untuned_21 ?_
        refine s_if_ne E dX1_untuned_22 (tgt := 31) rfl (fun c22 => ?_) (fun c22 => ?_)
        · have c22 : ¬ freeF (vw τ (σ 1)) u = true := fun h => c22 (of_decide_eq_true h)
          refine s_iconst E dX1_untuned_31 (v := nI 0) (by decide) ?_
          refine s_ior_ E dX1_untuned_32 (v := nI (setN (freeF (vw τ (σ 1))) (u + 1))) (by rw [← setN_f c22]; exact Int32.or_zero) ?_
          refine s_istore_n E (L2 := [(2, .int (nI (setN (freeF (vw τ (σ 1))) (u + 1)))), (0, .ref (ad 0)), (1, .ref (ad 7)), (3, .int (nI u))]) dX1_untuned_33 rfl (Nat.le_of_ble_eq_true rfl) rfl ?_
          refine s_iinc E (L2 := [(3, .int (nI (u + 1))), (2, .int (nI (setN (freeF (vw τ (σ 1))) (u + 1)))), (0, .ref (ad 0)), (1, .ref (ad 7))]) dX1_untuned_34 (k := 3) rfl (v := nI (u + 1)) (nI_inc _) (Nat.le_of_ble_eq_true rfl) rfl ?_
          refine s_goto E dX1_untuned_37 (tgt := 4) rfl ?_
          refine s_loc (L2 := [(0, .ref (ad 0)), (1, .ref (ad 7)), (2, .int (nI (setN (freeF (vw τ (σ 1))) (u + 1)))), (3, .int (nI (u + 1)))]) [2, 3, 1, 0] rfl ?_
          exact ih4 (u + 1) (by omega) (by omega)
        · have c22 : freeF (vw τ (σ 1)) u = true := decide_eq_true c22
          refine s_iconst E dX1_untuned_25 (v := nI 1) (by decide) ?_
          refine s_iload_n E dX1_untuned_26 (i := 3) (j := 3) rfl rfl ?_
          refine s_ishl_ E dX1_untuned_27 (v := nI 1 <<< (nI u &&& 31)) (rfl) ?_
          refine s_goto E dX1_untuned_28 (tgt := 32) rfl ?_
          refine s_ior_ E dX1_untuned_32 (v := nI (setN (freeF (vw τ (σ 1))) (u + 1))) (setN_t (by omega) c22) ?_
          refine s_istore_n E (L2 := [(2, .int (nI (setN (freeF (vw τ (σ 1))) (u + 1)))), (0, .ref (ad 0)), (1, .ref (ad 7)), (3, .int (nI u))]) dX1_untuned_33 rfl (Nat.le_of_ble_eq_true rfl) rfl ?_
          refine s_iinc E (L2 := [(3, .int (nI (u + 1))), (2, .int (nI (setN (freeF (vw τ (σ 1))) (u + 1)))), (0, .ref (ad 0)), (1, .ref (ad 7))]) dX1_untuned_34 (k := 3) rfl (v := nI (u + 1)) (nI_inc _) (Nat.le_of_ble_eq_true rfl) rfl ?_
          refine s_goto E dX1_untuned_37 (tgt := 4) rfl ?_
          refine s_loc (L2 := [(0, .ref (ad 0)), (1, .ref (ad 7)), (2, .int (nI (setN (freeF (vw τ (σ 1))) (u + 1)))), (3, .int (nI (u + 1)))]) [2, 3, 1, 0] rfl ?_
          exact ih4 (u + 1) (by omega) (by omega)
  refine s_loc (L2 := [(0, .ref (ad 0)), (1, .ref (ad 7)), (2, .int (nI 0)), (3, .int (nI 0))]) [2, 3, 1, 0] rfl ?_
  exact L4 (_ + 1) 0 (Nat.zero_le _) (Nat.lt_succ_self _)
theorem iwX1_g17_0 {p : Program} {l : Launch} {e : Env} {R : Room} {s : State} {m : MethodId} {args : Array Value} {below : List Frame} {meth : Method} {c : Code} {Q : State → Prop} {A : Nat → Prop} {D : va_G} {nL cells slots : Nat} {pc : Nat} {L : List (Nat × Value)} {S : List Value} {cc : ByteArray} {ret : Option FieldType} {gt : Nat → Nat} {ad : Nat → Nat} {ct : Nat → ClassId} {n : Nat} {τ σ : Nat → Nat → Int32} {T : va_W} (E : En p s m args meth c A cc nL RX1 ret D (tysA ct) gt) (d : decode cc pc = .ok (.getfield 122, 3)) (K : Sm p l e R s m args below meth c Q A D nL cells slots (iw ad ct n τ σ T) (pc + 3) L (.ref (ad 18) :: S)) : Sm p l e R s m args below meth c Q A D nL cells slots (iw ad ct n τ σ T) pc L (.ref (ad 17) :: S) := s_getN E in_X3 17 rfl rfl 0 (Nat.le_of_ble_eq_true rfl) q235 rfl rfl d K
set_option maxHeartbeats 1000000 in
set_option maxRecDepth 100000 in
theorem x1z_untuned2 {l : Launch} {D : va_G} {gt : Nat → Nat} {ad : Nat → Nat} {ct : Nat → ClassId} {n : Nat} {τ σ : Nat → Nat → Int32} {T : va_W}  (hX : XT τ n) : Ct l D gt yX1_untuned cX1_untuned 4 .int 0 0 0 0 [.ref (ad 0), .ref (ad 17)] (iw ad ct n τ σ T) (tysA ct) (fun r σ2 => nI (FS (vw τ (σ 3)) n) = r ∧ σ = σ2) (fun σ2 : Nat → Nat → Int32 => iw ad ct n τ σ2 T) (fun _ => tysA ct) := by
  refine Ct.start RX1 (by decide) rfl (Nat.le_of_ble_eq_true rfl) rfl ?_
  intro pP eE sS mM aA bB hM cC QQ AA E Rt
  have hn6 := hX.2.1
  refine s_iconst E dX1_untuned_0 (v := nI 0) (by decide) ?_
  refine s_istore_n E (L2 := [(2, .int (nI 0)), (0, .ref (ad 0)), (1, .ref (ad 17))]) dX1_untuned_1 rfl (Nat.le_of_ble_eq_true rfl) rfl ?_
  refine s_iconst E dX1_untuned_2 (v := nI 0) (by decide) ?_
  refine s_istore_n E (L2 := [(3, .int (nI 0)), (2, .int (nI 0)), (0, .ref (ad 0)), (1, .ref (ad 17))]) dX1_untuned_3 rfl (Nat.le_of_ble_eq_true rfl) rfl ?_
  have L4 : ∀ (fuel : Nat) (u : Nat), (u ≤ n) → (n - u) < fuel → Sm pP l eE { frames := 0, cells := 0, slots := 0, locals := 0 } sS mM aA bB hM cC QQ AA D 4 0 0 (iw ad ct n τ σ T) 4 [(0, .ref (ad 0)), (1, .ref (ad 17)), (2, .int (nI (setN (freeF (vw τ (σ 3))) u))), (3, .int (nI u))] [] := by
    intro fuel
    induction fuel with
    | zero =>
      intro u hu hf4
      exact absurd hf4 (Nat.not_lt_zero _)
    | succ fuel ih4 =>
      intro u hu hf4
      refine s_iload_n E dX1_untuned_4 (i := 3) (j := 3) rfl rfl ?_
      refine s_aload_n E dX1_untuned_5 (i := 0) (j := 0) rfl rfl ?_
      refine iwX1_g0_4 E dX1_untuned_6 ?_
      refine iwX1_g2_4 E (v := nI n) (hX.1) dX1_untuned_9 ?_
      refine s_icmp_ge E dX1_untuned_12 (tgt := 40) rfl (fun c12 => ?_) (fun c12 => ?_)
      · have c12 : ¬ u < n := fun h => absurd c12 (Int32.not_le.mpr ((nI_ltI (a := u) (b := n) (by omega) (by omega)).mpr h))
        refine s_iload_n E dX1_untuned_40 (i := 2) (j := 2) rfl rfl ?_
        exact Rt (nI (setN (freeF (vw τ (σ 3))) u)) (σ) dX1_untuned_41 (by obtain rfl : u = n := (by omega); exact ⟨rfl, rfl⟩) rfl (Nat.le_refl _) (Nat.le_refl _) rfl E.2.2.2.2.2.1
      · have c12 : u < n := (nI_ltI (a := u) (b := n) (by omega) (by omega)).mp (Int32.not_le.mp c12)
        refine s_iload_n E dX1_untuned_15 (i := 2) (j := 2) rfl rfl ?_
        refine s_aload_n E dX1_untuned_16 (i := 1) (j := 1) rfl rfl ?_
        refine iwX1_g17_0 E dX1_untuned_17 ?_
        refine s_iload_n E dX1_untuned_20 (i := 3) (j := 3) rfl rfl ?_
        refine iw_l18 E (v := σ 3 u) (u) (rfl) (by omega) hn6 (rfl) dX1_untuned_21 ?_
        refine s_if_ne E dX1_untuned_22 (tgt := 31) rfl (fun c22 => ?_) (fun c22 => ?_)
        · have c22 : ¬ freeF (vw τ (σ 3)) u = true := fun h => c22 (of_decide_eq_true h)
          refine s_iconst E dX1_untuned_31 (v := nI 0) (by decide) ?_
          refine s_ior_ E dX1_untuned_32 (v := nI (setN (freeF (vw τ (σ 3))) (u + 1))) (by rw [← setN_f c22]; exact Int32.or_zero) ?_
          refine s_istore_n E (L2 := [(2, .int (nI (setN (freeF (vw τ (σ 3))) (u + 1)))), (0, .ref (ad 0)), (1, .ref (ad 17)), (3, .int (nI u))]) dX1_untuned_33 rfl (Nat.le_of_ble_eq_true rfl) rfl ?_
          refine s_iinc E (L2 := [(3, .int (nI (u + 1))), (2, .int (nI (setN (freeF (vw τ (σ 3))) (u + 1)))), (0, .ref (ad 0)), (1, .ref (ad 17))]) dX1_untuned_34 (k := 3) rfl (v := nI (u + 1)) (nI_inc _) (Nat.le_of_ble_eq_true rfl) rfl ?_
          refine s_goto E dX1_untuned_37 (tgt := 4) rfl ?_
          refine s_loc (L2 := [(0, .ref (ad 0)), (1, .ref (ad 17)), (2, .int (nI (setN (freeF (vw τ (σ 3))) (u + 1)))), (3, .int (nI (u + 1)))]) [2, 3, 1, 0] rfl ?_
          exact ih4 (u + 1) (by omega) (by omega)
        · have c22 : freeF (vw τ (σ 3)) u = true := decide_eq_true c22
          refine s_iconst E dX1_untuned_25 (v := nI 1) (by decide) ?_
          refine s_iload_n E dX1_untuned_26 (i := 3) (j := 3) rfl rfl ?_
          refine s_ishl_ E dX1_untuned_27 (v := nI 1 <<< (nI u &&& 31)) (rfl) ?_
          refine s_goto E dX1_untuned_28 (tgt := 32) rfl ?_
          refine s_ior_ E dX1_untuned_32 (v := nI (setN (freeF (vw τ (σ 3))) (u + 1))) (setN_t (by omega) c22) ?_
          refine s_istore_n E (L2 := [(2, .int (nI (setN (freeF (vw τ (σ 3))) (u + 1)))), (0, .ref (ad 0)), (1, .ref (ad 17)), (3, .int (nI u))]) dX1_untuned_33 rfl (Nat.le_of_ble_eq_true rfl) rfl ?_
          refine s_iinc E (L2 := [(3, .int (nI (u + 1))), (2, .int (nI (setN (freeF (vw τ (σ 3))) (u + 1)))), (0, .ref (ad 0)), (1, .ref (ad 17))]) dX1_untuned_34 (k := 3) rfl (v := nI (u + 1)) (nI_inc _) (Nat.le_of_ble_eq_true rfl) rfl ?_
          refine s_goto E dX1_untuned_37 (tgt := 4) rfl ?_
          refine s_loc (L2 := [(0, .ref (ad 0)), (1, .ref (ad 17)), (2, .int (nI (setN (freeF (vw τ (σ 3))) (u + 1)))), (3, .int (nI (u + 1)))]) [2, 3, 1, 0] rfl ?_
          exact ih4 (u + 1) (by omega) (by omega)
  refine s_loc (L2 := [(0, .ref (ad 0)), (1, .ref (ad 17)), (2, .int (nI 0)), (3, .int (nI 0))]) [2, 3, 1, 0] rfl ?_
  exact L4 (_ + 1) 0 (Nat.zero_le _) (Nat.lt_succ_self _)
theorem iwX1_g2_0 {p : Program} {l : Launch} {e : Env} {R : Room} {s : State} {m : MethodId} {args : Array Value} {below : List Frame} {meth : Method} {c : Code} {Q : State → Prop} {A : Nat → Prop} {D : va_G} {nL cells slots : Nat} {pc : Nat} {L : List (Nat × Value)} {S : List Value} {cc : ByteArray} {ret : Option FieldType} {gt : Nat → Nat} {ad : Nat → Nat} {ct : Nat → ClassId} {n : Nat} {τ σ : Nat → Nat → Int32} {T : va_W} (E : En p s m args meth c A cc nL RX1 ret D (tysA ct) gt) (d : decode cc pc = .ok (.getfield 160, 3)) (K : Sm p l e R s m args below meth c Q A D nL cells slots (iw ad ct n τ σ T) (pc + 3) L (.ref (ad 3) :: S)) : Sm p l e R s m args below meth c Q A D nL cells slots (iw ad ct n τ σ T) pc L (.ref (ad 2) :: S) := s_getN E in_X2 2 rfl rfl 0 (Nat.le_of_ble_eq_true rfl) q157 rfl rfl d K
theorem iwX1_l3 {p : Program} {l : Launch} {e : Env} {R : Room} {s : State} {m : MethodId} {args : Array Value} {below : List Frame} {meth : Method} {c : Code} {Q : State → Prop} {A : Nat → Prop} {D : va_G} {nL cells slots : Nat} {pc : Nat} {L : List (Nat × Value)} {S : List Value} {cc : ByteArray} {ret : Option FieldType} {gt : Nat → Nat} {ad : Nat → Nat} {ct : Nat → ClassId} {n : Nat} {τ σ : Nat → Nat → Int32} {T : va_W} (E : En p s m args meth c A cc nL RX1 ret D (tysA ct) gt) {i : Int32} (N : Nat) (hi : i = nI N) (hN : N < n) (h6 : n ≤ 6) (d : decode cc pc = .ok (.aaload, 1)) (K : Sm p l e R s m args below meth c Q A D nL cells slots (iw ad ct n τ σ T) (pc + 1) L (.ref (ad (100 + N)) :: S)) : Sm p l e R s m args below meth c Q A D nL cells slots (iw ad ct n τ σ T) pc L (.int i :: .ref (ad 3) :: S) := s_aald E 3 3 rfl rfl N hi (Nat.lt_of_lt_of_le hN h6) (Nat.le_of_ble_eq_true rfl) (by show va_rf (usF ad n N) = _; unfold usF; rw [if_pos hN]; rfl) d K
theorem iwX1_gu3 {p : Program} {l : Launch} {e : Env} {R : Room} {s : State} {m : MethodId} {args : Array Value} {below : List Frame} {meth : Method} {c : Code} {Q : State → Prop} {A : Nat → Prop} {D : va_G} {nL cells slots : Nat} {pc : Nat} {L : List (Nat × Value)} {S : List Value} {cc : ByteArray} {ret : Option FieldType} {gt : Nat → Nat} {ad : Nat → Nat} {ct : Nat → ClassId} {n : Nat} {τ σ : Nat → Nat → Int32} {T : va_W} (E : En p s m args meth c A cc nL RX1 ret D (tysA ct) gt) {v : Int32} (k : Nat) (hk : k < n) (hT : UT ad n τ T) (hv : τ 8 k = v) (d : decode cc pc = .ok (.getfield 164, 3)) (K : Sm p l e R s m args below meth c Q A D nL cells slots (iw ad ct n τ σ T) (pc + 3) L (.int v :: S)) : Sm p l e R s m args below meth c Q A D nL cells slots (iw ad ct n τ σ T) pc L (.ref (ad (100 + k)) :: S) := s_getN E in_X8 (47 + k) (iw_u hT hk) rfl 3 (Nat.le_of_ble_eq_true rfl) q725 (congrArg (fun z => some (Value.int z)) hv) rfl d K
theorem iwX1_gu4 {p : Program} {l : Launch} {e : Env} {R : Room} {s : State} {m : MethodId} {args : Array Value} {below : List Frame} {meth : Method} {c : Code} {Q : State → Prop} {A : Nat → Prop} {D : va_G} {nL cells slots : Nat} {pc : Nat} {L : List (Nat × Value)} {S : List Value} {cc : ByteArray} {ret : Option FieldType} {gt : Nat → Nat} {ad : Nat → Nat} {ct : Nat → ClassId} {n : Nat} {τ σ : Nat → Nat → Int32} {T : va_W} (E : En p s m args meth c A cc nL RX1 ret D (tysA ct) gt) {v : Int32} (k : Nat) (hk : k < n) (hT : UT ad n τ T) (hv : τ 9 k = v) (d : decode cc pc = .ok (.getfield 169, 3)) (K : Sm p l e R s m args below meth c Q A D nL cells slots (iw ad ct n τ σ T) (pc + 3) L (.int v :: S)) : Sm p l e R s m args below meth c Q A D nL cells slots (iw ad ct n τ σ T) pc L (.ref (ad (100 + k)) :: S) := s_getN E in_X8 (47 + k) (iw_u hT hk) rfl 4 (Nat.le_of_ble_eq_true rfl) q728 (congrArg (fun z => some (Value.int z)) hv) rfl d K
theorem iwX1_g7_3 {p : Program} {l : Launch} {e : Env} {R : Room} {s : State} {m : MethodId} {args : Array Value} {below : List Frame} {meth : Method} {c : Code} {Q : State → Prop} {A : Nat → Prop} {D : va_G} {nL cells slots : Nat} {pc : Nat} {L : List (Nat × Value)} {S : List Value} {cc : ByteArray} {ret : Option FieldType} {gt : Nat → Nat} {ad : Nat → Nat} {ct : Nat → ClassId} {n : Nat} {τ σ : Nat → Nat → Int32} {T : va_W} (E : En p s m args meth c A cc nL RX1 ret D (tysA ct) gt) (d : decode cc pc = .ok (.getfield 142, 3)) (K : Sm p l e R s m args below meth c Q A D nL cells slots (iw ad ct n τ σ T) (pc + 3) L (.ref (ad 11) :: S)) : Sm p l e R s m args below meth c Q A D nL cells slots (iw ad ct n τ σ T) pc L (.ref (ad 7) :: S) := s_getN E in_X3 7 rfl rfl 3 (Nat.le_of_ble_eq_true rfl) q243 rfl rfl d K
theorem iw_l11 {p : Program} {l : Launch} {e : Env} {R : Room} {s : State} {m : MethodId} {args : Array Value} {below : List Frame} {meth : Method} {c : Code} {Q : State → Prop} {A : Nat → Prop} {D : va_G} {nL cells slots : Nat} {pc : Nat} {L : List (Nat × Value)} {S : List Value} {cc : ByteArray} {ret : Option FieldType} {gt : Nat → Nat} {ad : Nat → Nat} {ct : Nat → ClassId} {n : Nat} {τ σ : Nat → Nat → Int32} {T : va_W} {own : String} (E : En p s m args meth c A cc nL own ret D (tysA ct) gt) {i v : Int32} (N : Nat) (hi : i = nI N) (hN : N < 61) (hv : σ 1 (12 + N) = v) (d : decode cc pc = .ok (.baload, 1)) (K : Sm p l e R s m args below meth c Q A D nL cells slots (iw ad ct n τ σ T) (pc + 1) L (.int v :: S)) : Sm p l e R s m args below meth c Q A D nL cells slots (iw ad ct n τ σ T) pc L (.int i :: .ref (ad 11) :: S) := s_zald E 11 1 rfl rfl N hi hN (Nat.le_of_ble_eq_true rfl) (by show pbl (σ 1) N = v; rw [pbl_at hN]; exact hv) d K
set_option maxHeartbeats 1000000 in
set_option maxRecDepth 100000 in
theorem x1z_isRight0 {l : Launch} {D : va_G} {gt : Nat → Nat} {ad : Nat → Nat} {ct : Nat → ClassId} {n : Nat} {τ σ : Nat → Nat → Int32} {T : va_W} (u : Nat) (hX : XT τ n) (hT : UT ad n τ T) (hu : u < n) (hP : PC (σ 1) n) : Ct l D gt yX1_isRight cX1_isRight 3 .boolean 1 22 0 0 [.ref (ad 0), .ref (ad 7), .int (nI u)] (iw ad ct n τ σ T) (tysA ct) (fun r σ2 => bI (rgB τ (σ 1) u = true) = r ∧ σ = σ2) (fun σ2 : Nat → Nat → Int32 => iw ad ct n τ σ2 T) (fun _ => tysA ct) := by
  refine Ct.start RX1 (by decide) rfl (Nat.le_of_ble_eq_true rfl) rfl ?_
  intro pP eE sS mM aA bB hM cC QQ AA E Rt
  have hn6 := hX.2.1
  refine s_aload_n E dX1_isRight_0 (i := 1) (j := 1) rfl rfl ?_
  refine iwX1_g7_0 E dX1_isRight_1 ?_
  refine s_iload_n E dX1_isRight_4 (i := 2) (j := 2) rfl rfl ?_
  refine iw_l8 E (v := σ 1 u) (u) (rfl) (by omega) hn6 (rfl) dX1_isRight_5 ?_
  refine s_aload_n E dX1_isRight_6 (i := 0) (j := 0) rfl rfl ?_
  refine iwX1_g0_4 E dX1_isRight_7 ?_
  refine iwX1_g2_0 E dX1_isRight_10 ?_
  refine s_iload_n E dX1_isRight_13 (i := 2) (j := 2) rfl rfl ?_
  refine iwX1_l3 E (u) (rfl) (by omega) hn6 dX1_isRight_14 ?_
  refine iwX1_gu3 E (v := τ 8 u) (u) (by omega) hT (rfl) dX1_isRight_15 ?_
  refine s_aload_n E dX1_isRight_18 (i := 0) (j := 0) rfl rfl ?_
  refine iwX1_g0_4 E dX1_isRight_19 ?_
  refine iwX1_g2_0 E dX1_isRight_22 ?_
  refine s_iload_n E dX1_isRight_25 (i := 2) (j := 2) rfl rfl ?_
  refine iwX1_l3 E (u) (rfl) (by omega) hn6 dX1_isRight_26 ?_
  refine iwX1_gu4 E (v := τ 9 u) (u) (by omega) hT (rfl) dX1_isRight_27 ?_
  refine c_gos E (rS E (cutZ _ _) (x1z_isIn (σ 1 u) (τ 8 u) (τ 9 u)) K_X1_75 (Nat.le_of_ble_eq_true rfl) (Nat.le_of_ble_eq_true rfl) (Nat.zero_le _) (Nat.zero_le _) rfl rfl (Nat.le_of_ble_eq_true rfl) dX1_isRight_30) (fun r30 h30 => ?_)
  subst h30
  refine s_if_eq E dX1_isRight_33 (tgt := 54) rfl (fun c33 => ?_) (fun c33 => ?_)
  · have c33 := bI_0 c33
    refine s_iconst E dX1_isRight_54 (v := nI 0) (by decide) ?_
    exact Rt (nI 0) (σ) dX1_isRight_55 (⟨by unfold rgB; rw [bI_f]; simp only [Bool.and_eq_true, Bool.not_eq_true', decide_eq_false_iff_not, decide_eq_true_eq]; first | exact fun h => c33 h.1 | exact fun h => c47 h.2, rfl⟩) rfl (Nat.le_refl _) (Nat.le_refl _) rfl E.2.2.2.2.2.1
  · have c33 := bI_n0 c33
    refine s_aload_n E dX1_isRight_36 (i := 1) (j := 1) rfl rfl ?_
    refine iwX1_g7_3 E dX1_isRight_37 ?_
    refine s_aload_n E dX1_isRight_40 (i := 1) (j := 1) rfl rfl ?_
    refine iwX1_g7_0 E dX1_isRight_41 ?_
    refine s_iload_n E dX1_isRight_44 (i := 2) (j := 2) rfl rfl ?_
    refine iw_l8 E (v := σ 1 u) (u) (rfl) (by omega) hn6 (rfl) dX1_isRight_45 ?_
    refine iw_l11 E (v := σ 1 (12 + tN (σ 1 u))) (tN (σ 1 u)) ((hP u hu).1) ((hP u hu).2) (rfl) dX1_isRight_46 ?_
    refine s_if_ne E dX1_isRight_47 (tgt := 54) rfl (fun c47 => ?_) (fun c47 => ?_)
    · refine s_iconst E dX1_isRight_54 (v := nI 0) (by decide) ?_
      exact Rt (nI 0) (σ) dX1_isRight_55 (⟨by unfold rgB; rw [bI_f]; simp only [Bool.and_eq_true, Bool.not_eq_true', decide_eq_false_iff_not, decide_eq_true_eq]; first | exact fun h => c33 h.1 | exact fun h => c47 h.2, rfl⟩) rfl (Nat.le_refl _) (Nat.le_refl _) rfl E.2.2.2.2.2.1
    · refine s_iconst E dX1_isRight_50 (v := nI 1) (by decide) ?_
      refine s_goto E dX1_isRight_51 (tgt := 55) rfl ?_
      exact Rt (nI 1) (σ) dX1_isRight_55 (⟨by unfold rgB; rw [bI_t]; simp only [Bool.and_eq_true, Bool.not_eq_true', decide_eq_false_iff_not, decide_eq_true_eq]; exact ⟨c33, c47⟩, rfl⟩) rfl (Nat.le_refl _) (Nat.le_refl _) rfl E.2.2.2.2.2.1
theorem iwX1_g17_3 {p : Program} {l : Launch} {e : Env} {R : Room} {s : State} {m : MethodId} {args : Array Value} {below : List Frame} {meth : Method} {c : Code} {Q : State → Prop} {A : Nat → Prop} {D : va_G} {nL cells slots : Nat} {pc : Nat} {L : List (Nat × Value)} {S : List Value} {cc : ByteArray} {ret : Option FieldType} {gt : Nat → Nat} {ad : Nat → Nat} {ct : Nat → ClassId} {n : Nat} {τ σ : Nat → Nat → Int32} {T : va_W} (E : En p s m args meth c A cc nL RX1 ret D (tysA ct) gt) (d : decode cc pc = .ok (.getfield 142, 3)) (K : Sm p l e R s m args below meth c Q A D nL cells slots (iw ad ct n τ σ T) (pc + 3) L (.ref (ad 21) :: S)) : Sm p l e R s m args below meth c Q A D nL cells slots (iw ad ct n τ σ T) pc L (.ref (ad 17) :: S) := s_getN E in_X3 17 rfl rfl 3 (Nat.le_of_ble_eq_true rfl) q243 rfl rfl d K
theorem iw_l21 {p : Program} {l : Launch} {e : Env} {R : Room} {s : State} {m : MethodId} {args : Array Value} {below : List Frame} {meth : Method} {c : Code} {Q : State → Prop} {A : Nat → Prop} {D : va_G} {nL cells slots : Nat} {pc : Nat} {L : List (Nat × Value)} {S : List Value} {cc : ByteArray} {ret : Option FieldType} {gt : Nat → Nat} {ad : Nat → Nat} {ct : Nat → ClassId} {n : Nat} {τ σ : Nat → Nat → Int32} {T : va_W} {own : String} (E : En p s m args meth c A cc nL own ret D (tysA ct) gt) {i v : Int32} (N : Nat) (hi : i = nI N) (hN : N < 61) (hv : σ 3 (12 + N) = v) (d : decode cc pc = .ok (.baload, 1)) (K : Sm p l e R s m args below meth c Q A D nL cells slots (iw ad ct n τ σ T) (pc + 1) L (.int v :: S)) : Sm p l e R s m args below meth c Q A D nL cells slots (iw ad ct n τ σ T) pc L (.int i :: .ref (ad 21) :: S) := s_zald E 21 1 rfl rfl N hi hN (Nat.le_of_ble_eq_true rfl) (by show pbl (σ 3) N = v; rw [pbl_at hN]; exact hv) d K
set_option maxHeartbeats 1000000 in
set_option maxRecDepth 100000 in
theorem x1z_isRight2 {l : Launch} {D : va_G} {gt : Nat → Nat} {ad : Nat → Nat} {ct : Nat → ClassId} {n : Nat} {τ σ : Nat → Nat → Int32} {T : va_W} (u : Nat) (hX : XT τ n) (hT : UT ad n τ T) (hu : u < n) (hP : PC (σ 3) n) : Ct l D gt yX1_isRight cX1_isRight 3 .boolean 1 22 0 0 [.ref (ad 0), .ref (ad 17), .int (nI u)] (iw ad ct n τ σ T) (tysA ct) (fun r σ2 => bI (rgB τ (σ 3) u = true) = r ∧ σ = σ2) (fun σ2 : Nat → Nat → Int32 => iw ad ct n τ σ2 T) (fun _ => tysA ct) := by
  refine Ct.start RX1 (by decide) rfl (Nat.le_of_ble_eq_true rfl) rfl ?_
  intro pP eE sS mM aA bB hM cC QQ AA E Rt
  have hn6 := hX.2.1
  refine s_aload_n E dX1_isRight_0 (i := 1) (j := 1) rfl rfl ?_
  refine iwX1_g17_0 E dX1_isRight_1 ?_
  refine s_iload_n E dX1_isRight_4 (i := 2) (j := 2) rfl rfl ?_
  refine iw_l18 E (v := σ 3 u) (u) (rfl) (by omega) hn6 (rfl) dX1_isRight_5 ?_
  refine s_aload_n E dX1_isRight_6 (i := 0) (j := 0) rfl rfl ?_
  refine iwX1_g0_4 E dX1_isRight_7 ?_
  refine iwX1_g2_0 E dX1_isRight_10 ?_
  refine s_iload_n E dX1_isRight_13 (i := 2) (j := 2) rfl rfl ?_
  refine iwX1_l3 E (u) (rfl) (by omega) hn6 dX1_isRight_14 ?_
  refine iwX1_gu3 E (v := τ 8 u) (u) (by omega) hT (rfl) dX1_isRight_15 ?_
  refine s_aload_n E dX1_isRight_18 (i := 0) (j := 0) rfl rfl ?_
  refine iwX1_g0_4 E dX1_isRight_19 ?_
  refine iwX1_g2_0 E dX1_isRight_22 ?_
  refine s_iload_n E dX1_isRight_25 (i := 2) (j := 2) rfl rfl ?_
  refine iwX1_l3 E (u) (rfl) (by omega) hn6 dX1_isRight_26 ?_
  refine iwX1_gu4 E (v := τ 9 u) (u) (by omega) hT (rfl) dX1_isRight_27 ?_
  refine c_gos E (rS E (cutZ _ _) (x1z_isIn (σ 3 u) (τ 8 u) (τ 9 u)) K_X1_75 (Nat.le_of_ble_eq_true rfl) (Nat.le_of_ble_eq_true rfl) (Nat.zero_le _) (Nat.zero_le _) rfl rfl (Nat.le_of_ble_eq_true rfl) dX1_isRight_30) (fun r30 h30 => ?_)
  subst h30
  refine s_if_eq E dX1_isRight_33 (tgt := 54) rfl (fun c33 => ?_) (fun c33 => ?_)
  · have c33 := bI_0 c33
    refine s_iconst E dX1_isRight_54 (v := nI 0) (by decide) ?_
    exact Rt (nI 0) (σ) dX1_isRight_55 (⟨by unfold rgB; rw [bI_f]; simp only [Bool.and_eq_true, Bool.not_eq_true', decide_eq_false_iff_not, decide_eq_true_eq]; first | exact fun h => c33 h.1 | exact fun h => c47 h.2, rfl⟩) rfl (Nat.le_refl _) (Nat.le_refl _) rfl E.2.2.2.2.2.1
  · have c33 := bI_n0 c33
    refine s_aload_n E dX1_isRight_36 (i := 1) (j := 1) rfl rfl ?_
    refine iwX1_g17_3 E dX1_isRight_37 ?_
    refine s_aload_n E dX1_isRight_40 (i := 1) (j := 1) rfl rfl ?_
    refine iwX1_g17_0 E dX1_isRight_41 ?_
    refine s_iload_n E dX1_isRight_44 (i := 2) (j := 2) rfl rfl ?_
    refine iw_l18 E (v := σ 3 u) (u) (rfl) (by omega) hn6 (rfl) dX1_isRight_45 ?_
    refine iw_l21 E (v := σ 3 (12 + tN (σ 3 u))) (tN (σ 3 u)) ((hP u hu).1) ((hP u hu).2) (rfl) dX1_isRight_46 ?_
    refine s_if_ne E dX1_isRight_47 (tgt := 54) rfl (fun c47 => ?_) (fun c47 => ?_)
    · refine s_iconst E dX1_isRight_54 (v := nI 0) (by decide) ?_
      exact Rt (nI 0) (σ) dX1_isRight_55 (⟨by unfold rgB; rw [bI_f]; simp only [Bool.and_eq_true, Bool.not_eq_true', decide_eq_false_iff_not, decide_eq_true_eq]; first | exact fun h => c33 h.1 | exact fun h => c47 h.2, rfl⟩) rfl (Nat.le_refl _) (Nat.le_refl _) rfl E.2.2.2.2.2.1
    · refine s_iconst E dX1_isRight_50 (v := nI 1) (by decide) ?_
      refine s_goto E dX1_isRight_51 (tgt := 55) rfl ?_
      exact Rt (nI 1) (σ) dX1_isRight_55 (⟨by unfold rgB; rw [bI_t]; simp only [Bool.and_eq_true, Bool.not_eq_true', decide_eq_false_iff_not, decide_eq_true_eq]; exact ⟨c33, c47⟩, rfl⟩) rfl (Nat.le_refl _) (Nat.le_refl _) rfl E.2.2.2.2.2.1
theorem iwX1_g22_3 {p : Program} {l : Launch} {e : Env} {R : Room} {s : State} {m : MethodId} {args : Array Value} {below : List Frame} {meth : Method} {c : Code} {Q : State → Prop} {A : Nat → Prop} {D : va_G} {nL cells slots : Nat} {pc : Nat} {L : List (Nat × Value)} {S : List Value} {cc : ByteArray} {ret : Option FieldType} {gt : Nat → Nat} {ad : Nat → Nat} {ct : Nat → ClassId} {n : Nat} {τ σ : Nat → Nat → Int32} {T : va_W} (E : En p s m args meth c A cc nL RX1 ret D (tysA ct) gt) (d : decode cc pc = .ok (.getfield 142, 3)) (K : Sm p l e R s m args below meth c Q A D nL cells slots (iw ad ct n τ σ T) (pc + 3) L (.ref (ad 26) :: S)) : Sm p l e R s m args below meth c Q A D nL cells slots (iw ad ct n τ σ T) pc L (.ref (ad 22) :: S) := s_getN E in_X3 22 rfl rfl 3 (Nat.le_of_ble_eq_true rfl) q243 rfl rfl d K
theorem iw_l26 {p : Program} {l : Launch} {e : Env} {R : Room} {s : State} {m : MethodId} {args : Array Value} {below : List Frame} {meth : Method} {c : Code} {Q : State → Prop} {A : Nat → Prop} {D : va_G} {nL cells slots : Nat} {pc : Nat} {L : List (Nat × Value)} {S : List Value} {cc : ByteArray} {ret : Option FieldType} {gt : Nat → Nat} {ad : Nat → Nat} {ct : Nat → ClassId} {n : Nat} {τ σ : Nat → Nat → Int32} {T : va_W} {own : String} (E : En p s m args meth c A cc nL own ret D (tysA ct) gt) {i v : Int32} (N : Nat) (hi : i = nI N) (hN : N < 61) (hv : σ 4 (12 + N) = v) (d : decode cc pc = .ok (.baload, 1)) (K : Sm p l e R s m args below meth c Q A D nL cells slots (iw ad ct n τ σ T) (pc + 1) L (.int v :: S)) : Sm p l e R s m args below meth c Q A D nL cells slots (iw ad ct n τ σ T) pc L (.int i :: .ref (ad 26) :: S) := s_zald E 26 1 rfl rfl N hi hN (Nat.le_of_ble_eq_true rfl) (by show pbl (σ 4) N = v; rw [pbl_at hN]; exact hv) d K
set_option maxHeartbeats 1000000 in
set_option maxRecDepth 100000 in
theorem x1z_isRight3 {l : Launch} {D : va_G} {gt : Nat → Nat} {ad : Nat → Nat} {ct : Nat → ClassId} {n : Nat} {τ σ : Nat → Nat → Int32} {T : va_W} (u : Nat) (hX : XT τ n) (hT : UT ad n τ T) (hu : u < n) (hP : PC (σ 4) n) : Ct l D gt yX1_isRight cX1_isRight 3 .boolean 1 22 0 0 [.ref (ad 0), .ref (ad 22), .int (nI u)] (iw ad ct n τ σ T) (tysA ct) (fun r σ2 => bI (rgB τ (σ 4) u = true) = r ∧ σ = σ2) (fun σ2 : Nat → Nat → Int32 => iw ad ct n τ σ2 T) (fun _ => tysA ct) := by
  refine Ct.start RX1 (by decide) rfl (Nat.le_of_ble_eq_true rfl) rfl ?_
  intro pP eE sS mM aA bB hM cC QQ AA E Rt
  have hn6 := hX.2.1
  refine s_aload_n E dX1_isRight_0 (i := 1) (j := 1) rfl rfl ?_
  refine iwX1_g22_0 E dX1_isRight_1 ?_
  refine s_iload_n E dX1_isRight_4 (i := 2) (j := 2) rfl rfl ?_
  refine iw_l23 E (v := σ 4 u) (u) (rfl) (by omega) hn6 (rfl) dX1_isRight_5 ?_
  refine s_aload_n E dX1_isRight_6 (i := 0) (j := 0) rfl rfl ?_
  refine iwX1_g0_4 E dX1_isRight_7 ?_
  refine iwX1_g2_0 E dX1_isRight_10 ?_
  refine s_iload_n E dX1_isRight_13 (i := 2) (j := 2) rfl rfl ?_
  refine iwX1_l3 E (u) (rfl) (by omega) hn6 dX1_isRight_14 ?_
  refine iwX1_gu3 E (v := τ 8 u) (u) (by omega) hT (rfl) dX1_isRight_15 ?_
  refine s_aload_n E dX1_isRight_18 (i := 0) (j := 0) rfl rfl ?_
  refine iwX1_g0_4 E dX1_isRight_19 ?_
  refine iwX1_g2_0 E dX1_isRight_22 ?_
  refine s_iload_n E dX1_isRight_25 (i := 2) (j := 2) rfl rfl ?_
  refine iwX1_l3 E (u) (rfl) (by omega) hn6 dX1_isRight_26 ?_
  refine iwX1_gu4 E (v := τ 9 u) (u) (by omega) hT (rfl) dX1_isRight_27 ?_
  refine c_gos E (rS E (cutZ _ _) (x1z_isIn (σ 4 u) (τ 8 u) (τ 9 u)) K_X1_75 (Nat.le_of_ble_eq_true rfl) (Nat.le_of_ble_eq_true rfl) (Nat.zero_le _) (Nat.zero_le _) rfl rfl (Nat.le_of_ble_eq_true rfl) dX1_isRight_30) (fun r30 h30 => ?_)
  subst h30
  refine s_if_eq E dX1_isRight_33 (tgt := 54) rfl (fun c33 => ?_) (fun c33 => ?_)
  · have c33 := bI_0 c33
    refine s_iconst E dX1_isRight_54 (v := nI 0) (by decide) ?_
    exact Rt (nI 0) (σ) dX1_isRight_55 (⟨by unfold rgB; rw [bI_f]; simp only [Bool.and_eq_true, Bool.not_eq_true', decide_eq_false_iff_not, decide_eq_true_eq]; first | exact fun h => c33 h.1 | exact fun h => c47 h.2, rfl⟩) rfl (Nat.le_refl _) (Nat.le_refl _) rfl E.2.2.2.2.2.1
  · have c33 := bI_n0 c33
    refine s_aload_n E dX1_isRight_36 (i := 1) (j := 1) rfl rfl ?_
    refine iwX1_g22_3 E dX1_isRight_37 ?_
    refine s_aload_n E dX1_isRight_40 (i := 1) (j := 1) rfl rfl ?_
    refine iwX1_g22_0 E dX1_isRight_41 ?_
    refine s_iload_n E dX1_isRight_44 (i := 2) (j := 2) rfl rfl ?_
    refine iw_l23 E (v := σ 4 u) (u) (rfl) (by omega) hn6 (rfl) dX1_isRight_45 ?_
    refine iw_l26 E (v := σ 4 (12 + tN (σ 4 u))) (tN (σ 4 u)) ((hP u hu).1) ((hP u hu).2) (rfl) dX1_isRight_46 ?_
    refine s_if_ne E dX1_isRight_47 (tgt := 54) rfl (fun c47 => ?_) (fun c47 => ?_)
    · refine s_iconst E dX1_isRight_54 (v := nI 0) (by decide) ?_
      exact Rt (nI 0) (σ) dX1_isRight_55 (⟨by unfold rgB; rw [bI_f]; simp only [Bool.and_eq_true, Bool.not_eq_true', decide_eq_false_iff_not, decide_eq_true_eq]; first | exact fun h => c33 h.1 | exact fun h => c47 h.2, rfl⟩) rfl (Nat.le_refl _) (Nat.le_refl _) rfl E.2.2.2.2.2.1
    · refine s_iconst E dX1_isRight_50 (v := nI 1) (by decide) ?_
      refine s_goto E dX1_isRight_51 (tgt := 55) rfl ?_
      exact Rt (nI 1) (σ) dX1_isRight_55 (⟨by unfold rgB; rw [bI_t]; simp only [Bool.and_eq_true, Bool.not_eq_true', decide_eq_false_iff_not, decide_eq_true_eq]; exact ⟨c33, c47⟩, rfl⟩) rfl (Nat.le_refl _) (Nat.le_refl _) rfl E.2.2.2.2.2.1
theorem iwX1_g0_11 {p : Program} {l : Launch} {e : Env} {R : Room} {s : State} {m : MethodId} {args : Array Value} {below : List Frame} {meth : Method} {c : Code} {Q : State → Prop} {A : Nat → Prop} {D : va_G} {nL cells slots : Nat} {pc : Nat} {L : List (Nat × Value)} {S : List Value} {cc : ByteArray} {ret : Option FieldType} {gt : Nat → Nat} {ad : Nat → Nat} {ct : Nat → ClassId} {n : Nat} {τ σ : Nat → Nat → Int32} {T : va_W} (E : En p s m args meth c A cc nL RX1 ret D (tysA ct) gt) (d : decode cc pc = .ok (.getfield 59, 3)) (K : Sm p l e R s m args below meth c Q A D nL cells slots (iw ad ct n τ σ T) (pc + 3) L (.ref (ad 27) :: S)) : Sm p l e R s m args below meth c Q A D nL cells slots (iw ad ct n τ σ T) pc L (.ref (ad 0) :: S) := s_get E in_X1 0 rfl rfl 11 (Nat.le_of_ble_eq_true rfl) q402 rfl rfl d K
theorem K_X1_152 : KV RX1 152 RX4 yX4_of cX4_of 3 (some (.object RX4)) 1 := ⟨q879, q880, q881, q116, q882, by decide +kernel⟩
theorem iwX1_p27_10 {p : Program} {l : Launch} {e : Env} {R : Room} {s : State} {m : MethodId} {args : Array Value} {below : List Frame} {meth : Method} {c : Code} {Q : State → Prop} {A : Nat → Prop} {D : va_G} {nL cells slots : Nat} {pc : Nat} {L : List (Nat × Value)} {S : List Value} {cc : ByteArray} {ret : Option FieldType} {gt : Nat → Nat} {ad : Nat → Nat} {ct : Nat → ClassId} {n : Nat} {τ σ : Nat → Nat → Int32} {T : va_W} (E : En p s m args meth c A cc nL RX1 ret D (tysA ct) gt) {v : Int32} (d : decode cc pc = .ok (.putfield 176, 3)) (K : Sm p l e R s m args below meth c Q A D nL cells slots (iw ad ct n τ (st1 σ 10 10 v) T) (pc + 3) L S) : Sm p l e R s m args below meth c Q A D nL cells slots (iw ad ct n τ σ T) pc L (.int v :: .ref (ad 27) :: S) := s_putN E in_X4 tyX4 tyX4_ok nmX4 27 rfl rfl 10 (Nat.le_of_ble_eq_true rfl) q287 rfl rfl rfl rfl (Nat.le_of_ble_eq_true rfl) rfl d K
theorem K_X1_156 : KV RX1 156 RX4 yX4_counted cX4_counted 1 (some (.object RX4)) 0 := ⟨q883, q884, q885, q116, q886, by decide +kernel⟩
theorem K_X1_177 : KV RX1 177 RX4 yX4_trouble cX4_trouble 1 (some .int) 0 := ⟨q936, q937, q938, q116, q939, by decide +kernel⟩
theorem K_X1_172 : KV RX1 172 RX1 yX1_isRight cX1_isRight 3 (some .boolean) 2 := ⟨q875, q877, qs23, q113, q878, by decide +kernel⟩
set_option maxHeartbeats 1000000 in
set_option maxRecDepth 100000 in
theorem x1z_isClean0B {l : Launch} {D : va_G} {gt : Nat → Nat} {ad : Nat → Nat} {ct : Nat → ClassId} {n : Nat} {τ σ : Nat → Nat → Int32} {T : va_W} (bd : Int32) (hX : XT τ n) (hT : UT ad n τ T) (hP : PC (σ 1) n) (hbd : In bd 61) (hRC : RC τ (σ 1) n bd) : Ct l D gt yX1_isClean cX1_isClean 4 .boolean 6 150 0 0 [.ref (ad 0), .ref (ad 7), .int (bd)] (iw ad ct n τ σ T) (tysA ct) (fun r σ2 => bI (cleanB (vwB τ (σ 1) bd) n = true) = r ∧ XA σ σ2) (fun σ2 : Nat → Nat → Int32 => iw ad ct n τ σ2 T) (fun _ => tysA ct) := by
  refine Ct.start RX1 (by decide) rfl (Nat.le_of_ble_eq_true rfl) rfl ?_
  intro pP eE sS mM aA bB hM cC QQ AA E Rt
  have hn6 := hX.2.1
  refine s_iconst E dX1_isClean_0 (v := nI 0) (by decide) ?_
  refine s_istore_n E (L2 := [(3, .int (nI 0)), (0, .ref (ad 0)), (1, .ref (ad 7)), (2, .int (bd))]) dX1_isClean_1 rfl (Nat.le_of_ble_eq_true rfl) rfl ?_
  have L2 : ∀ (fuel : Nat) (u : Nat), (u ≤ n) → (∀ v, v < u → ¬ 0 < σ 1 v ∨ rgB τ (σ 1) v = true) → (n - u) < fuel → Sm pP l eE { frames := 6, cells := 0, slots := 0, locals := 150 } sS mM aA bB hM cC QQ AA D 4 0 0 (iw ad ct n τ σ T) 2 [(0, .ref (ad 0)), (1, .ref (ad 7)), (2, .int (bd)), (3, .int (nI u))] [] := by
    intro fuel
    induction fuel with
    | zero =>
      intro u hu hr hf2
      exact absurd hf2 (Nat.not_lt_zero _)
    | succ fuel ih2 =>
      intro u hu hr hf2
      refine s_iload_n E dX1_isClean_2 (i := 3) (j := 3) rfl rfl ?_
      refine s_aload_n E dX1_isClean_3 (i := 0) (j := 0) rfl rfl ?_
      refine iwX1_g0_4 E dX1_isClean_4 ?_
      refine iwX1_g2_4 E (v := nI n) (hX.1) dX1_isClean_7 ?_
      refine s_icmp_ge E dX1_isClean_10 (tgt := 39) rfl (fun c10 => ?_) (fun c10 => ?_)
      · have c10 : ¬ u < n := fun h => absurd c10 (Int32.not_le.mpr ((nI_ltI (a := u) (b := n) (by omega) (by omega)).mpr h))
        refine s_aload_n E dX1_isClean_39 (i := 0) (j := 0) rfl rfl ?_
        refine iwX1_g0_11 E dX1_isClean_40 ?_
        refine s_aload_n E dX1_isClean_43 (i := 1) (j := 1) rfl rfl ?_
        refine c_gor0 E (rV E (cutS _ _) (x4z_of0 (hX) (hT)) K_X1_152 (Nat.le_of_ble_eq_true rfl) (Nat.le_of_ble_eq_true rfl) (Nat.zero_le _) (Nat.zero_le _) 27 rfl rfl rfl rfl (Nat.le_of_ble_eq_true rfl) dX1_isClean_44) (fun w44 h44 => ?_)
        refine s_iload_n E dX1_isClean_47 (i := 2) (j := 2) rfl rfl ?_
        refine iwX1_p27_10 E dX1_isClean_48 ?_
        refine s_aload_n E dX1_isClean_51 (i := 0) (j := 0) rfl rfl ?_
        refine iwX1_g0_11 E dX1_isClean_52 ?_
        refine ia0_gor E (x4z_counted (vwB τ (σ 1) bd) n (by rw [airS_st]; exact h44.2.bd) (hn6) (by decide) (hX.ta) (XT.nb hP hbd) (hX.od)) K_X1_156 (Nat.le_of_ble_eq_true rfl) (Nat.le_of_ble_eq_true rfl) (Nat.zero_le _) (Nat.zero_le _) rfl rfl (Nat.le_of_ble_eq_true rfl) dX1_isClean_55 (fun w55 h55 => ?_)
        show Sm pP l eE { frames := 6, cells := 0, slots := 0, locals := 150 } sS mM aA bB hM cC QQ AA D 4 0 0 (iw ad ct n τ (airU0 (st1 w44 10 10 bd) w55) T) 58 [(0, .ref (ad 0)), (1, .ref (ad 7)), (2, .int (bd)), (3, .int (nI u))] [.ref (ad 27)]
        refine ia0_goi E (x4z_trouble ) K_X1_177 (Nat.le_of_ble_eq_true rfl) (Nat.le_of_ble_eq_true rfl) (Nat.zero_le _) (Nat.zero_le _) rfl rfl (Nat.le_of_ble_eq_true rfl) dX1_isClean_58 (fun r58 w58 h58 => ?_)
        obtain ⟨rfl, rfl⟩ := h58
        refine s_ws (ws2 := iw ad ct n τ (airU0 (st1 w44 10 10 bd) w55) T) (congrArg (fun z => iw ad ct n τ z T) airU_S0) ?_
        refine s_top (v2 := nI (hitsT (vwB τ (σ 1) bd) n (prods (vwB τ (σ 1) bd) n) + crowdsT (vwB τ (σ 1) bd) n)) (by show w55 0 16 + w55 0 17 = _; rw [h55.1.1.2.2.2.2.1, h55.2, nI_add]) ?_
        refine s_if_ne E dX1_isClean_61 (tgt := 68) rfl (fun c61 => ?_) (fun c61 => ?_)
        · have htl := tr_le (s := vwB τ (σ 1) bd) (n := n) (by omega)
          have hci := clean_iff (s := vwB τ (σ 1) bd) (n := n) (XT.nb hP hbd) (by omega) (fun v hv => by rw [rg_right (hRC v hv)]; exact hr v (by omega))
          have c61 : ¬ hitsT (vwB τ (σ 1) bd) n (prods (vwB τ (σ 1) bd) n) + crowdsT (vwB τ (σ 1) bd) n = 0 := fun h => c61 ((nI_eq (a := hitsT (vwB τ (σ 1) bd) n (prods (vwB τ (σ 1) bd) n) + crowdsT (vwB τ (σ 1) bd) n) (b := 0) (by omega) (by omega)).mpr h)
          refine s_iconst E dX1_isClean_68 (v := nI 0) (by decide) ?_
          exact Rt (nI 0) (airU0 (st1 w44 10 10 bd) w55) dX1_isClean_69 (⟨bI_f (fun h => c61 (hci.mpr h)), (h44.1.tr (XA.st (by decide))).tr XA.up⟩) rfl (Nat.le_refl _) (Nat.le_refl _) rfl E.2.2.2.2.2.1
        · have htl := tr_le (s := vwB τ (σ 1) bd) (n := n) (by omega)
          have hci := clean_iff (s := vwB τ (σ 1) bd) (n := n) (XT.nb hP hbd) (by omega) (fun v hv => by rw [rg_right (hRC v hv)]; exact hr v (by omega))
          have c61 : hitsT (vwB τ (σ 1) bd) n (prods (vwB τ (σ 1) bd) n) + crowdsT (vwB τ (σ 1) bd) n = 0 := (nI_eq (a := hitsT (vwB τ (σ 1) bd) n (prods (vwB τ (σ 1) bd) n) + crowdsT (vwB τ (σ 1) bd) n) (b := 0) (by omega) (by omega)).mp c61
          refine s_iconst E dX1_isClean_64 (v := nI 1) (by decide) ?_
          refine s_goto E dX1_isClean_65 (tgt := 69) rfl ?_
          exact Rt (nI 1) (airU0 (st1 w44 10 10 bd) w55) dX1_isClean_69 (⟨bI_t (hci.mp c61), (h44.1.tr (XA.st (by decide))).tr XA.up⟩) rfl (Nat.le_refl _) (Nat.le_refl _) rfl E.2.2.2.2.2.1
      · have c10 : u < n := (nI_ltI (a := u) (b := n) (by omega) (by omega)).mp (Int32.not_le.mp c10)
        refine s_aload_n E dX1_isClean_13 (i := 1) (j := 1) rfl rfl ?_
        refine iwX1_g7_0 E dX1_isClean_14 ?_
        refine s_iload_n E dX1_isClean_17 (i := 3) (j := 3) rfl rfl ?_
        refine iw_l8 E (v := σ 1 u) (u) (rfl) (by omega) hn6 (rfl) dX1_isClean_18 ?_
        refine s_if_le E dX1_isClean_19 (tgt := 33) rfl (fun c19 => ?_) (fun c19 => ?_)
        · have c19 := Int32.not_lt.mpr c19
          refine s_iinc E (L2 := [(3, .int (nI (u + 1))), (0, .ref (ad 0)), (1, .ref (ad 7)), (2, .int (bd))]) dX1_isClean_33 (k := 3) rfl (v := nI (u + 1)) (nI_inc _) (Nat.le_of_ble_eq_true rfl) rfl ?_
          refine s_goto E dX1_isClean_36 (tgt := 2) rfl ?_
          refine s_loc (L2 := [(0, .ref (ad 0)), (1, .ref (ad 7)), (2, .int (bd)), (3, .int (nI (u + 1)))]) [1, 2, 3, 0] rfl ?_
          exact ih2 (u + 1) (by omega) (fun v hv => by by_cases e : v = u; (subst e; exact Or.inl c19); exact hr v (by omega)) (by omega)
        · have c19 := Int32.not_le.mp c19
          refine s_aload_n E dX1_isClean_22 (i := 0) (j := 0) rfl rfl ?_
          refine s_aload_n E dX1_isClean_23 (i := 1) (j := 1) rfl rfl ?_
          refine s_iload_n E dX1_isClean_24 (i := 3) (j := 3) rfl rfl ?_
          refine c_goi0 E (rV E (cutS _ _) (x1z_isRight0 u (hX) (hT) (by omega) (hP)) K_X1_172 (Nat.le_of_ble_eq_true rfl) (Nat.le_of_ble_eq_true rfl) (Nat.zero_le _) (Nat.zero_le _) 0 rfl rfl rfl rfl (Nat.le_of_ble_eq_true rfl) dX1_isClean_25) (fun r25 w25 h25 => ?_)
          obtain ⟨rfl, rfl⟩ := h25
          refine s_if_ne E dX1_isClean_28 (tgt := 33) rfl (fun c28 => ?_) (fun c28 => ?_)
          · have c28 := bI_n0 c28
            refine s_iinc E (L2 := [(3, .int (nI (u + 1))), (0, .ref (ad 0)), (1, .ref (ad 7)), (2, .int (bd))]) dX1_isClean_33 (k := 3) rfl (v := nI (u + 1)) (nI_inc _) (Nat.le_of_ble_eq_true rfl) rfl ?_
            refine s_goto E dX1_isClean_36 (tgt := 2) rfl ?_
            refine s_loc (L2 := [(0, .ref (ad 0)), (1, .ref (ad 7)), (2, .int (bd)), (3, .int (nI (u + 1)))]) [1, 2, 3, 0] rfl ?_
            exact ih2 (u + 1) (by omega) (fun v hv => by by_cases e : v = u; (subst e; exact Or.inr c28); exact hr v (by omega)) (by omega)
          · have c28 := bI_0 c28
            refine s_iconst E dX1_isClean_31 (v := nI 0) (by decide) ?_
            exact Rt (nI 0) (σ) dX1_isClean_32 (⟨bI_f (clean_un (u := u) (by omega) c19 (by rw [rg_right (hRC u (by omega))]; exact c28)), XA.rf _⟩) rfl (Nat.le_refl _) (Nat.le_refl _) rfl E.2.2.2.2.2.1
  refine s_loc (L2 := [(0, .ref (ad 0)), (1, .ref (ad 7)), (2, .int (bd)), (3, .int (nI 0))]) [1, 2, 3, 0] rfl ?_
  exact L2 (_ + 1) 0 (Nat.zero_le _) (fun v h => absurd h (Nat.not_lt_zero _)) (Nat.lt_succ_self _)
theorem K_X1_181 : KV RX1 181 RX1 yX1_isClean cX1_isClean 4 (some .boolean) 2 := ⟨q1006, q873, qs22, q113, q874, by decide +kernel⟩
set_option maxHeartbeats 1000000 in
set_option maxRecDepth 100000 in
theorem x1z_isClean_20 {l : Launch} {D : va_G} {gt : Nat → Nat} {ad : Nat → Nat} {ct : Nat → ClassId} {n : Nat} {τ σ : Nat → Nat → Int32} {T : va_W}  (hX : XT τ n) (hT : UT ad n τ T) (hP : PC (σ 1) n) : Ct l D gt yX1_isClean_2 cX1_isClean_2 2 .boolean 7 173 0 0 [.ref (ad 0), .ref (ad 7)] (iw ad ct n τ σ T) (tysA ct) (fun r σ2 => bI (cleanB (vw τ (σ 1)) n = true) = r ∧ XA σ σ2) (fun σ2 : Nat → Nat → Int32 => iw ad ct n τ σ2 T) (fun _ => tysA ct) := by
  refine Ct.start RX1 (by decide) rfl (Nat.le_of_ble_eq_true rfl) rfl ?_
  intro pP eE sS mM aA bB hM cC QQ AA E Rt
  refine s_aload_n E dX1_isClean_2_0 (i := 0) (j := 0) rfl rfl ?_
  refine s_aload_n E dX1_isClean_2_1 (i := 1) (j := 1) rfl rfl ?_
  refine s_aload_n E dX1_isClean_2_2 (i := 0) (j := 0) rfl rfl ?_
  refine iwX1_g0_4 E dX1_isClean_2_3 ?_
  refine iwX1_g2_6 E (v := τ 3 0) (rfl) dX1_isClean_2_6 ?_
  refine c_goi0 E (rV E (cutS _ _) (x1z_isClean0B (τ 3 0) (hX) (hT) (hP) (hX.2.2.2.2.1) (RC.told hX)) K_X1_181 (Nat.le_of_ble_eq_true rfl) (Nat.le_of_ble_eq_true rfl) (Nat.zero_le _) (Nat.zero_le _) 0 rfl rfl rfl rfl (Nat.le_of_ble_eq_true rfl) dX1_isClean_2_9) (fun r9 w9 h9 => ?_)
  rw [vwB_self] at h9
  obtain ⟨e9, x9⟩ := h9
  subst e9
  exact Rt (bI (cleanB (vw τ (σ 1)) n = true)) (w9) dX1_isClean_2_12 (⟨rfl, x9⟩) rfl (Nat.le_refl _) (Nat.le_refl _) bI_nar E.2.2.2.2.2.1
set_option maxHeartbeats 1000000 in
set_option maxRecDepth 100000 in
theorem x1z_isClean2B {l : Launch} {D : va_G} {gt : Nat → Nat} {ad : Nat → Nat} {ct : Nat → ClassId} {n : Nat} {τ σ : Nat → Nat → Int32} {T : va_W} (bd : Int32) (hX : XT τ n) (hT : UT ad n τ T) (hP : PC (σ 3) n) (hbd : In bd 61) (hRC : RC τ (σ 3) n bd) : Ct l D gt yX1_isClean cX1_isClean 4 .boolean 6 150 0 0 [.ref (ad 0), .ref (ad 17), .int (bd)] (iw ad ct n τ σ T) (tysA ct) (fun r σ2 => bI (cleanB (vwB τ (σ 3) bd) n = true) = r ∧ XA σ σ2) (fun σ2 : Nat → Nat → Int32 => iw ad ct n τ σ2 T) (fun _ => tysA ct) := by
  refine Ct.start RX1 (by decide) rfl (Nat.le_of_ble_eq_true rfl) rfl ?_
  intro pP eE sS mM aA bB hM cC QQ AA E Rt
  have hn6 := hX.2.1
  refine s_iconst E dX1_isClean_0 (v := nI 0) (by decide) ?_
  refine s_istore_n E (L2 := [(3, .int (nI 0)), (0, .ref (ad 0)), (1, .ref (ad 17)), (2, .int (bd))]) dX1_isClean_1 rfl (Nat.le_of_ble_eq_true rfl) rfl ?_
  have L2 : ∀ (fuel : Nat) (u : Nat), (u ≤ n) → (∀ v, v < u → ¬ 0 < σ 3 v ∨ rgB τ (σ 3) v = true) → (n - u) < fuel → Sm pP l eE { frames := 6, cells := 0, slots := 0, locals := 150 } sS mM aA bB hM cC QQ AA D 4 0 0 (iw ad ct n τ σ T) 2 [(0, .ref (ad 0)), (1, .ref (ad 17)), (2, .int (bd)), (3, .int (nI u))] [] := by
    intro fuel
    induction fuel with
    | zero =>
      intro u hu hr hf2
      exact absurd hf2 (Nat.not_lt_zero _)
    | succ fuel ih2 =>
      intro u hu hr hf2
      refine s_iload_n E dX1_isClean_2 (i := 3) (j := 3) rfl rfl ?_
      refine s_aload_n E dX1_isClean_3 (i := 0) (j := 0) rfl rfl ?_
      refine iwX1_g0_4 E dX1_isClean_4 ?_
      refine iwX1_g2_4 E (v := nI n) (hX.1) dX1_isClean_7 ?_
      refine s_icmp_ge E dX1_isClean_10 (tgt := 39) rfl (fun c10 => ?_) (fun c10 => ?_)
      · have c10 : ¬ u < n := fun h => absurd c10 (Int32.not_le.mpr ((nI_ltI (a := u) (b := n) (by omega) (by omega)).mpr h))
        refine s_aload_n E dX1_isClean_39 (i := 0) (j := 0) rfl rfl ?_
        refine iwX1_g0_11 E dX1_isClean_40 ?_
        refine s_aload_n E dX1_isClean_43 (i := 1) (j := 1) rfl rfl ?_
        refine c_gor0 E (rV E (cutS _ _) (x4z_of2 (hX) (hT)) K_X1_152 (Nat.le_of_ble_eq_true rfl) (Nat.le_of_ble_eq_true rfl) (Nat.zero_le _) (Nat.zero_le _) 27 rfl rfl rfl rfl (Nat.le_of_ble_eq_true rfl) dX1_isClean_44) (fun w44 h44 => ?_)
        refine s_iload_n E dX1_isClean_47 (i := 2) (j := 2) rfl rfl ?_
        refine iwX1_p27_10 E dX1_isClean_48 ?_
        refine s_aload_n E dX1_isClean_51 (i := 0) (j := 0) rfl rfl ?_
        refine iwX1_g0_11 E dX1_isClean_52 ?_
        refine ia0_gor E (x4z_counted (vwB τ (σ 3) bd) n (by rw [airS_st]; exact h44.2.bd) (hn6) (by decide) (hX.ta) (XT.nb hP hbd) (hX.od)) K_X1_156 (Nat.le_of_ble_eq_true rfl) (Nat.le_of_ble_eq_true rfl) (Nat.zero_le _) (Nat.zero_le _) rfl rfl (Nat.le_of_ble_eq_true rfl) dX1_isClean_55 (fun w55 h55 => ?_)
        show Sm pP l eE { frames := 6, cells := 0, slots := 0, locals := 150 } sS mM aA bB hM cC QQ AA D 4 0 0 (iw ad ct n τ (airU0 (st1 w44 10 10 bd) w55) T) 58 [(0, .ref (ad 0)), (1, .ref (ad 17)), (2, .int (bd)), (3, .int (nI u))] [.ref (ad 27)]
        refine ia0_goi E (x4z_trouble ) K_X1_177 (Nat.le_of_ble_eq_true rfl) (Nat.le_of_ble_eq_true rfl) (Nat.zero_le _) (Nat.zero_le _) rfl rfl (Nat.le_of_ble_eq_true rfl) dX1_isClean_58 (fun r58 w58 h58 => ?_)
        obtain ⟨rfl, rfl⟩ := h58
        refine s_ws (ws2 := iw ad ct n τ (airU0 (st1 w44 10 10 bd) w55) T) (congrArg (fun z => iw ad ct n τ z T) airU_S0) ?_
        refine s_top (v2 := nI (hitsT (vwB τ (σ 3) bd) n (prods (vwB τ (σ 3) bd) n) + crowdsT (vwB τ (σ 3) bd) n)) (by show w55 0 16 + w55 0 17 = _; rw [h55.1.1.2.2.2.2.1, h55.2, nI_add]) ?_
        refine s_if_ne E dX1_isClean_61 (tgt := 68) rfl (fun c61 => ?_) (fun c61 => ?_)
        · have htl := tr_le (s := vwB τ (σ 3) bd) (n := n) (by omega)
          have hci := clean_iff (s := vwB τ (σ 3) bd) (n := n) (XT.nb hP hbd) (by omega) (fun v hv => by rw [rg_right (hRC v hv)]; exact hr v (by omega))
          have c61 : ¬ hitsT (vwB τ (σ 3) bd) n (prods (vwB τ (σ 3) bd) n) + crowdsT (vwB τ (σ 3) bd) n = 0 := fun h => c61 ((nI_eq (a := hitsT (vwB τ (σ 3) bd) n (prods (vwB τ (σ 3) bd) n) + crowdsT (vwB τ (σ 3) bd) n) (b := 0) (by omega) (by omega)).mpr h)
          refine s_iconst E dX1_isClean_68 (v := nI 0) (by decide) ?_
          exact Rt (nI 0) (airU0 (st1 w44 10 10 bd) w55) dX1_isClean_69 (⟨bI_f (fun h => c61 (hci.mpr h)), (h44.1.tr (XA.st (by decide))).tr XA.up⟩) rfl (Nat.le_refl _) (Nat.le_refl _) rfl E.2.2.2.2.2.1
        · have htl := tr_le (s := vwB τ (σ 3) bd) (n := n) (by omega)
          have hci := clean_iff (s := vwB τ (σ 3) bd) (n := n) (XT.nb hP hbd) (by omega) (fun v hv => by rw [rg_right (hRC v hv)]; exact hr v (by omega))
          have c61 : hitsT (vwB τ (σ 3) bd) n (prods (vwB τ (σ 3) bd) n) + crowdsT (vwB τ (σ 3) bd) n = 0 := (nI_eq (a := hitsT (vwB τ (σ 3) bd) n (prods (vwB τ (σ 3) bd) n) + crowdsT (vwB τ (σ 3) bd) n) (b := 0) (by omega) (by omega)).mp c61
          refine s_iconst E dX1_isClean_64 (v := nI 1) (by decide) ?_
          refine s_goto E dX1_isClean_65 (tgt := 69) rfl ?_
          exact Rt (nI 1) (airU0 (st1 w44 10 10 bd) w55) dX1_isClean_69 (⟨bI_t (hci.mp c61), (h44.1.tr (XA.st (by decide))).tr XA.up⟩) rfl (Nat.le_refl _) (Nat.le_refl _) rfl E.2.2.2.2.2.1
      · have c10 : u < n := (nI_ltI (a := u) (b := n) (by omega) (by omega)).mp (Int32.not_le.mp c10)
        refine s_aload_n E dX1_isClean_13 (i := 1) (j := 1) rfl rfl ?_
        refine iwX1_g17_0 E dX1_isClean_14 ?_
        refine s_iload_n E dX1_isClean_17 (i := 3) (j := 3) rfl rfl ?_
        refine iw_l18 E (v := σ 3 u) (u) (rfl) (by omega) hn6 (rfl) dX1_isClean_18 ?_
        refine s_if_le E dX1_isClean_19 (tgt := 33) rfl (fun c19 => ?_) (fun c19 => ?_)
        · have c19 := Int32.not_lt.mpr c19
          refine s_iinc E (L2 := [(3, .int (nI (u + 1))), (0, .ref (ad 0)), (1, .ref (ad 17)), (2, .int (bd))]) dX1_isClean_33 (k := 3) rfl (v := nI (u + 1)) (nI_inc _) (Nat.le_of_ble_eq_true rfl) rfl ?_
          refine s_goto E dX1_isClean_36 (tgt := 2) rfl ?_
          refine s_loc (L2 := [(0, .ref (ad 0)), (1, .ref (ad 17)), (2, .int (bd)), (3, .int (nI (u + 1)))]) [1, 2, 3, 0] rfl ?_
          exact ih2 (u + 1) (by omega) (fun v hv => by by_cases e : v = u; (subst e; exact Or.inl c19); exact hr v (by omega)) (by omega)
        · have c19 := Int32.not_le.mp c19
          refine s_aload_n E dX1_isClean_22 (i := 0) (j := 0) rfl rfl ?_
          refine s_aload_n E dX1_isClean_23 (i := 1) (j := 1) rfl rfl ?_
          refine s_iload_n E dX1_isClean_24 (i := 3) (j := 3) rfl rfl ?_
          refine c_goi0 E (rV E (cutS _ _) (x1z_isRight2 u (hX) (hT) (by omega) (hP)) K_X1_172 (Nat.le_of_ble_eq_true rfl) (Nat.le_of_ble_eq_true rfl) (Nat.zero_le _) (Nat.zero_le _) 0 rfl rfl rfl rfl (Nat.le_of_ble_eq_true rfl) dX1_isClean_25) (fun r25 w25 h25 => ?_)
          obtain ⟨rfl, rfl⟩ := h25
          refine s_if_ne E dX1_isClean_28 (tgt := 33) rfl (fun c28 => ?_) (fun c28 => ?_)
          · have c28 := bI_n0 c28
            refine s_iinc E (L2 := [(3, .int (nI (u + 1))), (0, .ref (ad 0)), (1, .ref (ad 17)), (2, .int (bd))]) dX1_isClean_33 (k := 3) rfl (v := nI (u + 1)) (nI_inc _) (Nat.le_of_ble_eq_true rfl) rfl ?_
            refine s_goto E dX1_isClean_36 (tgt := 2) rfl ?_
            refine s_loc (L2 := [(0, .ref (ad 0)), (1, .ref (ad 17)), (2, .int (bd)), (3, .int (nI (u + 1)))]) [1, 2, 3, 0] rfl ?_
            exact ih2 (u + 1) (by omega) (fun v hv => by by_cases e : v = u; (subst e; exact Or.inr c28); exact hr v (by omega)) (by omega)
          · have c28 := bI_0 c28
            refine s_iconst E dX1_isClean_31 (v := nI 0) (by decide) ?_
            exact Rt (nI 0) (σ) dX1_isClean_32 (⟨bI_f (clean_un (u := u) (by omega) c19 (by rw [rg_right (hRC u (by omega))]; exact c28)), XA.rf _⟩) rfl (Nat.le_refl _) (Nat.le_refl _) rfl E.2.2.2.2.2.1
  refine s_loc (L2 := [(0, .ref (ad 0)), (1, .ref (ad 17)), (2, .int (bd)), (3, .int (nI 0))]) [1, 2, 3, 0] rfl ?_
  exact L2 (_ + 1) 0 (Nat.zero_le _) (fun v h => absurd h (Nat.not_lt_zero _)) (Nat.lt_succ_self _)
set_option maxHeartbeats 1000000 in
set_option maxRecDepth 100000 in
theorem x1z_isClean_22 {l : Launch} {D : va_G} {gt : Nat → Nat} {ad : Nat → Nat} {ct : Nat → ClassId} {n : Nat} {τ σ : Nat → Nat → Int32} {T : va_W}  (hX : XT τ n) (hT : UT ad n τ T) (hP : PC (σ 3) n) : Ct l D gt yX1_isClean_2 cX1_isClean_2 2 .boolean 7 173 0 0 [.ref (ad 0), .ref (ad 17)] (iw ad ct n τ σ T) (tysA ct) (fun r σ2 => bI (cleanB (vw τ (σ 3)) n = true) = r ∧ XA σ σ2) (fun σ2 : Nat → Nat → Int32 => iw ad ct n τ σ2 T) (fun _ => tysA ct) := by
  refine Ct.start RX1 (by decide) rfl (Nat.le_of_ble_eq_true rfl) rfl ?_
  intro pP eE sS mM aA bB hM cC QQ AA E Rt
  refine s_aload_n E dX1_isClean_2_0 (i := 0) (j := 0) rfl rfl ?_
  refine s_aload_n E dX1_isClean_2_1 (i := 1) (j := 1) rfl rfl ?_
  refine s_aload_n E dX1_isClean_2_2 (i := 0) (j := 0) rfl rfl ?_
  refine iwX1_g0_4 E dX1_isClean_2_3 ?_
  refine iwX1_g2_6 E (v := τ 3 0) (rfl) dX1_isClean_2_6 ?_
  refine c_goi0 E (rV E (cutS _ _) (x1z_isClean2B (τ 3 0) (hX) (hT) (hP) (hX.2.2.2.2.1) (RC.told hX)) K_X1_181 (Nat.le_of_ble_eq_true rfl) (Nat.le_of_ble_eq_true rfl) (Nat.zero_le _) (Nat.zero_le _) 0 rfl rfl rfl rfl (Nat.le_of_ble_eq_true rfl) dX1_isClean_2_9) (fun r9 w9 h9 => ?_)
  rw [vwB_self] at h9
  obtain ⟨e9, x9⟩ := h9
  subst e9
  exact Rt (bI (cleanB (vw τ (σ 3)) n = true)) (w9) dX1_isClean_2_12 (⟨rfl, x9⟩) rfl (Nat.le_refl _) (Nat.le_refl _) bI_nar E.2.2.2.2.2.1
set_option maxHeartbeats 1000000 in
set_option maxRecDepth 100000 in
theorem x1z_isClean3B {l : Launch} {D : va_G} {gt : Nat → Nat} {ad : Nat → Nat} {ct : Nat → ClassId} {n : Nat} {τ σ : Nat → Nat → Int32} {T : va_W} (bd : Int32) (hX : XT τ n) (hT : UT ad n τ T) (hP : PC (σ 4) n) (hbd : In bd 61) (hRC : RC τ (σ 4) n bd) : Ct l D gt yX1_isClean cX1_isClean 4 .boolean 6 150 0 0 [.ref (ad 0), .ref (ad 22), .int (bd)] (iw ad ct n τ σ T) (tysA ct) (fun r σ2 => bI (cleanB (vwB τ (σ 4) bd) n = true) = r ∧ XA σ σ2) (fun σ2 : Nat → Nat → Int32 => iw ad ct n τ σ2 T) (fun _ => tysA ct) := by
  refine Ct.start RX1 (by decide) rfl (Nat.le_of_ble_eq_true rfl) rfl ?_
  intro pP eE sS mM aA bB hM cC QQ AA E Rt
  have hn6 := hX.2.1
  refine s_iconst E dX1_isClean_0 (v := nI 0) (by decide) ?_
  refine s_istore_n E (L2 := [(3, .int (nI 0)), (0, .ref (ad 0)), (1, .ref (ad 22)), (2, .int (bd))]) dX1_isClean_1 rfl (Nat.le_of_ble_eq_true rfl) rfl ?_
  have L2 : ∀ (fuel : Nat) (u : Nat), (u ≤ n) → (∀ v, v < u → ¬ 0 < σ 4 v ∨ rgB τ (σ 4) v = true) → (n - u) < fuel → Sm pP l eE { frames := 6, cells := 0, slots := 0, locals := 150 } sS mM aA bB hM cC QQ AA D 4 0 0 (iw ad ct n τ σ T) 2 [(0, .ref (ad 0)), (1, .ref (ad 22)), (2, .int (bd)), (3, .int (nI u))] [] := by
    intro fuel
    induction fuel with
    | zero =>
      intro u hu hr hf2
      exact absurd hf2 (Nat.not_lt_zero _)
    | succ fuel ih2 =>
      intro u hu hr hf2
      refine s_iload_n E dX1_isClean_2 (i := 3) (j := 3) rfl rfl ?_
      refine s_aload_n E dX1_isClean_3 (i := 0) (j := 0) rfl rfl ?_
      refine iwX1_g0_4 E dX1_isClean_4 ?_
      refine iwX1_g2_4 E (v := nI n) (hX.1) dX1_isClean_7 ?_
      refine s_icmp_ge E dX1_isClean_10 (tgt := 39) rfl (fun c10 => ?_) (fun c10 => ?_)
      · have c10 : ¬ u < n := fun h => absurd c10 (Int32.not_le.mpr ((nI_ltI (a := u) (b := n) (by omega) (by omega)).mpr h))
        refine s_aload_n E dX1_isClean_39 (i := 0) (j := 0) rfl rfl ?_
        refine iwX1_g0_11 E dX1_isClean_40 ?_
        refine s_aload_n E dX1_isClean_43 (i := 1) (j := 1) rfl rfl ?_
        refine c_gor0 E (rV E (cutS _ _) (x4z_of3 (hX) (hT)) K_X1_152 (Nat.le_of_ble_eq_true rfl) (Nat.le_of_ble_eq_true rfl) (Nat.zero_le _) (Nat.zero_le _) 27 rfl rfl rfl rfl (Nat.le_of_ble_eq_true rfl) dX1_isClean_44) (fun w44 h44 => ?_)
        refine s_iload_n E dX1_isClean_47 (i := 2) (j := 2) rfl rfl ?_
        refine iwX1_p27_10 E dX1_isClean_48 ?_
        refine s_aload_n E dX1_isClean_51 (i := 0) (j := 0) rfl rfl ?_
        refine iwX1_g0_11 E dX1_isClean_52 ?_
        refine ia0_gor E (x4z_counted (vwB τ (σ 4) bd) n (by rw [airS_st]; exact h44.2.bd) (hn6) (by decide) (hX.ta) (XT.nb hP hbd) (hX.od)) K_X1_156 (Nat.le_of_ble_eq_true rfl) (Nat.le_of_ble_eq_true rfl) (Nat.zero_le _) (Nat.zero_le _) rfl rfl (Nat.le_of_ble_eq_true rfl) dX1_isClean_55 (fun w55 h55 => ?_)
        show Sm pP l eE { frames := 6, cells := 0, slots := 0, locals := 150 } sS mM aA bB hM cC QQ AA D 4 0 0 (iw ad ct n τ (airU0 (st1 w44 10 10 bd) w55) T) 58 [(0, .ref (ad 0)), (1, .ref (ad 22)), (2, .int (bd)), (3, .int (nI u))] [.ref (ad 27)]
        refine ia0_goi E (x4z_trouble ) K_X1_177 (Nat.le_of_ble_eq_true rfl) (Nat.le_of_ble_eq_true rfl) (Nat.zero_le _) (Nat.zero_le _) rfl rfl (Nat.le_of_ble_eq_true rfl) dX1_isClean_58 (fun r58 w58 h58 => ?_)
        obtain ⟨rfl, rfl⟩ := h58
        refine s_ws (ws2 := iw ad ct n τ (airU0 (st1 w44 10 10 bd) w55) T) (congrArg (fun z => iw ad ct n τ z T) airU_S0) ?_
        refine s_top (v2 := nI (hitsT (vwB τ (σ 4) bd) n (prods (vwB τ (σ 4) bd) n) + crowdsT (vwB τ (σ 4) bd) n)) (by show w55 0 16 + w55 0 17 = _; rw [h55.1.1.2.2.2.2.1, h55.2, nI_add]) ?_
        refine s_if_ne E dX1_isClean_61 (tgt := 68) rfl (fun c61 => ?_) (fun c61 => ?_)
        · have htl := tr_le (s := vwB τ (σ 4) bd) (n := n) (by omega)
          have hci := clean_iff (s := vwB τ (σ 4) bd) (n := n) (XT.nb hP hbd) (by omega) (fun v hv => by rw [rg_right (hRC v hv)]; exact hr v (by omega))
          have c61 : ¬ hitsT (vwB τ (σ 4) bd) n (prods (vwB τ (σ 4) bd) n) + crowdsT (vwB τ (σ 4) bd) n = 0 := fun h => c61 ((nI_eq (a := hitsT (vwB τ (σ 4) bd) n (prods (vwB τ (σ 4) bd) n) + crowdsT (vwB τ (σ 4) bd) n) (b := 0) (by omega) (by omega)).mpr h)
          refine s_iconst E dX1_isClean_68 (v := nI 0) (by decide) ?_
          exact Rt (nI 0) (airU0 (st1 w44 10 10 bd) w55) dX1_isClean_69 (⟨bI_f (fun h => c61 (hci.mpr h)), (h44.1.tr (XA.st (by decide))).tr XA.up⟩) rfl (Nat.le_refl _) (Nat.le_refl _) rfl E.2.2.2.2.2.1
        · have htl := tr_le (s := vwB τ (σ 4) bd) (n := n) (by omega)
          have hci := clean_iff (s := vwB τ (σ 4) bd) (n := n) (XT.nb hP hbd) (by omega) (fun v hv => by rw [rg_right (hRC v hv)]; exact hr v (by omega))
          have c61 : hitsT (vwB τ (σ 4) bd) n (prods (vwB τ (σ 4) bd) n) + crowdsT (vwB τ (σ 4) bd) n = 0 := (nI_eq (a := hitsT (vwB τ (σ 4) bd) n (prods (vwB τ (σ 4) bd) n) + crowdsT (vwB τ (σ 4) bd) n) (b := 0) (by omega) (by omega)).mp c61
          refine s_iconst E dX1_isClean_64 (v := nI 1) (by decide) ?_
          refine s_goto E dX1_isClean_65 (tgt := 69) rfl ?_
          exact Rt (nI 1) (airU0 (st1 w44 10 10 bd) w55) dX1_isClean_69 (⟨bI_t (hci.mp c61), (h44.1.tr (XA.st (by decide))).tr XA.up⟩) rfl (Nat.le_refl _) (Nat.le_refl _) rfl E.2.2.2.2.2.1
      · have c10 : u < n := (nI_ltI (a := u) (b := n) (by omega) (by omega)).mp (Int32.not_le.mp c10)
        refine s_aload_n E dX1_isClean_13 (i := 1) (j := 1) rfl rfl ?_
        refine iwX1_g22_0 E dX1_isClean_14 ?_
        refine s_iload_n E dX1_isClean_17 (i := 3) (j := 3) rfl rfl ?_
        refine iw_l23 E (v := σ 4 u) (u) (rfl) (by omega) hn6 (rfl) dX1_isClean_18 ?_
        refine s_if_le E dX1_isClean_19 (tgt := 33) rfl (fun c19 => ?_) (fun c19 => ?_)
        · have c19 := Int32.not_lt.mpr c19
          refine s_iinc E (L2 := [(3, .int (nI (u + 1))), (0, .ref (ad 0)), (1, .ref (ad 22)), (2, .int (bd))]) dX1_isClean_33 (k := 3) rfl (v := nI (u + 1)) (nI_inc _) (Nat.le_of_ble_eq_true rfl) rfl ?_
          refine s_goto E dX1_isClean_36 (tgt := 2) rfl ?_
          refine s_loc (L2 := [(0, .ref (ad 0)), (1, .ref (ad 22)), (2, .int (bd)), (3, .int (nI (u + 1)))]) [1, 2, 3, 0] rfl ?_
          exact ih2 (u + 1) (by omega) (fun v hv => by by_cases e : v = u; (subst e; exact Or.inl c19); exact hr v (by omega)) (by omega)
        · have c19 := Int32.not_le.mp c19
          refine s_aload_n E dX1_isClean_22 (i := 0) (j := 0) rfl rfl ?_
          refine s_aload_n E dX1_isClean_23 (i := 1) (j := 1) rfl rfl ?_
          refine s_iload_n E dX1_isClean_24 (i := 3) (j := 3) rfl rfl ?_
          refine c_goi0 E (rV E (cutS _ _) (x1z_isRight3 u (hX) (hT) (by omega) (hP)) K_X1_172 (Nat.le_of_ble_eq_true rfl) (Nat.le_of_ble_eq_true rfl) (Nat.zero_le _) (Nat.zero_le _) 0 rfl rfl rfl rfl (Nat.le_of_ble_eq_true rfl) dX1_isClean_25) (fun r25 w25 h25 => ?_)
          obtain ⟨rfl, rfl⟩ := h25
          refine s_if_ne E dX1_isClean_28 (tgt := 33) rfl (fun c28 => ?_) (fun c28 => ?_)
          · have c28 := bI_n0 c28
            refine s_iinc E (L2 := [(3, .int (nI (u + 1))), (0, .ref (ad 0)), (1, .ref (ad 22)), (2, .int (bd))]) dX1_isClean_33 (k := 3) rfl (v := nI (u + 1)) (nI_inc _) (Nat.le_of_ble_eq_true rfl) rfl ?_
            refine s_goto E dX1_isClean_36 (tgt := 2) rfl ?_
            refine s_loc (L2 := [(0, .ref (ad 0)), (1, .ref (ad 22)), (2, .int (bd)), (3, .int (nI (u + 1)))]) [1, 2, 3, 0] rfl ?_
            exact ih2 (u + 1) (by omega) (fun v hv => by by_cases e : v = u; (subst e; exact Or.inr c28); exact hr v (by omega)) (by omega)
          · have c28 := bI_0 c28
            refine s_iconst E dX1_isClean_31 (v := nI 0) (by decide) ?_
            exact Rt (nI 0) (σ) dX1_isClean_32 (⟨bI_f (clean_un (u := u) (by omega) c19 (by rw [rg_right (hRC u (by omega))]; exact c28)), XA.rf _⟩) rfl (Nat.le_refl _) (Nat.le_refl _) rfl E.2.2.2.2.2.1
  refine s_loc (L2 := [(0, .ref (ad 0)), (1, .ref (ad 22)), (2, .int (bd)), (3, .int (nI 0))]) [1, 2, 3, 0] rfl ?_
  exact L2 (_ + 1) 0 (Nat.zero_le _) (fun v h => absurd h (Nat.not_lt_zero _)) (Nat.lt_succ_self _)
set_option maxHeartbeats 1000000 in
set_option maxRecDepth 100000 in
theorem x1z_isClean_23 {l : Launch} {D : va_G} {gt : Nat → Nat} {ad : Nat → Nat} {ct : Nat → ClassId} {n : Nat} {τ σ : Nat → Nat → Int32} {T : va_W}  (hX : XT τ n) (hT : UT ad n τ T) (hP : PC (σ 4) n) : Ct l D gt yX1_isClean_2 cX1_isClean_2 2 .boolean 7 173 0 0 [.ref (ad 0), .ref (ad 22)] (iw ad ct n τ σ T) (tysA ct) (fun r σ2 => bI (cleanB (vw τ (σ 4)) n = true) = r ∧ XA σ σ2) (fun σ2 : Nat → Nat → Int32 => iw ad ct n τ σ2 T) (fun _ => tysA ct) := by
  refine Ct.start RX1 (by decide) rfl (Nat.le_of_ble_eq_true rfl) rfl ?_
  intro pP eE sS mM aA bB hM cC QQ AA E Rt
  refine s_aload_n E dX1_isClean_2_0 (i := 0) (j := 0) rfl rfl ?_
  refine s_aload_n E dX1_isClean_2_1 (i := 1) (j := 1) rfl rfl ?_
  refine s_aload_n E dX1_isClean_2_2 (i := 0) (j := 0) rfl rfl ?_
  refine iwX1_g0_4 E dX1_isClean_2_3 ?_
  refine iwX1_g2_6 E (v := τ 3 0) (rfl) dX1_isClean_2_6 ?_
  refine c_goi0 E (rV E (cutS _ _) (x1z_isClean3B (τ 3 0) (hX) (hT) (hP) (hX.2.2.2.2.1) (RC.told hX)) K_X1_181 (Nat.le_of_ble_eq_true rfl) (Nat.le_of_ble_eq_true rfl) (Nat.zero_le _) (Nat.zero_le _) 0 rfl rfl rfl rfl (Nat.le_of_ble_eq_true rfl) dX1_isClean_2_9) (fun r9 w9 h9 => ?_)
  rw [vwB_self] at h9
  obtain ⟨e9, x9⟩ := h9
  subst e9
  exact Rt (bI (cleanB (vw τ (σ 4)) n = true)) (w9) dX1_isClean_2_12 (⟨rfl, x9⟩) rfl (Nat.le_refl _) (Nat.le_refl _) bI_nar E.2.2.2.2.2.1
theorem iwX1_g0_5 {p : Program} {l : Launch} {e : Env} {R : Room} {s : State} {m : MethodId} {args : Array Value} {below : List Frame} {meth : Method} {c : Code} {Q : State → Prop} {A : Nat → Prop} {D : va_G} {nL cells slots : Nat} {pc : Nat} {L : List (Nat × Value)} {S : List Value} {cc : ByteArray} {ret : Option FieldType} {gt : Nat → Nat} {ad : Nat → Nat} {ct : Nat → ClassId} {n : Nat} {τ σ : Nat → Nat → Int32} {T : va_W} (E : En p s m args meth c A cc nL RX1 ret D (tysA ct) gt) (d : decode cc pc = .ok (.getfield 40, 3)) (K : Sm p l e R s m args below meth c Q A D nL cells slots (iw ad ct n τ σ T) (pc + 3) L (.ref (ad 7) :: S)) : Sm p l e R s m args below meth c Q A D nL cells slots (iw ad ct n τ σ T) pc L (.ref (ad 0) :: S) := s_get E in_X1 0 rfl rfl 5 (Nat.le_of_ble_eq_true rfl) q396 rfl rfl d K
set_option maxHeartbeats 1000000 in
set_option maxRecDepth 100000 in
theorem x1z_nowAir {l : Launch} {D : va_G} {gt : Nat → Nat} {ad : Nat → Nat} {ct : Nat → ClassId} {n : Nat} {τ σ : Nat → Nat → Int32} {T : va_W}  (hX : XT τ n) (hT : UT ad n τ T) (hP : PC (σ 1) n) : Cr l D gt yX1_nowAir cX1_nowAir 1 (.object RX4) 6 150 0 0 [.ref (ad 0)] (iw ad ct n τ σ T) (tysA ct) (fun σ2 => XA σ σ2 ∧ AM (vw τ (σ 1)) n (-1) (prods (vw τ (σ 1)) n) (airS0 σ2) ∧ σ2 10 17 = nI (crowdsT (vw τ (σ 1)) n)) (fun _ => ad 27) (fun σ2 : Nat → Nat → Int32 => iw ad ct n τ σ2 T) (fun _ => tysA ct) := by
  refine Cr.start (Or.inl ⟨_, rfl⟩) RX1 (by decide) rfl (Nat.le_of_ble_eq_true rfl) rfl ?_
  intro pP eE sS mM aA bB hM cC QQ AA E Rt
  have hn6 := hX.2.1
  refine s_aload_n E dX1_nowAir_0 (i := 0) (j := 0) rfl rfl ?_
  refine iwX1_g0_11 E dX1_nowAir_1 ?_
  refine s_aload_n E dX1_nowAir_4 (i := 0) (j := 0) rfl rfl ?_
  refine iwX1_g0_5 E dX1_nowAir_5 ?_
  refine c_gor0 E (rV E (cutS _ _) (x4z_of0 (hX) (hT)) K_X1_152 (Nat.le_of_ble_eq_true rfl) (Nat.le_of_ble_eq_true rfl) (Nat.zero_le _) (Nat.zero_le _) 27 rfl rfl rfl rfl (Nat.le_of_ble_eq_true rfl) dX1_nowAir_8) (fun w8 h8 => ?_)
  refine ia0_gor E (x4z_counted (vw τ (σ 1)) n (h8.2) (hn6) (by decide) (by rw [← vwB_self]; exact hX.ta) (by rw [← vwB_self]; exact XT.nb hP hX.2.2.2.2.1) (by rw [← vwB_self]; exact hX.od)) K_X1_156 (Nat.le_of_ble_eq_true rfl) (Nat.le_of_ble_eq_true rfl) (Nat.zero_le _) (Nat.zero_le _) rfl rfl (Nat.le_of_ble_eq_true rfl) dX1_nowAir_11 (fun w11 h11 => ?_)
  show Sm pP l eE { frames := 6, cells := 0, slots := 0, locals := 150 } sS mM aA bB hM cC QQ AA D 1 0 0 (iw ad ct n τ (airU0 w8 w11) T) 14 [(0, .ref (ad 0))] [.ref (ad 27)]
  exact Rt (ad 27) (airU0 w8 w11) dX1_nowAir_14 (⟨h8.1.tr XA.up, h11.1, h11.2⟩) rfl rfl (Nat.le_refl _) (Nat.le_refl _) E.2.2.2.2.2.1
