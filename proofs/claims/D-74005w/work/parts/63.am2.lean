set_option maxRecDepth 100000
theorem K_X4_137 : KV RX4 137 RX4 yX4_sum cX4_sum 11 (some .int) 6 := ⟨q907, q909, qs27, q116, q910, by decide +kernel⟩
theorem awX4_g0_10 {p : Program} {l : Launch} {e : Env} {R : Room} {s : State} {m : MethodId} {args : Array Value} {below : List Frame} {meth : Method} {c : Code} {Q : State → Prop} {A : Nat → Prop} {D : va_G} {nL cells slots : Nat} {pc : Nat} {L : List (Nat × Value)} {S : List Value} {cc : ByteArray} {ret : Option FieldType} {gt : Nat → Nat} {ba ad : Nat → Nat} {ct : Nat → ClassId} {Nw : Nat} {τ σ ξ : Nat → Nat → Int32} (E : En p s m args meth c A cc nL RX4 ret D (tysA ct) gt) {v : Int32} (hv : σ 0 10 = v) (d : decode cc pc = .ok (.getfield 65, 3)) (K : Sm p l e R s m args below meth c Q A D nL cells slots (aw ba ct Nw σ ad τ ξ) (pc + 3) L (.int v :: S)) : Sm p l e R s m args below meth c Q A D nL cells slots (aw ba ct Nw σ ad τ ξ) pc L (.ref (ba 0) :: S) := s_get E in_X4 0 rfl rfl 10 (Nat.le_of_ble_eq_true rfl) q286 (congrArg (fun z => some (Value.int z)) hv) rfl d K
theorem K_X4_141 : KSN RX4 141 yX1_isIn "QuietChannels" cX1_isIn 3 (some .boolean) 3 := ⟨q914, q447, q113, q448, by decide +kernel⟩
theorem awX4_g0_1 {p : Program} {l : Launch} {e : Env} {R : Room} {s : State} {m : MethodId} {args : Array Value} {below : List Frame} {meth : Method} {c : Code} {Q : State → Prop} {A : Nat → Prop} {D : va_G} {nL cells slots : Nat} {pc : Nat} {L : List (Nat × Value)} {S : List Value} {cc : ByteArray} {ret : Option FieldType} {gt : Nat → Nat} {ba ad : Nat → Nat} {ct : Nat → ClassId} {Nw : Nat} {τ σ ξ : Nat → Nat → Int32} (E : En p s m args meth c A cc nL RX4 ret D (tysA ct) gt) (d : decode cc pc = .ok (.getfield 31, 3)) (K : Sm p l e R s m args below meth c Q A D nL cells slots (aw ba ct Nw σ ad τ ξ) (pc + 3) L (.ref (ba 2) :: S)) : Sm p l e R s m args below meth c Q A D nL cells slots (aw ba ct Nw σ ad τ ξ) pc L (.ref (ba 0) :: S) := s_get E in_X4 0 rfl rfl 1 (Nat.le_of_ble_eq_true rfl) q268 rfl rfl d K
theorem awX4_g11_2 {p : Program} {l : Launch} {e : Env} {R : Room} {s : State} {m : MethodId} {args : Array Value} {below : List Frame} {meth : Method} {c : Code} {Q : State → Prop} {A : Nat → Prop} {D : va_G} {nL cells slots : Nat} {pc : Nat} {L : List (Nat × Value)} {S : List Value} {cc : ByteArray} {ret : Option FieldType} {gt : Nat → Nat} {ba ad : Nat → Nat} {ct : Nat → ClassId} {Nw : Nat} {τ σ ξ : Nat → Nat → Int32} (E : En p s m args meth c A cc nL RX4 ret D (tysA ct) gt) (d : decode cc pc = .ok (.getfield 145, 3)) (K : Sm p l e R s m args below meth c Q A D nL cells slots (aw ba ct Nw σ ad τ ξ) (pc + 3) L (.ref (ad 5) :: S)) : Sm p l e R s m args below meth c Q A D nL cells slots (aw ba ct Nw σ ad τ ξ) pc L (.ref (ad 2) :: S) := s_getN E in_X2 11 rfl rfl 2 (Nat.le_of_ble_eq_true rfl) q162 rfl rfl d K
theorem aw_l12 {p : Program} {l : Launch} {e : Env} {R : Room} {s : State} {m : MethodId} {args : Array Value} {below : List Frame} {meth : Method} {c : Code} {Q : State → Prop} {A : Nat → Prop} {D : va_G} {nL cells slots : Nat} {pc : Nat} {L : List (Nat × Value)} {S : List Value} {cc : ByteArray} {ret : Option FieldType} {gt : Nat → Nat} {ba ad : Nat → Nat} {ct : Nat → ClassId} {Nw : Nat} {τ σ ξ : Nat → Nat → Int32} {own : String} (E : En p s m args meth c A cc nL own ret D (tysA ct) gt) {i v : Int32} (N : Nat) (hi : i = nI N) (hN : N < 3) (hv : losF τ N = v) (d : decode cc pc = .ok (.iaload, 1)) (K : Sm p l e R s m args below meth c Q A D nL cells slots (aw ba ct Nw σ ad τ ξ) (pc + 1) L (.int v :: S)) : Sm p l e R s m args below meth c Q A D nL cells slots (aw ba ct Nw σ ad τ ξ) pc L (.int i :: .ref (ad 5) :: S) := s_iald E 12 0 rfl rfl N hi hN (Nat.le_of_ble_eq_true rfl) hv d K
theorem awX4_g0_8 {p : Program} {l : Launch} {e : Env} {R : Room} {s : State} {m : MethodId} {args : Array Value} {below : List Frame} {meth : Method} {c : Code} {Q : State → Prop} {A : Nat → Prop} {D : va_G} {nL cells slots : Nat} {pc : Nat} {L : List (Nat × Value)} {S : List Value} {cc : ByteArray} {ret : Option FieldType} {gt : Nat → Nat} {ba ad : Nat → Nat} {ct : Nat → ClassId} {Nw : Nat} {τ σ ξ : Nat → Nat → Int32} (E : En p s m args meth c A cc nL RX4 ret D (tysA ct) gt) (d : decode cc pc = .ok (.getfield 20, 3)) (K : Sm p l e R s m args below meth c Q A D nL cells slots (aw ba ct Nw σ ad τ ξ) (pc + 3) L (.ref (ba 9) :: S)) : Sm p l e R s m args below meth c Q A D nL cells slots (aw ba ct Nw σ ad τ ξ) pc L (.ref (ba 0) :: S) := s_get E in_X4 0 rfl rfl 8 (Nat.le_of_ble_eq_true rfl) q282 rfl rfl d K
theorem aw_l9 {p : Program} {l : Launch} {e : Env} {R : Room} {s : State} {m : MethodId} {args : Array Value} {below : List Frame} {meth : Method} {c : Code} {Q : State → Prop} {A : Nat → Prop} {D : va_G} {nL cells slots : Nat} {pc : Nat} {L : List (Nat × Value)} {S : List Value} {cc : ByteArray} {ret : Option FieldType} {gt : Nat → Nat} {ba ad : Nat → Nat} {ct : Nat → ClassId} {Nw : Nat} {τ σ ξ : Nat → Nat → Int32} {own : String} (E : En p s m args meth c A cc nL own ret D (tysA ct) gt) {i v : Int32} (N : Nat) (hi : i = nI N) (hN : N < 18) (hv : σ 9 N = v) (d : decode cc pc = .ok (.iaload, 1)) (K : Sm p l e R s m args below meth c Q A D nL cells slots (aw ba ct Nw σ ad τ ξ) (pc + 1) L (.int v :: S)) : Sm p l e R s m args below meth c Q A D nL cells slots (aw ba ct Nw σ ad τ ξ) pc L (.int i :: .ref (ba 9) :: S) := s_iald E 9 0 rfl rfl N hi hN (Nat.le_of_ble_eq_true rfl) hv d K
theorem aw_s9 {p : Program} {l : Launch} {e : Env} {R : Room} {s : State} {m : MethodId} {args : Array Value} {below : List Frame} {meth : Method} {c : Code} {Q : State → Prop} {A : Nat → Prop} {D : va_G} {nL cells slots : Nat} {pc : Nat} {L : List (Nat × Value)} {S : List Value} {cc : ByteArray} {ret : Option FieldType} {gt : Nat → Nat} {ba ad : Nat → Nat} {ct : Nat → ClassId} {Nw : Nat} {τ σ ξ : Nat → Nat → Int32} {own : String} (E : En p s m args meth c A cc nL own ret D (tysA ct) gt) {i v : Int32} (N : Nat) (hi : i = nI N) (hN : N < 18) (d : decode cc pc = .ok (.iastore, 1)) (K : Sm p l e R s m args below meth c Q A D nL cells slots (aw ba ct Nw (st1 σ 9 N v) ad τ ξ) (pc + 1) L S) : Sm p l e R s m args below meth c Q A D nL cells slots (aw ba ct Nw σ ad τ ξ) pc L (.int v :: .int i :: .ref (ba 9) :: S) := s_iast E 9 0 rfl rfl N hi hN (Nat.le_of_ble_eq_true rfl) rfl d K
theorem awX4_g0_14 {p : Program} {l : Launch} {e : Env} {R : Room} {s : State} {m : MethodId} {args : Array Value} {below : List Frame} {meth : Method} {c : Code} {Q : State → Prop} {A : Nat → Prop} {D : va_G} {nL cells slots : Nat} {pc : Nat} {L : List (Nat × Value)} {S : List Value} {cc : ByteArray} {ret : Option FieldType} {gt : Nat → Nat} {ba ad : Nat → Nat} {ct : Nat → ClassId} {Nw : Nat} {τ σ ξ : Nat → Nat → Int32} (E : En p s m args meth c A cc nL RX4 ret D (tysA ct) gt) {v : Int32} (hv : σ 0 14 = v) (d : decode cc pc = .ok (.getfield 95, 3)) (K : Sm p l e R s m args below meth c Q A D nL cells slots (aw ba ct Nw σ ad τ ξ) (pc + 3) L (.int v :: S)) : Sm p l e R s m args below meth c Q A D nL cells slots (aw ba ct Nw σ ad τ ξ) pc L (.ref (ba 0) :: S) := s_get E in_X4 0 rfl rfl 14 (Nat.le_of_ble_eq_true rfl) q294 (congrArg (fun z => some (Value.int z)) hv) rfl d K
theorem awX4_p0_14 {p : Program} {l : Launch} {e : Env} {R : Room} {s : State} {m : MethodId} {args : Array Value} {below : List Frame} {meth : Method} {c : Code} {Q : State → Prop} {A : Nat → Prop} {D : va_G} {nL cells slots : Nat} {pc : Nat} {L : List (Nat × Value)} {S : List Value} {cc : ByteArray} {ret : Option FieldType} {gt : Nat → Nat} {ba ad : Nat → Nat} {ct : Nat → ClassId} {Nw : Nat} {τ σ ξ : Nat → Nat → Int32} (E : En p s m args meth c A cc nL RX4 ret D (tysA ct) gt) {v : Int32} (d : decode cc pc = .ok (.putfield 95, 3)) (K : Sm p l e R s m args below meth c Q A D nL cells slots (aw ba ct Nw (st1 σ 0 14 v) ad τ ξ) (pc + 3) L S) : Sm p l e R s m args below meth c Q A D nL cells slots (aw ba ct Nw σ ad τ ξ) pc L (.int v :: .ref (ba 0) :: S) := s_put E in_X4 tyX4 tyX4_ok nmX4 0 rfl rfl 14 (Nat.le_of_ble_eq_true rfl) q294 rfl rfl rfl rfl (Nat.le_of_ble_eq_true rfl) rfl d K
theorem awX4_g0_15 {p : Program} {l : Launch} {e : Env} {R : Room} {s : State} {m : MethodId} {args : Array Value} {below : List Frame} {meth : Method} {c : Code} {Q : State → Prop} {A : Nat → Prop} {D : va_G} {nL cells slots : Nat} {pc : Nat} {L : List (Nat × Value)} {S : List Value} {cc : ByteArray} {ret : Option FieldType} {gt : Nat → Nat} {ba ad : Nat → Nat} {ct : Nat → ClassId} {Nw : Nat} {τ σ ξ : Nat → Nat → Int32} (E : En p s m args meth c A cc nL RX4 ret D (tysA ct) gt) {v : Int32} (hv : σ 0 15 = v) (d : decode cc pc = .ok (.getfield 98, 3)) (K : Sm p l e R s m args below meth c Q A D nL cells slots (aw ba ct Nw σ ad τ ξ) (pc + 3) L (.int v :: S)) : Sm p l e R s m args below meth c Q A D nL cells slots (aw ba ct Nw σ ad τ ξ) pc L (.ref (ba 0) :: S) := s_get E in_X4 0 rfl rfl 15 (Nat.le_of_ble_eq_true rfl) q296 (congrArg (fun z => some (Value.int z)) hv) rfl d K
theorem awX4_p0_15 {p : Program} {l : Launch} {e : Env} {R : Room} {s : State} {m : MethodId} {args : Array Value} {below : List Frame} {meth : Method} {c : Code} {Q : State → Prop} {A : Nat → Prop} {D : va_G} {nL cells slots : Nat} {pc : Nat} {L : List (Nat × Value)} {S : List Value} {cc : ByteArray} {ret : Option FieldType} {gt : Nat → Nat} {ba ad : Nat → Nat} {ct : Nat → ClassId} {Nw : Nat} {τ σ ξ : Nat → Nat → Int32} (E : En p s m args meth c A cc nL RX4 ret D (tysA ct) gt) {v : Int32} (d : decode cc pc = .ok (.putfield 98, 3)) (K : Sm p l e R s m args below meth c Q A D nL cells slots (aw ba ct Nw (st1 σ 0 15 v) ad τ ξ) (pc + 3) L S) : Sm p l e R s m args below meth c Q A D nL cells slots (aw ba ct Nw σ ad τ ξ) pc L (.int v :: .ref (ba 0) :: S) := s_put E in_X4 tyX4 tyX4_ok nmX4 0 rfl rfl 15 (Nat.le_of_ble_eq_true rfl) q296 rfl rfl rfl rfl (Nat.le_of_ble_eq_true rfl) rfl d K
theorem awX4_p0_16 {p : Program} {l : Launch} {e : Env} {R : Room} {s : State} {m : MethodId} {args : Array Value} {below : List Frame} {meth : Method} {c : Code} {Q : State → Prop} {A : Nat → Prop} {D : va_G} {nL cells slots : Nat} {pc : Nat} {L : List (Nat × Value)} {S : List Value} {cc : ByteArray} {ret : Option FieldType} {gt : Nat → Nat} {ba ad : Nat → Nat} {ct : Nat → ClassId} {Nw : Nat} {τ σ ξ : Nat → Nat → Int32} (E : En p s m args meth c A cc nL RX4 ret D (tysA ct) gt) {v : Int32} (d : decode cc pc = .ok (.putfield 101, 3)) (K : Sm p l e R s m args below meth c Q A D nL cells slots (aw ba ct Nw (st1 σ 0 16 v) ad τ ξ) (pc + 3) L S) : Sm p l e R s m args below meth c Q A D nL cells slots (aw ba ct Nw σ ad τ ξ) pc L (.int v :: .ref (ba 0) :: S) := s_put E in_X4 tyX4 tyX4_ok nmX4 0 rfl rfl 16 (Nat.le_of_ble_eq_true rfl) q298 rfl rfl rfl rfl (Nat.le_of_ble_eq_true rfl) rfl d K
theorem awX4_g0_18 {p : Program} {l : Launch} {e : Env} {R : Room} {s : State} {m : MethodId} {args : Array Value} {below : List Frame} {meth : Method} {c : Code} {Q : State → Prop} {A : Nat → Prop} {D : va_G} {nL cells slots : Nat} {pc : Nat} {L : List (Nat × Value)} {S : List Value} {cc : ByteArray} {ret : Option FieldType} {gt : Nat → Nat} {ba ad : Nat → Nat} {ct : Nat → ClassId} {Nw : Nat} {τ σ ξ : Nat → Nat → Int32} (E : En p s m args meth c A cc nL RX4 ret D (tysA ct) gt) {v : Int32} (hv : σ 0 18 = v) (d : decode cc pc = .ok (.getfield 24, 3)) (K : Sm p l e R s m args below meth c Q A D nL cells slots (aw ba ct Nw σ ad τ ξ) (pc + 3) L (.int v :: S)) : Sm p l e R s m args below meth c Q A D nL cells slots (aw ba ct Nw σ ad τ ξ) pc L (.ref (ba 0) :: S) := s_get E in_X4 0 rfl rfl 18 (Nat.le_of_ble_eq_true rfl) q302 (congrArg (fun z => some (Value.int z)) hv) rfl d K
theorem awX4_p0_19 {p : Program} {l : Launch} {e : Env} {R : Room} {s : State} {m : MethodId} {args : Array Value} {below : List Frame} {meth : Method} {c : Code} {Q : State → Prop} {A : Nat → Prop} {D : va_G} {nL cells slots : Nat} {pc : Nat} {L : List (Nat × Value)} {S : List Value} {cc : ByteArray} {ret : Option FieldType} {gt : Nat → Nat} {ba ad : Nat → Nat} {ct : Nat → ClassId} {Nw : Nat} {τ σ ξ : Nat → Nat → Int32} (E : En p s m args meth c A cc nL RX4 ret D (tysA ct) gt) {v : Int32} (d : decode cc pc = .ok (.putfield 164, 3)) (K : Sm p l e R s m args below meth c Q A D nL cells slots (aw ba ct Nw (st1 σ 0 19 v) ad τ ξ) (pc + 3) L S) : Sm p l e R s m args below meth c Q A D nL cells slots (aw ba ct Nw σ ad τ ξ) pc L (.int v :: .ref (ba 0) :: S) := s_put E in_X4 tyX4 tyX4_ok nmX4 0 rfl rfl 19 (Nat.le_of_ble_eq_true rfl) q303 rfl rfl rfl rfl (Nat.le_of_ble_eq_true rfl) rfl d K
theorem awX4_p0_20 {p : Program} {l : Launch} {e : Env} {R : Room} {s : State} {m : MethodId} {args : Array Value} {below : List Frame} {meth : Method} {c : Code} {Q : State → Prop} {A : Nat → Prop} {D : va_G} {nL cells slots : Nat} {pc : Nat} {L : List (Nat × Value)} {S : List Value} {cc : ByteArray} {ret : Option FieldType} {gt : Nat → Nat} {ba ad : Nat → Nat} {ct : Nat → ClassId} {Nw : Nat} {τ σ ξ : Nat → Nat → Int32} (E : En p s m args meth c A cc nL RX4 ret D (tysA ct) gt) {v : Int32} (d : decode cc pc = .ok (.putfield 167, 3)) (K : Sm p l e R s m args below meth c Q A D nL cells slots (aw ba ct Nw (st1 σ 0 20 v) ad τ ξ) (pc + 3) L S) : Sm p l e R s m args below meth c Q A D nL cells slots (aw ba ct Nw σ ad τ ξ) pc L (.int v :: .ref (ba 0) :: S) := s_put E in_X4 tyX4 tyX4_ok nmX4 0 rfl rfl 20 (Nat.le_of_ble_eq_true rfl) q305 rfl rfl rfl rfl (Nat.le_of_ble_eq_true rfl) rfl d K
theorem awX4_p0_21 {p : Program} {l : Launch} {e : Env} {R : Room} {s : State} {m : MethodId} {args : Array Value} {below : List Frame} {meth : Method} {c : Code} {Q : State → Prop} {A : Nat → Prop} {D : va_G} {nL cells slots : Nat} {pc : Nat} {L : List (Nat × Value)} {S : List Value} {cc : ByteArray} {ret : Option FieldType} {gt : Nat → Nat} {ba ad : Nat → Nat} {ct : Nat → ClassId} {Nw : Nat} {τ σ ξ : Nat → Nat → Int32} (E : En p s m args meth c A cc nL RX4 ret D (tysA ct) gt) {v : Int32} (d : decode cc pc = .ok (.putfield 170, 3)) (K : Sm p l e R s m args below meth c Q A D nL cells slots (aw ba ct Nw (st1 σ 0 21 v) ad τ ξ) (pc + 3) L S) : Sm p l e R s m args below meth c Q A D nL cells slots (aw ba ct Nw σ ad τ ξ) pc L (.int v :: .ref (ba 0) :: S) := s_put E in_X4 tyX4 tyX4_ok nmX4 0 rfl rfl 21 (Nat.le_of_ble_eq_true rfl) q307 rfl rfl rfl rfl (Nat.le_of_ble_eq_true rfl) rfl d K
theorem awX4_p0_22 {p : Program} {l : Launch} {e : Env} {R : Room} {s : State} {m : MethodId} {args : Array Value} {below : List Frame} {meth : Method} {c : Code} {Q : State → Prop} {A : Nat → Prop} {D : va_G} {nL cells slots : Nat} {pc : Nat} {L : List (Nat × Value)} {S : List Value} {cc : ByteArray} {ret : Option FieldType} {gt : Nat → Nat} {ba ad : Nat → Nat} {ct : Nat → ClassId} {Nw : Nat} {τ σ ξ : Nat → Nat → Int32} (E : En p s m args meth c A cc nL RX4 ret D (tysA ct) gt) {v : Int32} (d : decode cc pc = .ok (.putfield 173, 3)) (K : Sm p l e R s m args below meth c Q A D nL cells slots (aw ba ct Nw (st1 σ 0 22 v) ad τ ξ) (pc + 3) L S) : Sm p l e R s m args below meth c Q A D nL cells slots (aw ba ct Nw σ ad τ ξ) pc L (.int v :: .ref (ba 0) :: S) := s_put E in_X4 tyX4 tyX4_ok nmX4 0 rfl rfl 22 (Nat.le_of_ble_eq_true rfl) q309 rfl rfl rfl rfl (Nat.le_of_ble_eq_true rfl) rfl d K
theorem awX4_p0_23 {p : Program} {l : Launch} {e : Env} {R : Room} {s : State} {m : MethodId} {args : Array Value} {below : List Frame} {meth : Method} {c : Code} {Q : State → Prop} {A : Nat → Prop} {D : va_G} {nL cells slots : Nat} {pc : Nat} {L : List (Nat × Value)} {S : List Value} {cc : ByteArray} {ret : Option FieldType} {gt : Nat → Nat} {ba ad : Nat → Nat} {ct : Nat → ClassId} {Nw : Nat} {τ σ ξ : Nat → Nat → Int32} (E : En p s m args meth c A cc nL RX4 ret D (tysA ct) gt) {v : Int32} (d : decode cc pc = .ok (.putfield 176, 3)) (K : Sm p l e R s m args below meth c Q A D nL cells slots (aw ba ct Nw (st1 σ 0 23 v) ad τ ξ) (pc + 3) L S) : Sm p l e R s m args below meth c Q A D nL cells slots (aw ba ct Nw σ ad τ ξ) pc L (.int v :: .ref (ba 0) :: S) := s_put E in_X4 tyX4 tyX4_ok nmX4 0 rfl rfl 23 (Nat.le_of_ble_eq_true rfl) q311 rfl rfl rfl rfl (Nat.le_of_ble_eq_true rfl) rfl d K
theorem awX4_p0_24 {p : Program} {l : Launch} {e : Env} {R : Room} {s : State} {m : MethodId} {args : Array Value} {below : List Frame} {meth : Method} {c : Code} {Q : State → Prop} {A : Nat → Prop} {D : va_G} {nL cells slots : Nat} {pc : Nat} {L : List (Nat × Value)} {S : List Value} {cc : ByteArray} {ret : Option FieldType} {gt : Nat → Nat} {ba ad : Nat → Nat} {ct : Nat → ClassId} {Nw : Nat} {τ σ ξ : Nat → Nat → Int32} (E : En p s m args meth c A cc nL RX4 ret D (tysA ct) gt) {v : Int32} (d : decode cc pc = .ok (.putfield 179, 3)) (K : Sm p l e R s m args below meth c Q A D nL cells slots (aw ba ct Nw (st1 σ 0 24 v) ad τ ξ) (pc + 3) L S) : Sm p l e R s m args below meth c Q A D nL cells slots (aw ba ct Nw σ ad τ ξ) pc L (.int v :: .ref (ba 0) :: S) := s_put E in_X4 tyX4 tyX4_ok nmX4 0 rfl rfl 24 (Nat.le_of_ble_eq_true rfl) q313 rfl rfl rfl rfl (Nat.le_of_ble_eq_true rfl) rfl d K
theorem awX4_p0_25 {p : Program} {l : Launch} {e : Env} {R : Room} {s : State} {m : MethodId} {args : Array Value} {below : List Frame} {meth : Method} {c : Code} {Q : State → Prop} {A : Nat → Prop} {D : va_G} {nL cells slots : Nat} {pc : Nat} {L : List (Nat × Value)} {S : List Value} {cc : ByteArray} {ret : Option FieldType} {gt : Nat → Nat} {ba ad : Nat → Nat} {ct : Nat → ClassId} {Nw : Nat} {τ σ ξ : Nat → Nat → Int32} (E : En p s m args meth c A cc nL RX4 ret D (tysA ct) gt) {v : Int32} (d : decode cc pc = .ok (.putfield 182, 3)) (K : Sm p l e R s m args below meth c Q A D nL cells slots (aw ba ct Nw (st1 σ 0 25 v) ad τ ξ) (pc + 3) L S) : Sm p l e R s m args below meth c Q A D nL cells slots (aw ba ct Nw σ ad τ ξ) pc L (.int v :: .ref (ba 0) :: S) := s_put E in_X4 tyX4 tyX4_ok nmX4 0 rfl rfl 25 (Nat.le_of_ble_eq_true rfl) q315 rfl rfl rfl rfl (Nat.le_of_ble_eq_true rfl) rfl d K
theorem awX4_g0_26 {p : Program} {l : Launch} {e : Env} {R : Room} {s : State} {m : MethodId} {args : Array Value} {below : List Frame} {meth : Method} {c : Code} {Q : State → Prop} {A : Nat → Prop} {D : va_G} {nL cells slots : Nat} {pc : Nat} {L : List (Nat × Value)} {S : List Value} {cc : ByteArray} {ret : Option FieldType} {gt : Nat → Nat} {ba ad : Nat → Nat} {ct : Nat → ClassId} {Nw : Nat} {τ σ ξ : Nat → Nat → Int32} (E : En p s m args meth c A cc nL RX4 ret D (tysA ct) gt) {v : Int32} (hv : σ 0 26 = v) (d : decode cc pc = .ok (.getfield 104, 3)) (K : Sm p l e R s m args below meth c Q A D nL cells slots (aw ba ct Nw σ ad τ ξ) (pc + 3) L (.int v :: S)) : Sm p l e R s m args below meth c Q A D nL cells slots (aw ba ct Nw σ ad τ ξ) pc L (.ref (ba 0) :: S) := s_get E in_X4 0 rfl rfl 26 (Nat.le_of_ble_eq_true rfl) q317 (congrArg (fun z => some (Value.int z)) hv) rfl d K
theorem awX4_p0_26 {p : Program} {l : Launch} {e : Env} {R : Room} {s : State} {m : MethodId} {args : Array Value} {below : List Frame} {meth : Method} {c : Code} {Q : State → Prop} {A : Nat → Prop} {D : va_G} {nL cells slots : Nat} {pc : Nat} {L : List (Nat × Value)} {S : List Value} {cc : ByteArray} {ret : Option FieldType} {gt : Nat → Nat} {ba ad : Nat → Nat} {ct : Nat → ClassId} {Nw : Nat} {τ σ ξ : Nat → Nat → Int32} (E : En p s m args meth c A cc nL RX4 ret D (tysA ct) gt) {v : Int32} (d : decode cc pc = .ok (.putfield 104, 3)) (K : Sm p l e R s m args below meth c Q A D nL cells slots (aw ba ct Nw (st1 σ 0 26 v) ad τ ξ) (pc + 3) L S) : Sm p l e R s m args below meth c Q A D nL cells slots (aw ba ct Nw σ ad τ ξ) pc L (.int v :: .ref (ba 0) :: S) := s_put E in_X4 tyX4 tyX4_ok nmX4 0 rfl rfl 26 (Nat.le_of_ble_eq_true rfl) q317 rfl rfl rfl rfl (Nat.le_of_ble_eq_true rfl) rfl d K
theorem awX4_p0_27 {p : Program} {l : Launch} {e : Env} {R : Room} {s : State} {m : MethodId} {args : Array Value} {below : List Frame} {meth : Method} {c : Code} {Q : State → Prop} {A : Nat → Prop} {D : va_G} {nL cells slots : Nat} {pc : Nat} {L : List (Nat × Value)} {S : List Value} {cc : ByteArray} {ret : Option FieldType} {gt : Nat → Nat} {ba ad : Nat → Nat} {ct : Nat → ClassId} {Nw : Nat} {τ σ ξ : Nat → Nat → Int32} (E : En p s m args meth c A cc nL RX4 ret D (tysA ct) gt) {v : Int32} (d : decode cc pc = .ok (.putfield 161, 3)) (K : Sm p l e R s m args below meth c Q A D nL cells slots (aw ba ct Nw (st1 σ 0 27 v) ad τ ξ) (pc + 3) L S) : Sm p l e R s m args below meth c Q A D nL cells slots (aw ba ct Nw σ ad τ ξ) pc L (.int v :: .ref (ba 0) :: S) := s_put E in_X4 tyX4 tyX4_ok nmX4 0 rfl rfl 27 (Nat.le_of_ble_eq_true rfl) q319 rfl rfl rfl rfl (Nat.le_of_ble_eq_true rfl) rfl d K
theorem awX4_g0_27 {p : Program} {l : Launch} {e : Env} {R : Room} {s : State} {m : MethodId} {args : Array Value} {below : List Frame} {meth : Method} {c : Code} {Q : State → Prop} {A : Nat → Prop} {D : va_G} {nL cells slots : Nat} {pc : Nat} {L : List (Nat × Value)} {S : List Value} {cc : ByteArray} {ret : Option FieldType} {gt : Nat → Nat} {ba ad : Nat → Nat} {ct : Nat → ClassId} {Nw : Nat} {τ σ ξ : Nat → Nat → Int32} (E : En p s m args meth c A cc nL RX4 ret D (tysA ct) gt) {v : Int32} (hv : σ 0 27 = v) (d : decode cc pc = .ok (.getfield 161, 3)) (K : Sm p l e R s m args below meth c Q A D nL cells slots (aw ba ct Nw σ ad τ ξ) (pc + 3) L (.int v :: S)) : Sm p l e R s m args below meth c Q A D nL cells slots (aw ba ct Nw σ ad τ ξ) pc L (.ref (ba 0) :: S) := s_get E in_X4 0 rfl rfl 27 (Nat.le_of_ble_eq_true rfl) q319 (congrArg (fun z => some (Value.int z)) hv) rfl d K
theorem K_X4_152 : KV RX4 152 RX4 yX4_counts cX4_counts 8 none 5 := ⟨q922, q924, qs29, q116, q925, by decide +kernel⟩
theorem K_X4_148 : KV RX4 148 RX4 yX4_isHit cX4_isHit 8 (some .boolean) 5 := ⟨q915, q917, qs28, q116, q918, by decide +kernel⟩
set_option maxHeartbeats 4000000 in
set_option maxRecDepth 100000 in
theorem x4z_makes {l : Launch} {D : va_G} {gt : Nat → Nat} {ba ad : Nat → Nat} {ct : Nat → ClassId} {Nw : Nat} {τ σ ξ : Nat → Nat → Int32} (s : Nat → Nat → Int32) (n : Nat) (sg : Int32) (L : List Pr) (k u v : Nat) (hL : AM s n sg L σ) (hnN : n ≤ Nw) (hN8 : Nw ≤ 8) (hT : TA s τ n) (hB : NB s n) (hk : k < 6) (hu : u < n) (hv : v < n) (huv : u ≠ v) (hlen : (L ++ okL s (k, u, v, none)).length ≤ 9216) : Cv l D gt yX4_makes cX4_makes 10 2 51 0 0 [.ref (ba 0), .int (nI k), .int (nI u), .int (nI v), .int ((-1))] (aw ba ct Nw σ ad τ ξ) (tysA ct) (fun σ2 => AM s n sg (L ++ okL s (k, u, v, none)) σ2) (fun σ2 : Nat → Nat → Int32 => aw ba ct Nw σ2 ad τ ξ) (fun _ => tysA ct) := by
  refine Cv.start RX4 (by decide) rfl (Nat.le_of_ble_eq_true rfl) rfl ?_
  intro pP eE sS mM aA bB hM cC QQ AA E Rt
  have hA := hL.1.1
  have h256 : hsQ s n (k, u, v, none) < 256 := setN_256 _ (by omega)
  refine s_aload_n E dX4_makes_0 (i := 0) (j := 0) rfl rfl ?_
  refine s_iload_n E dX4_makes_1 (i := 1) (j := 1) rfl rfl ?_
  refine s_aload_n E dX4_makes_2 (i := 0) (j := 0) rfl rfl ?_
  refine awX4_g0_2 E dX4_makes_3 ?_
  refine s_iload_n E dX4_makes_6 (i := 2) (j := 2) rfl rfl ?_
  refine s_iload_n E dX4_makes_7 (i := 3) (j := 3) rfl rfl ?_
  refine s_iload E dX4_makes_8 (i := 4) (j := 4) rfl ?_
  refine s_iconst E dX4_makes_10 (v := nI 1) (by decide) ?_
  refine c_goi0 E (rV E (cutS _ _) (x4z_sumC s n k u v (hA) (hnN) (hN8) (hk) (hu) (hv)) K_X4_137 (Nat.le_of_ble_eq_true rfl) (Nat.le_of_ble_eq_true rfl) (Nat.zero_le _) (Nat.zero_le _) 0 rfl rfl rfl rfl (Nat.le_of_ble_eq_true rfl) dX4_makes_11) (fun r11 w11 h11 => ?_)
  obtain ⟨rfl, rfl⟩ := h11
  refine s_istore E (L2 := [(5, .int (pvF s (k, u, v, none))), (0, .ref (ba 0)), (1, .int (nI k)), (2, .int (nI u)), (3, .int (nI v)), (4, .int ((-1)))]) dX4_makes_14 (Nat.le_of_ble_eq_true rfl) rfl ?_
  refine s_iload E dX4_makes_16 (i := 5) (j := 0) rfl ?_
  refine s_iconst E dX4_makes_18 (v := nI 1) (by decide) ?_
  refine s_aload_n E dX4_makes_19 (i := 0) (j := 1) rfl rfl ?_
  refine awX4_g0_10 E (v := s 0 30) (hA.2.1) dX4_makes_20 ?_
  refine c_gos E (rSN E (cutZ _ _) (x1z_isIn (pvF s (k, u, v, none)) (nI 1) (s 0 30)) K_X4_141 (Nat.le_of_ble_eq_true rfl) (Nat.le_of_ble_eq_true rfl) (Nat.zero_le _) (Nat.zero_le _) rfl rfl (Nat.le_of_ble_eq_true rfl) dX4_makes_23) (fun r23 h23 => ?_)
  subst h23
  refine s_if_ne E dX4_makes_26 (tgt := 30) rfl (fun c26 => ?_) (fun c26 => ?_)
  · have c26 := bI_n0 c26
    refine s_aload_n E dX4_makes_30 (i := 0) (j := 1) rfl rfl ?_
    refine awX4_g0_5 E dX4_makes_31 ?_
    refine s_iload_n E dX4_makes_34 (i := 2) (j := 3) rfl rfl ?_
    refine aw_l6 E (v := s 25 (73 + u)) (u) (rfl) (by omega) hN8 ((hA.2.2.2.2.2 u (by omega)).2.2.2) dX4_makes_35 ?_
    refine s_aload_n E dX4_makes_36 (i := 0) (j := 1) rfl rfl ?_
    refine awX4_g0_5 E dX4_makes_37 ?_
    refine s_iload_n E dX4_makes_40 (i := 3) (j := 4) rfl rfl ?_
    refine aw_l6 E (v := s 25 (73 + v)) (v) (rfl) (by omega) hN8 ((hA.2.2.2.2.2 v (by omega)).2.2.2) dX4_makes_41 ?_
    refine s_iand E dX4_makes_42 ?_
    refine s_iload E dX4_makes_43 (i := 4) (j := 5) rfl ?_
    refine s_if_ge E dX4_makes_45 (tgt := 54) rfl (fun c45 => absurd c45 (by decide)) (fun c45 => ?_)
    have c45 := Int32.not_le.mp c45
    refine s_sipush E dX4_makes_48 (v := nI 255) (by decide) ?_
    refine s_goto E dX4_makes_51 (tgt := 61) rfl ?_
    refine s_iand_ E dX4_makes_61 (v := pcF s (k, u, v, none)) (rfl) ?_
    refine s_istore E (L2 := [(6, .int (pcF s (k, u, v, none))), (5, .int (pvF s (k, u, v, none))), (0, .ref (ba 0)), (1, .int (nI k)), (2, .int (nI u)), (3, .int (nI v)), (4, .int ((-1)))]) dX4_makes_62 (Nat.le_of_ble_eq_true rfl) rfl ?_
    refine s_iload E dX4_makes_64 (i := 6) (j := 0) rfl ?_
    refine s_if_ne E dX4_makes_66 (tgt := 70) rfl (fun c66 => ?_) (fun c66 => ?_)
    · refine s_aload_n E dX4_makes_70 (i := 0) (j := 2) rfl rfl ?_
      refine s_iload_n E dX4_makes_71 (i := 1) (j := 3) rfl rfl ?_
      refine s_aload_n E dX4_makes_72 (i := 0) (j := 2) rfl rfl ?_
      refine awX4_g0_1 E dX4_makes_73 ?_
      refine s_iload_n E dX4_makes_76 (i := 2) (j := 4) rfl rfl ?_
      refine s_iload_n E dX4_makes_77 (i := 3) (j := 5) rfl rfl ?_
      refine s_iload E dX4_makes_78 (i := 4) (j := 6) rfl ?_
      refine s_iconst E dX4_makes_80 (v := nI 0) (by decide) ?_
      refine c_goi0 E (rV E (cutS _ _) (x4z_sumP s n k u v (hA) (hnN) (hN8) (hk) (hu) (hv)) K_X4_137 (Nat.le_of_ble_eq_true rfl) (Nat.le_of_ble_eq_true rfl) (Nat.zero_le _) (Nat.zero_le _) 0 rfl rfl rfl rfl (Nat.le_of_ble_eq_true rfl) dX4_makes_81) (fun r81 w81 h81 => ?_)
      obtain ⟨rfl, rfl⟩ := h81
      refine s_aload_n E dX4_makes_84 (i := 0) (j := 2) rfl rfl ?_
      refine awX4_g0_28 E dX4_makes_85 ?_
      refine awX4_g10_4 E dX4_makes_88 ?_
      refine awX4_g11_2 E dX4_makes_91 ?_
      refine s_getsN E E.2.2.2.2.2.2.1.1.2.2.1 q891 dX4_makes_94 ?_
      refine s_iload_n E dX4_makes_97 (i := 1) (j := 3) rfl rfl ?_
      refine s_tald E E.2.2.2.2.2.2.1.1.2.2.2.1 (k) (rfl) (by omega) (by decide) (v := .int (nI (k / 2))) (congrArg Value.int (order_at k hk)) dX4_makes_98 ?_
      refine aw_l12 E (v := s 3 (4 + k / 2)) (k / 2) (rfl) (by omega) (by unfold losF; rw [if_pos (by omega)]; exact hT.1 _ (by omega)) dX4_makes_99 ?_
      refine s_isub_ E dX4_makes_100 (v := plF s (k, u, v, none)) (plF_pu s (k, u, v, none)) ?_
      refine s_istore E (L2 := [(7, .int (plF s (k, u, v, none))), (6, .int (pcF s (k, u, v, none))), (5, .int (pvF s (k, u, v, none))), (0, .ref (ba 0)), (1, .int (nI k)), (2, .int (nI u)), (3, .int (nI v)), (4, .int ((-1)))]) dX4_makes_101 (Nat.le_of_ble_eq_true rfl) rfl ?_
      refine s_iconst E dX4_makes_103 (v := nI 0) (by decide) ?_
      refine s_istore E (L2 := [(8, .int (nI 0)), (7, .int (plF s (k, u, v, none))), (6, .int (pcF s (k, u, v, none))), (5, .int (pvF s (k, u, v, none))), (0, .ref (ba 0)), (1, .int (nI k)), (2, .int (nI u)), (3, .int (nI v)), (4, .int ((-1)))]) dX4_makes_104 (Nat.le_of_ble_eq_true rfl) rfl ?_
      have J178 : Sm pP l eE { frames := 2, cells := 0, slots := 0, locals := 51 } sS mM aA bB hM cC QQ AA D 10 0 0 (aw ba ct Nw (nearW s (k, u, v, none) σ n) ad τ ξ) 178 [(0, .ref (ba 0)), (1, .int (nI k)), (2, .int (nI u)), (3, .int (nI v)), (4, .int ((-1))), (5, .int (pvF s (k, u, v, none))), (6, .int (pcF s (k, u, v, none))), (7, .int (plF s (k, u, v, none))), (8, .int (nI (hsQ s n (k, u, v, none))))] [] := by
        have J197 : Sm pP l eE { frames := 2, cells := 0, slots := 0, locals := 51 } sS mM aA bB hM cC QQ AA D 10 0 0 (aw ba ct Nw (mkZ s n (k, u, v, none) sg σ) ad τ ξ) 197 [(0, .ref (ba 0)), (1, .int (nI k)), (2, .int (nI u)), (3, .int (nI v)), (4, .int ((-1))), (5, .int (pvF s (k, u, v, none))), (6, .int (pcF s (k, u, v, none))), (7, .int (plF s (k, u, v, none))), (8, .int (nI (hsQ s n (k, u, v, none))))] [] := by
          obtain ⟨Z, hZ⟩ : ∃ Z, Z = mkZ s n (k, u, v, none) sg σ := ⟨_, rfl⟩
          refine s_ws (ws2 := aw ba ct Nw Z ad τ ξ) (congrArg (fun z => aw ba ct Nw z ad τ ξ) (show _ = _ from by rw [hZ])) ?_
          refine s_aload_n E dX4_makes_197 (i := 0) (j := 0) rfl rfl ?_
          refine awX4_g0_8 E dX4_makes_198 ?_
          refine s_iconst E dX4_makes_201 (v := nI 3) (by decide) ?_
          refine s_iload_n E dX4_makes_202 (i := 1) (j := 1) rfl rfl ?_
          refine s_imul_ E dX4_makes_203 (v := nI (3 * k)) (pk_mul _ _) ?_
          refine s_dup2 E dX4_makes_204 rfl rfl ?_
          refine aw_l9 E (v := Z 9 (3 * k)) (3 * k) (rfl) (by omega) (rfl) dX4_makes_205 ?_
          refine s_iconst E dX4_makes_206 (v := nI 1) (by decide) ?_
          refine s_iadd E dX4_makes_207 ?_
          refine aw_s9 E (3 * k) (rfl) (by omega) dX4_makes_208 ?_
          refine s_aload_n E dX4_makes_209 (i := 0) (j := 0) rfl rfl ?_
          refine awX4_g0_8 E dX4_makes_210 ?_
          refine s_iconst E dX4_makes_213 (v := nI 3) (by decide) ?_
          refine s_iload_n E dX4_makes_214 (i := 1) (j := 1) rfl rfl ?_
          refine s_imul_ E dX4_makes_215 (v := nI (3 * k)) (pk_mul _ _) ?_
          refine s_iconst E dX4_makes_216 (v := nI 1) (by decide) ?_
          refine s_iadd_ E dX4_makes_217 (v := nI ((3 * k) + 1)) (nI_add _ _) ?_
          refine s_dup2 E dX4_makes_218 rfl rfl ?_
          refine aw_l9 E (v := Z 9 (3 * k + 1)) ((3 * k) + 1) (rfl) (by omega) (st1_nj (by omega)) dX4_makes_219 ?_
          refine s_iload E dX4_makes_220 (i := 7) (j := 7) rfl ?_
          have J230 : Sm pP l eE { frames := 2, cells := 0, slots := 0, locals := 51 } sS mM aA bB hM cC QQ AA D 10 0 0 (aw ba ct Nw (st1 Z 9 (3 * k) ((Z 9 (3 * k)) + (nI 1))) ad τ ξ) 230 [(0, .ref (ba 0)), (1, .int (nI k)), (2, .int (nI u)), (3, .int (nI v)), (4, .int ((-1))), (5, .int (pvF s (k, u, v, none))), (6, .int (pcF s (k, u, v, none))), (7, .int (plF s (k, u, v, none))), (8, .int (nI (hsQ s n (k, u, v, none))))] [.int (nI (if plF s (k, u, v, none) < 0 then 0 else 1)), .int (Z 9 (3 * k + 1)), .int (nI ((3 * k) + 1)), .ref (ba 9)] := by
            refine s_iadd E dX4_makes_230 ?_
            refine aw_s9 E ((3 * k) + 1) (rfl) (by omega) dX4_makes_231 ?_
            refine s_aload_n E dX4_makes_232 (i := 0) (j := 0) rfl rfl ?_
            refine awX4_g0_8 E dX4_makes_233 ?_
            refine s_iconst E dX4_makes_236 (v := nI 3) (by decide) ?_
            refine s_iload_n E dX4_makes_237 (i := 1) (j := 1) rfl rfl ?_
            refine s_imul_ E dX4_makes_238 (v := nI (3 * k)) (pk_mul _ _) ?_
            refine s_iconst E dX4_makes_239 (v := nI 2) (by decide) ?_
            refine s_iadd_ E dX4_makes_240 (v := nI ((3 * k) + 2)) (nI_add _ _) ?_
            refine s_dup2 E dX4_makes_241 rfl rfl ?_
            refine aw_l9 E (v := Z 9 (3 * k + 2)) ((3 * k) + 2) (rfl) (by omega) ((st1_nj (by omega)).trans (st1_nj (by omega))) dX4_makes_242 ?_
            refine s_iload E dX4_makes_243 (i := 8) (j := 8) rfl ?_
            refine c_gos E (rS E (cutZ _ _) (j8z_bitCount (hsQ s n (k, u, v, none)) (h256)) K_X4_156 (Nat.le_of_ble_eq_true rfl) (Nat.le_of_ble_eq_true rfl) (Nat.zero_le _) (Nat.zero_le _) rfl rfl (Nat.le_of_ble_eq_true rfl) dX4_makes_245) (fun r245 h245 => ?_)
            subst h245
            refine s_iadd E dX4_makes_248 ?_
            refine aw_s9 E ((3 * k) + 2) (rfl) (by omega) dX4_makes_249 ?_
            refine s_ws (ws2 := aw ba ct Nw (srS k (hsQ s n (k, u, v, none)) (plF s (k, u, v, none)) Z) ad τ ξ) (congrArg (fun z => aw ba ct Nw z ad τ ξ) (rfl)) ?_
            have J285 : Sm pP l eE { frames := 2, cells := 0, slots := 0, locals := 51 } sS mM aA bB hM cC QQ AA D 10 0 0 (aw ba ct Nw (ldS (hsQ s n (k, u, v, none)) (plF s (k, u, v, none)) (srS k (hsQ s n (k, u, v, none)) (plF s (k, u, v, none)) Z)) ad τ ξ) 285 [(0, .ref (ba 0)), (1, .int (nI k)), (2, .int (nI u)), (3, .int (nI v)), (4, .int ((-1))), (5, .int (pvF s (k, u, v, none))), (6, .int (pcF s (k, u, v, none))), (7, .int (plF s (k, u, v, none))), (8, .int (nI (hsQ s n (k, u, v, none))))] [] := by
              have J345 : Sm pP l eE { frames := 2, cells := 0, slots := 0, locals := 51 } sS mM aA bB hM cC QQ AA D 10 0 0 (aw ba ct Nw (skS s n (k, u, v, none) (ldS (hsQ s n (k, u, v, none)) (plF s (k, u, v, none)) (srS k (hsQ s n (k, u, v, none)) (plF s (k, u, v, none)) Z))) ad τ ξ) 345 [(0, .ref (ba 0)), (1, .int (nI k)), (2, .int (nI u)), (3, .int (nI v)), (4, .int ((-1))), (5, .int (pvF s (k, u, v, none))), (6, .int (pcF s (k, u, v, none))), (7, .int (plF s (k, u, v, none))), (8, .int (nI (hsQ s n (k, u, v, none))))] [] := by
                refine s_aload_n E dX4_makes_345 (i := 0) (j := 0) rfl rfl ?_
                refine s_dup E dX4_makes_346 rfl ?_
                refine awX4_g0_14 E (v := (skS s n (k, u, v, none) (ldS (hsQ s n (k, u, v, none)) (plF s (k, u, v, none)) (srS k (hsQ s n (k, u, v, none)) (plF s (k, u, v, none)) Z))) 0 14) (rfl) dX4_makes_347 ?_
                refine s_iconst E dX4_makes_350 (v := nI 1) (by decide) ?_
                refine s_iadd E dX4_makes_351 ?_
                refine awX4_p0_14 E dX4_makes_352 ?_
                refine s_aload_n E dX4_makes_355 (i := 0) (j := 0) rfl rfl ?_
                refine s_dup E dX4_makes_356 rfl ?_
                refine awX4_g0_15 E (v := (skS s n (k, u, v, none) (ldS (hsQ s n (k, u, v, none)) (plF s (k, u, v, none)) (srS k (hsQ s n (k, u, v, none)) (plF s (k, u, v, none)) Z))) 0 15) (rfl) dX4_makes_357 ?_
                refine s_iload E dX4_makes_360 (i := 7) (j := 7) rfl ?_
                have J370 : Sm pP l eE { frames := 2, cells := 0, slots := 0, locals := 51 } sS mM aA bB hM cC QQ AA D 10 0 0 (aw ba ct Nw (st1 (skS s n (k, u, v, none) (ldS (hsQ s n (k, u, v, none)) (plF s (k, u, v, none)) (srS k (hsQ s n (k, u, v, none)) (plF s (k, u, v, none)) Z))) 0 14 (((skS s n (k, u, v, none) (ldS (hsQ s n (k, u, v, none)) (plF s (k, u, v, none)) (srS k (hsQ s n (k, u, v, none)) (plF s (k, u, v, none)) Z))) 0 14) + (nI 1))) ad τ ξ) 370 [(0, .ref (ba 0)), (1, .int (nI k)), (2, .int (nI u)), (3, .int (nI v)), (4, .int ((-1))), (5, .int (pvF s (k, u, v, none))), (6, .int (pcF s (k, u, v, none))), (7, .int (plF s (k, u, v, none))), (8, .int (nI (hsQ s n (k, u, v, none))))] [.int (nI (if plF s (k, u, v, none) < 0 then 0 else 1)), .int ((skS s n (k, u, v, none) (ldS (hsQ s n (k, u, v, none)) (plF s (k, u, v, none)) (srS k (hsQ s n (k, u, v, none)) (plF s (k, u, v, none)) Z))) 0 15), .ref (ba 0)] := by
                  refine s_iadd E dX4_makes_370 ?_
                  refine awX4_p0_15 E dX4_makes_371 ?_
                  refine s_aload_n E dX4_makes_374 (i := 0) (j := 0) rfl rfl ?_
                  refine s_dup E dX4_makes_375 rfl ?_
                  refine awX4_g0_16 E (v := (skS s n (k, u, v, none) (ldS (hsQ s n (k, u, v, none)) (plF s (k, u, v, none)) (srS k (hsQ s n (k, u, v, none)) (plF s (k, u, v, none)) Z))) 0 16) (rfl) dX4_makes_376 ?_
                  refine s_iload E dX4_makes_379 (i := 8) (j := 8) rfl ?_
                  refine c_gos E (rS E (cutZ _ _) (j8z_bitCount (hsQ s n (k, u, v, none)) (h256)) K_X4_156 (Nat.le_of_ble_eq_true rfl) (Nat.le_of_ble_eq_true rfl) (Nat.zero_le _) (Nat.zero_le _) rfl rfl (Nat.le_of_ble_eq_true rfl) dX4_makes_381) (fun r381 h381 => ?_)
                  subst h381
                  refine s_iadd E dX4_makes_384 ?_
                  refine awX4_p0_16 E dX4_makes_385 ?_
                  exact Rt (st1 (st1 (st1 (skS s n (k, u, v, none) (ldS (hsQ s n (k, u, v, none)) (plF s (k, u, v, none)) (srS k (hsQ s n (k, u, v, none)) (plF s (k, u, v, none)) Z))) 0 14 (((skS s n (k, u, v, none) (ldS (hsQ s n (k, u, v, none)) (plF s (k, u, v, none)) (srS k (hsQ s n (k, u, v, none)) (plF s (k, u, v, none)) Z))) 0 14) + (nI 1))) 0 15 (((skS s n (k, u, v, none) (ldS (hsQ s n (k, u, v, none)) (plF s (k, u, v, none)) (srS k (hsQ s n (k, u, v, none)) (plF s (k, u, v, none)) Z))) 0 15) + (nI (if plF s (k, u, v, none) < 0 then 0 else 1)))) 0 16 (((skS s n (k, u, v, none) (ldS (hsQ s n (k, u, v, none)) (plF s (k, u, v, none)) (srS k (hsQ s n (k, u, v, none)) (plF s (k, u, v, none)) Z))) 0 16) + (nI (pop (hsQ s n (k, u, v, none)))))) dX4_makes_388 (by subst hZ; exact hL.ok hB (by unfold okP; simp only [Bool.and_eq_true, Bool.not_eq_true', decide_eq_false_iff_not]; exact ⟨c26, c66⟩) hk hlen) rfl (Nat.le_refl _) (Nat.le_refl _) E.2.2.2.2.2.1
                refine s_if_lt E dX4_makes_362 (tgt := 369) rfl (fun c362 => ?_) (fun c362 => ?_)
                · refine s_iconst E dX4_makes_369 (v := nI 0) (by decide) ?_
                  refine s_top (v2 := nI (if plF s (k, u, v, none) < 0 then 0 else 1)) (by rw [if_pos c362]) ?_
                  exact J370
                · refine s_iconst E dX4_makes_365 (v := nI 1) (by decide) ?_
                  refine s_goto E dX4_makes_366 (tgt := 370) rfl ?_
                  refine s_top (v2 := nI (if plF s (k, u, v, none) < 0 then 0 else 1)) (by rw [if_neg c362]) ?_
                  exact J370
              refine s_aload_n E dX4_makes_285 (i := 0) (j := 0) rfl rfl ?_
              refine awX4_g0_14 E (v := (ldS (hsQ s n (k, u, v, none)) (plF s (k, u, v, none)) (srS k (hsQ s n (k, u, v, none)) (plF s (k, u, v, none)) Z)) 0 14) (rfl) dX4_makes_286 ?_
              refine s_aload_n E dX4_makes_289 (i := 0) (j := 0) rfl rfl ?_
              refine awX4_g0_18 E (v := (ldS (hsQ s n (k, u, v, none)) (plF s (k, u, v, none)) (srS k (hsQ s n (k, u, v, none)) (plF s (k, u, v, none)) Z)) 0 18) (rfl) dX4_makes_290 ?_
              refine s_icmp_ne E dX4_makes_293 (tgt := 345) rfl (fun c293 => ?_) (fun c293 => ?_)
              · refine s_ws (ws2 := aw ba ct Nw (skS s n (k, u, v, none) (ldS (hsQ s n (k, u, v, none)) (plF s (k, u, v, none)) (srS k (hsQ s n (k, u, v, none)) (plF s (k, u, v, none)) Z))) ad τ ξ) (congrArg (fun z => aw ba ct Nw z ad τ ξ) (show _ = _ from by unfold skS; rw [if_neg c293])) ?_
                exact J345
              · refine s_aload_n E dX4_makes_296 (i := 0) (j := 0) rfl rfl ?_
                refine s_iload_n E dX4_makes_297 (i := 1) (j := 1) rfl rfl ?_
                refine awX4_p0_19 E dX4_makes_298 ?_
                refine s_aload_n E dX4_makes_301 (i := 0) (j := 0) rfl rfl ?_
                refine s_iload_n E dX4_makes_302 (i := 2) (j := 2) rfl rfl ?_
                refine awX4_p0_20 E dX4_makes_303 ?_
                refine s_aload_n E dX4_makes_306 (i := 0) (j := 0) rfl rfl ?_
                refine s_iload_n E dX4_makes_307 (i := 3) (j := 3) rfl rfl ?_
                refine awX4_p0_21 E dX4_makes_308 ?_
                refine s_aload_n E dX4_makes_311 (i := 0) (j := 0) rfl rfl ?_
                refine s_iload E dX4_makes_312 (i := 4) (j := 4) rfl ?_
                refine s_if_ge E dX4_makes_314 (tgt := 322) rfl (fun c314 => absurd c314 (by decide)) (fun c314 => ?_)
                have c314 := Int32.not_le.mp c314
                refine s_bipush E dX4_makes_317 (v := (-2)) (by decide) ?_
                refine s_goto E dX4_makes_319 (tgt := 324) rfl ?_
                refine awX4_p0_22 E dX4_makes_324 ?_
                refine s_aload_n E dX4_makes_327 (i := 0) (j := 0) rfl rfl ?_
                refine s_iload E dX4_makes_328 (i := 5) (j := 5) rfl ?_
                refine awX4_p0_23 E dX4_makes_330 ?_
                refine s_aload_n E dX4_makes_333 (i := 0) (j := 0) rfl rfl ?_
                refine s_iload E dX4_makes_334 (i := 7) (j := 7) rfl ?_
                refine awX4_p0_24 E dX4_makes_336 ?_
                refine s_aload_n E dX4_makes_339 (i := 0) (j := 0) rfl rfl ?_
                refine s_iload E dX4_makes_340 (i := 8) (j := 8) rfl ?_
                refine awX4_p0_25 E dX4_makes_342 ?_
                refine s_ws (ws2 := aw ba ct Nw (skS s n (k, u, v, none) (ldS (hsQ s n (k, u, v, none)) (plF s (k, u, v, none)) (srS k (hsQ s n (k, u, v, none)) (plF s (k, u, v, none)) Z))) ad τ ξ) (congrArg (fun z => aw ba ct Nw z ad τ ξ) (show _ = _ from by unfold skS; rw [if_pos c293]; rfl)) ?_
                exact J345
            refine s_iload E dX4_makes_250 (i := 8) (j := 8) rfl ?_
            refine s_if_eq E dX4_makes_252 (tgt := 285) rfl (fun c252 => ?_) (fun c252 => ?_)
            · have c252 : hsQ s n (k, u, v, none) = 0 := (nI_eq (a := hsQ s n (k, u, v, none)) (b := 0) (by omega) (by omega)).mp c252
              refine s_ws (ws2 := aw ba ct Nw (ldS (hsQ s n (k, u, v, none)) (plF s (k, u, v, none)) (srS k (hsQ s n (k, u, v, none)) (plF s (k, u, v, none)) Z)) ad τ ξ) (congrArg (fun z => aw ba ct Nw z ad τ ξ) (show _ = _ from by unfold ldS; rw [if_neg (fun h => h.1 c252)])) ?_
              exact J285
            · have c252 : ¬ hsQ s n (k, u, v, none) = 0 := fun h => c252 ((nI_eq (a := hsQ s n (k, u, v, none)) (b := 0) (by omega) (by omega)).mpr h)
              refine s_aload_n E dX4_makes_255 (i := 0) (j := 0) rfl rfl ?_
              refine awX4_g0_26 E (v := (srS k (hsQ s n (k, u, v, none)) (plF s (k, u, v, none)) Z) 0 26) (rfl) dX4_makes_256 ?_
              refine s_if_lt E dX4_makes_259 (tgt := 271) rfl (fun c259 => ?_) (fun c259 => ?_)
              · refine s_aload_n E dX4_makes_271 (i := 0) (j := 0) rfl rfl ?_
                refine s_aload_n E dX4_makes_272 (i := 0) (j := 0) rfl rfl ?_
                refine awX4_g0_14 E (v := (srS k (hsQ s n (k, u, v, none)) (plF s (k, u, v, none)) Z) 0 14) (rfl) dX4_makes_273 ?_
                refine awX4_p0_26 E dX4_makes_276 ?_
                refine s_aload_n E dX4_makes_279 (i := 0) (j := 0) rfl rfl ?_
                refine s_iload E dX4_makes_280 (i := 7) (j := 7) rfl ?_
                refine awX4_p0_27 E dX4_makes_282 ?_
                refine s_ws (ws2 := aw ba ct Nw (ldS (hsQ s n (k, u, v, none)) (plF s (k, u, v, none)) (srS k (hsQ s n (k, u, v, none)) (plF s (k, u, v, none)) Z)) ad τ ξ) (congrArg (fun z => aw ba ct Nw z ad τ ξ) (show _ = _ from by unfold ldS; rw [if_pos ⟨c252, by first | exact Or.inl c259 | exact Or.inr c268⟩])) ?_
                exact J285
              · refine s_iload E dX4_makes_262 (i := 7) (j := 7) rfl ?_
                refine s_aload_n E dX4_makes_264 (i := 0) (j := 0) rfl rfl ?_
                refine awX4_g0_27 E (v := (srS k (hsQ s n (k, u, v, none)) (plF s (k, u, v, none)) Z) 0 27) (rfl) dX4_makes_265 ?_
                refine s_icmp_le E dX4_makes_268 (tgt := 285) rfl (fun c268 => ?_) (fun c268 => ?_)
                · have c268 := Int32.not_lt.mpr c268
                  refine s_ws (ws2 := aw ba ct Nw (ldS (hsQ s n (k, u, v, none)) (plF s (k, u, v, none)) (srS k (hsQ s n (k, u, v, none)) (plF s (k, u, v, none)) Z)) ad τ ξ) (congrArg (fun z => aw ba ct Nw z ad τ ξ) (show _ = _ from by unfold ldS; rw [if_neg (fun h => Or.elim h.2 c259 c268)])) ?_
                  exact J285
                · have c268 := Int32.not_le.mp c268
                  refine s_aload_n E dX4_makes_271 (i := 0) (j := 0) rfl rfl ?_
                  refine s_aload_n E dX4_makes_272 (i := 0) (j := 0) rfl rfl ?_
                  refine awX4_g0_14 E (v := (srS k (hsQ s n (k, u, v, none)) (plF s (k, u, v, none)) Z) 0 14) (rfl) dX4_makes_273 ?_
                  refine awX4_p0_26 E dX4_makes_276 ?_
                  refine s_aload_n E dX4_makes_279 (i := 0) (j := 0) rfl rfl ?_
                  refine s_iload E dX4_makes_280 (i := 7) (j := 7) rfl ?_
                  refine awX4_p0_27 E dX4_makes_282 ?_
                  refine s_ws (ws2 := aw ba ct Nw (ldS (hsQ s n (k, u, v, none)) (plF s (k, u, v, none)) (srS k (hsQ s n (k, u, v, none)) (plF s (k, u, v, none)) Z)) ad τ ξ) (congrArg (fun z => aw ba ct Nw z ad τ ξ) (show _ = _ from by unfold ldS; rw [if_pos ⟨c252, by first | exact Or.inl c259 | exact Or.inr c268⟩])) ?_
                  exact J285
          refine s_if_lt E dX4_makes_222 (tgt := 229) rfl (fun c222 => ?_) (fun c222 => ?_)
          · refine s_iconst E dX4_makes_229 (v := nI 0) (by decide) ?_
            refine s_top (v2 := nI (if plF s (k, u, v, none) < 0 then 0 else 1)) (by rw [if_pos c222]) ?_
            exact J230
          · refine s_iconst E dX4_makes_225 (v := nI 1) (by decide) ?_
            refine s_goto E dX4_makes_226 (tgt := 230) rfl ?_
            refine s_top (v2 := nI (if plF s (k, u, v, none) < 0 then 0 else 1)) (by rw [if_neg c222]) ?_
            exact J230
        have hAn := hA.cg (Z := nearW s (k, u, v, none) σ n) (fun k _ _ => congrFun (nearW_r (by decide) n) k) (nearW_r (by decide) n) (nearW_r (by decide) n) (nearW_r (by decide) n) (nearW_r (by decide) n)
        refine s_aload_n E dX4_makes_178 (i := 0) (j := 0) rfl rfl ?_
        refine awX4_g0_18 E (v := sg) ((congrFun (nearW_r (by decide) n) 18).trans hL.1.2.1) dX4_makes_179 ?_
        refine s_if_ge E dX4_makes_182 (tgt := 197) rfl (fun c182 => ?_) (fun c182 => ?_)
        · have c182 := Int32.not_lt.mpr c182
          refine s_ws (ws2 := aw ba ct Nw (mkZ s n (k, u, v, none) sg σ) ad τ ξ) (congrArg (fun z => aw ba ct Nw z ad τ ξ) (show _ = _ from by unfold mkZ; rw [if_neg c182])) ?_
          exact J197
        · have c182 := Int32.not_le.mp c182
          refine s_aload_n E dX4_makes_185 (i := 0) (j := 0) rfl rfl ?_
          refine s_iload E dX4_makes_186 (i := 8) (j := 8) rfl ?_
          refine s_iload E dX4_makes_188 (i := 6) (j := 6) rfl ?_
          refine s_iload_n E dX4_makes_190 (i := 2) (j := 2) rfl rfl ?_
          refine s_iload_n E dX4_makes_191 (i := 3) (j := 3) rfl rfl ?_
          refine s_iload E dX4_makes_192 (i := 4) (j := 4) rfl ?_
          refine c_gov0 E (rV E (cutS _ _) (x4z_counts s n k u v (hsQ s n (k, u, v, none)) (pcF s (k, u, v, none)) (hAn) (hnN) (hN8) (hu) (hv) (huv) (h256)) K_X4_152 (Nat.le_of_ble_eq_true rfl) (Nat.le_of_ble_eq_true rfl) (Nat.zero_le _) (Nat.zero_le _) 0 rfl rfl rfl rfl (Nat.le_of_ble_eq_true rfl) dX4_makes_194) (fun w194 h194 => ?_)
          subst h194
          refine s_ws (ws2 := aw ba ct Nw (mkZ s n (k, u, v, none) sg σ) ad τ ξ) (congrArg (fun z => aw ba ct Nw z ad τ ξ) (show _ = _ from by unfold mkZ; rw [if_pos c182])) ?_
          exact J197
      refine s_iconst E dX4_makes_106 (v := nI 0) (by decide) ?_
      refine s_istore E (L2 := [(9, .int (nI 0)), (8, .int (nI 0)), (7, .int (plF s (k, u, v, none))), (6, .int (pcF s (k, u, v, none))), (5, .int (pvF s (k, u, v, none))), (0, .ref (ba 0)), (1, .int (nI k)), (2, .int (nI u)), (3, .int (nI v)), (4, .int ((-1)))]) dX4_makes_107 (Nat.le_of_ble_eq_true rfl) rfl ?_
      have L109 : ∀ (fuel : Nat) (o : Nat), (o ≤ n) → (n - o) < fuel → Sm pP l eE { frames := 2, cells := 0, slots := 0, locals := 51 } sS mM aA bB hM cC QQ AA D 10 0 0 (aw ba ct Nw (nearW s (k, u, v, none) σ o) ad τ ξ) 109 [(0, .ref (ba 0)), (1, .int (nI k)), (2, .int (nI u)), (3, .int (nI v)), (4, .int ((-1))), (5, .int (pvF s (k, u, v, none))), (6, .int (pcF s (k, u, v, none))), (7, .int (plF s (k, u, v, none))), (8, .int (nI (setN (hitQ s (k, u, v, none)) o))), (9, .int (nI o))] [] := by
        intro fuel
        induction fuel with
        | zero =>
          intro o hoi hf109
          exact absurd hf109 (Nat.not_lt_zero _)
        | succ fuel ih109 =>
          intro o hoi hf109
          have hAo := hA.cg (Z := nearW s (k, u, v, none) σ o) (fun k _ _ => congrFun (nearW_r (by decide) o) k) (nearW_r (by decide) o) (nearW_r (by decide) o) (nearW_r (by decide) o) (nearW_r (by decide) o)
          refine s_iload E dX4_makes_109 (i := 9) (j := 9) rfl ?_
          refine s_aload_n E dX4_makes_111 (i := 0) (j := 0) rfl rfl ?_
          refine awX4_g0_9 E (v := nI n) ((congrFun (nearW_r (by decide) o) 9).trans hA.1) dX4_makes_112 ?_
          refine s_icmp_ge E dX4_makes_115 (tgt := 178) rfl (fun c115 => ?_) (fun c115 => ?_)
          · have c115 : ¬ o < n := fun h => absurd c115 (Int32.not_le.mpr ((nI_ltI (a := o) (b := n) (by omega) (by omega)).mpr h))
            have hx := nw_end1 (s := s) (q := (k, u, v, none)) (Y := σ) c115 hoi
            refine s_loc (L2 := [(0, .ref (ba 0)), (1, .int (nI k)), (2, .int (nI u)), (3, .int (nI v)), (4, .int ((-1))), (5, .int (pvF s (k, u, v, none))), (6, .int (pcF s (k, u, v, none))), (7, .int (plF s (k, u, v, none))), (8, .int (nI (setN (hitQ s (k, u, v, none)) o)))]) [0, 1, 2, 3, 4, 5, 6, 7, 8] rfl ?_
            refine s_L (L2 := [(0, .ref (ba 0)), (1, .int (nI k)), (2, .int (nI u)), (3, .int (nI v)), (4, .int ((-1))), (5, .int (pvF s (k, u, v, none))), (6, .int (pcF s (k, u, v, none))), (7, .int (plF s (k, u, v, none))), (8, .int (nI (hsQ s n (k, u, v, none))))]) (by rw [hx.1]) ?_
            refine s_ws (ws2 := aw ba ct Nw (nearW s (k, u, v, none) σ n) ad τ ξ) (congrArg (fun z => aw ba ct Nw z ad τ ξ) (show _ = _ from by rw [hx.2])) ?_
            exact J178
          · have c115 : o < n := (nI_ltI (a := o) (b := n) (by omega) (by omega)).mp (Int32.not_le.mp c115)
            refine s_iload E dX4_makes_118 (i := 7) (j := 7) rfl ?_
            refine s_if_lt E dX4_makes_120 (tgt := 178) rfl (fun c120 => ?_) (fun c120 => ?_)
            · have hx := nw_end2 (s := s) (q := (k, u, v, none)) (Y := σ) (o := o) (n := n) c120
              refine s_loc (L2 := [(0, .ref (ba 0)), (1, .int (nI k)), (2, .int (nI u)), (3, .int (nI v)), (4, .int ((-1))), (5, .int (pvF s (k, u, v, none))), (6, .int (pcF s (k, u, v, none))), (7, .int (plF s (k, u, v, none))), (8, .int (nI (setN (hitQ s (k, u, v, none)) o)))]) [0, 1, 2, 3, 4, 5, 6, 7, 8] rfl ?_
              refine s_L (L2 := [(0, .ref (ba 0)), (1, .int (nI k)), (2, .int (nI u)), (3, .int (nI v)), (4, .int ((-1))), (5, .int (pvF s (k, u, v, none))), (6, .int (pcF s (k, u, v, none))), (7, .int (plF s (k, u, v, none))), (8, .int (nI (hsQ s n (k, u, v, none))))]) (by rw [hx.1]) ?_
              refine s_ws (ws2 := aw ba ct Nw (nearW s (k, u, v, none) σ n) ad τ ξ) (congrArg (fun z => aw ba ct Nw z ad τ ξ) (show _ = _ from by rw [hx.2])) ?_
              exact J178
            · refine s_iload E dX4_makes_123 (i := 9) (j := 9) rfl ?_
              refine s_iload_n E dX4_makes_125 (i := 2) (j := 2) rfl rfl ?_
              refine s_icmp_eq E dX4_makes_126 (tgt := 172) rfl (fun c126 => ?_) (fun c126 => ?_)
              · have c126 : o = u := (nI_eq (a := o) (b := u) (by omega) (by omega)).mp c126
                have hin : inQ (k, u, v, none) o = true := inQ_y1 c126
                refine s_iinc E (L2 := [(9, .int (nI (o + 1))), (0, .ref (ba 0)), (1, .int (nI k)), (2, .int (nI u)), (3, .int (nI v)), (4, .int ((-1))), (5, .int (pvF s (k, u, v, none))), (6, .int (pcF s (k, u, v, none))), (7, .int (plF s (k, u, v, none))), (8, .int (nI (setN (hitQ s (k, u, v, none)) o)))]) dX4_makes_172 (k := 9) rfl (v := nI (o + 1)) (nI_inc _) (Nat.le_of_ble_eq_true rfl) rfl ?_
                refine s_goto E dX4_makes_175 (tgt := 109) rfl ?_
                refine s_ws (ws2 := aw ba ct Nw (nearW s (k, u, v, none) σ (o + 1)) ad τ ξ) (congrArg (fun z => aw ba ct Nw z ad τ ξ) (show _ = _ from by rw [nearW, if_pos hin])) ?_
                refine s_loc (L2 := [(0, .ref (ba 0)), (1, .int (nI k)), (2, .int (nI u)), (3, .int (nI v)), (4, .int ((-1))), (5, .int (pvF s (k, u, v, none))), (6, .int (pcF s (k, u, v, none))), (7, .int (plF s (k, u, v, none))), (8, .int (nI (setN (hitQ s (k, u, v, none)) o))), (9, .int (nI (o + 1)))]) [1, 2, 3, 4, 5, 6, 7, 8, 9, 0] rfl ?_
                refine s_L (L2 := [(0, .ref (ba 0)), (1, .int (nI k)), (2, .int (nI u)), (3, .int (nI v)), (4, .int ((-1))), (5, .int (pvF s (k, u, v, none))), (6, .int (pcF s (k, u, v, none))), (7, .int (plF s (k, u, v, none))), (8, .int (nI (setN (hitQ s (k, u, v, none)) (o + 1)))), (9, .int (nI (o + 1)))]) (by rw [setN_f (f := hitQ s (k, u, v, none)) (fun h => may_in hin (hit_may h))]) ?_
                exact ih109 (o + 1) (by omega) (by omega)
              · have c126 : ¬ o = u := fun h => c126 ((nI_eq (a := o) (b := u) (by omega) (by omega)).mpr h)
                refine s_iload E dX4_makes_129 (i := 9) (j := 9) rfl ?_
                refine s_iload_n E dX4_makes_131 (i := 3) (j := 3) rfl rfl ?_
                refine s_icmp_eq E dX4_makes_132 (tgt := 172) rfl (fun c132 => ?_) (fun c132 => ?_)
                · have c132 : o = v := (nI_eq (a := o) (b := v) (by omega) (by omega)).mp c132
                  have hin : inQ (k, u, v, none) o = true := inQ_y2 c132
                  refine s_iinc E (L2 := [(9, .int (nI (o + 1))), (0, .ref (ba 0)), (1, .int (nI k)), (2, .int (nI u)), (3, .int (nI v)), (4, .int ((-1))), (5, .int (pvF s (k, u, v, none))), (6, .int (pcF s (k, u, v, none))), (7, .int (plF s (k, u, v, none))), (8, .int (nI (setN (hitQ s (k, u, v, none)) o)))]) dX4_makes_172 (k := 9) rfl (v := nI (o + 1)) (nI_inc _) (Nat.le_of_ble_eq_true rfl) rfl ?_
                  refine s_goto E dX4_makes_175 (tgt := 109) rfl ?_
                  refine s_ws (ws2 := aw ba ct Nw (nearW s (k, u, v, none) σ (o + 1)) ad τ ξ) (congrArg (fun z => aw ba ct Nw z ad τ ξ) (show _ = _ from by rw [nearW, if_pos hin])) ?_
                  refine s_loc (L2 := [(0, .ref (ba 0)), (1, .int (nI k)), (2, .int (nI u)), (3, .int (nI v)), (4, .int ((-1))), (5, .int (pvF s (k, u, v, none))), (6, .int (pcF s (k, u, v, none))), (7, .int (plF s (k, u, v, none))), (8, .int (nI (setN (hitQ s (k, u, v, none)) o))), (9, .int (nI (o + 1)))]) [1, 2, 3, 4, 5, 6, 7, 8, 9, 0] rfl ?_
                  refine s_L (L2 := [(0, .ref (ba 0)), (1, .int (nI k)), (2, .int (nI u)), (3, .int (nI v)), (4, .int ((-1))), (5, .int (pvF s (k, u, v, none))), (6, .int (pcF s (k, u, v, none))), (7, .int (plF s (k, u, v, none))), (8, .int (nI (setN (hitQ s (k, u, v, none)) (o + 1)))), (9, .int (nI (o + 1)))]) (by rw [setN_f (f := hitQ s (k, u, v, none)) (fun h => may_in hin (hit_may h))]) ?_
                  exact ih109 (o + 1) (by omega) (by omega)
                · have c132 : ¬ o = v := fun h => c132 ((nI_eq (a := o) (b := v) (by omega) (by omega)).mpr h)
                  refine s_iload E dX4_makes_135 (i := 9) (j := 9) rfl ?_
                  refine s_iload E dX4_makes_137 (i := 4) (j := 4) rfl ?_
                  refine s_icmp_eq E dX4_makes_139 (tgt := 172) rfl (fun c139 => absurd c139 (nI_n1 (by omega))) (fun c139 => ?_)
                  have hin : inQ (k, u, v, none) o = false := inQ_no2 c126 c132
                  refine s_aload_n E dX4_makes_142 (i := 0) (j := 0) rfl rfl ?_
                  refine s_iload E dX4_makes_143 (i := 9) (j := 9) rfl ?_
                  refine s_aload_n E dX4_makes_145 (i := 0) (j := 0) rfl rfl ?_
                  refine awX4_g0_0 E dX4_makes_146 ?_
                  refine s_iload_n E dX4_makes_149 (i := 2) (j := 2) rfl rfl ?_
                  refine aw_l1 E (v := s 6 u) (u) (rfl) (by omega) hN8 ((congrFun (nearW_r (by decide) o) u).trans (hA.2.2.2.2.2 u hu).1) dX4_makes_150 ?_
                  refine s_iload E dX4_makes_151 (i := 5) (j := 5) rfl ?_
                  refine s_iload E dX4_makes_153 (i := 7) (j := 7) rfl ?_
                  refine s_iload E dX4_makes_155 (i := 6) (j := 6) rfl ?_
                  refine c_goi0 E (rV E (cutS _ _) (x4z_isHit s n (k, u, v, none) o (hAo) (hnN) (hN8) (hT) (hu) (by omega) (hin) (c120)) K_X4_148 (Nat.le_of_ble_eq_true rfl) (Nat.le_of_ble_eq_true rfl) (Nat.zero_le _) (Nat.zero_le _) 0 rfl rfl rfl rfl (Nat.le_of_ble_eq_true rfl) dX4_makes_157) (fun r157 w157 h157 => ?_)
                  obtain ⟨rfl, rfl⟩ := h157
                  refine s_if_eq E dX4_makes_160 (tgt := 172) rfl (fun c160 => ?_) (fun c160 => ?_)
                  · have c160 := bI_0 c160
                    refine s_iinc E (L2 := [(9, .int (nI (o + 1))), (0, .ref (ba 0)), (1, .int (nI k)), (2, .int (nI u)), (3, .int (nI v)), (4, .int ((-1))), (5, .int (pvF s (k, u, v, none))), (6, .int (pcF s (k, u, v, none))), (7, .int (plF s (k, u, v, none))), (8, .int (nI (setN (hitQ s (k, u, v, none)) o)))]) dX4_makes_172 (k := 9) rfl (v := nI (o + 1)) (nI_inc _) (Nat.le_of_ble_eq_true rfl) rfl ?_
                    refine s_goto E dX4_makes_175 (tgt := 109) rfl ?_
                    refine s_ws (ws2 := aw ba ct Nw (nearW s (k, u, v, none) σ (o + 1)) ad τ ξ) (congrArg (fun z => aw ba ct Nw z ad τ ξ) (show _ = _ from by rw [nearW, if_neg (by rw [hin]; decide)])) ?_
                    refine s_loc (L2 := [(0, .ref (ba 0)), (1, .int (nI k)), (2, .int (nI u)), (3, .int (nI v)), (4, .int ((-1))), (5, .int (pvF s (k, u, v, none))), (6, .int (pcF s (k, u, v, none))), (7, .int (plF s (k, u, v, none))), (8, .int (nI (setN (hitQ s (k, u, v, none)) o))), (9, .int (nI (o + 1)))]) [1, 2, 3, 4, 5, 6, 7, 8, 9, 0] rfl ?_
                    refine s_L (L2 := [(0, .ref (ba 0)), (1, .int (nI k)), (2, .int (nI u)), (3, .int (nI v)), (4, .int ((-1))), (5, .int (pvF s (k, u, v, none))), (6, .int (pcF s (k, u, v, none))), (7, .int (plF s (k, u, v, none))), (8, .int (nI (setN (hitQ s (k, u, v, none)) (o + 1)))), (9, .int (nI (o + 1)))]) (by rw [setN_f c160]) ?_
                    exact ih109 (o + 1) (by omega) (by omega)
                  · have c160 := bI_n0 c160
                    refine s_iload E dX4_makes_163 (i := 8) (j := 8) rfl ?_
                    refine s_iconst E dX4_makes_165 (v := nI 1) (by decide) ?_
                    refine s_iload E dX4_makes_166 (i := 9) (j := 9) rfl ?_
                    refine s_ishl E dX4_makes_168 ?_
                    refine s_ior_ E dX4_makes_169 (v := nI (setN (hitQ s (k, u, v, none)) (o + 1))) (setN_t (by omega) c160) ?_
                    refine s_istore E (L2 := [(8, .int (nI (setN (hitQ s (k, u, v, none)) (o + 1)))), (0, .ref (ba 0)), (1, .int (nI k)), (2, .int (nI u)), (3, .int (nI v)), (4, .int ((-1))), (5, .int (pvF s (k, u, v, none))), (6, .int (pcF s (k, u, v, none))), (7, .int (plF s (k, u, v, none))), (9, .int (nI o))]) dX4_makes_170 (Nat.le_of_ble_eq_true rfl) rfl ?_
                    refine s_iinc E (L2 := [(9, .int (nI (o + 1))), (8, .int (nI (setN (hitQ s (k, u, v, none)) (o + 1)))), (0, .ref (ba 0)), (1, .int (nI k)), (2, .int (nI u)), (3, .int (nI v)), (4, .int ((-1))), (5, .int (pvF s (k, u, v, none))), (6, .int (pcF s (k, u, v, none))), (7, .int (plF s (k, u, v, none)))]) dX4_makes_172 (k := 9) rfl (v := nI (o + 1)) (nI_inc _) (Nat.le_of_ble_eq_true rfl) rfl ?_
                    refine s_goto E dX4_makes_175 (tgt := 109) rfl ?_
                    refine s_ws (ws2 := aw ba ct Nw (nearW s (k, u, v, none) σ (o + 1)) ad τ ξ) (congrArg (fun z => aw ba ct Nw z ad τ ξ) (show _ = _ from by rw [nearW, if_neg (by rw [hin]; decide)])) ?_
                    refine s_loc (L2 := [(0, .ref (ba 0)), (1, .int (nI k)), (2, .int (nI u)), (3, .int (nI v)), (4, .int ((-1))), (5, .int (pvF s (k, u, v, none))), (6, .int (pcF s (k, u, v, none))), (7, .int (plF s (k, u, v, none))), (8, .int (nI (setN (hitQ s (k, u, v, none)) (o + 1)))), (9, .int (nI (o + 1)))]) [2, 3, 4, 5, 6, 7, 8, 9, 1, 0] rfl ?_
                    exact ih109 (o + 1) (by omega) (by omega)
      refine s_loc (L2 := [(0, .ref (ba 0)), (1, .int (nI k)), (2, .int (nI u)), (3, .int (nI v)), (4, .int ((-1))), (5, .int (pvF s (k, u, v, none))), (6, .int (pcF s (k, u, v, none))), (7, .int (plF s (k, u, v, none))), (8, .int (nI 0)), (9, .int (nI 0))]) [5, 6, 7, 8, 9, 4, 3, 2, 1, 0] rfl ?_
      exact L109 (_ + 1) 0 (Nat.zero_le _) (Nat.lt_succ_self _)
    · exact Rt (σ) dX4_makes_69 (hL.no (by unfold okP; simp only [Bool.and_eq_true, Bool.not_eq_true', decide_eq_false_iff_not]; exact fun h => h.2 c66)) rfl (Nat.le_refl _) (Nat.le_refl _) E.2.2.2.2.2.1
  · have c26 := bI_0 c26
    exact Rt (σ) dX4_makes_29 (hL.no (by unfold okP; simp only [Bool.and_eq_true, Bool.not_eq_true', decide_eq_false_iff_not]; exact fun h => c26 h.1)) rfl (Nat.le_refl _) (Nat.le_refl _) E.2.2.2.2.2.1
set_option maxHeartbeats 4000000 in
set_option maxRecDepth 100000 in
theorem x4z_makes3 {l : Launch} {D : va_G} {gt : Nat → Nat} {ba ad : Nat → Nat} {ct : Nat → ClassId} {Nw : Nat} {τ σ ξ : Nat → Nat → Int32} (s : Nat → Nat → Int32) (n : Nat) (sg : Int32) (L : List Pr) (k u v w : Nat) (hL : AM s n sg L σ) (hnN : n ≤ Nw) (hN8 : Nw ≤ 8) (hT : TA s τ n) (hB : NB s n) (hk : k < 6) (hu : u < n) (hv : v < n) (hw : w < n) (huw : w ≠ u) (hvw : w ≠ v) (huv : u ≠ v) (hlen : (L ++ okL s (k, u, v, some w)).length ≤ 9216) : Cv l D gt yX4_makes cX4_makes 10 2 51 0 0 [.ref (ba 0), .int (nI k), .int (nI u), .int (nI v), .int (nI w)] (aw ba ct Nw σ ad τ ξ) (tysA ct) (fun σ2 => AM s n sg (L ++ okL s (k, u, v, some w)) σ2) (fun σ2 : Nat → Nat → Int32 => aw ba ct Nw σ2 ad τ ξ) (fun _ => tysA ct) := by
  refine Cv.start RX4 (by decide) rfl (Nat.le_of_ble_eq_true rfl) rfl ?_
  intro pP eE sS mM aA bB hM cC QQ AA E Rt
  have hA := hL.1.1
  have h256 : hsQ s n (k, u, v, some w) < 256 := setN_256 _ (by omega)
  refine s_aload_n E dX4_makes_0 (i := 0) (j := 0) rfl rfl ?_
  refine s_iload_n E dX4_makes_1 (i := 1) (j := 1) rfl rfl ?_
  refine s_aload_n E dX4_makes_2 (i := 0) (j := 0) rfl rfl ?_
  refine awX4_g0_2 E dX4_makes_3 ?_
  refine s_iload_n E dX4_makes_6 (i := 2) (j := 2) rfl rfl ?_
  refine s_iload_n E dX4_makes_7 (i := 3) (j := 3) rfl rfl ?_
  refine s_iload E dX4_makes_8 (i := 4) (j := 4) rfl ?_
  refine s_iconst E dX4_makes_10 (v := nI 1) (by decide) ?_
  refine c_goi0 E (rV E (cutS _ _) (x4z_sumC3 s n k u v w (hA) (hnN) (hN8) (hk) (hu) (hv) (hw)) K_X4_137 (Nat.le_of_ble_eq_true rfl) (Nat.le_of_ble_eq_true rfl) (Nat.zero_le _) (Nat.zero_le _) 0 rfl rfl rfl rfl (Nat.le_of_ble_eq_true rfl) dX4_makes_11) (fun r11 w11 h11 => ?_)
  obtain ⟨rfl, rfl⟩ := h11
  refine s_istore E (L2 := [(5, .int (pvF s (k, u, v, some w))), (0, .ref (ba 0)), (1, .int (nI k)), (2, .int (nI u)), (3, .int (nI v)), (4, .int (nI w))]) dX4_makes_14 (Nat.le_of_ble_eq_true rfl) rfl ?_
  refine s_iload E dX4_makes_16 (i := 5) (j := 0) rfl ?_
  refine s_iconst E dX4_makes_18 (v := nI 1) (by decide) ?_
  refine s_aload_n E dX4_makes_19 (i := 0) (j := 1) rfl rfl ?_
  refine awX4_g0_10 E (v := s 0 30) (hA.2.1) dX4_makes_20 ?_
  refine c_gos E (rSN E (cutZ _ _) (x1z_isIn (pvF s (k, u, v, some w)) (nI 1) (s 0 30)) K_X4_141 (Nat.le_of_ble_eq_true rfl) (Nat.le_of_ble_eq_true rfl) (Nat.zero_le _) (Nat.zero_le _) rfl rfl (Nat.le_of_ble_eq_true rfl) dX4_makes_23) (fun r23 h23 => ?_)
  subst h23
  refine s_if_ne E dX4_makes_26 (tgt := 30) rfl (fun c26 => ?_) (fun c26 => ?_)
  · have c26 := bI_n0 c26
    refine s_aload_n E dX4_makes_30 (i := 0) (j := 1) rfl rfl ?_
    refine awX4_g0_5 E dX4_makes_31 ?_
    refine s_iload_n E dX4_makes_34 (i := 2) (j := 3) rfl rfl ?_
    refine aw_l6 E (v := s 25 (73 + u)) (u) (rfl) (by omega) hN8 ((hA.2.2.2.2.2 u (by omega)).2.2.2) dX4_makes_35 ?_
    refine s_aload_n E dX4_makes_36 (i := 0) (j := 1) rfl rfl ?_
    refine awX4_g0_5 E dX4_makes_37 ?_
    refine s_iload_n E dX4_makes_40 (i := 3) (j := 4) rfl rfl ?_
    refine aw_l6 E (v := s 25 (73 + v)) (v) (rfl) (by omega) hN8 ((hA.2.2.2.2.2 v (by omega)).2.2.2) dX4_makes_41 ?_
    refine s_iand E dX4_makes_42 ?_
    refine s_iload E dX4_makes_43 (i := 4) (j := 5) rfl ?_
    refine s_if_ge E dX4_makes_45 (tgt := 54) rfl (fun c45 => ?_) (fun c45 => absurd (nI_pos' (by omega)) c45)
    have c45 : ¬ w < 0 := fun h => absurd c45 (Int32.not_le.mpr ((nI_ltI (a := w) (b := 0) (by omega) (by omega)).mpr h))
    refine s_aload_n E dX4_makes_54 (i := 0) (j := 1) rfl rfl ?_
    refine awX4_g0_5 E dX4_makes_55 ?_
    refine s_iload E dX4_makes_58 (i := 4) (j := 5) rfl ?_
    refine aw_l6 E (v := s 25 (73 + w)) (w) (rfl) (by omega) hN8 ((hA.2.2.2.2.2 w (by omega)).2.2.2) dX4_makes_60 ?_
    refine s_iand_ E dX4_makes_61 (v := pcF s (k, u, v, some w)) (rfl) ?_
    refine s_istore E (L2 := [(6, .int (pcF s (k, u, v, some w))), (5, .int (pvF s (k, u, v, some w))), (0, .ref (ba 0)), (1, .int (nI k)), (2, .int (nI u)), (3, .int (nI v)), (4, .int (nI w))]) dX4_makes_62 (Nat.le_of_ble_eq_true rfl) rfl ?_
    refine s_iload E dX4_makes_64 (i := 6) (j := 0) rfl ?_
    refine s_if_ne E dX4_makes_66 (tgt := 70) rfl (fun c66 => ?_) (fun c66 => ?_)
    · refine s_aload_n E dX4_makes_70 (i := 0) (j := 2) rfl rfl ?_
      refine s_iload_n E dX4_makes_71 (i := 1) (j := 3) rfl rfl ?_
      refine s_aload_n E dX4_makes_72 (i := 0) (j := 2) rfl rfl ?_
      refine awX4_g0_1 E dX4_makes_73 ?_
      refine s_iload_n E dX4_makes_76 (i := 2) (j := 4) rfl rfl ?_
      refine s_iload_n E dX4_makes_77 (i := 3) (j := 5) rfl rfl ?_
      refine s_iload E dX4_makes_78 (i := 4) (j := 6) rfl ?_
      refine s_iconst E dX4_makes_80 (v := nI 0) (by decide) ?_
      refine c_goi0 E (rV E (cutS _ _) (x4z_sumP3 s n k u v w (hA) (hnN) (hN8) (hk) (hu) (hv) (hw)) K_X4_137 (Nat.le_of_ble_eq_true rfl) (Nat.le_of_ble_eq_true rfl) (Nat.zero_le _) (Nat.zero_le _) 0 rfl rfl rfl rfl (Nat.le_of_ble_eq_true rfl) dX4_makes_81) (fun r81 w81 h81 => ?_)
      obtain ⟨rfl, rfl⟩ := h81
      refine s_aload_n E dX4_makes_84 (i := 0) (j := 2) rfl rfl ?_
      refine awX4_g0_28 E dX4_makes_85 ?_
      refine awX4_g10_4 E dX4_makes_88 ?_
      refine awX4_g11_2 E dX4_makes_91 ?_
      refine s_getsN E E.2.2.2.2.2.2.1.1.2.2.1 q891 dX4_makes_94 ?_
      refine s_iload_n E dX4_makes_97 (i := 1) (j := 3) rfl rfl ?_
      refine s_tald E E.2.2.2.2.2.2.1.1.2.2.2.1 (k) (rfl) (by omega) (by decide) (v := .int (nI (k / 2))) (congrArg Value.int (order_at k hk)) dX4_makes_98 ?_
      refine aw_l12 E (v := s 3 (4 + k / 2)) (k / 2) (rfl) (by omega) (by unfold losF; rw [if_pos (by omega)]; exact hT.1 _ (by omega)) dX4_makes_99 ?_
      refine s_isub_ E dX4_makes_100 (v := plF s (k, u, v, some w)) (plF_pu s (k, u, v, some w)) ?_
      refine s_istore E (L2 := [(7, .int (plF s (k, u, v, some w))), (6, .int (pcF s (k, u, v, some w))), (5, .int (pvF s (k, u, v, some w))), (0, .ref (ba 0)), (1, .int (nI k)), (2, .int (nI u)), (3, .int (nI v)), (4, .int (nI w))]) dX4_makes_101 (Nat.le_of_ble_eq_true rfl) rfl ?_
      refine s_iconst E dX4_makes_103 (v := nI 0) (by decide) ?_
      refine s_istore E (L2 := [(8, .int (nI 0)), (7, .int (plF s (k, u, v, some w))), (6, .int (pcF s (k, u, v, some w))), (5, .int (pvF s (k, u, v, some w))), (0, .ref (ba 0)), (1, .int (nI k)), (2, .int (nI u)), (3, .int (nI v)), (4, .int (nI w))]) dX4_makes_104 (Nat.le_of_ble_eq_true rfl) rfl ?_
      have J178 : Sm pP l eE { frames := 2, cells := 0, slots := 0, locals := 51 } sS mM aA bB hM cC QQ AA D 10 0 0 (aw ba ct Nw (nearW s (k, u, v, some w) σ n) ad τ ξ) 178 [(0, .ref (ba 0)), (1, .int (nI k)), (2, .int (nI u)), (3, .int (nI v)), (4, .int (nI w)), (5, .int (pvF s (k, u, v, some w))), (6, .int (pcF s (k, u, v, some w))), (7, .int (plF s (k, u, v, some w))), (8, .int (nI (hsQ s n (k, u, v, some w))))] [] := by
        have J197 : Sm pP l eE { frames := 2, cells := 0, slots := 0, locals := 51 } sS mM aA bB hM cC QQ AA D 10 0 0 (aw ba ct Nw (mkZ s n (k, u, v, some w) sg σ) ad τ ξ) 197 [(0, .ref (ba 0)), (1, .int (nI k)), (2, .int (nI u)), (3, .int (nI v)), (4, .int (nI w)), (5, .int (pvF s (k, u, v, some w))), (6, .int (pcF s (k, u, v, some w))), (7, .int (plF s (k, u, v, some w))), (8, .int (nI (hsQ s n (k, u, v, some w))))] [] := by
          obtain ⟨Z, hZ⟩ : ∃ Z, Z = mkZ s n (k, u, v, some w) sg σ := ⟨_, rfl⟩
          refine s_ws (ws2 := aw ba ct Nw Z ad τ ξ) (congrArg (fun z => aw ba ct Nw z ad τ ξ) (show _ = _ from by rw [hZ])) ?_
          refine s_aload_n E dX4_makes_197 (i := 0) (j := 0) rfl rfl ?_
          refine awX4_g0_8 E dX4_makes_198 ?_
          refine s_iconst E dX4_makes_201 (v := nI 3) (by decide) ?_
          refine s_iload_n E dX4_makes_202 (i := 1) (j := 1) rfl rfl ?_
          refine s_imul_ E dX4_makes_203 (v := nI (3 * k)) (pk_mul _ _) ?_
          refine s_dup2 E dX4_makes_204 rfl rfl ?_
          refine aw_l9 E (v := Z 9 (3 * k)) (3 * k) (rfl) (by omega) (rfl) dX4_makes_205 ?_
          refine s_iconst E dX4_makes_206 (v := nI 1) (by decide) ?_
          refine s_iadd E dX4_makes_207 ?_
          refine aw_s9 E (3 * k) (rfl) (by omega) dX4_makes_208 ?_
          refine s_aload_n E dX4_makes_209 (i := 0) (j := 0) rfl rfl ?_
          refine awX4_g0_8 E dX4_makes_210 ?_
          refine s_iconst E dX4_makes_213 (v := nI 3) (by decide) ?_
          refine s_iload_n E dX4_makes_214 (i := 1) (j := 1) rfl rfl ?_
          refine s_imul_ E dX4_makes_215 (v := nI (3 * k)) (pk_mul _ _) ?_
          refine s_iconst E dX4_makes_216 (v := nI 1) (by decide) ?_
          refine s_iadd_ E dX4_makes_217 (v := nI ((3 * k) + 1)) (nI_add _ _) ?_
          refine s_dup2 E dX4_makes_218 rfl rfl ?_
          refine aw_l9 E (v := Z 9 (3 * k + 1)) ((3 * k) + 1) (rfl) (by omega) (st1_nj (by omega)) dX4_makes_219 ?_
          refine s_iload E dX4_makes_220 (i := 7) (j := 7) rfl ?_
          have J230 : Sm pP l eE { frames := 2, cells := 0, slots := 0, locals := 51 } sS mM aA bB hM cC QQ AA D 10 0 0 (aw ba ct Nw (st1 Z 9 (3 * k) ((Z 9 (3 * k)) + (nI 1))) ad τ ξ) 230 [(0, .ref (ba 0)), (1, .int (nI k)), (2, .int (nI u)), (3, .int (nI v)), (4, .int (nI w)), (5, .int (pvF s (k, u, v, some w))), (6, .int (pcF s (k, u, v, some w))), (7, .int (plF s (k, u, v, some w))), (8, .int (nI (hsQ s n (k, u, v, some w))))] [.int (nI (if plF s (k, u, v, some w) < 0 then 0 else 1)), .int (Z 9 (3 * k + 1)), .int (nI ((3 * k) + 1)), .ref (ba 9)] := by
            refine s_iadd E dX4_makes_230 ?_
            refine aw_s9 E ((3 * k) + 1) (rfl) (by omega) dX4_makes_231 ?_
            refine s_aload_n E dX4_makes_232 (i := 0) (j := 0) rfl rfl ?_
            refine awX4_g0_8 E dX4_makes_233 ?_
            refine s_iconst E dX4_makes_236 (v := nI 3) (by decide) ?_
            refine s_iload_n E dX4_makes_237 (i := 1) (j := 1) rfl rfl ?_
            refine s_imul_ E dX4_makes_238 (v := nI (3 * k)) (pk_mul _ _) ?_
            refine s_iconst E dX4_makes_239 (v := nI 2) (by decide) ?_
            refine s_iadd_ E dX4_makes_240 (v := nI ((3 * k) + 2)) (nI_add _ _) ?_
            refine s_dup2 E dX4_makes_241 rfl rfl ?_
            refine aw_l9 E (v := Z 9 (3 * k + 2)) ((3 * k) + 2) (rfl) (by omega) ((st1_nj (by omega)).trans (st1_nj (by omega))) dX4_makes_242 ?_
            refine s_iload E dX4_makes_243 (i := 8) (j := 8) rfl ?_
            refine c_gos E (rS E (cutZ _ _) (j8z_bitCount (hsQ s n (k, u, v, some w)) (h256)) K_X4_156 (Nat.le_of_ble_eq_true rfl) (Nat.le_of_ble_eq_true rfl) (Nat.zero_le _) (Nat.zero_le _) rfl rfl (Nat.le_of_ble_eq_true rfl) dX4_makes_245) (fun r245 h245 => ?_)
            subst h245
            refine s_iadd E dX4_makes_248 ?_
            refine aw_s9 E ((3 * k) + 2) (rfl) (by omega) dX4_makes_249 ?_
            refine s_ws (ws2 := aw ba ct Nw (srS k (hsQ s n (k, u, v, some w)) (plF s (k, u, v, some w)) Z) ad τ ξ) (congrArg (fun z => aw ba ct Nw z ad τ ξ) (rfl)) ?_
            have J285 : Sm pP l eE { frames := 2, cells := 0, slots := 0, locals := 51 } sS mM aA bB hM cC QQ AA D 10 0 0 (aw ba ct Nw (ldS (hsQ s n (k, u, v, some w)) (plF s (k, u, v, some w)) (srS k (hsQ s n (k, u, v, some w)) (plF s (k, u, v, some w)) Z)) ad τ ξ) 285 [(0, .ref (ba 0)), (1, .int (nI k)), (2, .int (nI u)), (3, .int (nI v)), (4, .int (nI w)), (5, .int (pvF s (k, u, v, some w))), (6, .int (pcF s (k, u, v, some w))), (7, .int (plF s (k, u, v, some w))), (8, .int (nI (hsQ s n (k, u, v, some w))))] [] := by
              have J345 : Sm pP l eE { frames := 2, cells := 0, slots := 0, locals := 51 } sS mM aA bB hM cC QQ AA D 10 0 0 (aw ba ct Nw (skS s n (k, u, v, some w) (ldS (hsQ s n (k, u, v, some w)) (plF s (k, u, v, some w)) (srS k (hsQ s n (k, u, v, some w)) (plF s (k, u, v, some w)) Z))) ad τ ξ) 345 [(0, .ref (ba 0)), (1, .int (nI k)), (2, .int (nI u)), (3, .int (nI v)), (4, .int (nI w)), (5, .int (pvF s (k, u, v, some w))), (6, .int (pcF s (k, u, v, some w))), (7, .int (plF s (k, u, v, some w))), (8, .int (nI (hsQ s n (k, u, v, some w))))] [] := by
                refine s_aload_n E dX4_makes_345 (i := 0) (j := 0) rfl rfl ?_
                refine s_dup E dX4_makes_346 rfl ?_
                refine awX4_g0_14 E (v := (skS s n (k, u, v, some w) (ldS (hsQ s n (k, u, v, some w)) (plF s (k, u, v, some w)) (srS k (hsQ s n (k, u, v, some w)) (plF s (k, u, v, some w)) Z))) 0 14) (rfl) dX4_makes_347 ?_
                refine s_iconst E dX4_makes_350 (v := nI 1) (by decide) ?_
                refine s_iadd E dX4_makes_351 ?_
                refine awX4_p0_14 E dX4_makes_352 ?_
                refine s_aload_n E dX4_makes_355 (i := 0) (j := 0) rfl rfl ?_
                refine s_dup E dX4_makes_356 rfl ?_
                refine awX4_g0_15 E (v := (skS s n (k, u, v, some w) (ldS (hsQ s n (k, u, v, some w)) (plF s (k, u, v, some w)) (srS k (hsQ s n (k, u, v, some w)) (plF s (k, u, v, some w)) Z))) 0 15) (rfl) dX4_makes_357 ?_
                refine s_iload E dX4_makes_360 (i := 7) (j := 7) rfl ?_
                have J370 : Sm pP l eE { frames := 2, cells := 0, slots := 0, locals := 51 } sS mM aA bB hM cC QQ AA D 10 0 0 (aw ba ct Nw (st1 (skS s n (k, u, v, some w) (ldS (hsQ s n (k, u, v, some w)) (plF s (k, u, v, some w)) (srS k (hsQ s n (k, u, v, some w)) (plF s (k, u, v, some w)) Z))) 0 14 (((skS s n (k, u, v, some w) (ldS (hsQ s n (k, u, v, some w)) (plF s (k, u, v, some w)) (srS k (hsQ s n (k, u, v, some w)) (plF s (k, u, v, some w)) Z))) 0 14) + (nI 1))) ad τ ξ) 370 [(0, .ref (ba 0)), (1, .int (nI k)), (2, .int (nI u)), (3, .int (nI v)), (4, .int (nI w)), (5, .int (pvF s (k, u, v, some w))), (6, .int (pcF s (k, u, v, some w))), (7, .int (plF s (k, u, v, some w))), (8, .int (nI (hsQ s n (k, u, v, some w))))] [.int (nI (if plF s (k, u, v, some w) < 0 then 0 else 1)), .int ((skS s n (k, u, v, some w) (ldS (hsQ s n (k, u, v, some w)) (plF s (k, u, v, some w)) (srS k (hsQ s n (k, u, v, some w)) (plF s (k, u, v, some w)) Z))) 0 15), .ref (ba 0)] := by
                  refine s_iadd E dX4_makes_370 ?_
                  refine awX4_p0_15 E dX4_makes_371 ?_
                  refine s_aload_n E dX4_makes_374 (i := 0) (j := 0) rfl rfl ?_
                  refine s_dup E dX4_makes_375 rfl ?_
                  refine awX4_g0_16 E (v := (skS s n (k, u, v, some w) (ldS (hsQ s n (k, u, v, some w)) (plF s (k, u, v, some w)) (srS k (hsQ s n (k, u, v, some w)) (plF s (k, u, v, some w)) Z))) 0 16) (rfl) dX4_makes_376 ?_
                  refine s_iload E dX4_makes_379 (i := 8) (j := 8) rfl ?_
                  refine c_gos E (rS E (cutZ _ _) (j8z_bitCount (hsQ s n (k, u, v, some w)) (h256)) K_X4_156 (Nat.le_of_ble_eq_true rfl) (Nat.le_of_ble_eq_true rfl) (Nat.zero_le _) (Nat.zero_le _) rfl rfl (Nat.le_of_ble_eq_true rfl) dX4_makes_381) (fun r381 h381 => ?_)
                  subst h381
                  refine s_iadd E dX4_makes_384 ?_
                  refine awX4_p0_16 E dX4_makes_385 ?_
                  exact Rt (st1 (st1 (st1 (skS s n (k, u, v, some w) (ldS (hsQ s n (k, u, v, some w)) (plF s (k, u, v, some w)) (srS k (hsQ s n (k, u, v, some w)) (plF s (k, u, v, some w)) Z))) 0 14 (((skS s n (k, u, v, some w) (ldS (hsQ s n (k, u, v, some w)) (plF s (k, u, v, some w)) (srS k (hsQ s n (k, u, v, some w)) (plF s (k, u, v, some w)) Z))) 0 14) + (nI 1))) 0 15 (((skS s n (k, u, v, some w) (ldS (hsQ s n (k, u, v, some w)) (plF s (k, u, v, some w)) (srS k (hsQ s n (k, u, v, some w)) (plF s (k, u, v, some w)) Z))) 0 15) + (nI (if plF s (k, u, v, some w) < 0 then 0 else 1)))) 0 16 (((skS s n (k, u, v, some w) (ldS (hsQ s n (k, u, v, some w)) (plF s (k, u, v, some w)) (srS k (hsQ s n (k, u, v, some w)) (plF s (k, u, v, some w)) Z))) 0 16) + (nI (pop (hsQ s n (k, u, v, some w)))))) dX4_makes_388 (by subst hZ; exact hL.ok hB (by unfold okP; simp only [Bool.and_eq_true, Bool.not_eq_true', decide_eq_false_iff_not]; exact ⟨c26, c66⟩) hk hlen) rfl (Nat.le_refl _) (Nat.le_refl _) E.2.2.2.2.2.1
                refine s_if_lt E dX4_makes_362 (tgt := 369) rfl (fun c362 => ?_) (fun c362 => ?_)
                · refine s_iconst E dX4_makes_369 (v := nI 0) (by decide) ?_
                  refine s_top (v2 := nI (if plF s (k, u, v, some w) < 0 then 0 else 1)) (by rw [if_pos c362]) ?_
                  exact J370
                · refine s_iconst E dX4_makes_365 (v := nI 1) (by decide) ?_
                  refine s_goto E dX4_makes_366 (tgt := 370) rfl ?_
                  refine s_top (v2 := nI (if plF s (k, u, v, some w) < 0 then 0 else 1)) (by rw [if_neg c362]) ?_
                  exact J370
              refine s_aload_n E dX4_makes_285 (i := 0) (j := 0) rfl rfl ?_
              refine awX4_g0_14 E (v := (ldS (hsQ s n (k, u, v, some w)) (plF s (k, u, v, some w)) (srS k (hsQ s n (k, u, v, some w)) (plF s (k, u, v, some w)) Z)) 0 14) (rfl) dX4_makes_286 ?_
              refine s_aload_n E dX4_makes_289 (i := 0) (j := 0) rfl rfl ?_
              refine awX4_g0_18 E (v := (ldS (hsQ s n (k, u, v, some w)) (plF s (k, u, v, some w)) (srS k (hsQ s n (k, u, v, some w)) (plF s (k, u, v, some w)) Z)) 0 18) (rfl) dX4_makes_290 ?_
              refine s_icmp_ne E dX4_makes_293 (tgt := 345) rfl (fun c293 => ?_) (fun c293 => ?_)
              · refine s_ws (ws2 := aw ba ct Nw (skS s n (k, u, v, some w) (ldS (hsQ s n (k, u, v, some w)) (plF s (k, u, v, some w)) (srS k (hsQ s n (k, u, v, some w)) (plF s (k, u, v, some w)) Z))) ad τ ξ) (congrArg (fun z => aw ba ct Nw z ad τ ξ) (show _ = _ from by unfold skS; rw [if_neg c293])) ?_
                exact J345
              · refine s_aload_n E dX4_makes_296 (i := 0) (j := 0) rfl rfl ?_
                refine s_iload_n E dX4_makes_297 (i := 1) (j := 1) rfl rfl ?_
                refine awX4_p0_19 E dX4_makes_298 ?_
                refine s_aload_n E dX4_makes_301 (i := 0) (j := 0) rfl rfl ?_
                refine s_iload_n E dX4_makes_302 (i := 2) (j := 2) rfl rfl ?_
                refine awX4_p0_20 E dX4_makes_303 ?_
                refine s_aload_n E dX4_makes_306 (i := 0) (j := 0) rfl rfl ?_
                refine s_iload_n E dX4_makes_307 (i := 3) (j := 3) rfl rfl ?_
                refine awX4_p0_21 E dX4_makes_308 ?_
                refine s_aload_n E dX4_makes_311 (i := 0) (j := 0) rfl rfl ?_
                refine s_iload E dX4_makes_312 (i := 4) (j := 4) rfl ?_
                refine s_if_ge E dX4_makes_314 (tgt := 322) rfl (fun c314 => ?_) (fun c314 => absurd (nI_pos' (by omega)) c314)
                have c314 : ¬ w < 0 := fun h => absurd c314 (Int32.not_le.mpr ((nI_ltI (a := w) (b := 0) (by omega) (by omega)).mpr h))
                refine s_iload E dX4_makes_322 (i := 4) (j := 4) rfl ?_
                refine awX4_p0_22 E dX4_makes_324 ?_
                refine s_aload_n E dX4_makes_327 (i := 0) (j := 0) rfl rfl ?_
                refine s_iload E dX4_makes_328 (i := 5) (j := 5) rfl ?_
                refine awX4_p0_23 E dX4_makes_330 ?_
                refine s_aload_n E dX4_makes_333 (i := 0) (j := 0) rfl rfl ?_
                refine s_iload E dX4_makes_334 (i := 7) (j := 7) rfl ?_
                refine awX4_p0_24 E dX4_makes_336 ?_
                refine s_aload_n E dX4_makes_339 (i := 0) (j := 0) rfl rfl ?_
                refine s_iload E dX4_makes_340 (i := 8) (j := 8) rfl ?_
                refine awX4_p0_25 E dX4_makes_342 ?_
                refine s_ws (ws2 := aw ba ct Nw (skS s n (k, u, v, some w) (ldS (hsQ s n (k, u, v, some w)) (plF s (k, u, v, some w)) (srS k (hsQ s n (k, u, v, some w)) (plF s (k, u, v, some w)) Z))) ad τ ξ) (congrArg (fun z => aw ba ct Nw z ad τ ξ) (show _ = _ from by unfold skS; rw [if_pos c293]; rfl)) ?_
                exact J345
            refine s_iload E dX4_makes_250 (i := 8) (j := 8) rfl ?_
            refine s_if_eq E dX4_makes_252 (tgt := 285) rfl (fun c252 => ?_) (fun c252 => ?_)
            · have c252 : hsQ s n (k, u, v, some w) = 0 := (nI_eq (a := hsQ s n (k, u, v, some w)) (b := 0) (by omega) (by omega)).mp c252
              refine s_ws (ws2 := aw ba ct Nw (ldS (hsQ s n (k, u, v, some w)) (plF s (k, u, v, some w)) (srS k (hsQ s n (k, u, v, some w)) (plF s (k, u, v, some w)) Z)) ad τ ξ) (congrArg (fun z => aw ba ct Nw z ad τ ξ) (show _ = _ from by unfold ldS; rw [if_neg (fun h => h.1 c252)])) ?_
              exact J285
            · have c252 : ¬ hsQ s n (k, u, v, some w) = 0 := fun h => c252 ((nI_eq (a := hsQ s n (k, u, v, some w)) (b := 0) (by omega) (by omega)).mpr h)
              refine s_aload_n E dX4_makes_255 (i := 0) (j := 0) rfl rfl ?_
              refine awX4_g0_26 E (v := (srS k (hsQ s n (k, u, v, some w)) (plF s (k, u, v, some w)) Z) 0 26) (rfl) dX4_makes_256 ?_
              refine s_if_lt E dX4_makes_259 (tgt := 271) rfl (fun c259 => ?_) (fun c259 => ?_)
              · refine s_aload_n E dX4_makes_271 (i := 0) (j := 0) rfl rfl ?_
                refine s_aload_n E dX4_makes_272 (i := 0) (j := 0) rfl rfl ?_
                refine awX4_g0_14 E (v := (srS k (hsQ s n (k, u, v, some w)) (plF s (k, u, v, some w)) Z) 0 14) (rfl) dX4_makes_273 ?_
                refine awX4_p0_26 E dX4_makes_276 ?_
                refine s_aload_n E dX4_makes_279 (i := 0) (j := 0) rfl rfl ?_
                refine s_iload E dX4_makes_280 (i := 7) (j := 7) rfl ?_
                refine awX4_p0_27 E dX4_makes_282 ?_
                refine s_ws (ws2 := aw ba ct Nw (ldS (hsQ s n (k, u, v, some w)) (plF s (k, u, v, some w)) (srS k (hsQ s n (k, u, v, some w)) (plF s (k, u, v, some w)) Z)) ad τ ξ) (congrArg (fun z => aw ba ct Nw z ad τ ξ) (show _ = _ from by unfold ldS; rw [if_pos ⟨c252, by first | exact Or.inl c259 | exact Or.inr c268⟩])) ?_
                exact J285
              · refine s_iload E dX4_makes_262 (i := 7) (j := 7) rfl ?_
                refine s_aload_n E dX4_makes_264 (i := 0) (j := 0) rfl rfl ?_
                refine awX4_g0_27 E (v := (srS k (hsQ s n (k, u, v, some w)) (plF s (k, u, v, some w)) Z) 0 27) (rfl) dX4_makes_265 ?_
                refine s_icmp_le E dX4_makes_268 (tgt := 285) rfl (fun c268 => ?_) (fun c268 => ?_)
                · have c268 := Int32.not_lt.mpr c268
                  refine s_ws (ws2 := aw ba ct Nw (ldS (hsQ s n (k, u, v, some w)) (plF s (k, u, v, some w)) (srS k (hsQ s n (k, u, v, some w)) (plF s (k, u, v, some w)) Z)) ad τ ξ) (congrArg (fun z => aw ba ct Nw z ad τ ξ) (show _ = _ from by unfold ldS; rw [if_neg (fun h => Or.elim h.2 c259 c268)])) ?_
                  exact J285
                · have c268 := Int32.not_le.mp c268
                  refine s_aload_n E dX4_makes_271 (i := 0) (j := 0) rfl rfl ?_
                  refine s_aload_n E dX4_makes_272 (i := 0) (j := 0) rfl rfl ?_
                  refine awX4_g0_14 E (v := (srS k (hsQ s n (k, u, v, some w)) (plF s (k, u, v, some w)) Z) 0 14) (rfl) dX4_makes_273 ?_
                  refine awX4_p0_26 E dX4_makes_276 ?_
                  refine s_aload_n E dX4_makes_279 (i := 0) (j := 0) rfl rfl ?_
                  refine s_iload E dX4_makes_280 (i := 7) (j := 7) rfl ?_
                  refine awX4_p0_27 E dX4_makes_282 ?_
                  refine s_ws (ws2 := aw ba ct Nw (ldS (hsQ s n (k, u, v, some w)) (plF s (k, u, v, some w)) (srS k (hsQ s n (k, u, v, some w)) (plF s (k, u, v, some w)) Z)) ad τ ξ) (congrArg (fun z => aw ba ct Nw z ad τ ξ) (show _ = _ from by unfold ldS; rw [if_pos ⟨c252, by first | exact Or.inl c259 | exact Or.inr c268⟩])) ?_
                  exact J285
          refine s_if_lt E dX4_makes_222 (tgt := 229) rfl (fun c222 => ?_) (fun c222 => ?_)
          · refine s_iconst E dX4_makes_229 (v := nI 0) (by decide) ?_
            refine s_top (v2 := nI (if plF s (k, u, v, some w) < 0 then 0 else 1)) (by rw [if_pos c222]) ?_
            exact J230
          · refine s_iconst E dX4_makes_225 (v := nI 1) (by decide) ?_
            refine s_goto E dX4_makes_226 (tgt := 230) rfl ?_
            refine s_top (v2 := nI (if plF s (k, u, v, some w) < 0 then 0 else 1)) (by rw [if_neg c222]) ?_
            exact J230
        have hAn := hA.cg (Z := nearW s (k, u, v, some w) σ n) (fun k _ _ => congrFun (nearW_r (by decide) n) k) (nearW_r (by decide) n) (nearW_r (by decide) n) (nearW_r (by decide) n) (nearW_r (by decide) n)
        refine s_aload_n E dX4_makes_178 (i := 0) (j := 0) rfl rfl ?_
        refine awX4_g0_18 E (v := sg) ((congrFun (nearW_r (by decide) n) 18).trans hL.1.2.1) dX4_makes_179 ?_
        refine s_if_ge E dX4_makes_182 (tgt := 197) rfl (fun c182 => ?_) (fun c182 => ?_)
        · have c182 := Int32.not_lt.mpr c182
          refine s_ws (ws2 := aw ba ct Nw (mkZ s n (k, u, v, some w) sg σ) ad τ ξ) (congrArg (fun z => aw ba ct Nw z ad τ ξ) (show _ = _ from by unfold mkZ; rw [if_neg c182])) ?_
          exact J197
        · have c182 := Int32.not_le.mp c182
          refine s_aload_n E dX4_makes_185 (i := 0) (j := 0) rfl rfl ?_
          refine s_iload E dX4_makes_186 (i := 8) (j := 8) rfl ?_
          refine s_iload E dX4_makes_188 (i := 6) (j := 6) rfl ?_
          refine s_iload_n E dX4_makes_190 (i := 2) (j := 2) rfl rfl ?_
          refine s_iload_n E dX4_makes_191 (i := 3) (j := 3) rfl rfl ?_
          refine s_iload E dX4_makes_192 (i := 4) (j := 4) rfl ?_
          refine c_gov0 E (rV E (cutS _ _) (x4z_counts3 s n k u v w (hsQ s n (k, u, v, some w)) (pcF s (k, u, v, some w)) (hAn) (hnN) (hN8) (hu) (hv) (hw) (huw) (hvw) (huv) (h256)) K_X4_152 (Nat.le_of_ble_eq_true rfl) (Nat.le_of_ble_eq_true rfl) (Nat.zero_le _) (Nat.zero_le _) 0 rfl rfl rfl rfl (Nat.le_of_ble_eq_true rfl) dX4_makes_194) (fun w194 h194 => ?_)
          subst h194
          refine s_ws (ws2 := aw ba ct Nw (mkZ s n (k, u, v, some w) sg σ) ad τ ξ) (congrArg (fun z => aw ba ct Nw z ad τ ξ) (show _ = _ from by unfold mkZ; rw [if_pos c182])) ?_
          exact J197
      refine s_iconst E dX4_makes_106 (v := nI 0) (by decide) ?_
      refine s_istore E (L2 := [(9, .int (nI 0)), (8, .int (nI 0)), (7, .int (plF s (k, u, v, some w))), (6, .int (pcF s (k, u, v, some w))), (5, .int (pvF s (k, u, v, some w))), (0, .ref (ba 0)), (1, .int (nI k)), (2, .int (nI u)), (3, .int (nI v)), (4, .int (nI w))]) dX4_makes_107 (Nat.le_of_ble_eq_true rfl) rfl ?_
      have L109 : ∀ (fuel : Nat) (o : Nat), (o ≤ n) → (n - o) < fuel → Sm pP l eE { frames := 2, cells := 0, slots := 0, locals := 51 } sS mM aA bB hM cC QQ AA D 10 0 0 (aw ba ct Nw (nearW s (k, u, v, some w) σ o) ad τ ξ) 109 [(0, .ref (ba 0)), (1, .int (nI k)), (2, .int (nI u)), (3, .int (nI v)), (4, .int (nI w)), (5, .int (pvF s (k, u, v, some w))), (6, .int (pcF s (k, u, v, some w))), (7, .int (plF s (k, u, v, some w))), (8, .int (nI (setN (hitQ s (k, u, v, some w)) o))), (9, .int (nI o))] [] := by
        intro fuel
        induction fuel with
        | zero =>
          intro o hoi hf109
          exact absurd hf109 (Nat.not_lt_zero _)
        | succ fuel ih109 =>
          intro o hoi hf109
          have hAo := hA.cg (Z := nearW s (k, u, v, some w) σ o) (fun k _ _ => congrFun (nearW_r (by decide) o) k) (nearW_r (by decide) o) (nearW_r (by decide) o) (nearW_r (by decide) o) (nearW_r (by decide) o)
          refine s_iload E dX4_makes_109 (i := 9) (j := 9) rfl ?_
          refine s_aload_n E dX4_makes_111 (i := 0) (j := 0) rfl rfl ?_
          refine awX4_g0_9 E (v := nI n) ((congrFun (nearW_r (by decide) o) 9).trans hA.1) dX4_makes_112 ?_
          refine s_icmp_ge E dX4_makes_115 (tgt := 178) rfl (fun c115 => ?_) (fun c115 => ?_)
          · have c115 : ¬ o < n := fun h => absurd c115 (Int32.not_le.mpr ((nI_ltI (a := o) (b := n) (by omega) (by omega)).mpr h))
            have hx := nw_end1 (s := s) (q := (k, u, v, some w)) (Y := σ) c115 hoi
            refine s_loc (L2 := [(0, .ref (ba 0)), (1, .int (nI k)), (2, .int (nI u)), (3, .int (nI v)), (4, .int (nI w)), (5, .int (pvF s (k, u, v, some w))), (6, .int (pcF s (k, u, v, some w))), (7, .int (plF s (k, u, v, some w))), (8, .int (nI (setN (hitQ s (k, u, v, some w)) o)))]) [0, 1, 2, 3, 4, 5, 6, 7, 8] rfl ?_
            refine s_L (L2 := [(0, .ref (ba 0)), (1, .int (nI k)), (2, .int (nI u)), (3, .int (nI v)), (4, .int (nI w)), (5, .int (pvF s (k, u, v, some w))), (6, .int (pcF s (k, u, v, some w))), (7, .int (plF s (k, u, v, some w))), (8, .int (nI (hsQ s n (k, u, v, some w))))]) (by rw [hx.1]) ?_
            refine s_ws (ws2 := aw ba ct Nw (nearW s (k, u, v, some w) σ n) ad τ ξ) (congrArg (fun z => aw ba ct Nw z ad τ ξ) (show _ = _ from by rw [hx.2])) ?_
            exact J178
          · have c115 : o < n := (nI_ltI (a := o) (b := n) (by omega) (by omega)).mp (Int32.not_le.mp c115)
            refine s_iload E dX4_makes_118 (i := 7) (j := 7) rfl ?_
            refine s_if_lt E dX4_makes_120 (tgt := 178) rfl (fun c120 => ?_) (fun c120 => ?_)
            · have hx := nw_end2 (s := s) (q := (k, u, v, some w)) (Y := σ) (o := o) (n := n) c120
              refine s_loc (L2 := [(0, .ref (ba 0)), (1, .int (nI k)), (2, .int (nI u)), (3, .int (nI v)), (4, .int (nI w)), (5, .int (pvF s (k, u, v, some w))), (6, .int (pcF s (k, u, v, some w))), (7, .int (plF s (k, u, v, some w))), (8, .int (nI (setN (hitQ s (k, u, v, some w)) o)))]) [0, 1, 2, 3, 4, 5, 6, 7, 8] rfl ?_
              refine s_L (L2 := [(0, .ref (ba 0)), (1, .int (nI k)), (2, .int (nI u)), (3, .int (nI v)), (4, .int (nI w)), (5, .int (pvF s (k, u, v, some w))), (6, .int (pcF s (k, u, v, some w))), (7, .int (plF s (k, u, v, some w))), (8, .int (nI (hsQ s n (k, u, v, some w))))]) (by rw [hx.1]) ?_
              refine s_ws (ws2 := aw ba ct Nw (nearW s (k, u, v, some w) σ n) ad τ ξ) (congrArg (fun z => aw ba ct Nw z ad τ ξ) (show _ = _ from by rw [hx.2])) ?_
              exact J178
            · refine s_iload E dX4_makes_123 (i := 9) (j := 9) rfl ?_
              refine s_iload_n E dX4_makes_125 (i := 2) (j := 2) rfl rfl ?_
              refine s_icmp_eq E dX4_makes_126 (tgt := 172) rfl (fun c126 => ?_) (fun c126 => ?_)
              · have c126 : o = u := (nI_eq (a := o) (b := u) (by omega) (by omega)).mp c126
                have hin : inQ (k, u, v, some w) o = true := inQ_y1 c126
                refine s_iinc E (L2 := [(9, .int (nI (o + 1))), (0, .ref (ba 0)), (1, .int (nI k)), (2, .int (nI u)), (3, .int (nI v)), (4, .int (nI w)), (5, .int (pvF s (k, u, v, some w))), (6, .int (pcF s (k, u, v, some w))), (7, .int (plF s (k, u, v, some w))), (8, .int (nI (setN (hitQ s (k, u, v, some w)) o)))]) dX4_makes_172 (k := 9) rfl (v := nI (o + 1)) (nI_inc _) (Nat.le_of_ble_eq_true rfl) rfl ?_
                refine s_goto E dX4_makes_175 (tgt := 109) rfl ?_
                refine s_ws (ws2 := aw ba ct Nw (nearW s (k, u, v, some w) σ (o + 1)) ad τ ξ) (congrArg (fun z => aw ba ct Nw z ad τ ξ) (show _ = _ from by rw [nearW, if_pos hin])) ?_
                refine s_loc (L2 := [(0, .ref (ba 0)), (1, .int (nI k)), (2, .int (nI u)), (3, .int (nI v)), (4, .int (nI w)), (5, .int (pvF s (k, u, v, some w))), (6, .int (pcF s (k, u, v, some w))), (7, .int (plF s (k, u, v, some w))), (8, .int (nI (setN (hitQ s (k, u, v, some w)) o))), (9, .int (nI (o + 1)))]) [1, 2, 3, 4, 5, 6, 7, 8, 9, 0] rfl ?_
                refine s_L (L2 := [(0, .ref (ba 0)), (1, .int (nI k)), (2, .int (nI u)), (3, .int (nI v)), (4, .int (nI w)), (5, .int (pvF s (k, u, v, some w))), (6, .int (pcF s (k, u, v, some w))), (7, .int (plF s (k, u, v, some w))), (8, .int (nI (setN (hitQ s (k, u, v, some w)) (o + 1)))), (9, .int (nI (o + 1)))]) (by rw [setN_f (f := hitQ s (k, u, v, some w)) (fun h => may_in hin (hit_may h))]) ?_
                exact ih109 (o + 1) (by omega) (by omega)
              · have c126 : ¬ o = u := fun h => c126 ((nI_eq (a := o) (b := u) (by omega) (by omega)).mpr h)
                refine s_iload E dX4_makes_129 (i := 9) (j := 9) rfl ?_
                refine s_iload_n E dX4_makes_131 (i := 3) (j := 3) rfl rfl ?_
                refine s_icmp_eq E dX4_makes_132 (tgt := 172) rfl (fun c132 => ?_) (fun c132 => ?_)
                · have c132 : o = v := (nI_eq (a := o) (b := v) (by omega) (by omega)).mp c132
                  have hin : inQ (k, u, v, some w) o = true := inQ_y2 c132
                  refine s_iinc E (L2 := [(9, .int (nI (o + 1))), (0, .ref (ba 0)), (1, .int (nI k)), (2, .int (nI u)), (3, .int (nI v)), (4, .int (nI w)), (5, .int (pvF s (k, u, v, some w))), (6, .int (pcF s (k, u, v, some w))), (7, .int (plF s (k, u, v, some w))), (8, .int (nI (setN (hitQ s (k, u, v, some w)) o)))]) dX4_makes_172 (k := 9) rfl (v := nI (o + 1)) (nI_inc _) (Nat.le_of_ble_eq_true rfl) rfl ?_
                  refine s_goto E dX4_makes_175 (tgt := 109) rfl ?_
                  refine s_ws (ws2 := aw ba ct Nw (nearW s (k, u, v, some w) σ (o + 1)) ad τ ξ) (congrArg (fun z => aw ba ct Nw z ad τ ξ) (show _ = _ from by rw [nearW, if_pos hin])) ?_
                  refine s_loc (L2 := [(0, .ref (ba 0)), (1, .int (nI k)), (2, .int (nI u)), (3, .int (nI v)), (4, .int (nI w)), (5, .int (pvF s (k, u, v, some w))), (6, .int (pcF s (k, u, v, some w))), (7, .int (plF s (k, u, v, some w))), (8, .int (nI (setN (hitQ s (k, u, v, some w)) o))), (9, .int (nI (o + 1)))]) [1, 2, 3, 4, 5, 6, 7, 8, 9, 0] rfl ?_
                  refine s_L (L2 := [(0, .ref (ba 0)), (1, .int (nI k)), (2, .int (nI u)), (3, .int (nI v)), (4, .int (nI w)), (5, .int (pvF s (k, u, v, some w))), (6, .int (pcF s (k, u, v, some w))), (7, .int (plF s (k, u, v, some w))), (8, .int (nI (setN (hitQ s (k, u, v, some w)) (o + 1)))), (9, .int (nI (o + 1)))]) (by rw [setN_f (f := hitQ s (k, u, v, some w)) (fun h => may_in hin (hit_may h))]) ?_
                  exact ih109 (o + 1) (by omega) (by omega)
                · have c132 : ¬ o = v := fun h => c132 ((nI_eq (a := o) (b := v) (by omega) (by omega)).mpr h)
                  refine s_iload E dX4_makes_135 (i := 9) (j := 9) rfl ?_
                  refine s_iload E dX4_makes_137 (i := 4) (j := 4) rfl ?_
                  refine s_icmp_eq E dX4_makes_139 (tgt := 172) rfl (fun c139 => ?_) (fun c139 => ?_)
                  · have c139 : o = w := (nI_eq (a := o) (b := w) (by omega) (by omega)).mp c139
                    have hin : inQ (k, u, v, some w) o = true := inQ_y3 c139
                    refine s_iinc E (L2 := [(9, .int (nI (o + 1))), (0, .ref (ba 0)), (1, .int (nI k)), (2, .int (nI u)), (3, .int (nI v)), (4, .int (nI w)), (5, .int (pvF s (k, u, v, some w))), (6, .int (pcF s (k, u, v, some w))), (7, .int (plF s (k, u, v, some w))), (8, .int (nI (setN (hitQ s (k, u, v, some w)) o)))]) dX4_makes_172 (k := 9) rfl (v := nI (o + 1)) (nI_inc _) (Nat.le_of_ble_eq_true rfl) rfl ?_
                    refine s_goto E dX4_makes_175 (tgt := 109) rfl ?_
                    refine s_ws (ws2 := aw ba ct Nw (nearW s (k, u, v, some w) σ (o + 1)) ad τ ξ) (congrArg (fun z => aw ba ct Nw z ad τ ξ) (show _ = _ from by rw [nearW, if_pos hin])) ?_
                    refine s_loc (L2 := [(0, .ref (ba 0)), (1, .int (nI k)), (2, .int (nI u)), (3, .int (nI v)), (4, .int (nI w)), (5, .int (pvF s (k, u, v, some w))), (6, .int (pcF s (k, u, v, some w))), (7, .int (plF s (k, u, v, some w))), (8, .int (nI (setN (hitQ s (k, u, v, some w)) o))), (9, .int (nI (o + 1)))]) [1, 2, 3, 4, 5, 6, 7, 8, 9, 0] rfl ?_
                    refine s_L (L2 := [(0, .ref (ba 0)), (1, .int (nI k)), (2, .int (nI u)), (3, .int (nI v)), (4, .int (nI w)), (5, .int (pvF s (k, u, v, some w))), (6, .int (pcF s (k, u, v, some w))), (7, .int (plF s (k, u, v, some w))), (8, .int (nI (setN (hitQ s (k, u, v, some w)) (o + 1)))), (9, .int (nI (o + 1)))]) (by rw [setN_f (f := hitQ s (k, u, v, some w)) (fun h => may_in hin (hit_may h))]) ?_
                    exact ih109 (o + 1) (by omega) (by omega)
                  · have c139 : ¬ o = w := fun h => c139 ((nI_eq (a := o) (b := w) (by omega) (by omega)).mpr h)
                    have hin : inQ (k, u, v, some w) o = false := inQ_no3 c126 c132 c139
                    refine s_aload_n E dX4_makes_142 (i := 0) (j := 0) rfl rfl ?_
                    refine s_iload E dX4_makes_143 (i := 9) (j := 9) rfl ?_
                    refine s_aload_n E dX4_makes_145 (i := 0) (j := 0) rfl rfl ?_
                    refine awX4_g0_0 E dX4_makes_146 ?_
                    refine s_iload_n E dX4_makes_149 (i := 2) (j := 2) rfl rfl ?_
                    refine aw_l1 E (v := s 6 u) (u) (rfl) (by omega) hN8 ((congrFun (nearW_r (by decide) o) u).trans (hA.2.2.2.2.2 u hu).1) dX4_makes_150 ?_
                    refine s_iload E dX4_makes_151 (i := 5) (j := 5) rfl ?_
                    refine s_iload E dX4_makes_153 (i := 7) (j := 7) rfl ?_
                    refine s_iload E dX4_makes_155 (i := 6) (j := 6) rfl ?_
                    refine c_goi0 E (rV E (cutS _ _) (x4z_isHit s n (k, u, v, some w) o (hAo) (hnN) (hN8) (hT) (hu) (by omega) (hin) (c120)) K_X4_148 (Nat.le_of_ble_eq_true rfl) (Nat.le_of_ble_eq_true rfl) (Nat.zero_le _) (Nat.zero_le _) 0 rfl rfl rfl rfl (Nat.le_of_ble_eq_true rfl) dX4_makes_157) (fun r157 w157 h157 => ?_)
                    obtain ⟨rfl, rfl⟩ := h157
                    refine s_if_eq E dX4_makes_160 (tgt := 172) rfl (fun c160 => ?_) (fun c160 => ?_)
                    · have c160 := bI_0 c160
                      refine s_iinc E (L2 := [(9, .int (nI (o + 1))), (0, .ref (ba 0)), (1, .int (nI k)), (2, .int (nI u)), (3, .int (nI v)), (4, .int (nI w)), (5, .int (pvF s (k, u, v, some w))), (6, .int (pcF s (k, u, v, some w))), (7, .int (plF s (k, u, v, some w))), (8, .int (nI (setN (hitQ s (k, u, v, some w)) o)))]) dX4_makes_172 (k := 9) rfl (v := nI (o + 1)) (nI_inc _) (Nat.le_of_ble_eq_true rfl) rfl ?_
                      refine s_goto E dX4_makes_175 (tgt := 109) rfl ?_
                      refine s_ws (ws2 := aw ba ct Nw (nearW s (k, u, v, some w) σ (o + 1)) ad τ ξ) (congrArg (fun z => aw ba ct Nw z ad τ ξ) (show _ = _ from by rw [nearW, if_neg (by rw [hin]; decide)])) ?_
                      refine s_loc (L2 := [(0, .ref (ba 0)), (1, .int (nI k)), (2, .int (nI u)), (3, .int (nI v)), (4, .int (nI w)), (5, .int (pvF s (k, u, v, some w))), (6, .int (pcF s (k, u, v, some w))), (7, .int (plF s (k, u, v, some w))), (8, .int (nI (setN (hitQ s (k, u, v, some w)) o))), (9, .int (nI (o + 1)))]) [1, 2, 3, 4, 5, 6, 7, 8, 9, 0] rfl ?_
                      refine s_L (L2 := [(0, .ref (ba 0)), (1, .int (nI k)), (2, .int (nI u)), (3, .int (nI v)), (4, .int (nI w)), (5, .int (pvF s (k, u, v, some w))), (6, .int (pcF s (k, u, v, some w))), (7, .int (plF s (k, u, v, some w))), (8, .int (nI (setN (hitQ s (k, u, v, some w)) (o + 1)))), (9, .int (nI (o + 1)))]) (by rw [setN_f c160]) ?_
                      exact ih109 (o + 1) (by omega) (by omega)
                    · have c160 := bI_n0 c160
                      refine s_iload E dX4_makes_163 (i := 8) (j := 8) rfl ?_
                      refine s_iconst E dX4_makes_165 (v := nI 1) (by decide) ?_
                      refine s_iload E dX4_makes_166 (i := 9) (j := 9) rfl ?_
                      refine s_ishl E dX4_makes_168 ?_
                      refine s_ior_ E dX4_makes_169 (v := nI (setN (hitQ s (k, u, v, some w)) (o + 1))) (setN_t (by omega) c160) ?_
                      refine s_istore E (L2 := [(8, .int (nI (setN (hitQ s (k, u, v, some w)) (o + 1)))), (0, .ref (ba 0)), (1, .int (nI k)), (2, .int (nI u)), (3, .int (nI v)), (4, .int (nI w)), (5, .int (pvF s (k, u, v, some w))), (6, .int (pcF s (k, u, v, some w))), (7, .int (plF s (k, u, v, some w))), (9, .int (nI o))]) dX4_makes_170 (Nat.le_of_ble_eq_true rfl) rfl ?_
                      refine s_iinc E (L2 := [(9, .int (nI (o + 1))), (8, .int (nI (setN (hitQ s (k, u, v, some w)) (o + 1)))), (0, .ref (ba 0)), (1, .int (nI k)), (2, .int (nI u)), (3, .int (nI v)), (4, .int (nI w)), (5, .int (pvF s (k, u, v, some w))), (6, .int (pcF s (k, u, v, some w))), (7, .int (plF s (k, u, v, some w)))]) dX4_makes_172 (k := 9) rfl (v := nI (o + 1)) (nI_inc _) (Nat.le_of_ble_eq_true rfl) rfl ?_
                      refine s_goto E dX4_makes_175 (tgt := 109) rfl ?_
                      refine s_ws (ws2 := aw ba ct Nw (nearW s (k, u, v, some w) σ (o + 1)) ad τ ξ) (congrArg (fun z => aw ba ct Nw z ad τ ξ) (show _ = _ from by rw [nearW, if_neg (by rw [hin]; decide)])) ?_
                      refine s_loc (L2 := [(0, .ref (ba 0)), (1, .int (nI k)), (2, .int (nI u)), (3, .int (nI v)), (4, .int (nI w)), (5, .int (pvF s (k, u, v, some w))), (6, .int (pcF s (k, u, v, some w))), (7, .int (plF s (k, u, v, some w))), (8, .int (nI (setN (hitQ s (k, u, v, some w)) (o + 1)))), (9, .int (nI (o + 1)))]) [2, 3, 4, 5, 6, 7, 8, 9, 1, 0] rfl ?_
                      exact ih109 (o + 1) (by omega) (by omega)
      refine s_loc (L2 := [(0, .ref (ba 0)), (1, .int (nI k)), (2, .int (nI u)), (3, .int (nI v)), (4, .int (nI w)), (5, .int (pvF s (k, u, v, some w))), (6, .int (pcF s (k, u, v, some w))), (7, .int (plF s (k, u, v, some w))), (8, .int (nI 0)), (9, .int (nI 0))]) [5, 6, 7, 8, 9, 4, 3, 2, 1, 0] rfl ?_
      exact L109 (_ + 1) 0 (Nat.zero_le _) (Nat.lt_succ_self _)
    · exact Rt (σ) dX4_makes_69 (hL.no (by unfold okP; simp only [Bool.and_eq_true, Bool.not_eq_true', decide_eq_false_iff_not]; exact fun h => h.2 c66)) rfl (Nat.le_refl _) (Nat.le_refl _) E.2.2.2.2.2.1
  · have c26 := bI_0 c26
    exact Rt (σ) dX4_makes_29 (hL.no (by unfold okP; simp only [Bool.and_eq_true, Bool.not_eq_true', decide_eq_false_iff_not]; exact fun h => c26 h.1)) rfl (Nat.le_refl _) (Nat.le_refl _) E.2.2.2.2.2.1
