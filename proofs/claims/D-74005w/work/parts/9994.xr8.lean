set_option maxRecDepth 100000
theorem twX2_gV_4 {p : Program} {l : Launch} {e : Env} {R : Room} {s : State} {m : MethodId} {args : Array Value} {below : List Frame} {meth : Method} {c : Code} {Q : State → Prop} {A : Nat → Prop} {D : va_G} {nL cells slots : Nat} {pc : Nat} {L : List (Nat × Value)} {S : List Value} {cc : ByteArray} {ret : Option FieldType} {gt : Nat → Nat} {ad ra : Nat → Nat} {ct : Nat → ClassId} {n : Nat} {ξ σ : Nat → Nat → Int32} (E : En p s m args meth c A cc nL RX2 ret D (tysA ct) gt) {v : Int32} (hv : σ 3 17 = v) (d : decode cc pc = .ok (.getfield 37, 3)) (K : Sm p l e R s m args below meth c Q A D nL cells slots (rw ad ra ct ξ σ (tW ra ct n σ)) (pc + 3) L (.int v :: S)) : Sm p l e R s m args below meth c Q A D nL cells slots (rw ad ra ct ξ σ (tW ra ct n σ)) pc L (.ref (ra 1) :: S) := s_get E in_X2 3 rfl rfl 4 (Nat.le_of_ble_eq_true rfl) q169 (congrArg (fun z => some (Value.int z)) hv) rfl d K
theorem twX2_gV_0 {p : Program} {l : Launch} {e : Env} {R : Room} {s : State} {m : MethodId} {args : Array Value} {below : List Frame} {meth : Method} {c : Code} {Q : State → Prop} {A : Nat → Prop} {D : va_G} {nL cells slots : Nat} {pc : Nat} {L : List (Nat × Value)} {S : List Value} {cc : ByteArray} {ret : Option FieldType} {gt : Nat → Nat} {ad ra : Nat → Nat} {ct : Nat → ClassId} {n : Nat} {ξ σ : Nat → Nat → Int32} (E : En p s m args meth c A cc nL RX2 ret D (tysA ct) gt) (d : decode cc pc = .ok (.getfield 11, 3)) (K : Sm p l e R s m args below meth c Q A D nL cells slots (rw ad ra ct ξ σ (tW ra ct n σ)) (pc + 3) L (.ref (ra 2) :: S)) : Sm p l e R s m args below meth c Q A D nL cells slots (rw ad ra ct ξ σ (tW ra ct n σ)) pc L (.ref (ra 1) :: S) := s_get E in_X2 3 rfl rfl 0 (Nat.le_of_ble_eq_true rfl) q152 rfl rfl d K
set_option maxHeartbeats 1000000 in
set_option maxRecDepth 100000 in
theorem x2z_userR {l : Launch} {D : va_G} {gt : Nat → Nat} {ad ra : Nat → Nat} {ct : Nat → ClassId} {n : Nat} {ξ σ : Nat → Nat → Int32} (x : Int32) (hn6 : n ≤ 6) (hn : σ 3 17 = nI n) : Ct l D gt yX2_user cX2_user 3 .int 0 0 0 0 [.ref (ra 1), .int (x)] (rw ad ra ct ξ σ (tW ra ct n σ)) (tysA ct) (fun r σ2 => nameF σ 6 x n = r ∧ σ = σ2) (fun σ2 : Nat → Nat → Int32 => rw ad ra ct ξ σ2 (tW ra ct n σ2)) (fun _ => tysA ct) := by
  refine Ct.start RX2 (by decide) rfl (Nat.le_of_ble_eq_true rfl) rfl ?_
  intro pP eE sS mM aA bB hM cC QQ AA E Rt
  refine s_iconst E dX2_user_0 (v := nI 0) (by decide) ?_
  refine s_istore_n E (L2 := [(2, .int (nI 0)), (0, .ref (ra 1)), (1, .int (x))]) dX2_user_1 rfl (Nat.le_of_ble_eq_true rfl) rfl ?_
  have L2 : ∀ (fuel : Nat) (k : Nat), (k ≤ n) → (nameF σ 6 x k = -1) → (n - k) < fuel → Sm pP l eE { frames := 0, cells := 0, slots := 0, locals := 0 } sS mM aA bB hM cC QQ AA D 3 0 0 (rw ad ra ct ξ σ (tW ra ct n σ)) 2 [(0, .ref (ra 1)), (1, .int (x)), (2, .int (nI k))] [] := by
    intro fuel
    induction fuel with
    | zero =>
      intro k hk hf hf2
      exact absurd hf2 (Nat.not_lt_zero _)
    | succ fuel ih2 =>
      intro k hk hf hf2
      refine s_iload_n E dX2_user_2 (i := 2) (j := 2) rfl rfl ?_
      refine s_aload_n E dX2_user_3 (i := 0) (j := 0) rfl rfl ?_
      refine twX2_gV_4 E (v := nI n) (hn) dX2_user_4 ?_
      refine s_icmp_ge E dX2_user_7 (tgt := 31) rfl (fun c7 => ?_) (fun c7 => ?_)
      · have c7 : ¬ k < n := fun h => absurd c7 (Int32.not_le.mpr ((nI_ltI (a := k) (b := n) (by omega) (by omega)).mpr h))
        refine s_iconst E dX2_user_31 (v := (-1)) (by decide) ?_
        exact Rt ((-1)) (σ) dX2_user_32 (⟨by rw [show n = k by omega]; exact hf, rfl⟩) rfl (Nat.le_refl _) (Nat.le_refl _) rfl E.2.2.2.2.2.1
      · have c7 : k < n := (nI_ltI (a := k) (b := n) (by omega) (by omega)).mp (Int32.not_le.mp c7)
        refine s_aload_n E dX2_user_10 (i := 0) (j := 0) rfl rfl ?_
        refine twX2_gV_0 E dX2_user_11 ?_
        refine s_iload_n E dX2_user_14 (i := 2) (j := 2) rfl rfl ?_
        refine s_aald E 4 3 rfl rfl k rfl (by omega) (Nat.le_of_ble_eq_true rfl) (by show va_rf (usR ra n k) = .ref (ra (100 + k)); unfold usR; rw [if_pos (by omega)]; rfl) dX2_user_15 ?_
        refine s_getN E in_X8 (v := .int (σ 5 (6 + k))) (8 + k) (rt_at (by omega)) rfl 0 (Nat.le_of_ble_eq_true rfl) q717 rfl rfl dX2_user_16 ?_
        refine s_iload_n E dX2_user_19 (i := 1) (j := 1) rfl rfl ?_
        refine s_icmp_ne E dX2_user_20 (tgt := 25) rfl (fun c20 => ?_) (fun c20 => ?_)
        · refine s_iinc E (L2 := [(2, .int (nI (k + 1))), (0, .ref (ra 1)), (1, .int (x))]) dX2_user_25 (k := 2) rfl (v := nI (k + 1)) (nI_inc _) (Nat.le_of_ble_eq_true rfl) rfl ?_
          refine s_goto E dX2_user_28 (tgt := 2) rfl ?_
          refine s_loc (L2 := [(0, .ref (ra 1)), (1, .int (x)), (2, .int (nI (k + 1)))]) [1, 2, 0] rfl ?_
          exact ih2 (k + 1) (by omega) (by rw [nameF, if_pos hf, if_neg c20]) (by omega)
        · refine s_iload_n E dX2_user_23 (i := 2) (j := 2) rfl rfl ?_
          exact Rt (nI k) (σ) dX2_user_24 (⟨nameF_keep (by omega) hf c20 (by omega), rfl⟩) rfl (Nat.le_refl _) (Nat.le_refl _) rfl E.2.2.2.2.2.1
  refine s_loc (L2 := [(0, .ref (ra 1)), (1, .int (x)), (2, .int (nI 0))]) [1, 2, 0] rfl ?_
  exact L2 (_ + 1) 0 (Nat.zero_le _) (rfl) (Nat.lt_succ_self _)
