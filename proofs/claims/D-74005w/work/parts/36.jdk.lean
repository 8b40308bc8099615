set_option maxRecDepth 100000
/-! THE TEXTS: String's own methods over the two constants -/
def sLen (i : Nat) : Nat := ([61, 62] : List Nat).getD i 0
def sByt (i j : Nat) : Int32 := (([keyB, wordB] : List (List Int32)).getD i []).getD j 0
theorem sLen_lt (i : Nat) : sLen i < 100 := by
  unfold sLen
  match i with
  | 0 => decide
  | 1 => decide
  | i + 2 => simp
theorem sLen_64 (i : Nat) : sLen i < 64 := by
  unfold sLen
  match i with
  | 0 => decide
  | 1 => decide
  | i + 2 => simp
theorem sByt_255 : ∀ i, i < 2 → ∀ j, j < 64 → sByt i j &&& nI 255 = sByt i j ∧ ((sByt i j).toUInt32 % 65536).toInt32 = sByt i j ∧ In (sByt i j) 128 := by
  intro i hi j hj
  have h : ∀ i, i < 2 → ∀ j, j < 64 → (decide (sByt i j &&& nI 255 = sByt i j) && decide (((sByt i j).toUInt32 % 65536).toInt32 = sByt i j) && decide (sByt i j = nI (tN (sByt i j))) && decide (tN (sByt i j) < 128)) = true := by decide +kernel
  have h1 := h i hi j hj
  simp only [Bool.and_eq_true, decide_eq_true_eq] at h1
  exact ⟨h1.1.1.1, h1.1.1.2, h1.1.2, h1.2⟩
theorem nar_char {x : Int32} (h : In x 128) : narrow .char (.int x) = .int x := by
  rw [h.1]; exact (pk_charN (by have := h.2; omega)).1
section
variable {p : Program} {l : Launch} {e : Env} {R : Room} {s : State} {m : MethodId} {args : Array Value} {below : List Frame} {meth : Method} {c : Code} {Q : State → Prop} {A : Nat → Prop} {D : va_G} {nL cells slots : Nat} {ws : va_W} {pc : Nat} {L : List (Nat × Value)} {S : List Value}
variable {cc : ByteArray} {own : String} {ret : Option FieldType} {tys tyc : List (ClassId × FieldType)} {gt : Nat → Nat}
theorem s_getK (E : En p s m args meth c A cc nL own ret D tys gt) {index : Nat} {o n dd : String} {qa : Nat} {v : Value} (hE : va_OF o n dd v qa A s s.heap) (hq : Cond.fieldLink own index o n dd ∈ lw_all) (d : decode cc pc = .ok (.getfield index, 3)) (K : Sm p l e R s m args below meth c Q A D nL cells slots ws (pc + 3) L (v :: S)) : Sm p l e R s m args below meth c Q A D nL cells slots ws pc L (.ref qa :: S) := fun H locs ls hP hD hS hl => vk_getf E.1 E.2.1 hE hS E.2.2.2.1 (E.2.2.2.2.1 _ hq) (fun x h => h) d (K H locs ls hP hD hS hl)
theorem s_getsq (E : En p s m args meth c A cc nL own ret D tys gt) {index : Nat} {C n dd : String} (hZ : va_Zq C n dd A s s.heap) (hq : Cond.fieldLink own index C n dd ∈ lw_all) (d : decode cc pc = .ok (.getstatic index, 3)) (K : ∀ z : Value, (z = .null ∨ ∃ t, z = .ref t) → Sm p l e R s m args below meth c Q A D nL cells slots ws (pc + 3) L (z :: S)) : Sm p l e R s m args below meth c Q A D nL cells slots ws pc L S := by
  rcases hZ with h | ⟨t, h⟩
  · exact s_getsT E h hq d (K .null (Or.inl rfl))
  · exact s_getsT E h hq d (K (.ref t) (Or.inr ⟨t, rfl⟩))
theorem s_tbald (E : En p s m args meth c A cc nL own ret D tys gt) {t M : Nat} {f : Nat → Value} (hT : va_T .byte t M f A s s.heap) {i : Int32} {v : Value} (N : Nat) (hi : i = nI N) (hN : N < M) (h31 : M < 2 ^ 31) (hv : f N = v) (d : decode cc pc = .ok (.baload, 1)) (K : Sm p l e R s m args below meth c Q A D nL cells slots ws (pc + 1) L (v :: S)) : Sm p l e R s m args below meth c Q A D nL cells slots ws pc L (.int i :: .ref t :: S) := fun H locs ls hP hD hS hl => va_tb E.1 E.2.1 hT hS (by rw [hi]; exact vp_in_nI hN h31) (by rw [hi, nI_clamp (Nat.lt_trans hN h31), hv]) d (K H locs ls hP hD hS hl)
theorem s_tlen (E : En p s m args meth c A cc nL own ret D tys gt) {t M : Nat} {f : Nat → Value} (hT : va_T .byte t M f A s s.heap) {v : Int32} (hv : Int32.ofNat M = v) (d : decode cc pc = .ok (.arraylength, 1)) (K : Sm p l e R s m args below meth c Q A D nL cells slots ws (pc + 1) L (.int v :: S)) : Sm p l e R s m args below meth c Q A D nL cells slots ws pc L (.ref t :: S) := fun H locs ls hP hD hS hl => va_tlen E.1 E.2.1 hT hS hv d (K H locs ls hP hD hS hl)
theorem s_i2c (E : En p s m args meth c A cc nL own ret D tys gt) {x v : Int32} (hv : (x.toUInt32 % 65536).toInt32 = v) (d : decode cc pc = .ok (.i2c, 1)) (K : Sm p l e R s m args below meth c Q A D nL cells slots ws (pc + 1) L (.int v :: S)) : Sm p l e R s m args below meth c Q A D nL cells slots ws pc L (.int x :: S) := fun H locs ls hP hD hS hl => lv_i2c E.1 E.2.1 d hv (K H locs ls hP hD hS hl)
theorem cut0 : Cut ([] : va_W) [] [] tys [] [] [] [] := ⟨rfl, rfl, rfl, rfl, fun i h => absurd h List.not_mem_nil, rfl⟩
theorem rVK {y : MethodName} {b : ByteArray} {nl fr lo mc ms n index i : Nat} {r : Option FieldType} {As S0 S1 : List Value} {wc wr : va_W} {isC isR isT : List Nat} {Qc : Nat → Array Value → State → Outcome → State → Prop} (E : En p s m args meth c A cc nL own ret D tys gt) (hcut : Cut ws wc wr tys tyc isC isR isT) (hG : GN gt A s s.heap) (hi : i < 2) (hM : Cm l D gt y b nl r fr lo mc ms (.ref (gt (2 + i)) :: As) wc tyc Qc) (hK : KV own index RJ0 y b nl r n) (hfr : fr + 1 ≤ R.frames) (hlo : 8 + (nl + 11) + lo ≤ R.locals) (hmc : cells + mc ≤ R.cells) (hms : slots + ms ≤ R.slots)
    (hn : As.length = n) (hst : S1 = As.reverse ++ .ref (gt (2 + i)) :: S0) (hcat : (S0.map fun v => v.category).sum ≤ 8) (d : decode cc pc = .ok (.invokevirtual index, 3)) :
    Rn p l e R s m args below meth c A D nL cells slots mc ms ws wc pc L S1 S0 (.ref (gt (2 + i)) :: As) Qc := by
  intro H locs ls hP hD hS hl
  obtain ⟨k1, k2, k3, k4, k5, k6⟩ := hK
  exact va_runV (As := As) (rest := S0) ⟨E.1, E.2.1, E.2.2.1, E.2.2.2.1, E.2.2.2.2.1⟩ (hM H.size) (cwV n E.2.2.2.2.1 (lw_V k1 k2 k3 k4 k5) rfl rfl rfl k6 ⟨hfr, hlo⟩) ⟨CPre.blind, vk_recv (i := i) (adK := fun i => gt (2 + i)) hG.1.2.2.2.2.1 hi hS, pre_of E hcut hP hD hS _⟩ rfl hn hl.1 hst (lv_room hcat) d ⟨hmc, hms⟩
end
section
variable {l : Launch} {D : va_G} {gt : Nat → Nat}
set_option maxHeartbeats 1000000 in
theorem jJ0_isLatin1 (i : Nat) (hi : i < 2) : Ct l D gt yJ0_isLatin1 cJ0_isLatin1 1 .boolean 0 0 0 0 [.ref (gt (2 + i))] [] [] (fun r _ => nI 1 = r) (fun _ : Unit => []) (fun _ => []) := by
  refine Ct.start RJ0 (by decide) rfl (Nat.le_of_ble_eq_true rfl) rfl ?_
  intro pP eE sS mM aA bB hM cC QQ AA E Rt
  have hG := E.2.2.2.2.2.2.1
  refine s_getsT E hG.1.2.2.2.2.2.1 q490 dJ0_isLatin1_0 ?_
  refine s_if_eq E dJ0_isLatin1_3 (tgt := 17) rfl (fun c3 => absurd c3 (by decide)) (fun c3 => ?_)
  refine s_aload_n E dJ0_isLatin1_6 (i := 0) (j := 0) rfl rfl ?_
  refine s_getK E (hE := (hG.1.2.2.2.2.1.1 i hi).2.1) q1879 dJ0_isLatin1_7 ?_
  refine s_if_ne E dJ0_isLatin1_10 (tgt := 17) rfl (fun c10 => absurd c10 (by decide)) (fun c10 => ?_)
  refine s_iconst E dJ0_isLatin1_13 (v := nI 1) (by decide) ?_
  refine s_goto E dJ0_isLatin1_14 (tgt := 18) rfl ?_
  exact Rt (nI 1) (()) dJ0_isLatin1_18 (rfl) rfl (Nat.le_refl _) (Nat.le_refl _) rfl E.2.2.2.2.2.1
set_option maxHeartbeats 1000000 in
theorem jJ0_coder (i : Nat) (hi : i < 2) : Ct l D gt yJ0_coder cJ0_coder 1 .byte 0 0 0 0 [.ref (gt (2 + i))] [] [] (fun r _ => nI 0 = r) (fun _ : Unit => []) (fun _ => []) := by
  refine Ct.start RJ0 (by decide) rfl (Nat.le_of_ble_eq_true rfl) rfl ?_
  intro pP eE sS mM aA bB hM cC QQ AA E Rt
  have hG := E.2.2.2.2.2.2.1
  refine s_getsT E hG.1.2.2.2.2.2.1 q490 dJ0_coder_0 ?_
  refine s_if_eq E dJ0_coder_3 (tgt := 13) rfl (fun c3 => absurd c3 (by decide)) (fun c3 => ?_)
  refine s_aload_n E dJ0_coder_6 (i := 0) (j := 0) rfl rfl ?_
  refine s_getK E (hE := (hG.1.2.2.2.2.1.1 i hi).2.1) q1879 dJ0_coder_7 ?_
  refine s_goto E dJ0_coder_10 (tgt := 14) rfl ?_
  exact Rt (nI 0) (()) dJ0_coder_14 (rfl) rfl (Nat.le_refl _) (Nat.le_refl _) rfl E.2.2.2.2.2.1
set_option maxHeartbeats 1000000 in
theorem KJ_J0_335 : KV RJ0 335 RJ0 yJ0_coder cJ0_coder 1 (some .byte) 0 := ⟨q486, q487, q488, q119, q489, by decide +kernel⟩
theorem jJ0_length (i : Nat) (hi : i < 2) : Ct l D gt yJ0_length cJ0_length 1 .int 1 20 0 0 [.ref (gt (2 + i))] [] [] (fun r _ => nI ((sLen i)) = r) (fun _ : Unit => []) (fun _ => []) := by
  refine Ct.start RJ0 (by decide) rfl (Nat.le_of_ble_eq_true rfl) rfl ?_
  intro pP eE sS mM aA bB hM cC QQ AA E Rt
  have hG := E.2.2.2.2.2.2.1
  refine s_aload_n E dJ0_length_0 (i := 0) (j := 0) rfl rfl ?_
  refine s_getK E (hE := (hG.1.2.2.2.2.1.1 i hi).2.2.1) q1878 dJ0_length_1 ?_
  refine s_tlen E (hG.1.2.2.2.2.1.1 i hi).2.2.2 (v := nI (sLen i)) rfl dJ0_length_4 ?_
  refine s_aload_n E dJ0_length_5 (i := 0) (j := 0) rfl rfl ?_
  refine s_goi (ws2 := fun _ => []) E cut0 (rVK E cut0 hG hi (jJ0_coder i hi) KJ_J0_335 (Nat.le_of_ble_eq_true rfl) (Nat.le_of_ble_eq_true rfl) (Nat.le_refl _) (Nat.le_refl _) rfl rfl (Nat.le_of_ble_eq_true rfl) dJ0_length_6) [] rfl (fun _ => rfl) (fun r6 u6 h6 _ => ?_)
  subst h6
  refine s_ws (ws2 := []) rfl ?_
  refine s_ishr_ E dJ0_length_9 (v := nI ((sLen i))) (sb_shr0 _) ?_
  exact Rt (nI ((sLen i))) (()) dJ0_length_10 (rfl) rfl (Nat.le_refl _) (Nat.le_refl _) rfl E.2.2.2.2.2.1
set_option maxHeartbeats 1000000 in
theorem jJ4_checkIndexN (k n : Nat) (hk : k < n) (hn : n < 100) : Ct l D gt yJ4_checkIndex cJ4_checkIndex 3 .int 0 0 0 0 [.int (nI k), .int (nI n), .null] [] [] (fun r _ => nI k = r) (fun _ : Unit => []) (fun _ => []) := by
  refine Ct.start RJ4 (by decide) rfl (Nat.le_of_ble_eq_true rfl) rfl ?_
  intro pP eE sS mM aA bB hM cC QQ AA E Rt
  have hG := E.2.2.2.2.2.2.1
  refine s_iload_n E dJ4_checkIndex_0 (i := 0) (j := 0) rfl rfl ?_
  refine s_if_lt E dJ4_checkIndex_1 (tgt := 9) rfl (fun c1 => absurd c1 (nI_pos (by omega))) (fun c1 => ?_)
  have c1 : ¬ k < 0 := fun h => c1 ((nI_ltI (a := k) (b := 0) (by omega) (by omega)).mpr h)
  refine s_iload_n E dJ4_checkIndex_4 (i := 0) (j := 0) rfl rfl ?_
  refine s_iload_n E dJ4_checkIndex_5 (i := 1) (j := 1) rfl rfl ?_
  refine s_icmp_lt E dJ4_checkIndex_6 (tgt := 16) rfl (fun c6 => ?_) (fun c6 => absurd (nI_lt hk (by omega)) c6)
  have c6 : k < n := (nI_ltI (a := k) (b := n) (by omega) (by omega)).mp c6
  refine s_iload_n E dJ4_checkIndex_16 (i := 0) (j := 0) rfl rfl ?_
  exact Rt (nI k) (()) dJ4_checkIndex_17 (rfl) rfl (Nat.le_refl _) (Nat.le_refl _) rfl E.2.2.2.2.2.1
set_option maxHeartbeats 1000000 in
theorem jJ4_checkIndexR (k n t : Nat) (hk : k < n) (hn : n < 100) : Ct l D gt yJ4_checkIndex cJ4_checkIndex 3 .int 0 0 0 0 [.int (nI k), .int (nI n), .ref (t)] [] [] (fun r _ => nI k = r) (fun _ : Unit => []) (fun _ => []) := by
  refine Ct.start RJ4 (by decide) rfl (Nat.le_of_ble_eq_true rfl) rfl ?_
  intro pP eE sS mM aA bB hM cC QQ AA E Rt
  have hG := E.2.2.2.2.2.2.1
  refine s_iload_n E dJ4_checkIndex_0 (i := 0) (j := 0) rfl rfl ?_
  refine s_if_lt E dJ4_checkIndex_1 (tgt := 9) rfl (fun c1 => absurd c1 (nI_pos (by omega))) (fun c1 => ?_)
  have c1 : ¬ k < 0 := fun h => c1 ((nI_ltI (a := k) (b := 0) (by omega) (by omega)).mpr h)
  refine s_iload_n E dJ4_checkIndex_4 (i := 0) (j := 0) rfl rfl ?_
  refine s_iload_n E dJ4_checkIndex_5 (i := 1) (j := 1) rfl rfl ?_
  refine s_icmp_lt E dJ4_checkIndex_6 (tgt := 16) rfl (fun c6 => ?_) (fun c6 => absurd (nI_lt hk (by omega)) c6)
  have c6 : k < n := (nI_ltI (a := k) (b := n) (by omega) (by omega)).mp c6
  refine s_iload_n E dJ4_checkIndex_16 (i := 0) (j := 0) rfl rfl ?_
  exact Rt (nI k) (()) dJ4_checkIndex_17 (rfl) rfl (Nat.le_refl _) (Nat.le_refl _) rfl E.2.2.2.2.2.1
theorem jJ4_checkIndex (k n : Nat) (z : Value) (hk : k < n) (hn : n < 100) (hz : z = .null ∨ ∃ t, z = .ref t) : Ct l D gt yJ4_checkIndex cJ4_checkIndex 3 .int 0 0 0 0 [.int (nI k), .int (nI n), z] [] [] (fun r _ => nI k = r) (fun _ : Unit => []) (fun _ => []) := by
  rcases hz with rfl | ⟨t, rfl⟩
  · exact jJ4_checkIndexN k n hk hn
  · exact jJ4_checkIndexR k n t hk hn
set_option maxHeartbeats 1000000 in
theorem KJ_J0_1059 : KS RJ0 1059 yJ4_checkIndex cJ4_checkIndex 3 (some .int) 3 := ⟨q575, q576, q123, q577, by decide +kernel⟩
theorem jJ0_checkIndex (k n : Nat) (hk : k < n) (hn : n < 100) : Cv l D gt yJ0_checkIndex cJ0_checkIndex 2 1 22 0 0 [.int (nI k), .int (nI n)] [] [] (fun _ => True) (fun _ : Unit => []) (fun _ => []) := by
  refine Cv.start RJ0 (by decide) rfl (Nat.le_of_ble_eq_true rfl) rfl ?_
  intro pP eE sS mM aA bB hM cC QQ AA E Rt
  have hG := E.2.2.2.2.2.2.1
  refine s_iload_n E dJ0_checkIndex_0 (i := 0) (j := 0) rfl rfl ?_
  refine s_iload_n E dJ0_checkIndex_1 (i := 1) (j := 1) rfl rfl ?_
  refine s_getsq E hG.1.2.2.2.2.2.2.1 q534 dJ0_checkIndex_2 (fun z hz => ?_)
  refine s_goi (ws2 := fun _ => []) E cut0 (rS E cut0 (jJ4_checkIndex k n z hk hn hz) KJ_J0_1059 (Nat.le_of_ble_eq_true rfl) (Nat.le_of_ble_eq_true rfl) (Nat.le_refl _) (Nat.le_refl _) rfl rfl (Nat.le_of_ble_eq_true rfl) dJ0_checkIndex_5) [] rfl (fun _ => rfl) (fun r5 u5 h5 _ => ?_)
  subst h5
  refine s_ws (ws2 := []) rfl ?_
  refine s_pop E dJ0_checkIndex_8 rfl ?_
  exact Rt (()) dJ0_checkIndex_9 (trivial) rfl (Nat.le_refl _) (Nat.le_refl _) E.2.2.2.2.2.1
set_option maxHeartbeats 1000000 in
theorem KJ_J1_9 : KS RJ1 9 yJ0_checkIndex cJ0_checkIndex 2 none 2 := ⟨q572, q573, q119, q574, by decide +kernel⟩
theorem jJ1_charAt (i k : Nat) (hi : i < 2) (hk : k < sLen i) : Ct l D gt yJ1_charAt cJ1_charAt 2 .char 2 43 0 0 [.ref (gt (4 + i)), .int (nI k)] [] [] (fun r _ => sByt i k = r) (fun _ : Unit => []) (fun _ => []) := by
  refine Ct.start RJ1 (by decide) rfl (Nat.le_of_ble_eq_true rfl) rfl ?_
  intro pP eE sS mM aA bB hM cC QQ AA E Rt
  have hG := E.2.2.2.2.2.2.1
  refine s_iload_n E dJ1_charAt_0 (i := 1) (j := 1) rfl rfl ?_
  refine s_aload_n E dJ1_charAt_1 (i := 0) (j := 0) rfl rfl ?_
  refine s_tlen E (hG.1.2.2.2.2.1.1 i hi).2.2.2 (v := nI (sLen i)) rfl dJ1_charAt_2 ?_
  refine s_gov (ws2 := fun _ => []) E cut0 (rS E cut0 (jJ0_checkIndex k (sLen i) hk (sLen_lt i)) KJ_J1_9 (Nat.le_of_ble_eq_true rfl) (Nat.le_of_ble_eq_true rfl) (Nat.le_refl _) (Nat.le_refl _) rfl rfl (Nat.le_of_ble_eq_true rfl) dJ1_charAt_3) [] rfl (fun _ => rfl) (fun u3 h3 _ => ?_)
  refine s_ws (ws2 := []) rfl ?_
  refine s_aload_n E dJ1_charAt_6 (i := 0) (j := 0) rfl rfl ?_
  refine s_iload_n E dJ1_charAt_7 (i := 1) (j := 1) rfl rfl ?_
  refine s_tbald E (hG.1.2.2.2.2.1.1 i hi).2.2.2 (k) rfl (hk) (Nat.lt_trans (sLen_lt i) (by decide)) rfl dJ1_charAt_8 ?_
  refine s_sipush E dJ1_charAt_9 (v := nI 255) (by decide) ?_
  refine s_iand_ E dJ1_charAt_12 (v := sByt i k) ((sByt_255 i hi k (by have := sLen_64 i; omega)).1) ?_
  refine s_i2c E (v := sByt i k) ((sByt_255 i hi k (by have := sLen_64 i; omega)).2.1) dJ1_charAt_13 ?_
  exact Rt (sByt i k) (()) dJ1_charAt_14 (rfl) rfl (Nat.le_refl _) (Nat.le_refl _) (nar_char (sByt_255 i hi k (by have := sLen_lt i; have := sLen_64 i; omega)).2.2) E.2.2.2.2.2.1
set_option maxHeartbeats 1000000 in
theorem KJ_J0_492 : KV RJ0 492 RJ0 yJ0_isLatin1 cJ0_isLatin1 1 (some .boolean) 0 := ⟨q496, q497, q498, q119, q499, by decide +kernel⟩
theorem KJ_J0_495 : KS RJ0 495 yJ1_charAt cJ1_charAt 2 (some .char) 2 := ⟨q569, q570, q120, q571, by decide +kernel⟩
theorem jJ0_charAt (i k : Nat) (hi : i < 2) (hk : k < sLen i) : Ct l D gt yJ0_charAt cJ0_charAt 2 .char 3 64 0 0 [.ref (gt (2 + i)), .int (nI k)] [] [] (fun r _ => sByt i k = r) (fun _ : Unit => []) (fun _ => []) := by
  refine Ct.start RJ0 (by decide) rfl (Nat.le_of_ble_eq_true rfl) rfl ?_
  intro pP eE sS mM aA bB hM cC QQ AA E Rt
  have hG := E.2.2.2.2.2.2.1
  refine s_aload_n E dJ0_charAt_0 (i := 0) (j := 0) rfl rfl ?_
  refine s_goi (ws2 := fun _ => []) E cut0 (rVK E cut0 hG hi (jJ0_isLatin1 i hi) KJ_J0_492 (Nat.le_of_ble_eq_true rfl) (Nat.le_of_ble_eq_true rfl) (Nat.le_refl _) (Nat.le_refl _) rfl rfl (Nat.le_of_ble_eq_true rfl) dJ0_charAt_1) [] rfl (fun _ => rfl) (fun r1 u1 h1 _ => ?_)
  subst h1
  refine s_ws (ws2 := []) rfl ?_
  refine s_if_eq E dJ0_charAt_4 (tgt := 16) rfl (fun c4 => absurd c4 (by decide)) (fun c4 => ?_)
  refine s_aload_n E dJ0_charAt_7 (i := 0) (j := 0) rfl rfl ?_
  refine s_getK E (hE := (hG.1.2.2.2.2.1.1 i hi).2.2.1) q1878 dJ0_charAt_8 ?_
  refine s_iload_n E dJ0_charAt_11 (i := 1) (j := 1) rfl rfl ?_
  refine s_goi (ws2 := fun _ => []) E cut0 (rS E cut0 (jJ1_charAt i k hi hk) KJ_J0_495 (Nat.le_of_ble_eq_true rfl) (Nat.le_of_ble_eq_true rfl) (Nat.le_refl _) (Nat.le_refl _) rfl rfl (Nat.le_of_ble_eq_true rfl) dJ0_charAt_12) [] rfl (fun _ => rfl) (fun r12 u12 h12 _ => ?_)
  subst h12
  refine s_ws (ws2 := []) rfl ?_
  exact Rt (sByt i k) (()) dJ0_charAt_15 (rfl) rfl (Nat.le_refl _) (Nat.le_refl _) (nar_char (sByt_255 i hi k (by have := sLen_64 i; omega)).2.2) E.2.2.2.2.2.1
end
