/-! THE TEXTS: indexOf of a blank -/
set_option maxRecDepth 100000
def ixF (f : Nat → Int32) (ch : Int32) : Nat → Nat → Int32
  | 0, _ => -1
  | n + 1, k => if f k = ch then nI k else ixF f ch n (k + 1)
section
variable {l : Launch} {D : va_G} {gt : Nat → Nat}
set_option maxHeartbeats 1000000 in
theorem jJ1_canEncode   : Ct l D gt yJ1_canEncode cJ1_canEncode 1 .boolean 0 0 0 0 [.int (nI 32)] [] [] (fun r _ => nI 1 = r) (fun _ : Unit => []) (fun _ => []) := by
  refine Ct.start RJ1 (by decide) rfl (Nat.le_of_ble_eq_true rfl) rfl ?_
  intro pP eE sS mM aA bB hM cC QQ AA E Rt
  have hG := E.2.2.2.2.2.2.1
  refine s_iload_n E dJ1_canEncode_0 (i := 0) (j := 0) rfl rfl ?_
  refine s_if_lt E dJ1_canEncode_1 (tgt := 15) rfl (fun c1 => absurd c1 (by decide)) (fun c1 => ?_)
  refine s_iload_n E dJ1_canEncode_4 (i := 0) (j := 0) rfl rfl ?_
  refine s_sipush E dJ1_canEncode_5 (v := nI 255) (by decide) ?_
  refine s_icmp_gt E dJ1_canEncode_8 (tgt := 15) rfl (fun c8 => absurd c8 (by decide)) (fun c8 => ?_)
  refine s_iconst E dJ1_canEncode_11 (v := nI 1) (by decide) ?_
  refine s_goto E dJ1_canEncode_12 (tgt := 16) rfl ?_
  exact Rt (nI 1) (()) dJ1_canEncode_16 (rfl) rfl (Nat.le_refl _) (Nat.le_refl _) rfl E.2.2.2.2.2.1
set_option maxHeartbeats 1000000 in
theorem jJ1_indexOfChar (i a : Nat) (hi : i < 2) (ha : a ≤ sLen i) : Ct l D gt yJ1_indexOfChar cJ1_indexOfChar 6 .int 0 0 0 0 [.ref (gt (4 + i)), .int (nI 32), .int (nI a), .int (nI ((sLen i)))] [] [] (fun r _ => ixF (sByt i) (nI 32) (sLen i - a) a = r) (fun _ : Unit => []) (fun _ => []) := by
  refine Ct.start RJ1 (by decide) rfl (Nat.le_of_ble_eq_true rfl) rfl ?_
  intro pP eE sS mM aA bB hM cC QQ AA E Rt
  have hG := E.2.2.2.2.2.2.1
  refine s_iload_n E dJ1_indexOfChar_0 (i := 1) (j := 1) rfl rfl ?_
  refine s_i2b E dJ1_indexOfChar_1 (v := nI 32) (by decide) ?_
  refine s_istore E (L2 := [(4, .int (nI 32)), (0, .ref (gt (4 + i))), (1, .int (nI 32)), (2, .int (nI a)), (3, .int (nI ((sLen i))))]) dJ1_indexOfChar_2 (Nat.le_of_ble_eq_true rfl) rfl ?_
  refine s_iload_n E dJ1_indexOfChar_4 (i := 2) (j := 3) rfl rfl ?_
  refine s_istore E (L2 := [(5, .int (nI a)), (4, .int (nI 32)), (0, .ref (gt (4 + i))), (1, .int (nI 32)), (2, .int (nI a)), (3, .int (nI ((sLen i))))]) dJ1_indexOfChar_5 (Nat.le_of_ble_eq_true rfl) rfl ?_
  have L7 : ∀ (fuel : Nat) (k : Nat), (k ≤ sLen i) → (ixF (sByt i) (nI 32) (sLen i - k) k = ixF (sByt i) (nI 32) (sLen i - a) a) → (sLen i - k) < fuel → Sm pP l eE { frames := 0, cells := 0, slots := 0, locals := 0 } sS mM aA bB hM cC QQ AA D 6 0 0 ([]) 7 [(0, .ref (gt (4 + i))), (1, .int (nI 32)), (2, .int (nI a)), (3, .int (nI ((sLen i)))), (4, .int (nI 32)), (5, .int (nI k))] [] := by
    intro fuel
    induction fuel with
    | zero =>
      intro k hk hx hf7
      exact absurd hf7 (Nat.not_lt_zero _)
    | succ fuel ih7 =>
      intro k hk hx hf7
      have hl64 := sLen_64 i
      refine s_iload E dJ1_indexOfChar_7 (i := 5) (j := 5) rfl ?_
      refine s_iload_n E dJ1_indexOfChar_9 (i := 3) (j := 3) rfl rfl ?_
      refine s_icmp_ge E dJ1_indexOfChar_10 (tgt := 31) rfl (fun c10 => ?_) (fun c10 => ?_)
      · have c10 : ¬ k < (sLen i) := fun h => absurd c10 (Int32.not_le.mpr ((nI_ltI (a := k) (b := (sLen i)) (by omega) (by omega)).mpr h))
        refine s_iconst E dJ1_indexOfChar_31 (v := (-1)) (by decide) ?_
        exact Rt ((-1)) (()) dJ1_indexOfChar_32 (by rw [← hx, show sLen i - k = 0 by omega]; rfl) rfl (Nat.le_refl _) (Nat.le_refl _) rfl E.2.2.2.2.2.1
      · have c10 : k < (sLen i) := (nI_ltI (a := k) (b := (sLen i)) (by omega) (by omega)).mp (Int32.not_le.mp c10)
        refine s_aload_n E dJ1_indexOfChar_13 (i := 0) (j := 0) rfl rfl ?_
        refine s_iload E dJ1_indexOfChar_14 (i := 5) (j := 5) rfl ?_
        refine s_tbald E (hG.1.2.2.2.2.1.1 i hi).2.2.2 (k) rfl (c10) (Nat.lt_trans (sLen_lt i) (by decide)) rfl dJ1_indexOfChar_16 ?_
        refine s_iload E dJ1_indexOfChar_17 (i := 4) (j := 4) rfl ?_
        refine s_icmp_ne E dJ1_indexOfChar_19 (tgt := 25) rfl (fun c19 => ?_) (fun c19 => ?_)
        · refine s_iinc E (L2 := [(5, .int (nI (k + 1))), (0, .ref (gt (4 + i))), (1, .int (nI 32)), (2, .int (nI a)), (3, .int (nI ((sLen i)))), (4, .int (nI 32))]) dJ1_indexOfChar_25 (k := 5) rfl (v := nI (k + 1)) (nI_inc _) (Nat.le_of_ble_eq_true rfl) rfl ?_
          refine s_goto E dJ1_indexOfChar_28 (tgt := 7) rfl ?_
          refine s_loc (L2 := [(0, .ref (gt (4 + i))), (1, .int (nI 32)), (2, .int (nI a)), (3, .int (nI ((sLen i)))), (4, .int (nI 32)), (5, .int (nI (k + 1)))]) [1, 2, 3, 4, 5, 0] rfl ?_
          exact ih7 (k + 1) (by omega) (by rw [← hx, show sLen i - k = (sLen i - (k + 1)) + 1 by omega, ixF]; exact (if_neg c19).symm) (by omega)
        · refine s_iload E dJ1_indexOfChar_22 (i := 5) (j := 5) rfl ?_
          exact Rt (nI k) (()) dJ1_indexOfChar_24 (by rw [← hx, show sLen i - k = (sLen i - (k + 1)) + 1 by omega, ixF]; exact if_pos c19) rfl (Nat.le_refl _) (Nat.le_refl _) rfl E.2.2.2.2.2.1
  refine s_loc (L2 := [(0, .ref (gt (4 + i))), (1, .int (nI 32)), (2, .int (nI a)), (3, .int (nI ((sLen i)))), (4, .int (nI 32)), (5, .int (nI a))]) [2, 3, 4, 5, 1, 0] rfl ?_
  exact L7 (_ + 1) a (ha) (rfl) (Nat.lt_succ_self _)
set_option maxHeartbeats 1000000 in
theorem KJ_J1_88 : KS RJ1 88 yJ1_canEncode cJ1_canEncode 1 (some .boolean) 1 := ⟨q504, q505, q120, q506, by decide +kernel⟩
theorem KJ_J1_95 : KS RJ1 95 yJ1_indexOfChar cJ1_indexOfChar 6 (some .int) 4 := ⟨q513, q514, q120, q515, by decide +kernel⟩
theorem jJ1_indexOf (i a : Nat) (hi : i < 2) (ha : a ≤ sLen i) : Ct l D gt yJ1_indexOf cJ1_indexOf 4 .int 1 25 0 0 [.ref (gt (4 + i)), .int (nI 32), .int (nI a), .int (nI ((sLen i)))] [] [] (fun r _ => ixF (sByt i) (nI 32) (sLen i - a) a = r) (fun _ : Unit => []) (fun _ => []) := by
  refine Ct.start RJ1 (by decide) rfl (Nat.le_of_ble_eq_true rfl) rfl ?_
  intro pP eE sS mM aA bB hM cC QQ AA E Rt
  have hG := E.2.2.2.2.2.2.1
  have hl64 := sLen_64 i
  refine s_iload_n E dJ1_indexOf_0 (i := 1) (j := 1) rfl rfl ?_
  refine s_goi (ws2 := fun _ => []) E cut0 (rS E cut0 (jJ1_canEncode) KJ_J1_88 (Nat.le_of_ble_eq_true rfl) (Nat.le_of_ble_eq_true rfl) (Nat.le_refl _) (Nat.le_refl _) rfl rfl (Nat.le_of_ble_eq_true rfl) dJ1_indexOf_1) [] rfl (fun _ => rfl) (fun r1 u1 h1 _ => ?_)
  subst h1
  refine s_ws (ws2 := []) rfl ?_
  refine s_if_ne E dJ1_indexOf_4 (tgt := 9) rfl (fun c4 => ?_) (fun c4 => absurd c4 (by decide))
  refine s_iload_n E dJ1_indexOf_9 (i := 2) (j := 2) rfl rfl ?_
  refine s_iconst E dJ1_indexOf_10 (v := nI 0) (by decide) ?_
  refine s_mmax E (v := nI a) (if_neg (nI_pos (by omega))) q507 q508 q121 q509 (Nat.le_of_ble_eq_true rfl) (Nat.le_of_ble_eq_true rfl) (Nat.le_refl _) (Nat.le_refl _) dJ1_indexOf_11 ?_
  refine s_istore_n E (L2 := [(2, .int (nI a)), (0, .ref (gt (4 + i))), (1, .int (nI 32)), (3, .int (nI ((sLen i))))]) dJ1_indexOf_14 rfl (Nat.le_of_ble_eq_true rfl) rfl ?_
  refine s_iload_n E dJ1_indexOf_15 (i := 3) (j := 3) rfl rfl ?_
  refine s_aload_n E dJ1_indexOf_16 (i := 0) (j := 1) rfl rfl ?_
  refine s_tlen E (hG.1.2.2.2.2.1.1 i hi).2.2.2 (v := nI (sLen i)) rfl dJ1_indexOf_17 ?_
  refine s_mmin E (v := nI ((sLen i))) (by split <;> rfl) q510 q511 q121 q512 (Nat.le_of_ble_eq_true rfl) (Nat.le_of_ble_eq_true rfl) (Nat.le_refl _) (Nat.le_refl _) dJ1_indexOf_18 ?_
  refine s_istore_n E (L2 := [(3, .int (nI ((sLen i)))), (2, .int (nI a)), (0, .ref (gt (4 + i))), (1, .int (nI 32))]) dJ1_indexOf_21 rfl (Nat.le_of_ble_eq_true rfl) rfl ?_
  refine s_iload_n E dJ1_indexOf_22 (i := 2) (j := 1) rfl rfl ?_
  refine s_iload_n E dJ1_indexOf_23 (i := 3) (j := 0) rfl rfl ?_
  refine s_icmp_lt E dJ1_indexOf_24 (tgt := 29) rfl (fun c24 => ?_) (fun c24 => ?_)
  · have c24 : a < (sLen i) := (nI_ltI (a := a) (b := (sLen i)) (by omega) (by omega)).mp c24
    refine s_aload_n E dJ1_indexOf_29 (i := 0) (j := 2) rfl rfl ?_
    refine s_iload_n E dJ1_indexOf_30 (i := 1) (j := 3) rfl rfl ?_
    refine s_iload_n E dJ1_indexOf_31 (i := 2) (j := 1) rfl rfl ?_
    refine s_iload_n E dJ1_indexOf_32 (i := 3) (j := 0) rfl rfl ?_
    refine s_goi (ws2 := fun _ => []) E cut0 (rS E cut0 (jJ1_indexOfChar i a hi (by omega)) KJ_J1_95 (Nat.le_of_ble_eq_true rfl) (Nat.le_of_ble_eq_true rfl) (Nat.le_refl _) (Nat.le_refl _) rfl rfl (Nat.le_of_ble_eq_true rfl) dJ1_indexOf_33) [] rfl (fun _ => rfl) (fun r33 u33 h33 _ => ?_)
    subst h33
    refine s_ws (ws2 := []) rfl ?_
    exact Rt (ixF (sByt i) (nI 32) (sLen i - a) a) (()) dJ1_indexOf_36 (rfl) rfl (Nat.le_refl _) (Nat.le_refl _) rfl E.2.2.2.2.2.1
  · have c24 : ¬ a < (sLen i) := fun h => c24 ((nI_ltI (a := a) (b := (sLen i)) (by omega) (by omega)).mpr h)
    refine s_iconst E dJ1_indexOf_27 (v := (-1)) (by decide) ?_
    exact Rt ((-1)) (()) dJ1_indexOf_28 (by rw [show sLen i - a = 0 by omega]; rfl) rfl (Nat.le_refl _) (Nat.le_refl _) rfl E.2.2.2.2.2.1
set_option maxHeartbeats 1000000 in
theorem KJ_J0_505 : KV RJ0 505 RJ0 yJ0_length cJ0_length 1 (some .int) 0 := ⟨q500, q483, q484, q119, q485, by decide +kernel⟩
theorem KJ_J0_637 : KS RJ0 637 yJ1_indexOf cJ1_indexOf 4 (some .int) 4 := ⟨q501, q502, q120, q503, by decide +kernel⟩
theorem jJ0_indexOf (i a : Nat) (hi : i < 2) (ha : a ≤ sLen i) : Ct l D gt yJ0_indexOf cJ0_indexOf 3 .int 2 48 0 0 [.ref (gt (2 + i)), .int (nI 32), .int (nI a)] [] [] (fun r _ => ixF (sByt i) (nI 32) (sLen i - a) a = r) (fun _ : Unit => []) (fun _ => []) := by
  refine Ct.start RJ0 (by decide) rfl (Nat.le_of_ble_eq_true rfl) rfl ?_
  intro pP eE sS mM aA bB hM cC QQ AA E Rt
  have hG := E.2.2.2.2.2.2.1
  refine s_aload_n E dJ0_indexOf_0 (i := 0) (j := 0) rfl rfl ?_
  refine s_goi (ws2 := fun _ => []) E cut0 (rVK E cut0 hG hi (jJ0_isLatin1 i hi) KJ_J0_492 (Nat.le_of_ble_eq_true rfl) (Nat.le_of_ble_eq_true rfl) (Nat.le_refl _) (Nat.le_refl _) rfl rfl (Nat.le_of_ble_eq_true rfl) dJ0_indexOf_1) [] rfl (fun _ => rfl) (fun r1 u1 h1 _ => ?_)
  subst h1
  refine s_ws (ws2 := []) rfl ?_
  refine s_if_eq E dJ0_indexOf_4 (tgt := 23) rfl (fun c4 => absurd c4 (by decide)) (fun c4 => ?_)
  refine s_aload_n E dJ0_indexOf_7 (i := 0) (j := 0) rfl rfl ?_
  refine s_getK E (hE := (hG.1.2.2.2.2.1.1 i hi).2.2.1) q1878 dJ0_indexOf_8 ?_
  refine s_iload_n E dJ0_indexOf_11 (i := 1) (j := 1) rfl rfl ?_
  refine s_iload_n E dJ0_indexOf_12 (i := 2) (j := 2) rfl rfl ?_
  refine s_aload_n E dJ0_indexOf_13 (i := 0) (j := 0) rfl rfl ?_
  refine s_goi (ws2 := fun _ => []) E cut0 (rVK E cut0 hG hi (jJ0_length i hi) KJ_J0_505 (Nat.le_of_ble_eq_true rfl) (Nat.le_of_ble_eq_true rfl) (Nat.le_refl _) (Nat.le_refl _) rfl rfl (Nat.le_of_ble_eq_true rfl) dJ0_indexOf_14) [] rfl (fun _ => rfl) (fun r14 u14 h14 _ => ?_)
  subst h14
  refine s_ws (ws2 := []) rfl ?_
  refine s_goi (ws2 := fun _ => []) E cut0 (rS E cut0 (jJ1_indexOf i a hi ha) KJ_J0_637 (Nat.le_of_ble_eq_true rfl) (Nat.le_of_ble_eq_true rfl) (Nat.le_refl _) (Nat.le_refl _) rfl rfl (Nat.le_of_ble_eq_true rfl) dJ0_indexOf_17) [] rfl (fun _ => rfl) (fun r17 u17 h17 _ => ?_)
  subst h17
  refine s_ws (ws2 := []) rfl ?_
  refine s_goto E dJ0_indexOf_20 (tgt := 36) rfl ?_
  exact Rt (ixF (sByt i) (nI 32) (sLen i - a) a) (()) dJ0_indexOf_36 (rfl) rfl (Nat.le_refl _) (Nat.le_refl _) rfl E.2.2.2.2.2.1
end
