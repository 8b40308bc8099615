set_option maxRecDepth 100000
theorem in_ch {n K tp : Nat} {μ σ : Nat → Nat → Int32} {pl : List KP} {u v : Int32} (h : LI n K tp μ σ pl) (hc : (isU n u && (decide (v = 0) || isC μ v)) = true) : In v 61 := by
  rcases Bool.or_eq_true_iff.mp (Bool.and_eq_true_iff.mp hc).2 with z | z
  · rw [of_decide_eq_true z]; exact In.of (n := 0) (by decide) (by decide)
  · obtain ⟨b, h1, h2, h3⟩ := XT.ch h.1.1 (show isC (zt μ) v = true from z)
    have := h.b61.2
    rw [h3]; exact In.of (by have : b ≤ tN (μ 3 0) := h2; omega) (by decide)
theorem in_bl {n K tp : Nat} {μ σ : Nat → Nat → Int32} {pl : List KP} {v : Int32} (h : LI n K tp μ σ pl) (hc : isC μ v = true) : 1 ≤ tN v ∧ tN v ≤ tN (μ 3 0) := by
  obtain ⟨b, h1, h2, h3⟩ := XT.ch h.1.1 (show isC (zt μ) v = true from hc)
  have := h.b61.2
  have h2 : b ≤ tN (μ 3 0) := h2
  rw [h3, tN_nI (by omega)]
  exact ⟨h1, h2⟩
theorem in_us {n : Nat} {u v : Int32} (hc : (isU n u && !decide (v < 0) && !decide (nI 30 < v)) = true) (hn : n ≤ 6) : tN u < n := (isU_In (Bool.and_eq_true_iff.mp (Bool.and_eq_true_iff.mp hc).1).1 hn).2
theorem in_pw {n : Nat} {u v : Int32} (hc : (isU n u && !decide (v < 0) && !decide (nI 30 < v)) = true) : In v 31 := by
  simp only [Bool.and_eq_true, Bool.not_eq_true', decide_eq_false_iff_not] at hc
  obtain ⟨x, hx, -, h2⟩ := rng (a := 0) (b := 30) ⟨hc.1.2, hc.2⟩ (by decide) (by decide)
  rw [hx]
  exact In.of (by omega) (by decide)
theorem K_X0_39 : KV RX0 39 RX1 yX1_tune cX1_tune 4 (some .int) 2 := ⟨q801, q802, q803, q113, q804, by decide +kernel⟩
theorem K_X0_42 : KV RX0 42 RX5 yX5_tune cX5_tune 4 (some .int) 2 := ⟨q1513, q1514, q1515, q117, q1516, by decide +kernel⟩
theorem K_X0_43 : KV RX0 43 RX1 yX1_block cX1_block 2 (some .int) 1 := ⟨q814, q815, q816, q113, q817, by decide +kernel⟩
theorem K_X0_46 : KV RX0 46 RX5 yX5_block cX5_block 2 (some .int) 1 := ⟨q1529, q1530, q1531, q117, q1532, by decide +kernel⟩
theorem K_X0_47 : KV RX0 47 RX1 yX1_power cX1_power 4 (some .int) 2 := ⟨q822, q823, q824, q113, q825, by decide +kernel⟩
theorem K_X0_50 : KV RX0 50 RX5 yX5_power cX5_power 4 (some .int) 2 := ⟨q1533, q1534, q1535, q117, q1536, by decide +kernel⟩
theorem K_X0_51 : KV RX0 51 RX1 yX1_slots cX1_slots 4 (some .int) 2 := ⟨q826, q827, q828, q113, q829, by decide +kernel⟩
theorem K_X0_54 : KV RX0 54 RX5 yX5_slots cX5_slots 4 (some .int) 2 := ⟨q1537, q1538, q1539, q117, q1540, by decide +kernel⟩
theorem K_X0_55 : KV RX0 55 RX1 yX1_complete cX1_complete 3 (some .int) 0 := ⟨q830, q831, q832, q113, q833, by decide +kernel⟩
theorem K_X0_59 : KV RX0 59 RX5 yX5_complete cX5_complete 2 (some .int) 0 := ⟨q1541, q1542, q1543, q117, q1544, by decide +kernel⟩
theorem K_X0_60 : KV RX0 60 RX1 yX1_mend cX1_mend 2 (some .int) 0 := ⟨q959, q960, q961, q113, q962, by decide +kernel⟩
theorem K_X0_63 : KV RX0 63 RX5 yX5_mend cX5_mend 2 (some .int) 0 := ⟨q1652, q1653, q1654, q117, q1655, by decide +kernel⟩
theorem K_X0_203 : KV RX0 203 RX1 yX1_undo cX1_undo 1 (some .int) 0 := ⟨q778, q779, q780, q113, q781, by decide +kernel⟩
theorem K_X0_206 : KV RX0 206 RX5 yX5_undo cX5_undo 1 (some .int) 0 := ⟨q1489, q1490, q1491, q117, q1492, by decide +kernel⟩
theorem K_X0_207 : KV RX0 207 RX1 yX1_keep cX1_keep 1 (some .int) 0 := ⟨q789, q790, q791, q113, q792, by decide +kernel⟩
theorem K_X0_210 : KV RX0 210 RX5 yX5_keep cX5_keep 1 (some .int) 0 := ⟨q1497, q1498, q1499, q117, q1500, by decide +kernel⟩
theorem K_X0_211 : KV RX0 211 RX1 yX1_back cX1_back 1 (some .int) 0 := ⟨q797, q798, q799, q113, q800, by decide +kernel⟩
theorem K_X0_214 : KV RX0 214 RX5 yX5_back cX5_back 1 (some .int) 0 := ⟨q1509, q1510, q1511, q117, q1512, by decide +kernel⟩
theorem K_X0_21 : KV RX0 21 RX1 yX1_feed cX1_feed 8 (some .int) 5 := ⟨q437, q438, q439, q113, q440, by decide +kernel⟩
theorem K_X0_25 : KV RX0 25 RX5 yX5_feed cX5_feed 8 (some .int) 5 := ⟨q1383, q1384, q1385, q117, q1386, by decide +kernel⟩
set_option maxHeartbeats 1000000 in
theorem lc_4 {p : Program} {l : Launch} {e : Env} {s : State} {m : MethodId} {args : Array Value} {below : List Frame} {meth : Method} {c : Code} {Q : State → Prop} {A : Nat → Prop} {D : va_G} {ret : Option FieldType} {ct : Nat → ClassId} {gt : Nat → Nat} {b L0 : Nat} {xs : Nat → Int32} {ad am : Nat → Nat} {o j n K tp : Nat} {μ σ : Nat → Nat → Int32} {pl : List KP} {f : Nat → Int64} (E : En p s m args meth c A code 7 RX0 ret D (tysA ct) gt) (hX : va_X b L0 xs s s.heap) (hbl : b < s.heap.size) (hbA : ¬ A b) (hL : L0 ≤ 384) (hj : 6 * j + 6 ≤ L0) (h : LI n K tp μ σ pl) (next : LN p l e s m args below meth c Q A D ct am b (ad 0) o j) : Sm p l e room_1 s m args below meth c Q A D 7 (76 + 10521 * j) (6340 + 83470 * j) (LW ct ad am o n (zt μ) σ μ pl f) 392 (LL b (ad 0) (am 0) o (nI (6 * j))) [] := by
  have hT : UT ad n (zt μ) (usW ad n (zt μ) ++ kpW (ad 47) ct n pl) := us_ut
  unfold LW
  refine s_aload_n E dL_law_392 (i := 1) (j := 1) rfl rfl ?_
  refine l_arg E hX hbl hbA hL (k := 1) (by omega) dL_law_393 dL_law_394 dL_law_396 (by decide) dL_law_397 dL_law_398 ?_
  refine l_arg E hX hbl hbA hL (k := 2) (by omega) dL_law_399 dL_law_400 dL_law_402 (by decide) dL_law_403 dL_law_404 ?_
  refine l_x E (x1z_tune (τ := zt μ) (σ := σ) K (xs (6 * j + 1)) (xs (6 * j + 2)) h.1.1 h.bb h.2.2.1.2.1 h.2.2.1.2.2.1 h.2.2.1.2.2.2.1) K_X0_39 (Nat.le_of_ble_eq_true rfl) (Nat.le_of_ble_eq_true rfl) (by show _ ≤ 853071; omega) (by show _ ≤ 6529724; omega) rfl rfl (Nat.le_of_ble_eq_true rfl) dL_law_405 (fun r u hu => ?_)
  refine s_aload_n E dL_law_408 (i := 2) (j := 2) rfl rfl ?_
  refine l_arg E hX hbl hbA hL (k := 1) (by omega) dL_law_409 dL_law_410 dL_law_412 (by decide) dL_law_413 dL_law_414 ?_
  refine l_arg E hX hbl hbA hL (k := 2) (by omega) dL_law_415 dL_law_416 dL_law_418 (by decide) dL_law_419 dL_law_420 ?_
  refine l_m E (mz_tune (σ := μ) n K (xs (6 * j + 1)) (xs (6 * j + 2)) h.n7 h.n6 h.2.2.1.1 h.k20) K_X0_42 (Nat.le_of_ble_eq_true rfl) (Nat.le_of_ble_eq_true rfl) (by show _ ≤ 853071; omega) (by show _ ≤ 6529724; omega) rfl rfl (Nat.le_of_ble_eq_true rfl) dL_law_421 (fun r2 μ2 hv => ?_)
  obtain ⟨pl2, σ2⟩ := u
  dsimp only at hu ⊢
  have hn6 := h.n6
  by_cases hc : (isU n (xs (6 * j + 1)) && (decide (xs (6 * j + 2) = 0) || isC μ (xs (6 * j + 2)))) = true
  · obtain ⟨a1, a2, a3⟩ := hu.1 hc
    obtain ⟨b1, b2⟩ := hv.1 hc
    refine s_icmp_eq E dL_law_424 (tgt := 1522) (by decide) (fun _ => ?_) (fun c9 => absurd ?_ c9)
    · subst a3 b2
      exact l_next next (h.put a2 ((show PG n (tN (μ 3 0)) (σ 1) by rw [h.2.1.1]; exact h.2.1.2).chan hn6 (isU_In (Bool.and_eq_true_iff.mp hc).1 hn6).2 (in_ch h hc))) (by omega) (by omega)
    · rw [a1, b1, h.2.1.1]
  · obtain ⟨a1, a2⟩ := hu.2 hc
    obtain ⟨b1, b2⟩ := hv.2 hc
    refine s_icmp_eq E dL_law_424 (tgt := 1522) (by decide) (fun _ => ?_) (fun c9 => absurd ?_ c9)
    · cases a2
      exact l_next next (h.q (HQ.of_eq b2.symm) (QX.rf _)) (by omega) (by omega)
    · rw [a1, b1]
set_option maxHeartbeats 1000000 in
theorem lc_5 {p : Program} {l : Launch} {e : Env} {s : State} {m : MethodId} {args : Array Value} {below : List Frame} {meth : Method} {c : Code} {Q : State → Prop} {A : Nat → Prop} {D : va_G} {ret : Option FieldType} {ct : Nat → ClassId} {gt : Nat → Nat} {b L0 : Nat} {xs : Nat → Int32} {ad am : Nat → Nat} {o j n K tp : Nat} {μ σ : Nat → Nat → Int32} {pl : List KP} {f : Nat → Int64} (E : En p s m args meth c A code 7 RX0 ret D (tysA ct) gt) (hX : va_X b L0 xs s s.heap) (hbl : b < s.heap.size) (hbA : ¬ A b) (hL : L0 ≤ 384) (hj : 6 * j + 6 ≤ L0) (h : LI n K tp μ σ pl) (next : LN p l e s m args below meth c Q A D ct am b (ad 0) o j) : Sm p l e room_1 s m args below meth c Q A D 7 (76 + 10521 * j) (6340 + 83470 * j) (LW ct ad am o n (zt μ) σ μ pl f) 429 (LL b (ad 0) (am 0) o (nI (6 * j))) [] := by
  have hT : UT ad n (zt μ) (usW ad n (zt μ) ++ kpW (ad 47) ct n pl) := us_ut
  unfold LW
  refine s_aload_n E dL_law_429 (i := 1) (j := 1) rfl rfl ?_
  refine l_arg E hX hbl hbA hL (k := 1) (by omega) dL_law_430 dL_law_431 dL_law_433 (by decide) dL_law_434 dL_law_435 ?_
  refine l_x E (x1z_block (τ := zt μ) (σ := σ) K (xs (6 * j + 1)) h.1.1 h.bb h.2.2.1.2.1 h.2.2.1.2.2.1 h.2.2.1.2.2.2.1) K_X0_43 (Nat.le_of_ble_eq_true rfl) (Nat.le_of_ble_eq_true rfl) (by show _ ≤ 853071; omega) (by show _ ≤ 6529724; omega) rfl rfl (Nat.le_of_ble_eq_true rfl) dL_law_436 (fun r u hu => ?_)
  refine s_aload_n E dL_law_439 (i := 2) (j := 2) rfl rfl ?_
  refine l_arg E hX hbl hbA hL (k := 1) (by omega) dL_law_440 dL_law_441 dL_law_443 (by decide) dL_law_444 dL_law_445 ?_
  refine l_m E (mz_block (σ := μ) (tN (μ 3 0)) K (xs (6 * j + 1)) h.b61.1 (by have := h.b61.2; omega) h.2.2.1.1 h.k20) K_X0_46 (Nat.le_of_ble_eq_true rfl) (Nat.le_of_ble_eq_true rfl) (by show _ ≤ 853071; omega) (by show _ ≤ 6529724; omega) rfl rfl (Nat.le_of_ble_eq_true rfl) dL_law_446 (fun r2 μ2 hv => ?_)
  obtain ⟨pl2, σ2⟩ := u
  dsimp only at hu ⊢
  have hn6 := h.n6
  by_cases hc : (isC μ (xs (6 * j + 1))) = true
  · obtain ⟨a1, a2, a3⟩ := hu.1 hc
    obtain ⟨b1, b2⟩ := hv.1 hc
    refine s_icmp_eq E dL_law_449 (tgt := 1522) (by decide) (fun _ => ?_) (fun c9 => absurd ?_ c9)
    · rw [show remF (zt μ) K 25 = σ 1 by rw [rem_r (by decide) (by decide), zt_r (by decide), h.2.1.1]] at b2
      subst a3 b2
      exact l_next next (h.put a2 ((show PG n (tN (μ 3 0)) (σ 1) by rw [h.2.1.1]; exact h.2.1.2).blk hn6 (in_bl h hc) h.b61.2)) (by omega) (by omega)
    · rw [a1, b1, h.2.1.1]
  · obtain ⟨a1, a2⟩ := hu.2 hc
    obtain ⟨b1, b2⟩ := hv.2 hc
    refine s_icmp_eq E dL_law_449 (tgt := 1522) (by decide) (fun _ => ?_) (fun c9 => absurd ?_ c9)
    · cases a2
      exact l_next next (h.q (HQ.of_eq b2.symm) (QX.rf _)) (by omega) (by omega)
    · rw [a1, b1]
set_option maxHeartbeats 1000000 in
theorem lc_6 {p : Program} {l : Launch} {e : Env} {s : State} {m : MethodId} {args : Array Value} {below : List Frame} {meth : Method} {c : Code} {Q : State → Prop} {A : Nat → Prop} {D : va_G} {ret : Option FieldType} {ct : Nat → ClassId} {gt : Nat → Nat} {b L0 : Nat} {xs : Nat → Int32} {ad am : Nat → Nat} {o j n K tp : Nat} {μ σ : Nat → Nat → Int32} {pl : List KP} {f : Nat → Int64} (E : En p s m args meth c A code 7 RX0 ret D (tysA ct) gt) (hX : va_X b L0 xs s s.heap) (hbl : b < s.heap.size) (hbA : ¬ A b) (hL : L0 ≤ 384) (hj : 6 * j + 6 ≤ L0) (h : LI n K tp μ σ pl) (next : LN p l e s m args below meth c Q A D ct am b (ad 0) o j) : Sm p l e room_1 s m args below meth c Q A D 7 (76 + 10521 * j) (6340 + 83470 * j) (LW ct ad am o n (zt μ) σ μ pl f) 454 (LL b (ad 0) (am 0) o (nI (6 * j))) [] := by
  have hT : UT ad n (zt μ) (usW ad n (zt μ) ++ kpW (ad 47) ct n pl) := us_ut
  unfold LW
  refine s_aload_n E dL_law_454 (i := 1) (j := 1) rfl rfl ?_
  refine l_arg E hX hbl hbA hL (k := 1) (by omega) dL_law_455 dL_law_456 dL_law_458 (by decide) dL_law_459 dL_law_460 ?_
  refine l_arg E hX hbl hbA hL (k := 2) (by omega) dL_law_461 dL_law_462 dL_law_464 (by decide) dL_law_465 dL_law_466 ?_
  refine l_x E (x1z_power (τ := zt μ) (σ := σ) K (xs (6 * j + 1)) (xs (6 * j + 2)) h.1.1 h.bb h.2.2.1.2.1 h.2.2.1.2.2.1 h.2.2.1.2.2.2.1) K_X0_47 (Nat.le_of_ble_eq_true rfl) (Nat.le_of_ble_eq_true rfl) (by show _ ≤ 853071; omega) (by show _ ≤ 6529724; omega) rfl rfl (Nat.le_of_ble_eq_true rfl) dL_law_467 (fun r u hu => ?_)
  refine s_aload_n E dL_law_470 (i := 2) (j := 2) rfl rfl ?_
  refine l_arg E hX hbl hbA hL (k := 1) (by omega) dL_law_471 dL_law_472 dL_law_474 (by decide) dL_law_475 dL_law_476 ?_
  refine l_arg E hX hbl hbA hL (k := 2) (by omega) dL_law_477 dL_law_478 dL_law_480 (by decide) dL_law_481 dL_law_482 ?_
  refine l_m E (mz_power (σ := μ) n K (xs (6 * j + 1)) (xs (6 * j + 2)) h.n7 h.n6 h.2.2.1.1 h.k20) K_X0_50 (Nat.le_of_ble_eq_true rfl) (Nat.le_of_ble_eq_true rfl) (by show _ ≤ 853071; omega) (by show _ ≤ 6529724; omega) rfl rfl (Nat.le_of_ble_eq_true rfl) dL_law_483 (fun r2 μ2 hv => ?_)
  obtain ⟨pl2, σ2⟩ := u
  dsimp only at hu ⊢
  have hn6 := h.n6
  by_cases hc : (isU n (xs (6 * j + 1)) && !decide (xs (6 * j + 2) < 0) && !decide (nI 30 < xs (6 * j + 2))) = true
  · obtain ⟨a1, a2, a3⟩ := hu.1 hc
    obtain ⟨b1, b2⟩ := hv.1 hc
    refine s_icmp_eq E dL_law_486 (tgt := 1522) (by decide) (fun _ => ?_) (fun c9 => absurd ?_ c9)
    · subst a3 b2
      exact l_next next (h.put a2 ((show PG n (tN (μ 3 0)) (σ 1) by rw [h.2.1.1]; exact h.2.1.2).pow hn6 (in_us hc hn6) (in_pw hc))) (by omega) (by omega)
    · rw [a1, b1, h.2.1.1]
  · obtain ⟨a1, a2⟩ := hu.2 hc
    obtain ⟨b1, b2⟩ := hv.2 hc
    refine s_icmp_eq E dL_law_486 (tgt := 1522) (by decide) (fun _ => ?_) (fun c9 => absurd ?_ c9)
    · cases a2
      exact l_next next (h.q (HQ.of_eq b2.symm) (QX.rf _)) (by omega) (by omega)
    · rw [a1, b1]
set_option maxHeartbeats 1000000 in
theorem lc_7 {p : Program} {l : Launch} {e : Env} {s : State} {m : MethodId} {args : Array Value} {below : List Frame} {meth : Method} {c : Code} {Q : State → Prop} {A : Nat → Prop} {D : va_G} {ret : Option FieldType} {ct : Nat → ClassId} {gt : Nat → Nat} {b L0 : Nat} {xs : Nat → Int32} {ad am : Nat → Nat} {o j n K tp : Nat} {μ σ : Nat → Nat → Int32} {pl : List KP} {f : Nat → Int64} (E : En p s m args meth c A code 7 RX0 ret D (tysA ct) gt) (hX : va_X b L0 xs s s.heap) (hbl : b < s.heap.size) (hbA : ¬ A b) (hL : L0 ≤ 384) (hj : 6 * j + 6 ≤ L0) (h : LI n K tp μ σ pl) (next : LN p l e s m args below meth c Q A D ct am b (ad 0) o j) : Sm p l e room_1 s m args below meth c Q A D 7 (76 + 10521 * j) (6340 + 83470 * j) (LW ct ad am o n (zt μ) σ μ pl f) 491 (LL b (ad 0) (am 0) o (nI (6 * j))) [] := by
  have hT : UT ad n (zt μ) (usW ad n (zt μ) ++ kpW (ad 47) ct n pl) := us_ut
  unfold LW
  refine s_aload_n E dL_law_491 (i := 1) (j := 1) rfl rfl ?_
  refine l_arg E hX hbl hbA hL (k := 1) (by omega) dL_law_492 dL_law_493 dL_law_495 (by decide) dL_law_496 dL_law_497 ?_
  refine l_arg E hX hbl hbA hL (k := 2) (by omega) dL_law_498 dL_law_499 dL_law_501 (by decide) dL_law_502 dL_law_503 ?_
  refine l_x E (x1z_slots (τ := zt μ) (σ := σ) K (xs (6 * j + 1)) (xs (6 * j + 2)) h.1.1 h.bb h.2.2.1.2.1 h.2.2.1.2.2.1 h.2.2.1.2.2.2.1) K_X0_51 (Nat.le_of_ble_eq_true rfl) (Nat.le_of_ble_eq_true rfl) (by show _ ≤ 853071; omega) (by show _ ≤ 6529724; omega) rfl rfl (Nat.le_of_ble_eq_true rfl) dL_law_504 (fun r u hu => ?_)
  refine s_aload_n E dL_law_507 (i := 2) (j := 2) rfl rfl ?_
  refine l_arg E hX hbl hbA hL (k := 1) (by omega) dL_law_508 dL_law_509 dL_law_511 (by decide) dL_law_512 dL_law_513 ?_
  refine l_arg E hX hbl hbA hL (k := 2) (by omega) dL_law_514 dL_law_515 dL_law_517 (by decide) dL_law_518 dL_law_519 ?_
  refine l_m E (mz_slots (σ := μ) n K (xs (6 * j + 1)) (xs (6 * j + 2)) h.n7 h.n6 h.2.2.1.1 h.k20) K_X0_54 (Nat.le_of_ble_eq_true rfl) (Nat.le_of_ble_eq_true rfl) (by show _ ≤ 853071; omega) (by show _ ≤ 6529724; omega) rfl rfl (Nat.le_of_ble_eq_true rfl) dL_law_520 (fun r2 μ2 hv => ?_)
  obtain ⟨pl2, σ2⟩ := u
  dsimp only at hu ⊢
  have hn6 := h.n6
  by_cases hc : (isU n (xs (6 * j + 1)) && !decide (xs (6 * j + 2) < nI 1) && !decide (nI 255 < xs (6 * j + 2))) = true
  · obtain ⟨a1, a2, a3⟩ := hu.1 hc
    obtain ⟨b1, b2⟩ := hv.1 hc
    refine s_icmp_eq E dL_law_523 (tgt := 1522) (by decide) (fun _ => ?_) (fun c9 => absurd ?_ c9)
    · subst a3 b2
      exact l_next next (h.put a2 ((show PG n (tN (μ 3 0)) (σ 1) by rw [h.2.1.1]; exact h.2.1.2).slot hn6)) (by omega) (by omega)
    · rw [a1, b1, h.2.1.1]
  · obtain ⟨a1, a2⟩ := hu.2 hc
    obtain ⟨b1, b2⟩ := hv.2 hc
    refine s_icmp_eq E dL_law_523 (tgt := 1522) (by decide) (fun _ => ?_) (fun c9 => absurd ?_ c9)
    · cases a2
      exact l_next next (h.q (HQ.of_eq b2.symm) (QX.rf _)) (by omega) (by omega)
    · rw [a1, b1]
set_option maxHeartbeats 1000000 in
theorem lc_8 {p : Program} {l : Launch} {e : Env} {s : State} {m : MethodId} {args : Array Value} {below : List Frame} {meth : Method} {c : Code} {Q : State → Prop} {A : Nat → Prop} {D : va_G} {ret : Option FieldType} {ct : Nat → ClassId} {gt : Nat → Nat} {b L0 : Nat} {xs : Nat → Int32} {ad am : Nat → Nat} {o j n K tp : Nat} {μ σ : Nat → Nat → Int32} {pl : List KP} {f : Nat → Int64} (E : En p s m args meth c A code 7 RX0 ret D (tysA ct) gt) (hX : va_X b L0 xs s s.heap) (hbl : b < s.heap.size) (hbA : ¬ A b) (hL : L0 ≤ 384) (hj : 6 * j + 6 ≤ L0) (h : LI n K tp μ σ pl) (next : LN p l e s m args below meth c Q A D ct am b (ad 0) o j) : Sm p l e room_1 s m args below meth c Q A D 7 (76 + 10521 * j) (6340 + 83470 * j) (LW ct ad am o n (zt μ) σ μ pl f) 528 (LL b (ad 0) (am 0) o (nI (6 * j))) [] := by
  have hT : UT ad n (zt μ) (usW ad n (zt μ) ++ kpW (ad 47) ct n pl) := us_ut
  unfold LW
  refine s_aload_n E dL_law_528 (i := 1) (j := 1) rfl rfl ?_
  refine l_x E (x1z_complete (τ := zt μ) (σ := σ) K h.1.1 hT h.pc h.bb h.2.2.1.2.1 h.2.2.1.2.2.1 h.2.2.1.2.2.2.1) K_X0_55 (Nat.le_of_ble_eq_true rfl) (Nat.le_of_ble_eq_true rfl) (by show _ ≤ 853071; omega) (by show _ ≤ 6529724; omega) rfl rfl (Nat.le_of_ble_eq_true rfl) dL_law_529 (fun r u hu => ?_)
  rw [h.vwz] at hu
  refine s_aload_n E dL_law_532 (i := 2) (j := 2) rfl rfl ?_
  refine l_m E (mz_complete (σ := μ) n K h.cm h.lhh h.1.2.2.2 h.2.2.1.1 h.k20) K_X0_59 (Nat.le_of_ble_eq_true rfl) (Nat.le_of_ble_eq_true rfl) (by show _ ≤ 853071; omega) (by show _ ≤ 6529724; omega) rfl rfl (Nat.le_of_ble_eq_true rfl) dL_law_533 (fun r2 μ2 hv => ?_)
  obtain ⟨pl2, σ2⟩ := u
  dsimp only at hu ⊢
  have hn6 := h.n6
  have e12 : r = r2 := hu.1.symm.trans hv.1
  refine s_icmp_eq E dL_law_536 (tgt := 1522) (by decide) (fun _ => ?_) (fun c9 => absurd ?_ c9)
  · by_cases hr : 0 < r2
    · obtain ⟨a1, a2, a3, a4⟩ := hu.2.2 (e12 ▸ hr)
      have b1 := hv.2.2 hr
      exact l_next next (h.done a1 b1 ⟨a2.1 2 (by decide) (by decide) (by decide) (by decide) (by decide) (by decide), a2.1 9 (by decide) (by decide) (by decide) (by decide) (by decide) (by decide), fun j hj _ => a2.2 j hj⟩ a3 a4 (PG.found h (FS_sub _ hn6))) (by omega) (by omega)
    · obtain ⟨a1, a2⟩ := hu.2.1 (e12 ▸ hr)
      subst a1
      exact l_next next (h.q (hv.2.1 hr) (QX.xs a2)) (by omega) (by omega)
  · exact e12
set_option maxHeartbeats 1000000 in
theorem lc_9 {p : Program} {l : Launch} {e : Env} {s : State} {m : MethodId} {args : Array Value} {below : List Frame} {meth : Method} {c : Code} {Q : State → Prop} {A : Nat → Prop} {D : va_G} {ret : Option FieldType} {ct : Nat → ClassId} {gt : Nat → Nat} {b L0 : Nat} {xs : Nat → Int32} {ad am : Nat → Nat} {o j n K tp : Nat} {μ σ : Nat → Nat → Int32} {pl : List KP} {f : Nat → Int64} (E : En p s m args meth c A code 7 RX0 ret D (tysA ct) gt) (hX : va_X b L0 xs s s.heap) (hbl : b < s.heap.size) (hbA : ¬ A b) (hL : L0 ≤ 384) (hj : 6 * j + 6 ≤ L0) (h : LI n K tp μ σ pl) (next : LN p l e s m args below meth c Q A D ct am b (ad 0) o j) : Sm p l e room_1 s m args below meth c Q A D 7 (76 + 10521 * j) (6340 + 83470 * j) (LW ct ad am o n (zt μ) σ μ pl f) 541 (LL b (ad 0) (am 0) o (nI (6 * j))) [] := by
  have hT : UT ad n (zt μ) (usW ad n (zt μ) ++ kpW (ad 47) ct n pl) := us_ut
  unfold LW
  refine s_aload_n E dL_law_541 (i := 1) (j := 1) rfl rfl ?_
  refine l_x E (x1z_mend (τ := zt μ) (σ := σ) K h.1.1 hT h.pc h.bb h.2.2.1.2.1 h.2.2.1.2.2.1 h.2.2.1.2.2.2.1) K_X0_60 (Nat.le_of_ble_eq_true rfl) (Nat.le_of_ble_eq_true rfl) (by show _ ≤ 853071; omega) (by show _ ≤ 6529724; omega) rfl rfl (Nat.le_of_ble_eq_true rfl) dL_law_542 (fun r u hu => ?_)
  rw [h.vwz] at hu
  refine s_aload_n E dL_law_545 (i := 2) (j := 2) rfl rfl ?_
  refine l_m E (mz_mend (σ := μ) n K h.cm h.lhh h.1.2.2.2 h.2.2.1.1 h.k20) K_X0_63 (Nat.le_of_ble_eq_true rfl) (Nat.le_of_ble_eq_true rfl) (by show _ ≤ 853071; omega) (by show _ ≤ 6529724; omega) rfl rfl (Nat.le_of_ble_eq_true rfl) dL_law_546 (fun r2 μ2 hv => ?_)
  obtain ⟨pl2, σ2⟩ := u
  dsimp only at hu ⊢
  have hn6 := h.n6
  have e12 : r = r2 := hu.1.symm.trans hv.1
  refine s_icmp_eq E dL_law_549 (tgt := 1522) (by decide) (fun _ => ?_) (fun c9 => absurd ?_ c9)
  · by_cases hr : 0 < r2
    · obtain ⟨a1, a2, a3, a4⟩ := hu.2.2 (e12 ▸ hr)
      have b1 := hv.2.2 hr
      exact l_next next (h.done a1 b1 ⟨a2.1 2 (by decide) (by decide) (by decide) (by decide) (by decide) (by decide), a2.1 9 (by decide) (by decide) (by decide) (by decide) (by decide) (by decide), fun j hj _ => a2.2 j hj⟩ a3 a4 (PG.found h (md_sub hn6 (fun z => by rw [← hv.1, z] at hr; exact absurd hr (by decide))))) (by omega) (by omega)
    · obtain ⟨a1, a2⟩ := hu.2.1 (e12 ▸ hr)
      subst a1
      exact l_next next (h.q (hv.2.1 hr) (QX.xs a2)) (by omega) (by omega)
  · exact e12
set_option maxHeartbeats 1000000 in
theorem lc_43 {p : Program} {l : Launch} {e : Env} {s : State} {m : MethodId} {args : Array Value} {below : List Frame} {meth : Method} {c : Code} {Q : State → Prop} {A : Nat → Prop} {D : va_G} {ret : Option FieldType} {ct : Nat → ClassId} {gt : Nat → Nat} {b L0 : Nat} {xs : Nat → Int32} {ad am : Nat → Nat} {o j n K tp : Nat} {μ σ : Nat → Nat → Int32} {pl : List KP} {f : Nat → Int64} (E : En p s m args meth c A code 7 RX0 ret D (tysA ct) gt) (hX : va_X b L0 xs s s.heap) (hbl : b < s.heap.size) (hbA : ¬ A b) (hL : L0 ≤ 384) (hj : 6 * j + 6 ≤ L0) (h : LI n K tp μ σ pl) (next : LN p l e s m args below meth c Q A D ct am b (ad 0) o j) : Sm p l e room_1 s m args below meth c Q A D 7 (76 + 10521 * j) (6340 + 83470 * j) (LW ct ad am o n (zt μ) σ μ pl f) 1458 (LL b (ad 0) (am 0) o (nI (6 * j))) [] := by
  unfold LW
  refine s_aload_n E dL_law_1458 (i := 1) (j := 1) rfl rfl ?_
  refine l_x E (x1z_undo (τ := zt μ) (σ := σ) K h.n6 h.2.2.1.2.1 h.2.2.1.2.2.1 h.2.2.1.2.2.2.1 (fun k hk => (h.2.2.1.2.2.2.2 k hk).2.2.1)) K_X0_203 (Nat.le_of_ble_eq_true rfl) (Nat.le_of_ble_eq_true rfl) (by show _ ≤ 853071; omega) (by show _ ≤ 6529724; omega) rfl rfl (Nat.le_of_ble_eq_true rfl) dL_law_1459 (fun r u hu => ?_)
  refine s_aload_n E dL_law_1462 (i := 2) (j := 2) rfl rfl ?_
  refine l_m E (mz_undo (σ := μ) K h.2.2.1.1 h.k20) K_X0_206 (Nat.le_of_ble_eq_true rfl) (Nat.le_of_ble_eq_true rfl) (by show _ ≤ 853071; omega) (by show _ ≤ 6529724; omega) rfl rfl (Nat.le_of_ble_eq_true rfl) dL_law_1463 (fun r2 μ2 hv => ?_)
  by_cases hK : K = 0
  · obtain ⟨a1, a2⟩ := hu.1 hK
    obtain ⟨b1, b2⟩ := hv.1 hK
    refine s_icmp_eq E dL_law_1466 (tgt := 1522) (by decide) (fun _ => ?_) (fun c9 => absurd ?_ c9)
    · subst a2
      exact l_next next (h.q (HQ.of_eq b2.symm) (QX.rf _)) (by omega) (by omega)
    · rw [a1, b1]
  · obtain ⟨a1, J, a2⟩ := hu.2 hK
    obtain ⟨b1, b2⟩ := hv.2 hK
    refine s_icmp_eq E dL_law_1466 (tgt := 1522) (by decide) (fun _ => ?_) (fun c9 => absurd ?_ c9)
    · subst a2 b2
      obtain ⟨g1, g2⟩ := h.undo (J := J) hK
      exact l_nextP next g1 g2 (by omega) (by omega)
    · rw [a1, b1]
set_option maxHeartbeats 1000000 in
theorem lc_44 {p : Program} {l : Launch} {e : Env} {s : State} {m : MethodId} {args : Array Value} {below : List Frame} {meth : Method} {c : Code} {Q : State → Prop} {A : Nat → Prop} {D : va_G} {ret : Option FieldType} {ct : Nat → ClassId} {gt : Nat → Nat} {b L0 : Nat} {xs : Nat → Int32} {ad am : Nat → Nat} {o j n K tp : Nat} {μ σ : Nat → Nat → Int32} {pl : List KP} {f : Nat → Int64} (E : En p s m args meth c A code 7 RX0 ret D (tysA ct) gt) (hX : va_X b L0 xs s s.heap) (hbl : b < s.heap.size) (hbA : ¬ A b) (hL : L0 ≤ 384) (hj : 6 * j + 6 ≤ L0) (h : LI n K tp μ σ pl) (next : LN p l e s m args below meth c Q A D ct am b (ad 0) o j) : Sm p l e room_1 s m args below meth c Q A D 7 (76 + 10521 * j) (6340 + 83470 * j) (LW ct ad am o n (zt μ) σ μ pl f) 1471 (LL b (ad 0) (am 0) o (nI (6 * j))) [] := by
  unfold LW
  refine s_aload_n E dL_law_1471 (i := 1) (j := 1) rfl rfl ?_
  refine l_x E (x1z_keep (τ := zt μ) (σ := σ) h.1.1 h.bb) K_X0_207 (Nat.le_of_ble_eq_true rfl) (Nat.le_of_ble_eq_true rfl) (by show _ ≤ 853071; omega) (by show _ ≤ 6529724; omega) rfl rfl (Nat.le_of_ble_eq_true rfl) dL_law_1472 (fun r u hu => ?_)
  rw [h.vwz] at hu
  refine s_aload_n E dL_law_1475 (i := 2) (j := 2) rfl rfl ?_
  refine l_m E (mz_keep (σ := μ) n h.n7 h.n6) K_X0_210 (Nat.le_of_ble_eq_true rfl) (Nat.le_of_ble_eq_true rfl) (by show _ ≤ 853071; omega) (by show _ ≤ 6529724; omega) rfl rfl (Nat.le_of_ble_eq_true rfl) dL_law_1476 (fun r2 μ2 hv => ?_)
  obtain ⟨a1, a2⟩ := hu
  obtain ⟨b1, b2⟩ := hv
  refine s_icmp_eq E dL_law_1479 (tgt := 1522) (by decide) (fun _ => ?_) (fun c9 => absurd ?_ c9)
  · subst a2 b2
    exact l_next next h.keep (by omega) (by omega)
  · rw [← a1, ← b1]
    rfl
set_option maxHeartbeats 1000000 in
theorem lc_45 {p : Program} {l : Launch} {e : Env} {s : State} {m : MethodId} {args : Array Value} {below : List Frame} {meth : Method} {c : Code} {Q : State → Prop} {A : Nat → Prop} {D : va_G} {ret : Option FieldType} {ct : Nat → ClassId} {gt : Nat → Nat} {b L0 : Nat} {xs : Nat → Int32} {ad am : Nat → Nat} {o j n K tp : Nat} {μ σ : Nat → Nat → Int32} {pl : List KP} {f : Nat → Int64} (E : En p s m args meth c A code 7 RX0 ret D (tysA ct) gt) (hX : va_X b L0 xs s s.heap) (hbl : b < s.heap.size) (hbA : ¬ A b) (hL : L0 ≤ 384) (hj : 6 * j + 6 ≤ L0) (h : LI n K tp μ σ pl) (next : LN p l e s m args below meth c Q A D ct am b (ad 0) o j) : Sm p l e room_1 s m args below meth c Q A D 7 (76 + 10521 * j) (6340 + 83470 * j) (LW ct ad am o n (zt μ) σ μ pl f) 1484 (LL b (ad 0) (am 0) o (nI (6 * j))) [] := by
  unfold LW
  refine s_aload_n E dL_law_1484 (i := 1) (j := 1) rfl rfl ?_
  refine l_x E (x1z_back (τ := zt μ) (σ := σ) h.1.1 (fun z => (h.2.2.2.1.2 (fun y => z (h.2.2.2.1.1.trans y))).2.2.1)) K_X0_211 (Nat.le_of_ble_eq_true rfl) (Nat.le_of_ble_eq_true rfl) (by show _ ≤ 853071; omega) (by show _ ≤ 6529724; omega) rfl rfl (Nat.le_of_ble_eq_true rfl) dL_law_1485 (fun r u hu => ?_)
  refine s_aload_n E dL_law_1488 (i := 2) (j := 2) rfl rfl ?_
  refine l_m E (mz_back (σ := μ) n h.n7 h.n6) K_X0_214 (Nat.le_of_ble_eq_true rfl) (Nat.le_of_ble_eq_true rfl) (by show _ ≤ 853071; omega) (by show _ ≤ 6529724; omega) rfl rfl (Nat.le_of_ble_eq_true rfl) dL_law_1489 (fun r2 μ2 hv => ?_)
  by_cases hi : μ 0 29 = 0
  · obtain ⟨a1, a2⟩ := hu.1 (h.2.2.2.1.1.trans hi)
    obtain ⟨b1, b2⟩ := hv.1 hi
    refine s_icmp_eq E dL_law_1492 (tgt := 1522) (by decide) (fun _ => ?_) (fun c9 => absurd ?_ c9)
    · subst a2
      exact l_next next (h.q (HQ.of_eq b2.symm) (QX.rf _)) (by omega) (by omega)
    · rw [a1, b1]
  · obtain ⟨a1, a2⟩ := hu.2 (fun z => hi (h.2.2.2.1.1.symm.trans z))
    obtain ⟨b1, b2⟩ := hv.2 hi
    obtain ⟨g1, g2⟩ := h.back hi
    refine s_icmp_eq E dL_law_1492 (tgt := 1522) (by decide) (fun _ => ?_) (fun c9 => absurd ?_ c9)
    · subst a2 b2
      exact l_nextP next g1 g2 (by omega) (by omega)
    · rw [a1, b1]
      refine congrArg nI (sumN_congr fun v hv => ?_)
      have e := (g2.1 v hv).1
      unfold tunedF
      rw [vw_25, ← e]
      rfl
set_option maxHeartbeats 1000000 in
theorem lc_0 {p : Program} {l : Launch} {e : Env} {s : State} {m : MethodId} {args : Array Value} {below : List Frame} {meth : Method} {c : Code} {Q : State → Prop} {A : Nat → Prop} {D : va_G} {ret : Option FieldType} {ct : Nat → ClassId} {gt : Nat → Nat} {b L0 : Nat} {xs : Nat → Int32} {ad am : Nat → Nat} {o j n K tp : Nat} {μ σ : Nat → Nat → Int32} {pl : List KP} {f : Nat → Int64} (E : En p s m args meth c A code 7 RX0 ret D (tysA ct) gt) (hX : va_X b L0 xs s s.heap) (hbl : b < s.heap.size) (hbA : ¬ A b) (hL : L0 ≤ 384) (hj : 6 * j + 6 ≤ L0) (h : LI n K tp μ σ pl) (next : LN p l e s m args below meth c Q A D ct am b (ad 0) o j) : Sm p l e room_1 s m args below meth c Q A D 7 (76 + 10521 * j) (6340 + 83470 * j) (LW ct ad am o n (zt μ) σ μ pl f) 244 (LL b (ad 0) (am 0) o (nI (6 * j))) [] := by
  unfold LW
  refine s_aload_n E dL_law_244 (i := 1) (j := 1) rfl rfl ?_
  refine l_arg E hX hbl hbA hL (k := 1) (by omega) dL_law_245 dL_law_246 dL_law_248 (by decide) dL_law_249 dL_law_250 ?_
  refine l_arg E hX hbl hbA hL (k := 2) (by omega) dL_law_251 dL_law_252 dL_law_254 (by decide) dL_law_255 dL_law_256 ?_
  refine l_arg E hX hbl hbA hL (k := 3) (by omega) dL_law_257 dL_law_258 dL_law_260 (by decide) dL_law_261 dL_law_262 ?_
  refine l_arg E hX hbl hbA hL (k := 4) (by omega) dL_law_263 dL_law_264 dL_law_266 (by decide) dL_law_267 dL_law_268 ?_
  refine l_arg E hX hbl hbA hL (k := 5) (by omega) dL_law_269 dL_law_270 dL_law_272 (by decide) dL_law_273 dL_law_274 ?_
  refine l_x E (x1z_feed (τ := zt μ) (σ := σ) tp (xs (6 * j + 1)) (xs (6 * j + 2)) (xs (6 * j + 3)) (xs (6 * j + 4)) (xs (6 * j + 5)) h.2.2.2.2.1.2.1 h.2.2.2.2.1.2.2.1) K_X0_21 (Nat.le_of_ble_eq_true rfl) (Nat.le_of_ble_eq_true rfl) (by show _ ≤ 853071; omega) (by show _ ≤ 6529724; omega) rfl rfl (Nat.le_of_ble_eq_true rfl) dL_law_275 (fun r u hu => ?_)
  refine s_aload_n E dL_law_278 (i := 2) (j := 2) rfl rfl ?_
  refine l_arg E hX hbl hbA hL (k := 1) (by omega) dL_law_279 dL_law_280 dL_law_282 (by decide) dL_law_283 dL_law_284 ?_
  refine l_arg E hX hbl hbA hL (k := 2) (by omega) dL_law_285 dL_law_286 dL_law_288 (by decide) dL_law_289 dL_law_290 ?_
  refine l_arg E hX hbl hbA hL (k := 3) (by omega) dL_law_291 dL_law_292 dL_law_294 (by decide) dL_law_295 dL_law_296 ?_
  refine l_arg E hX hbl hbA hL (k := 4) (by omega) dL_law_297 dL_law_298 dL_law_300 (by decide) dL_law_301 dL_law_302 ?_
  refine l_arg E hX hbl hbA hL (k := 5) (by omega) dL_law_303 dL_law_304 dL_law_306 (by decide) dL_law_307 dL_law_308 ?_
  refine l_m E (mz_feed (σ := μ) tp (xs (6 * j + 1)) (xs (6 * j + 2)) (xs (6 * j + 3)) (xs (6 * j + 4)) (xs (6 * j + 5)) h.2.2.2.2.1.1 h.2.2.2.2.1.2.2.1) K_X0_25 (Nat.le_of_ble_eq_true rfl) (Nat.le_of_ble_eq_true rfl) (by show _ ≤ 853071; omega) (by show _ ≤ 6529724; omega) rfl rfl (Nat.le_of_ble_eq_true rfl) dL_law_309 (fun r2 μ2 hv => ?_)
  obtain ⟨a1, a2⟩ := hu
  obtain ⟨b1, b2⟩ := hv
  refine s_icmp_eq E dL_law_312 (tgt := 1522) (by decide) (fun _ => ?_) (fun c9 => absurd ?_ c9)
  · by_cases hp : 680 < tp
    · rw [if_pos hp] at a2 b2
      subst a2
      exact l_next next (h.q (HQ.of_eq b2) (QX.rf _)) (by omega) (by omega)
    · rw [if_neg hp] at a2 b2
      subst a2 b2
      exact l_next next (h.feed hp) (by omega) (by omega)
  · exact a1.symm.trans b1
