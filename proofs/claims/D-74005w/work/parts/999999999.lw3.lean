set_option maxRecDepth 100000
theorem HQ.th {μ : Nat → Nat → Int32} {v : Int32} : HQ (zt μ) (st1 (zt μ) 0 0 v) := ⟨fun r h0 _ _ _ _ => st1_ne h0, fun j h0 _ _ _ => st1_nj h0⟩
section
variable {p : Program} {l : Launch} {e : Env} {R : Room} {s : State} {m : MethodId} {args : Array Value} {below : List Frame} {meth : Method} {c : Code} {Q : State → Prop} {A : Nat → Prop} {D : va_G} {nL cells slots : Nat} {ws : va_W} {pc : Nat} {L : List (Nat × Value)} {S : List Value}
variable {cc : ByteArray} {ret : Option FieldType} {ct : Nat → ClassId} {gt : Nat → Nat}
theorem l_arg2 {own : String} {tys : List (ClassId × FieldType)} (E : En p s m args meth c A cc nL own ret D tys gt) {b L0 : Nat} {xs : Nat → Int32} (hX : va_X b L0 xs s s.heap) (hbl : b < s.heap.size) (hbA : ¬ A b) (hL : L0 ≤ 384) {j k i0 i4 : Nat} {kk : Int} (h0 : L[i0]? = some (0, .ref b)) (h4 : L[i4]? = some (4, .int (nI (6 * j)))) (hk : 6 * j + k < L0) (d0 : decode cc pc = .ok (.aload_n 0, 1)) (d1 : decode cc (pc + 1) = .ok (.iload 4, 2)) (d2 : decode cc (pc + 1 + 2) = .ok (.iconst kk, 1)) (hv : Int32.ofInt kk = nI k) (d3 : decode cc (pc + 1 + 2 + 1) = .ok (.iadd, 1)) (d4 : decode cc (pc + 1 + 2 + 1 + 1) = .ok (.iaload, 1))
    (K : Sm p l e R s m args below meth c Q A D nL cells slots ws (pc + 1 + 2 + 1 + 1 + 1) L (.int (xs (6 * j + k)) :: S)) : Sm p l e R s m args below meth c Q A D nL cells slots ws pc L S := by
  have e : nI (6 * j) + nI k = nI (6 * j + k) := nI_add _ _
  refine s_aload_n E d0 (i := 0) rfl h0 (s_iload E d1 h4 (s_iconst E d2 hv (s_iadd_ E d3 e ?_)))
  refine s_sld E hX hbl hbA (vp_in_nI hk (by omega)) d4 ?_
  rw [nI_clamp (by omega)]
  exact K
end
theorem K_X0_26 : KVH RX0 26 RX1 yX1_text cX1_text 3 (some .int) [(30, 46, 49, 89)] 1 := ⟨q441, q442, q443, q113, q444, by decide +kernel⟩
theorem K_X0_30 : KV RX0 30 RX5 yX5_text cX5_text 2 (some .int) 1 := ⟨q1387, q1388, q1389, q117, q1390, by decide +kernel⟩
theorem K_X0_64 : KSH RX0 64 yX0_user cX0_user 5 (some .int) [(0, 10, 13, 13), (0, 10, 17, 15)] 4 := ⟨q1128, q1129, q112, q1130, by decide +kernel⟩
theorem K_X0_69 : KV RX0 69 RX5 yX5_user cX5_user 3 (some .int) 2 := ⟨q1691, q1692, q1693, q117, q1694, by decide +kernel⟩
theorem K_X0_70 : KV RX0 70 RX5 yX5_thrown cX5_thrown 1 (some .int) 0 := ⟨q1379, q1380, q1381, q117, q1382, by decide +kernel⟩
set_option maxHeartbeats 1000000 in
theorem lc_1 {p : Program} {l : Launch} {e : Env} {s : State} {m : MethodId} {args : Array Value} {below : List Frame} {meth : Method} {c : Code} {Q : State → Prop} {A : Nat → Prop} {D : va_G} {ret : Option FieldType} {ct : Nat → ClassId} {gt : Nat → Nat} {b L0 : Nat} {xs : Nat → Int32} {ad am : Nat → Nat} {o j n K tp : Nat} {μ σ : Nat → Nat → Int32} {pl : List KP} {f : Nat → Int64} (E : En p s m args meth c A code 7 RX0 ret D (tysA ct) gt) (hX : va_X b L0 xs s s.heap) (hbl : b < s.heap.size) (hbA : ¬ A b) (hL : L0 ≤ 384) (hj : 6 * j + 6 ≤ L0) (h : LI n K tp μ σ pl) (next : LN p l e s m args below meth c Q A D ct am b (ad 0) o j) : Sm p l e room_1 s m args below meth c Q A D 7 (76 + 10521 * j) (6340 + 83470 * j) (LW ct ad am o n (zt μ) σ μ pl f) 317 (LL b (ad 0) (am 0) o (nI (6 * j))) [] := by
  unfold LW
  refine s_aload_n E dL_law_317 (i := 1) (j := 1) rfl rfl ?_
  refine l_arg E hX hbl hbA hL (k := 1) (by omega) dL_law_318 dL_law_319 dL_law_321 (by decide) dL_law_322 dL_law_323 ?_
  refine l_xH E (x1z_text (τ := zt μ) (σ := σ) (zt μ) tp (xs (6 * j + 1)) h.n6 h.2.2.2.2.1.2.1 h.2.2.2.2.1.2.2.1 h.2.2.2.2.1.2.2.2.1 h.2.2.2.2.1.2.2.2.2.1) K_X0_26 (Nat.le_of_ble_eq_true rfl) (Nat.le_of_ble_eq_true rfl) (by show _ ≤ 853071; omega) (by show _ ≤ 6529724; omega) rfl rfl (Nat.le_of_ble_eq_true rfl) dL_law_324 (fun r u hu => ?_)
  refine s_aload_n E dL_law_327 (i := 2) (j := 2) rfl rfl ?_
  refine l_arg E hX hbl hbA hL (k := 1) (by omega) dL_law_328 dL_law_329 dL_law_331 (by decide) dL_law_332 dL_law_333 ?_
  refine l_m E (mz_text (σ := μ) tp (xs (6 * j + 1)) h.2.2.2.2.1.1 h.2.2.2.2.1.2.2.1 h.2.2.2.2.1.2.2.2.2.1 h.2.2.2.2.1.2.2.2.2.2) K_X0_30 (Nat.le_of_ble_eq_true rfl) (Nat.le_of_ble_eq_true rfl) (by show _ ≤ 853071; omega) (by show _ ≤ 6529724; omega) rfl rfl (Nat.le_of_ble_eq_true rfl) dL_law_334 (fun r2 μ2 hv => ?_)
  obtain ⟨u1, u2, u3⟩ := hu
  have htp := h.2.2.2.2.1.2.2.1
  by_cases hc : ¬ xs (6 * j + 1) < 0 ∧ ¬ nI tp < xs (6 * j + 1)
  · obtain ⟨N, hN, -, hNt⟩ := rng (a := 0) (b := tp) hc (by decide) (by omega)
    obtain ⟨b1, b2⟩ := hv.1 hc
    rw [hN, tN_nI (by omega)] at b1 b2
    obtain ⟨-, hbo, -⟩ := readTextS_of (n := N) (s := zt μ) (by omega) (h.2.2.2.2.1.2.2.2.2.1.cg (zt_r (by decide))) (h.2.2.2.2.1.2.2.2.2.2.cg (zt_r (by decide)))
    by_cases hz : readTextS N (zt μ) 0 21 = 0
    · obtain ⟨a1, ra, n2, ρ, -, hRB, hBI, hn2, hn6, a2⟩ := u3 N hN hNt hz
      subst a2
      dsimp only
      obtain ⟨g1, g2⟩ := h.textT (R := readTextS N (zt μ)) (ρ := ρ) (N := N) (RK.text N) hbo hz hRB (readTextS_ub hz) hBI hn2 hn6
      have e2 : μ2 = txG (readTextS N (zt μ)) n2 (readTextS N (zt μ) 0 21) (-1) := by
        rw [← b2]
        unfold txS txA
        rw [if_pos hz, if_pos hz, hn2, tN_nI (by omega)]
        rfl
      subst e2
      refine s_icmp_eq E dL_law_337 (tgt := 1522) (by decide) (fun _ => ?_) (fun c9 => absurd ?_ c9)
      · exact l_nextP (ad := adT ad ra) next g1 g2 (by omega) (by omega)
      · rw [a1, ← b1]
        unfold txR
        rw [if_pos hz]
    · obtain ⟨a1, a2⟩ := u2 N hN hNt hz
      subst a2
      dsimp only
      have e2 : μ2 = st1 (st1 (st1 (readTextS N (zt μ)) 0 2 (nI 0)) 0 23 (readTextS N (zt μ) 0 21)) 0 24 (readTextS N (zt μ) 0 22) := by
        rw [← b2]
        unfold txS txA
        rw [if_neg hz, if_neg hz]
      subst e2
      refine s_icmp_eq E dL_law_337 (tgt := 1522) (by decide) (fun _ => ?_) (fun c9 => absurd ?_ c9)
      · exact l_next next (h.textF (RK.text N) hbo) (by omega) (by omega)
      · rw [a1, ← b1]
        unfold txR
        rw [if_neg hz]
  · obtain ⟨a1, a2⟩ := u1 hc
    obtain ⟨b1, b2⟩ := hv.2 hc
    subst a2
    dsimp only
    refine s_icmp_eq E dL_law_337 (tgt := 1522) (by decide) (fun _ => ?_) (fun c9 => absurd ?_ c9)
    · exact l_next next (h.q (HQ.of_eq b2) (QX.rf _)) (by omega) (by omega)
    · rw [a1, b1]
set_option maxHeartbeats 1000000 in
theorem lc_10 {p : Program} {l : Launch} {e : Env} {s : State} {m : MethodId} {args : Array Value} {below : List Frame} {meth : Method} {c : Code} {Q : State → Prop} {A : Nat → Prop} {D : va_G} {ret : Option FieldType} {ct : Nat → ClassId} {gt : Nat → Nat} {b L0 : Nat} {xs : Nat → Int32} {ad am : Nat → Nat} {o j n K tp : Nat} {μ σ : Nat → Nat → Int32} {pl : List KP} {f : Nat → Int64} (E : En p s m args meth c A code 7 RX0 ret D (tysA ct) gt) (hX : va_X b L0 xs s s.heap) (hbl : b < s.heap.size) (hbA : ¬ A b) (hL : L0 ≤ 384) (hj : 6 * j + 6 ≤ L0) (hst : l.stackTraces = false) (hNc : va_Nc nsE ioE s) (h : LI n K tp μ σ pl) (next : LN p l e s m args below meth c Q A D ct am b (ad 0) o j) : Sm p l e room_1 s m args below meth c Q A D 7 (76 + 10521 * j) (6340 + 83470 * j) (LW ct ad am o n (zt μ) σ μ pl f) 554 (LL b (ad 0) (am 0) o (nI (6 * j))) [] := by
  have hT : UT ad n (zt μ) (usW ad n (zt μ) ++ kpW (ad 47) ct n pl) := us_ut
  unfold LW
  refine s_aload_n E dL_law_554 (i := 1) (j := 1) rfl rfl ?_
  refine l_arg E hX hbl hbA hL (k := 1) (by omega) dL_law_555 dL_law_556 dL_law_558 (by decide) dL_law_559 dL_law_560 ?_
  refine l_arg E hX hbl hbA hL (k := 2) (by omega) dL_law_561 dL_law_562 dL_law_564 (by decide) dL_law_565 dL_law_566 ?_
  refine s_aload_n E dL_law_567 (i := 3) (j := 3) rfl rfl ?_
  refine p_goi (wc := iw ad ct n (zt μ) σ (usW ad n (zt μ) ++ kpW (ad 47) ct n pl) ++ outW ct o f) (wr := wm am ct μ) (ws2 := fun g => iw ad ct n (zt μ) σ (usW ad n (zt μ) ++ kpW (ad 47) ct n pl) ++ (wm am ct μ ++ outW ct o g)) E (cutS [] (tysA ct)).2.2.2.2.2 mid_q.symm (rSN2 E hNc (cutP (cutS [] (tysA ct)).2.2.2.2.2) (x0z_user (o := o) (f := f) hst (xs (6 * j + 1)) (xs (6 * j + 2)) h.1.1 hT h.pc) K_X0_64 (Nat.le_of_ble_eq_true rfl) (Nat.le_of_ble_eq_true rfl) (by show _ ≤ 853071; omega) (by show _ ≤ 6529724; omega) rfl rfl (Nat.le_of_ble_eq_true rfl) dL_law_568) (fun g => mid_p) (fun r g hu _ => ?_)
  rw [h.vwz] at hu
  refine s_istore E dL_law_571 (by decide) (L2 := (5, .int r) :: LL b (ad 0) (am 0) o (nI (6 * j))) rfl ?_
  refine s_aload_n E dL_law_573 (i := 2) (j := 3) rfl rfl ?_
  refine l_arg2 E hX hbl hbA hL (k := 1) (i0 := 1) (i4 := 5) rfl rfl (by omega) dL_law_574 dL_law_575 dL_law_577 (by decide) dL_law_578 dL_law_579 ?_
  refine l_arg2 E hX hbl hbA hL (k := 2) (i0 := 1) (i4 := 5) rfl rfl (by omega) dL_law_580 dL_law_581 dL_law_583 (by decide) dL_law_584 dL_law_585 ?_
  refine l_m E (mz_user (σ := μ) n (xs (6 * j + 1)) (xs (6 * j + 2)) h.cm) K_X0_69 (Nat.le_of_ble_eq_true rfl) (Nat.le_of_ble_eq_true rfl) (by show _ ≤ 853071; omega) (by show _ ≤ 6529724; omega) rfl rfl (Nat.le_of_ble_eq_true rfl) dL_law_586 (fun r2 μ2 hv => ?_)
  refine s_istore E dL_law_589 (by decide) (L2 := (6, .int r2) :: (5, .int r) :: LL b (ad 0) (am 0) o (nI (6 * j))) rfl ?_
  refine s_aload_n E dL_law_591 (i := 2) (j := 4) rfl rfl ?_
  refine l_m E (mz_thrown (σ := μ2)) K_X0_70 (Nat.le_of_ble_eq_true rfl) (Nat.le_of_ble_eq_true rfl) (by show _ ≤ 853071; omega) (by show _ ≤ 6529724; omega) rfl rfl (Nat.le_of_ble_eq_true rfl) dL_law_592 (fun r3 μ3 hw => ?_)
  obtain ⟨w1, w2⟩ := hw
  subst w2
  obtain ⟨v1, v2⟩ := hv
  subst v2
  have fin : ∀ g : Nat → Int64, Sm p l e room_1 s m args below meth c Q A D 7 (76 + 10521 * j + 1 + 0 + 0) (6340 + 83470 * j + 6 + 0 + 0) (iw ad ct n (zt μ) σ (usW ad n (zt μ) ++ kpW (ad 47) ct n pl) ++ (wm am ct (st1 (zt μ) 0 0 (userF (zt μ) n (xs (6 * j + 1)) (xs (6 * j + 2))).1) ++ outW ct o g)) 619 ((6, .int r2) :: (5, .int r) :: LL b (ad 0) (am 0) o (nI (6 * j))) [] := fun g => by
    refine s_goto E dL_law_619 (tgt := 1522) (by decide) ?_
    refine s_loc (L2 := LL b (ad 0) (am 0) o (nI (6 * j))) [2, 3, 4, 5, 6] rfl ?_
    exact l_next next (h.q HQ.th (QX.rf _)) (by omega) (by omega)
  refine s_iload E dL_law_595 (j := 1) rfl ?_
  refine s_icmp_eq E dL_law_597 (tgt := 602) (by decide) (fun _ => ?_) (fun c9 => absurd ?_ c9)
  · refine s_iload E dL_law_602 (j := 1) rfl ?_
    refine s_if_ne E dL_law_604 (tgt := 619) (by decide) (fun _ => fin g) (fun c0 => ?_)
    refine s_aload_n E dL_law_607 (i := 3) (j := 5) rfl rfl ?_
    refine s_iconst E dL_law_608 (v := nI 0) (by decide) ?_
    refine s_perm (ws2 := outW ct o g ++ (iw ad ct n (zt μ) σ (usW ad n (zt μ) ++ kpW (ad 47) ct n pl) ++ wm am ct (st1 (zt μ) 0 0 (userF (zt μ) n (xs (6 * j + 1)) (xs (6 * j + 2))).1))) (by rw [← List.append_assoc]; exact List.perm_append_comm) ?_
    refine s_lald E 0 6 rfl rfl (vp_in_nI (by decide) (by decide)) (v := r2.toInt64) ?_ dL_law_609 ?_
    · show g 0 = _
      rw [hu.2 c0, v1]
    refine s_iload E dL_law_610 (j := 0) rfl ?_
    refine s_i2l E dL_law_612 rfl ?_
    refine s_lcmp_eq E dL_law_613 ?_
    refine s_perm (ws2 := iw ad ct n (zt μ) σ (usW ad n (zt μ) ++ kpW (ad 47) ct n pl) ++ (wm am ct (st1 (zt μ) 0 0 (userF (zt μ) n (xs (6 * j + 1)) (xs (6 * j + 2))).1) ++ outW ct o g)) (by rw [← List.append_assoc]; exact List.perm_append_comm) ?_
    exact s_if_eq E dL_law_614 (tgt := 619) (by decide) (fun _ => fin g) (fun c0 => absurd rfl c0)
  · rw [← w1, ← hu.1, st1_eq]
set_option maxHeartbeats 4000000 in
theorem law_sw {p : Program} {l : Launch} {e : Env} {s : State} {m : MethodId} {args : Array Value} {below : List Frame} {meth : Method} {c : Code} {Q : State → Prop} {A : Nat → Prop} {D : va_G} {ret : Option FieldType} {ct : Nat → ClassId} {gt : Nat → Nat} {b L0 : Nat} {xs : Nat → Int32} {ad am : Nat → Nat} {o j n K tp : Nat} {μ σ : Nat → Nat → Int32} {pl : List KP} {f : Nat → Int64} (E : En p s m args meth c A code 7 RX0 ret D (tysA ct) gt) (hX : va_X b L0 xs s s.heap) (hbl : b < s.heap.size) (hbA : ¬ A b) (hL : L0 ≤ 384) (hj : 6 * j + 6 ≤ L0) (hst : l.stackTraces = false) (hNc : va_Nc nsE ioE s) (h : LI n K tp μ σ pl) (next : LN p l e s m args below meth c Q A D ct am b (ad 0) o j) : Sm p l e room_1 s m args below meth c Q A D 7 (76 + 10521 * j) (6340 + 83470 * j) (LW ct ad am o n (zt μ) σ μ pl f) 40 (LL b (ad 0) (am 0) o (nI (6 * j))) [.int (xs (6 * j) &&& nI 63)] := by
  obtain ⟨q, hq, ex⟩ := and_nI (xs (6 * j)) (q := 63) (by decide)
  rw [ex]
  by_cases q46 : q ≤ 46
  · obtain rfl | rfl | rfl | rfl | rfl | rfl | rfl | rfl | rfl | rfl | rfl | rfl | rfl | rfl | rfl | rfl | rfl | rfl | rfl | rfl | rfl | rfl | rfl | rfl | rfl | rfl | rfl | rfl | rfl | rfl | rfl | rfl | rfl | rfl | rfl | rfl | rfl | rfl | rfl | rfl | rfl | rfl | rfl | rfl | rfl | rfl | rfl : q = 0 ∨ q = 1 ∨ q = 2 ∨ q = 3 ∨ q = 4 ∨ q = 5 ∨ q = 6 ∨ q = 7 ∨ q = 8 ∨ q = 9 ∨ q = 10 ∨ q = 11 ∨ q = 12 ∨ q = 13 ∨ q = 14 ∨ q = 15 ∨ q = 16 ∨ q = 17 ∨ q = 18 ∨ q = 19 ∨ q = 20 ∨ q = 21 ∨ q = 22 ∨ q = 23 ∨ q = 24 ∨ q = 25 ∨ q = 26 ∨ q = 27 ∨ q = 28 ∨ q = 29 ∨ q = 30 ∨ q = 31 ∨ q = 32 ∨ q = 33 ∨ q = 34 ∨ q = 35 ∨ q = 36 ∨ q = 37 ∨ q = 38 ∨ q = 39 ∨ q = 40 ∨ q = 41 ∨ q = 42 ∨ q = 43 ∨ q = 44 ∨ q = 45 ∨ q = 46 := by omega
    · exact s_tableIn E dL_law_40 (off := 204) (tgt := 244) (by decide) (by decide) rfl rfl (lc_0 E hX hbl hbA hL hj h next)
    · exact s_tableIn E dL_law_40 (off := 277) (tgt := 317) (by decide) (by decide) rfl rfl (lc_1 E hX hbl hbA hL hj h next)
    · exact s_tableIn E dL_law_40 (off := 302) (tgt := 342) (by decide) (by decide) rfl rfl (lc_2 E hX hbl hbA hL hj h next)
    · exact s_tableIn E dL_law_40 (off := 327) (tgt := 367) (by decide) (by decide) rfl rfl (lc_3 E hX hbl hbA hL hj h next)
    · exact s_tableIn E dL_law_40 (off := 352) (tgt := 392) (by decide) (by decide) rfl rfl (lc_4 E hX hbl hbA hL hj h next)
    · exact s_tableIn E dL_law_40 (off := 389) (tgt := 429) (by decide) (by decide) rfl rfl (lc_5 E hX hbl hbA hL hj h next)
    · exact s_tableIn E dL_law_40 (off := 414) (tgt := 454) (by decide) (by decide) rfl rfl (lc_6 E hX hbl hbA hL hj h next)
    · exact s_tableIn E dL_law_40 (off := 451) (tgt := 491) (by decide) (by decide) rfl rfl (lc_7 E hX hbl hbA hL hj h next)
    · exact s_tableIn E dL_law_40 (off := 488) (tgt := 528) (by decide) (by decide) rfl rfl (lc_8 E hX hbl hbA hL hj h next)
    · exact s_tableIn E dL_law_40 (off := 501) (tgt := 541) (by decide) (by decide) rfl rfl (lc_9 E hX hbl hbA hL hj h next)
    · exact s_tableIn E dL_law_40 (off := 514) (tgt := 554) (by decide) (by decide) rfl rfl (lc_10 E hX hbl hbA hL hj hst hNc h next)
    · exact s_tableIn E dL_law_40 (off := 582) (tgt := 622) (by decide) (by decide) rfl rfl (lc_11 E hX hbl hbA hL hj h next)
    · exact s_tableIn E dL_law_40 (off := 607) (tgt := 647) (by decide) (by decide) rfl rfl (lc_12 E hX hbl hbA hL hj h next)
    · exact s_tableIn E dL_law_40 (off := 632) (tgt := 672) (by decide) (by decide) rfl rfl (lc_13 E hX hbl hbA hL hj h next)
    · exact s_tableIn E dL_law_40 (off := 669) (tgt := 709) (by decide) (by decide) rfl rfl (lc_14 E hX hbl hbA hL hj h next)
    · exact s_tableIn E dL_law_40 (off := 694) (tgt := 734) (by decide) (by decide) rfl rfl (lc_15 E hX hbl hbA hL hj h next)
    · exact s_tableIn E dL_law_40 (off := 731) (tgt := 771) (by decide) (by decide) rfl rfl (lc_16 E hX hbl hbA hL hj h next)
    · exact s_tableIn E dL_law_40 (off := 756) (tgt := 796) (by decide) (by decide) rfl rfl (lc_17 E hX hbl hbA hL hj h next)
    · exact s_tableIn E dL_law_40 (off := 769) (tgt := 809) (by decide) (by decide) rfl rfl (lc_18 E hX hbl hbA hL hj h next)
    · exact s_tableIn E dL_law_40 (off := 806) (tgt := 846) (by decide) (by decide) rfl rfl (lc_19 E hX hbl hbA hL hj h next)
    · exact s_tableIn E dL_law_40 (off := 831) (tgt := 871) (by decide) (by decide) rfl rfl (lc_20 E hX hbl hbA hL hj h next)
    · exact s_tableIn E dL_law_40 (off := 868) (tgt := 908) (by decide) (by decide) rfl rfl (lc_21 E hX hbl hbA hL hj h next)
    · exact s_tableIn E dL_law_40 (off := 893) (tgt := 933) (by decide) (by decide) rfl rfl (lc_22 E hX hbl hbA hL hj h next)
    · exact s_tableIn E dL_law_40 (off := 918) (tgt := 958) (by decide) (by decide) rfl rfl (lc_23 E hX hbl hbA hL hj h next)
    · exact s_tableIn E dL_law_40 (off := 931) (tgt := 971) (by decide) (by decide) rfl rfl (lc_24 E hX hbl hbA hL hj h next)
    · exact s_tableIn E dL_law_40 (off := 944) (tgt := 984) (by decide) (by decide) rfl rfl (lc_25 E hX hbl hbA hL hj h next)
    · exact s_tableIn E dL_law_40 (off := 1005) (tgt := 1045) (by decide) (by decide) rfl rfl (lc_26 E hX hbl hbA hL hj h next)
    · exact s_tableIn E dL_law_40 (off := 1018) (tgt := 1058) (by decide) (by decide) rfl rfl (lc_27 E hX hbl hbA hL hj h next)
    · exact s_tableIn E dL_law_40 (off := 1055) (tgt := 1095) (by decide) (by decide) rfl rfl (lc_28 E hX hbl hbA hL hj h next)
    · exact s_tableIn E dL_law_40 (off := 1092) (tgt := 1132) (by decide) (by decide) rfl rfl (lc_29 E hX hbl hbA hL hj h next)
    · exact s_tableIn E dL_law_40 (off := 1105) (tgt := 1145) (by decide) (by decide) rfl rfl (lc_30 E hX hbl hbA hL hj h next)
    · exact s_tableIn E dL_law_40 (off := 1130) (tgt := 1170) (by decide) (by decide) rfl rfl (lc_31 E hX hbl hbA hL hj h next)
    · exact s_tableIn E dL_law_40 (off := 1143) (tgt := 1183) (by decide) (by decide) rfl rfl (lc_32 E hX hbl hbA hL hj h next)
    · exact s_tableIn E dL_law_40 (off := 1156) (tgt := 1196) (by decide) (by decide) rfl rfl (lc_33 E hX hbl hbA hL hj h next)
    · exact s_tableIn E dL_law_40 (off := 1181) (tgt := 1221) (by decide) (by decide) rfl rfl (lc_34 E hX hbl hbA hL hj h next)
    · exact s_tableIn E dL_law_40 (off := 1206) (tgt := 1246) (by decide) (by decide) rfl rfl (lc_35 E hX hbl hbA hL hj h next)
    · exact s_tableIn E dL_law_40 (off := 1231) (tgt := 1271) (by decide) (by decide) rfl rfl (lc_36 E hX hbl hbA hL hj h next)
    · exact s_tableIn E dL_law_40 (off := 1244) (tgt := 1284) (by decide) (by decide) rfl rfl (lc_37 E hX hbl hbA hL hj h next)
    · exact s_tableIn E dL_law_40 (off := 1269) (tgt := 1309) (by decide) (by decide) rfl rfl (lc_38 E hX hbl hbA hL hj h next)
    · exact s_tableIn E dL_law_40 (off := 1294) (tgt := 1334) (by decide) (by decide) rfl rfl (lc_39 E hX hbl hbA hL hj h next)
    · exact s_tableIn E dL_law_40 (off := 1331) (tgt := 1371) (by decide) (by decide) rfl rfl (lc_40 E hX hbl hbA hL hj h next)
    · exact s_tableIn E dL_law_40 (off := 1356) (tgt := 1396) (by decide) (by decide) rfl rfl (lc_41 E hX hbl hbA hL hj h next)
    · exact s_tableIn E dL_law_40 (off := 1369) (tgt := 1409) (by decide) (by decide) rfl rfl (lc_42 E hX hbl hbA hL hj h next)
    · exact s_tableIn E dL_law_40 (off := 1418) (tgt := 1458) (by decide) (by decide) rfl rfl (lc_43 E hX hbl hbA hL hj h next)
    · exact s_tableIn E dL_law_40 (off := 1431) (tgt := 1471) (by decide) (by decide) rfl rfl (lc_44 E hX hbl hbA hL hj h next)
    · exact s_tableIn E dL_law_40 (off := 1444) (tgt := 1484) (by decide) (by decide) rfl rfl (lc_45 E hX hbl hbA hL hj h next)
    · exact s_tableIn E dL_law_40 (off := 1457) (tgt := 1497) (by decide) (by decide) rfl rfl (lc_46 E hX hbl hbA hL hj h next)
  · refine s_tableOut E dL_law_40 (tgt := 1522) (Or.inr ?_) (by decide) ?_
    · rw [nI_toInt (by omega)]; omega
    · exact s_widen (by omega) (by omega) (next ad n K tp μ σ pl f rfl h)
theorem loop_len {L0 j : Nat} (hL : L0 ≤ 384) (hj : 6 * j ≤ L0) (h : ¬ Int32.ofNat L0 - nI 6 < nI (6 * j)) : 6 * j + 6 ≤ L0 := by
  by_cases q : 6 ≤ L0
  · have e : Int32.ofNat L0 - nI 6 = nI (L0 - 6) := pk_sub q
    rw [e, nI_ltI (by omega) (by omega)] at h
    omega
  · have : j = 0 := by omega
    subst this
    have key : ∀ L, L < 6 → Int32.ofNat L - nI 6 < nI (6 * 0) := by decide +kernel
    exact absurd (key L0 (by omega)) h
set_option maxHeartbeats 1000000 in
theorem law_loop {p : Program} {l : Launch} {e : Env} {s : State} {m : MethodId} {args : Array Value} {below : List Frame} {meth : Method} {c : Code} {Q : State → Prop} {A : Nat → Prop} {D : va_G} {ret : Option FieldType} {ct : Nat → ClassId} {gt : Nat → Nat} {b L0 : Nat} {xs : Nat → Int32} {am : Nat → Nat} {o : Nat} (E : En p s m args meth c A code 7 RX0 ret D (tysA ct) gt) (hX : va_X b L0 xs s s.heap) (hbl : b < s.heap.size) (hbA : ¬ A b) (hL : L0 ≤ 384) (hst : l.stackTraces = false) (hNc : va_Nc nsE ioE s)
    (fin : ∀ (cells slots : Nat) (ws : va_W) (L : List (Nat × Value)), cells ≤ 853071 → slots ≤ 6529724 → Sm p l e room_1 s m args below meth c Q A D 7 cells slots ws 1529 L [.int 1]) :
    ∀ (k j : Nat), 65 ≤ k + j → 6 * j ≤ L0 → ∀ (ad : Nat → Nat) (n K tp : Nat) (μ σ : Nat → Nat → Int32) (pl : List KP) (f : Nat → Int64), LI n K tp μ σ pl → Sm p l e room_1 s m args below meth c Q A D 7 (76 + 10521 * j) (6340 + 83470 * j) (LW ct ad am o n (zt μ) σ μ pl f) 23 (LL b (ad 0) (am 0) o (nI (6 * j))) [] := by
  intro k
  induction k with
  | zero => intro j h1 h2; omega
  | succ k ih =>
    intro j hk hj ad n K tp μ σ pl f h
    refine s_iload E dL_law_23 (j := 4) rfl ?_
    refine s_aload_n E dL_law_25 (i := 0) (j := 0) rfl rfl ?_
    refine s_slen E hX hbl hbA dL_law_26 ?_
    refine s_bipush E dL_law_27 (v := nI 6) (by decide) ?_
    refine s_isub E dL_law_29 ?_
    refine s_icmp_gt E dL_law_30 (tgt := 1528) (by decide) (fun _ => ?_) (fun c9 => ?_)
    · refine s_iconst E dL_law_1528 (v := 1) (by decide) ?_
      exact fin _ _ _ _ (by omega) (by omega)
    · have hj6 := loop_len hL hj c9
      refine s_aload_n E dL_law_33 (i := 0) (j := 0) rfl rfl ?_
      refine s_iload E dL_law_34 (j := 4) rfl ?_
      refine s_sld E hX hbl hbA (vp_in_nI (by omega) (by omega)) dL_law_36 ?_
      rw [nI_clamp (by omega)]
      refine s_bipush E dL_law_37 (v := nI 63) (by decide) ?_
      refine s_iand E dL_law_39 ?_
      refine law_sw E hX hbl hbA hL hj6 hst hNc h ?_
      intro ad2 n2 K2 tp2 μ2 σ2 pl2 f2 he h2
      rw [← he]
      refine s_iinc E dL_law_1522 (k := 4) (v := nI (6 * (j + 1))) rfl (nI_add _ _) (by decide) rfl ?_
      refine s_loc (L2 := LL b (ad2 0) (am 0) o (nI (6 * (j + 1)))) [1, 2, 3, 4, 0] rfl ?_
      refine s_goto E dL_law_1525 (tgt := 23) (by decide) ?_
      exact ih (j + 1) (by omega) (by omega) ad2 n2 K2 tp2 μ2 σ2 pl2 f2 h2
