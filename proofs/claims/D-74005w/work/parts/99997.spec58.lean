/-! A READER's line about a new user: the world behind it -/
set_option maxRecDepth 100000
def tWq (ra : Nat → Nat) (ct : Nat → ClassId) (n q : Nat) (V : List Value) (σ : Nat → Nat → Int32) : va_W := (ra 1, .inr (1, tfR ra σ)) :: (ra 2, .inl (ct 3, 6, .inr (.inr (.inr (.inr (va_up (usR ra n) n (some q))))))) :: (ra 3, .inl (ct 0, 12, .inl (σ 31))) :: (ra 4, .inl (ct 0, 3, .inl (lsF σ))) :: (ra 5, .inl (ct 0, 9, .inl (lkF σ))) :: (uR ra σ n ++ [(q, .inr (7, V))])
theorem tWq_end {ra : Nat → Nat} {ct : Nat → ClassId} {n q : Nat} {σ : Nat → Nat → Int32} : tWq ra ct n q (ufR σ n) σ = tW (raU ra n q) ct (n + 1) σ := (tW_raU (fun _ _ => rfl)).symm
theorem rt_ahead {ad ra : Nat → Nat} {ct : Nat → ClassId} {ξ σ : Nat → Nat → Int32} {n r : Nat} {v : Int32} (hr : 5 ≤ r ∧ r ≤ 11) : rw ad ra ct ξ (st1 σ r (6 + n) v) (tW ra ct n (st1 σ r (6 + n) v)) = rw ad ra ct ξ σ (tW ra ct n σ) := by
  rw [tW_ahead hr, rw_ahead (by omega)]
theorem rq_ahead {ad ra : Nat → Nat} {ct : Nat → ClassId} {ξ σ : Nat → Nat → Int32} {n r q : Nat} {V : List Value} {v : Int32} (hr : 5 ≤ r ∧ r ≤ 11) : rw ad ra ct ξ (st1 σ r (6 + n) v) (tWq ra ct n q V (st1 σ r (6 + n) v)) = rw ad ra ct ξ σ (tWq ra ct n q V σ) := by
  have e : uR ra (st1 σ r (6 + n) v) n = uR ra σ n := by
    unfold uR
    apply List.map_congr_left
    intro k hk
    have hk := List.mem_range.mp hk
    have z : ∀ i, st1 σ r (6 + n) v i (6 + k) = σ i (6 + k) := fun i => by
      by_cases q : i = r
      · subst q; rw [st1_nj (by omega)]
      · rw [st1_ne q]
    unfold ufR
    rw [z, z, z, z, z, z, z]
  rw [rw_ahead (by omega)]
  unfold tWq tfR lsF lkF
  rw [e, st1_ne (show (3 : Nat) ≠ r by omega), st1_ne (show (0 : Nat) ≠ r by omega), st1_ne (show (31 : Nat) ≠ r by omega), st1_ne (show (12 : Nat) ≠ r by omega)]
theorem rq_at {ad ra : Nat → Nat} {ct : Nat → ClassId} {ξ σ : Nat → Nat → Int32} {n q : Nat} {V : List Value} : (rw ad ra ct ξ σ (tW ra ct n σ ++ [(q, .inr (7, V))]))[8 + n]? = some (q, .inr (7, V)) := by
  have h : (uR ra σ n ++ [(q, .inr (7, V))])[n]? = some (q, .inr (7, V)) := by
    rw [List.getElem?_append_right (by unfold uR; rw [List.length_map, List.length_range]; exact Nat.le_refl _)]
    unfold uR
    rw [List.length_map, List.length_range, Nat.sub_self]
    rfl
  rw [← h, Nat.add_comm]
  rfl
theorem rq_set {ad ra : Nat → Nat} {ct : Nat → ClassId} {ξ σ : Nat → Nat → Int32} {n q : Nat} {V : List Value} : (rw ad ra ct ξ σ (tW ra ct n σ ++ [(q, .inr (7, V))])).set 4 (ra 2, .inl (ct 3, 6, .inr (.inr (.inr (.inr (va_up (usR ra n) n (some q))))))) = rw ad ra ct ξ σ (tWq ra ct n q V σ) := rfl
theorem rq_3 {ad ra : Nat → Nat} {ct : Nat → ClassId} {ξ σ : Nat → Nat → Int32} {n q : Nat} {V : List Value} {v : Int32} : (rw ad ra ct ξ σ (tWq ra ct n q V σ)).set 3 (ra 1, .inr (1, (tfR ra σ).set 4 (.int v))) = rw ad ra ct ξ (st1 σ 3 17 v) (tWq ra ct n q V (st1 σ 3 17 v)) := by
  have e : lsF (st1 σ 3 17 v) = lsF σ := lsF_st (Or.inr (by decide))
  unfold rw tWq
  rw [e]
  rfl
theorem xd_rows {n : Nat} {w : Nat → Nat → Int32} : xd n w 5 (6 + n) = w 0 20 ∧ xd n w 6 (6 + n) = numV (nI 0) (nI 2) (xa n w) ∧ xd n w 7 (6 + n) = numV (nI 0) (nI 30) (xb n w) ∧ xd n w 8 (6 + n) = numV (nI 1) (xc n w 3 10) (xc n w) := by
  have a5 : xa n w 5 (6 + n) = w 0 20 := by unfold xa; rw [tokS_r (by decide), st1_eq]
  have b6 : xb n w 6 (6 + n) = numV (nI 0) (nI 2) (xa n w) := by unfold xb putN; rw [st1_eq]
  have c7 : xc n w 7 (6 + n) = numV (nI 0) (nI 30) (xb n w) := by unfold xc putN; rw [st1_eq]
  have b : ∀ r, r ≠ 0 → r ≠ 6 → xb n w r = xa n w r := fun r h0 h => by unfold xb putN; rw [st1_ne h, numS_r h0]
  have c : ∀ r, r ≠ 0 → r ≠ 7 → xc n w r = xb n w r := fun r h0 h => by unfold xc putN; rw [st1_ne h, numS_r h0]
  have d : ∀ r, r ≠ 0 → r ≠ 8 → xd n w r = xc n w r := fun r h0 h => by unfold xd putN; rw [st1_ne h, numS_r h0]
  refine ⟨?_, ?_, ?_, ?_⟩
  · rw [d 5 (by decide) (by decide), c 5 (by decide) (by decide), b 5 (by decide) (by decide), a5]
  · rw [d 6 (by decide) (by decide), c 6 (by decide) (by decide), b6]
  · rw [d 7 (by decide) (by decide), c7]
  · unfold xd putN; rw [st1_eq]
theorem xc_r3 {n : Nat} {w : Nat → Nat → Int32} : xc n w 3 = w 3 := by
  unfold xc xb xa putN
  rw [st1_ne (by decide), numS_r (by decide), st1_ne (by decide), numS_r (by decide), tokS_r (by decide), st1_ne (by decide)]
theorem xd_r3 {n : Nat} {w : Nat → Nat → Int32} : xd n w 3 = w 3 := by
  unfold xd putN
  rw [st1_ne (by decide), numS_r (by decide), xc_r3]
theorem x_r1 {n : Nat} {w : Nat → Nat → Int32} : xa n w 1 = w 1 ∧ xb n w 1 = w 1 ∧ xc n w 1 = w 1 ∧ xd n w 1 = w 1 := by
  have a : xa n w 1 = w 1 := by unfold xa; rw [tokS_r (by decide), st1_ne (by decide)]
  have b : xb n w 1 = w 1 := by unfold xb putN; rw [st1_ne (by decide), numS_r (by decide), a]
  have c : xc n w 1 = w 1 := by unfold xc putN; rw [st1_ne (by decide), numS_r (by decide), b]
  have d : xd n w 1 = w 1 := by unfold xd putN; rw [st1_ne (by decide), numS_r (by decide), c]
  exact ⟨a, b, c, d⟩
theorem us_V {n lo : Nat} {w x : Nat → Nat → Int32} {hi : Int32} (hx : ∀ r, 5 ≤ r ∧ r ≤ 8 → x r = xd n w r) (hlo : xd n w 8 (6 + n) = nI lo) : ufR (st1 (st1 (st1 x 9 (6 + n) hi) 10 (6 + n) (nI 0)) 11 (6 + n) (nI 0)) n = [.int (w 0 20), .int (numV (nI 0) (nI 2) (xa n w)), .int (numV (nI 0) (nI 30) (xb n w)), .int (nI lo), .int hi, .int 0, .int 0] := by
  obtain ⟨h5, h6, h7, h8⟩ := xd_rows (n := n) (w := w)
  unfold ufR
  rw [st1_eq, st1_ne (r := 11) (show (10 : Nat) ≠ 11 by decide), st1_eq, st1_ne (show (9 : Nat) ≠ 11 by decide), st1_ne (show (9 : Nat) ≠ 10 by decide), st1_eq,
    st1_ne (show (5 : Nat) ≠ 11 by decide), st1_ne (show (5 : Nat) ≠ 10 by decide), st1_ne (show (5 : Nat) ≠ 9 by decide), hx 5 (by decide), h5,
    st1_ne (show (6 : Nat) ≠ 11 by decide), st1_ne (show (6 : Nat) ≠ 10 by decide), st1_ne (show (6 : Nat) ≠ 9 by decide), hx 6 (by decide), h6,
    st1_ne (show (7 : Nat) ≠ 11 by decide), st1_ne (show (7 : Nat) ≠ 10 by decide), st1_ne (show (7 : Nat) ≠ 9 by decide), hx 7 (by decide), h7,
    st1_ne (show (8 : Nat) ≠ 11 by decide), st1_ne (show (8 : Nat) ≠ 10 by decide), st1_ne (show (8 : Nat) ≠ 9 by decide), hx 8 (by decide), hlo]
  rfl
theorem us3_of {n lo B : Nat} {w : Nat → Nat → Int32} (hn : w 3 17 = nI n) (h8 : xd n w 8 (6 + n) = nI lo) (hB : xd n w 3 10 = nI B) : us3 n w = st1 (st1 (st1 (st1 (numS (nI lo) (nI B) (xd n w)) 9 (6 + n) (numV (nI lo) (nI B) (xd n w))) 10 (6 + n) (nI 0)) 11 (6 + n) (nI 0)) 3 17 (nI (n + 1)) := by
  have e : xe n w = st1 (numS (nI lo) (nI B) (xd n w)) 9 (6 + n) (numV (nI lo) (nI B) (xd n w)) := by unfold xe putN; rw [h8, hB]
  unfold us3
  rw [show xf n w 3 17 = w 3 17 from by rw [xf_3], hn, nI_add]
  unfold xf
  rw [e]
theorem df_X8 : ∀ j, j < 7 → defaultValue (tyX8 j) = vp_V [.int 0, .int 0, .int 0, .int 0, .int 0, .int 0, .int 0] j := by
  intro j hj
  obtain rfl | rfl | rfl | rfl | rfl | rfl | rfl : j = 0 ∨ j = 1 ∨ j = 2 ∨ j = 3 ∨ j = 4 ∨ j = 5 ∨ j = 6 := by omega
  all_goals rfl
theorem rw_snocP {ad ra : Nat → Nat} {ct : Nat → ClassId} {ξ ρ : Nat → Nat → Int32} {T X : va_W} : (rw ad ra ct ξ ρ T ++ X).Perm (rw ad ra ct ξ ρ (T ++ X)) := by
  have h := rw_snoc (ad := ad) (ra := ra) (ct := ct) (ξ := ξ) (ρ := ρ) (T := T) (X := X)
  exact h ▸ List.Perm.refl _
