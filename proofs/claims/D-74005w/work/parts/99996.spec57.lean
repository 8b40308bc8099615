/-! ONE USER MORE is told -/
set_option maxRecDepth 100000
def raU (ra : Nat → Nat) (n q : Nat) : Nat → Nat := fun i => if i = 100 + n then q else ra i
theorem raU_lt {ra : Nat → Nat} {n q i : Nat} (h : i ≠ 100 + n) : raU ra n q i = ra i := if_neg h
theorem raU_n {ra : Nat → Nat} {n q : Nat} : raU ra n q (100 + n) = q := if_pos rfl
theorem usR_up {ra : Nat → Nat} {n q : Nat} : va_up (usR ra n) n (some q) = usR (raU ra n q) (n + 1) := by
  funext k
  unfold va_up usR
  by_cases e : k = n
  · subst e; rw [if_pos rfl, if_pos (by omega), raU_n]
  · rw [if_neg e]
    by_cases c : k < n
    · rw [if_pos c, if_pos (by omega), raU_lt (by omega)]
    · rw [if_neg c, if_neg (by omega)]
theorem uR_grow {ra : Nat → Nat} {n q : Nat} {σ σ2 : Nat → Nat → Int32} (h : ∀ k, k < n → ufR σ2 k = ufR σ k) : uR (raU ra n q) σ2 (n + 1) = uR ra σ n ++ [(q, .inr (7, ufR σ2 n))] := by
  unfold uR
  rw [List.range_succ, List.map_append]
  congr 1
  · apply List.map_congr_left
    intro k hk
    have hk := List.mem_range.mp hk
    rw [raU_lt (by omega), h k hk]
  · show [(raU ra n q (100 + n), _)] = _
    rw [raU_n]
theorem rw_raU {ad ra : Nat → Nat} {ct : Nat → ClassId} {ξ σ : Nat → Nat → Int32} {T : va_W} {n q : Nat} : rw ad (raU ra n q) ct ξ σ T = rw ad ra ct ξ σ T := by
  unfold rw rdf
  rw [raU_lt (i := 0) (by omega), raU_lt (i := 1) (by omega)]
theorem tW_raU {ra : Nat → Nat} {ct : Nat → ClassId} {n q : Nat} {σ σ2 : Nat → Nat → Int32} (h : ∀ k, k < n → ufR σ2 k = ufR σ k) : tW (raU ra n q) ct (n + 1) σ2 = ((ra 1, .inr (1, tfR ra σ2)) :: (ra 2, .inl (ct 3, 6, .inr (.inr (.inr (.inr (va_up (usR ra n) n (some q))))))) :: (ra 3, .inl (ct 0, 12, .inl (σ2 31))) :: (ra 4, .inl (ct 0, 3, .inl (lsF σ2))) :: (ra 5, .inl (ct 0, 9, .inl (lkF σ2))) :: (uR ra σ n ++ [(q, .inr (7, ufR σ2 n))])) := by
  unfold tW tfR
  rw [uR_grow h, usR_up, raU_lt (i := 1) (by omega), raU_lt (i := 2) (by omega), raU_lt (i := 3) (by omega), raU_lt (i := 4) (by omega), raU_lt (i := 5) (by omega)]
/-- what a user not yet told has, is not told -/
theorem tW_ahead {ra : Nat → Nat} {ct : Nat → ClassId} {n r : Nat} {σ : Nat → Nat → Int32} {v : Int32} (hr : 5 ≤ r ∧ r ≤ 11) : tW ra ct n (st1 σ r (6 + n) v) = tW ra ct n σ := by
  have e : uR ra (st1 σ r (6 + n) v) n = uR ra σ n := by
    unfold uR
    apply List.map_congr_left
    intro k hk
    have hk := List.mem_range.mp hk
    have z : ∀ i, st1 σ r (6 + n) v i (6 + k) = σ i (6 + k) := fun i => by
      by_cases q : i = r
      · subst q; rw [st1_nj (by omega)]
      · rw [st1_ne q]
    unfold ufR
    rw [z, z, z, z, z, z, z]
  unfold tW tfR lsF lkF
  rw [e, st1_ne (show (3 : Nat) ≠ r by omega), st1_ne (show (0 : Nat) ≠ r by omega), st1_ne (show (31 : Nat) ≠ r by omega), st1_ne (show (12 : Nat) ≠ r by omega)]
theorem rw_ahead {ad ra : Nat → Nat} {ct : Nat → ClassId} {ξ σ : Nat → Nat → Int32} {T : va_W} {r N : Nat} {v : Int32} (hr : r ≠ 0) : rw ad ra ct ξ (st1 σ r N v) T = rw ad ra ct ξ σ T := by
  unfold rw rdf
  rw [st1_ne (show (0 : Nat) ≠ r by omega)]
theorem putN_n {r N j : Nat} {lo hi : Int32} {w : Nat → Nat → Int32} (h0 : r ≠ 0) : putN r N lo hi w 0 j = numS lo hi w 0 j := by unfold putN; rw [st1_ne (Ne.symm h0)]
theorem us_f4 {n : Nat} {w : Nat → Nat → Int32} (j : Nat) : us3 n w 0 j = numS (xd n w 8 (6 + n)) (xd n w 3 10) (xd n w) 0 j := us3_0.trans (putN_n (by decide))
theorem us_f3 {n : Nat} {w : Nat → Nat → Int32} (h : ¬ numS (nI 1) (xc n w 3 10) (xc n w) 0 21 = 0) (j : Nat) : us3 n w 0 j = numS (nI 1) (xc n w 3 10) (xc n w) 0 j := by
  have e : ∀ j, xd n w 0 j = numS (nI 1) (xc n w 3 10) (xc n w) 0 j := fun j => putN_n (by decide)
  rw [us_f4, num_id (by rw [e]; exact h)]
  exact e j
theorem us_f2 {n : Nat} {w : Nat → Nat → Int32} (h : ¬ numS (nI 0) (nI 30) (xb n w) 0 21 = 0) (j : Nat) : us3 n w 0 j = numS (nI 0) (nI 30) (xb n w) 0 j := by
  have e : ∀ j, xc n w 0 j = numS (nI 0) (nI 30) (xb n w) 0 j := fun j => putN_n (by decide)
  have k : ¬ xc n w 0 21 = 0 := by rw [e]; exact h
  rw [us_f3 (by rw [num_id k]; exact k), num_id k]
  exact e j
theorem us_f1 {n : Nat} {w : Nat → Nat → Int32} (h : ¬ numS (nI 0) (nI 2) (xa n w) 0 21 = 0) (j : Nat) : us3 n w 0 j = numS (nI 0) (nI 2) (xa n w) 0 j := by
  have e : ∀ j, xb n w 0 j = numS (nI 0) (nI 2) (xa n w) 0 j := fun j => putN_n (by decide)
  have k : ¬ xb n w 0 21 = 0 := by rw [e]; exact h
  rw [us_f2 (by rw [num_id k]; exact k), num_id k]
  exact e j
