/-! THE CLASS at its start -/
set_option maxRecDepth 100000
def airZ : List Value := [.null, .null, .null, .null, .null, .null, .null, .null, .null, .int 0, .int 0, .int 0, .int 0, .int 0, .int 0, .int 0, .int 0, .int 0, .int 0, .int 0, .int 0, .int 0, .int 0, .int 0, .int 0, .int 0, .int 0, .int 0, .null]
def airW (ba : Nat → Nat) (ct : Nat → ClassId) (N x : Nat) : va_W := [(ba 0, .inr (3, [.ref (ba 1), .ref (ba 2), .ref (ba 3), .ref (ba 4), .ref (ba 5), .ref (ba 6), .ref (ba 7), .ref (ba 8), .ref (ba 9), .int 0, .int 0, .int 0, .int 0, .int 0, .int 0, .int 0, .int 0, .int 0, .int (-1), .int 0, .int 0, .int 0, .int 0, .int 0, .int 0, .int 0, .int 0, .int 0, .ref x])), (ba 1, .inl (ct 0, N, .inl (fun _ => 0))), (ba 2, .inl (ct 0, N, .inl (fun _ => 0))), (ba 3, .inl (ct 0, N, .inl (fun _ => 0))), (ba 4, .inl (ct 0, N, .inl (fun _ => 0))), (ba 5, .inl (ct 0, N, .inl (fun _ => 0))), (ba 6, .inl (ct 0, N, .inl (fun _ => 0))), (ba 7, .inl (ct 0, N, .inl (fun _ => 0))), (ba 8, .inl (ct 0, N, .inl (fun _ => 0))), (ba 9, .inl (ct 0, 18, .inl (fun _ => 0)))]
theorem df_X4 : ∀ j, j < 29 → defaultValue (tyX4 j) = vp_V airZ j := by
  intro j hj
  have : ∀ j, j < 29 → (decide (defaultValue (tyX4 j) = vp_V airZ j)) = true := by
    intro j hj
    obtain rfl | rfl | rfl | rfl | rfl | rfl | rfl | rfl | rfl | rfl | rfl | rfl | rfl | rfl | rfl | rfl | rfl | rfl | rfl | rfl | rfl | rfl | rfl | rfl | rfl | rfl | rfl | rfl | rfl : j = 0 ∨ j = 1 ∨ j = 2 ∨ j = 3 ∨ j = 4 ∨ j = 5 ∨ j = 6 ∨ j = 7 ∨ j = 8 ∨ j = 9 ∨ j = 10 ∨ j = 11 ∨ j = 12 ∨ j = 13 ∨ j = 14 ∨ j = 15 ∨ j = 16 ∨ j = 17 ∨ j = 18 ∨ j = 19 ∨ j = 20 ∨ j = 21 ∨ j = 22 ∨ j = 23 ∨ j = 24 ∨ j = 25 ∨ j = 26 ∨ j = 27 ∨ j = 28 := by omega
    all_goals exact decide_eq_true rfl
  exact of_decide_eq_true (this j hj)
theorem air_p {c o : Nat × va_E} {L : va_W} : (c :: o :: L).Perm ((c :: L) ++ [o]) := by
  refine perm_of ?_
  intro _ _ a
  simp only [List.count_append, List.count_cons, List.count_nil, List.cons_append, List.nil_append]
  omega
def s00 : Nat → Nat → Int32 := fun r j => if r = 0 ∧ j = 24 then -1 else 0
def sIni : Nat → Nat → Int32 := begS 0 (takeS (frS s00))
/-- the class's state at its start, all but the plan begun -/
def sg0 : Nat → Nat → Int32 := fun r => if r = 0 then (fun j => if j = 3 then -1 else 0) else if r = 10 then (fun j => if j = 18 then -1 else 0) else if r = 20 then (fun j => if j = 18 then -1 else 0) else fun _ => 0
def adI (x tp kp : Nat) (ra p1 p2 p3 p4 a1 a2 : Nat → Nat) : Nat → Nat := fun k => if k = 0 then x else if k = 1 then tp else if k ≤ 6 then ra (k - 1) else if k ≤ 11 then p1 (k - 7) else if k ≤ 16 then p2 (k - 12) else if k ≤ 21 then p3 (k - 17) else if k ≤ 26 then p4 (k - 22) else if k ≤ 36 then a1 (k - 27) else if k ≤ 46 then a2 (k - 37) else kp
theorem sIni_r {r : Nat} (h0 : r ≠ 0) (h : r ≠ 25) : sIni r = takeS (frS s00) r := by
  unfold sIni begS toldF
  rw [st1_ne h0, st1_ne h0, st1_ne h0, st1_ne h0, upR_ne h]
theorem tk_ini : TK sIni (rho0 0 s00) := by
  refine ⟨fun j hj => ?_, fun r hr k hk => ?_, fun j hj => ?_⟩
  · rw [sIni_r (by decide) (by decide)]
    show tkR 10 (frS s00 3) 10 j = _
    unfold tkR
    rw [if_pos hj]
    rfl
  · rw [sIni_r (by omega) (by omega)]
    have er : takeS (frS s00) r = tkR 6 (frS s00 r) 6 := by
      obtain rfl | rfl | rfl | rfl | rfl | rfl | rfl : r = 5 ∨ r = 6 ∨ r = 7 ∨ r = 8 ∨ r = 9 ∨ r = 10 ∨ r = 11 := by omega
      all_goals rfl
    rw [er]
    unfold tkR
    rw [if_pos hk]
    obtain rfl | rfl | rfl | rfl | rfl | rfl | rfl : r = 5 ∨ r = 6 ∨ r = 7 ∨ r = 8 ∨ r = 9 ∨ r = 10 ∨ r = 11 := by omega
    all_goals rfl
  · rw [sIni_r (by decide) (by decide)]
    show tkR 9 (frS s00 12) 9 j = _
    unfold tkR
    rw [if_pos hj]
    rfl
theorem xt_ini : XT sIni 0 := by
  have e3 : ∀ j, sIni 3 j = takeS (frS s00) 3 j := fun j => by rw [sIni_r (by decide) (by decide)]
  have h := xt_of (T := frS s00) (n := 0) RB.fr rfl (by decide)
  unfold XT
  simp only [sIni_r (show (3 : Nat) ≠ 0 by decide) (show (3 : Nat) ≠ 25 by decide), sIni_r (show (6 : Nat) ≠ 0 by decide) (show (6 : Nat) ≠ 25 by decide), sIni_r (show (8 : Nat) ≠ 0 by decide) (show (8 : Nat) ≠ 25 by decide), sIni_r (show (9 : Nat) ≠ 0 by decide) (show (9 : Nat) ≠ 25 by decide), sIni_r (show (12 : Nat) ≠ 0 by decide) (show (12 : Nat) ≠ 25 by decide)]
  exact h
theorem ini_w {ct : Nat → ClassId} {x tp kp : Nat} {ra p1 p2 p3 p4 a1 a2 : Nat → Nat} :
    ((x, .inr (0, [.ref tp, .int 0, .int 0, .int (-1), .ref (ra 1), .ref (p1 0), .ref (p2 0), .ref (p3 0), .ref kp, .int 0, .int 0, .ref (a1 0), .ref (a2 0), .long 0, .ref (p4 0)])) :: ((((((((([(tp, .inl (ct 2, 700, .inl (fun _ => 0)))] ++ tW ra ct 0 (rho0 0 s00)) ++ plC ct 0 (p1, fun _ => 0, fun _ => 0)) ++ plC ct 0 (p2, fun _ => 0, fun _ => 0)) ++ plC ct 0 (p3, fun _ => 0, fun _ => 0)) ++ [(kp, .inl (ct 4, 20, .inr (.inr (.inr (.inr (fun _ => none))))))]) ++ airW a1 ct 6 x) ++ airW a2 ct 8 x) ++ plC ct 0 (p4, fun _ => 0, fun _ => 0)))).Perm
      (iw (adI x tp kp ra p1 p2 p3 p4 a1 a2) ct 0 sIni sg0 (usW (adI x tp kp ra p1 p2 p3 p4 a1 a2) 0 sIni ++ kpW (adI x tp kp ra p1 p2 p3 p4 a1 a2 47) ct 0 [])) := by
  have eT : tW ra ct 0 (rho0 0 s00) = fwT (adI x tp kp ra p1 p2 p3 p4 a1 a2) ct 0 sIni sg0 := by
    have e1 : tfR ra (rho0 0 s00) = tfs (adI x tp kp ra p1 p2 p3 p4 a1 a2) sIni sg0 := by
      unfold tfR tfs
      rw [tk_ini.1 7 (by decide), tk_ini.1 8 (by decide), tk_ini.1 0 (by decide), tk_ini.1 1 (by decide), tk_ini.1 2 (by decide), tk_ini.1 3 (by decide), tk_ini.1 9 (by decide)]
      rfl
    have e2 : usR ra 0 = usF (adI x tp kp ra p1 p2 p3 p4 a1 a2) 0 := by
      funext k
      unfold usR usF
      rw [if_neg (Nat.not_lt_zero k), if_neg (Nat.not_lt_zero k)]
    have e3 : uR ra (rho0 0 s00) 0 = [] := rfl
    unfold tW
    rw [e1, e2, ← tk_ini.ls, ← tk_ini.lk, e3]
    rfl
  have eK : kpW (adI x tp kp ra p1 p2 p3 p4 a1 a2 47) ct 0 [] = [(kp, .inl (ct 4, 20, .inr (.inr (.inr (.inr (fun _ => none))))))] := by
    have e : ktF [] = fun _ => none := by funext k; rfl
    unfold kpW kpG
    rw [e]
    rfl
  have eP : fwP (adI x tp kp ra p1 p2 p3 p4 a1 a2) ct 0 sIni sg0 = plC ct 0 (p1, fun _ => 0, fun _ => 0) ++ (plC ct 0 (p2, fun _ => 0, fun _ => 0) ++ (plC ct 0 (p3, fun _ => 0, fun _ => 0) ++ (plC ct 0 (p4, fun _ => 0, fun _ => 0) ++ (airW a1 ct 6 x ++ airW a2 ct 8 x)))) := rfl
  have eX : xtW (adI x tp kp ra p1 p2 p3 p4 a1 a2) ct sg0 = [(x, .inr (0, [.ref tp, .int 0, .int 0, .int (-1), .ref (ra 1), .ref (p1 0), .ref (p2 0), .ref (p3 0), .ref kp, .int 0, .int 0, .ref (a1 0), .ref (a2 0), .long 0, .ref (p4 0)])), (tp, .inl (ct 2, 700, .inl (fun _ => 0)))] := rfl
  have eU : usW (adI x tp kp ra p1 p2 p3 p4 a1 a2) 0 sIni = [] := rfl
  rw [iw_cut, eX, ← eT, eP, eK, eU]
  refine perm_of ?_
  intro _ _ a
  simp only [List.count_append, List.count_cons, List.count_nil, List.cons_append, List.nil_append]
  omega
def x1Z : List Value := [.null, .int 0, .int 0, .int 0, .null, .null, .null, .null, .null, .int 0, .int 0, .null, .null, .long 0, .null]
theorem df_X1 : ∀ j, j < 15 → defaultValue (tyX1 j) = vp_V x1Z j := by
  intro j hj
  obtain rfl | rfl | rfl | rfl | rfl | rfl | rfl | rfl | rfl | rfl | rfl | rfl | rfl | rfl | rfl : j = 0 ∨ j = 1 ∨ j = 2 ∨ j = 3 ∨ j = 4 ∨ j = 5 ∨ j = 6 ∨ j = 7 ∨ j = 8 ∨ j = 9 ∨ j = 10 ∨ j = 11 ∨ j = 12 ∨ j = 13 ∨ j = 14 := by omega
  all_goals rfl
