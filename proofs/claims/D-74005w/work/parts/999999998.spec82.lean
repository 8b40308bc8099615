/-! THE LAW'S ENTRY -/
set_option maxRecDepth 100000
theorem ty_ints {D : va_G} {s : State} (h : ∀ c q, vwCl[c]? = some q → u_Kn s q.1 q.2.1 q.2.2 (D.1 c) (D.2 c)) (ho : va_AA s) : ∃ cA, va_K D vwCl [(cA, .array .int)] s := by
  obtain ⟨comp, cA, kA, h0, _, h2, h3, h1⟩ := Cond.arrayOver_spec (args := #[]) ho
  exact ⟨cA, ty_one h (fun n z => ⟨(fun k h => by cases h), kA, h2, comp, h3⟩) h1⟩
theorem NW.ofT {A : Array Value} {s : State} (h : ∀ w ∈ lw_tbl, w.before A s = true) : NW s := by
  intro w hw hn
  refine va_Nw.of ?_ (h w hw)
  cases w <;> first | rfl | cases hn
set_option maxHeartbeats 4000000 in
theorem law_en {p : Program} {s : State} {m : MethodId} {meth : Method} {c : Code} {b L : Nat} {xs : Nat → Int32} (C0 : lw_At p s m meth c b L xs) : ∃ (D : va_G) (gt : Nat → Nat) (ct : Nat → ClassId), En p s m #[Value.ref b] meth c (fun q => s.heap.size ≤ q) code 7 RX0 ret D (tysA ct) gt ∧ va_Nc nsE ioE s := by
  obtain ⟨hx, hb, hr, hml, hown, hts, hX, hbl, hlocks, hgv⟩ := id C0
  have hA : ∀ a : Nat, a < s.heap.size → ¬ (fun q : Nat => s.heap.size ≤ q) a := fun a h => Nat.not_le.mpr h
  have hs := flat_of_before _ hgv
  have hal : ∀ w ∈ lw_all, w.before #[Value.ref b] s = true := fun w hw => hts w (List.mem_filter.mp hw).1
  obtain ⟨c1, i1, k1⟩ := u_known (C := RX1) (T := TX1) (N := 15) (n := 15) hal in_X1 (hal _ q137)
  obtain ⟨c2, i2, k2⟩ := u_known (C := RX2) (T := TX2) (N := 13) (n := 13) hal in_X2 (hal _ q145)
  obtain ⟨c3, i3, k3⟩ := u_known (C := RX3) (T := TX3) (N := 4) (n := 4) hal in_X3 (hal _ q227)
  obtain ⟨c4, i4, k4⟩ := u_known (C := RX4) (T := TX4) (N := 29) (n := 29) hal in_X4 (hal _ q256)
  obtain ⟨c5, i5, k5⟩ := u_known (C := RX5) (T := TX5) (N := 46) (n := 46) hal in_X5 (hal _ q1207)
  obtain ⟨c6, i6, k6⟩ := u_known (C := RX6) (T := TX6) (N := 8) (n := 8) hal in_X6 (hal _ q450)
  obtain ⟨c7, i7, k7⟩ := u_known (C := RX7) (T := TX7) (N := 8) (n := 8) hal in_X7 (hal _ q625)
  obtain ⟨c8, i8, k8⟩ := u_known (C := RX8) (T := TX8) (N := 7) (n := 7) hal in_X8 (hal _ q711)
  obtain ⟨c9, i9, k9⟩ := u_known (C := RX9) (T := TX9) (N := 6) (n := 6) hal in_X9 (hal _ q835)
  obtain ⟨dC, dI, hKc⟩ : ∃ (dC : Nat → ClassId) (dI : Nat → Nat → Nat), ∀ (k : Nat) (q : vw_C), vwCl[k]? = some q → u_Kn s q.1 q.2.1 q.2.2 (dC k) (dI k) := by
    refine ⟨fun k => if k = 0 then c1 else if k = 1 then c2 else if k = 2 then c3 else if k = 3 then c4 else if k = 4 then c5 else if k = 5 then c6 else if k = 6 then c7 else if k = 7 then c8 else c9, fun k => if k = 0 then i1 else if k = 1 then i2 else if k = 2 then i3 else if k = 3 then i4 else if k = 4 then i5 else if k = 5 then i6 else if k = 6 then i7 else if k = 7 then i8 else i9, ?_⟩
    intro k q hq
    match k, hq with
    | 0, hq => cases hq; exact k1
    | 1, hq => cases hq; exact k2
    | 2, hq => cases hq; exact k3
    | 3, hq => cases hq; exact k4
    | 4, hq => cases hq; exact k5
    | 5, hq => cases hq; exact k6
    | 6, hq => cases hq; exact k7
    | 7, hq => cases hq; exact k8
    | 8, hq => cases hq; exact k9
    | k + 9, hq => simp [vwCl] at hq
  have mT : ∀ j, j < 18 → (Cond.eq (.elem (.static "QuietChannels" "TIMES" "[I") (.int (Int32.ofNat j))) (.int (timesF j))) ∈ flat (Jvm.Cond.and given_1 narrow_1) := by decide +kernel
  obtain ⟨tT, eT, HT⟩ := va_Tof (args := #[Value.ref b]) (s := s) (tm := .static "QuietChannels" "TIMES" "[I") (ty := .int) (N := 18) (f := fun j => .int (timesF j)) (by decide) (hs _ (by decide +kernel)) (va_eqt (hs _ (by decide +kernel))) (fun j hj => va_eqt (hs _ (mT j hj))) hA
  have mO : ∀ j, j < 6 → (Cond.eq (.elem (.static "QuietChannels" "ORDER" "[I") (.int (Int32.ofNat j))) (.int (orderF j))) ∈ flat (Jvm.Cond.and given_1 narrow_1) := by decide +kernel
  obtain ⟨tO, eO, HO⟩ := va_Tof (args := #[Value.ref b]) (s := s) (tm := .static "QuietChannels" "ORDER" "[I") (ty := .int) (N := 6) (f := fun j => .int (orderF j)) (by decide) (hs _ (by decide +kernel)) (va_eqt (hs _ (by decide +kernel))) (fun j hj => va_eqt (hs _ (mO j hj))) hA
  obtain ⟨tm, htm⟩ : ∃ tm : Nat → Term, tm = fun i => if i = 0 then .string "QuietChannels$Reader" 77 else .string "QuietChannelsModel" 135 := ⟨_, rfl⟩
  have two : ∀ {P : Nat → Prop}, P 0 → P 1 → ∀ i, i < 2 → P i := fun h0 h1 i hi => by
    match i, hi with
    | 0, _ => exact h0
    | 1, _ => exact h1
  have mK : ∀ j, j < 61 → (Cond.eq (.elem (.field (.string "QuietChannels$Reader" 77) "java/lang/String" "value" "[B") (.int (Int32.ofNat j))) (.int (keyB.getD j 0))) ∈ flat (Jvm.Cond.and given_1 narrow_1) := by decide +kernel
  have mW : ∀ j, j < 62 → (Cond.eq (.elem (.field (.string "QuietChannelsModel" 135) "java/lang/String" "value" "[B") (.int (Int32.ofNat j))) (.int (wordB.getD j 0))) ∈ flat (Jvm.Cond.and given_1 narrow_1) := by decide +kernel
  obtain ⟨adK, adV, hSt, hev⟩ := vk_Sof (args := #[Value.ref b]) (s := s) (N := 2) (tm := tm) (len := [61, 62]) (byt := [keyB, wordB]) (two (by decide) (by decide)) (by subst htm; exact two (hs _ (by decide +kernel)) (hs _ (by decide +kernel))) (by subst htm; exact two (hs _ (by decide +kernel)) (hs _ (by decide +kernel))) (by subst htm; exact two (hs _ (by decide +kernel)) (hs _ (by decide +kernel))) (by subst htm; exact two (hs _ (by decide +kernel)) (hs _ (by decide +kernel))) (by subst htm; exact two (fun j hj => hs _ (mK j hj)) (fun j hj => hs _ (mW j hj))) (by
    subst htm
    intro i j hi hj hij
    match i, j, hi, hj, hij with
    | 0, 0, _, _, h => exact absurd rfl h
    | 0, 1, _, _, _ => exact Or.inl (hs _ (by decide +kernel))
    | 1, 0, _, _, _ => exact Or.inr (hs _ (by decide +kernel))
    | 1, 1, _, _, h => exact absurd rfl h) hA
  subst htm
  have ev0 := hev 0 (by decide)
  have ev1 := hev 1 (by decide)
  obtain ⟨gt, hgt⟩ : ∃ gt : Nat → Nat, gt = fun k => if k = 0 then tT else if k = 1 then tO else if k < 4 then adK (k - 2) else adV (k - 4) := ⟨_, rfl⟩
  have g0 : gt 0 = tT := by subst hgt; rfl
  have g1 : gt 1 = tO := by subst hgt; rfl
  have gK : ∀ i, i < 2 → gt (2 + i) = adK i := by subst hgt; exact two rfl rfl
  have gV : ∀ i, i < 2 → gt (4 + i) = adV i := by subst hgt; exact two rfl rfl
  have GSh : GS gt (fun q => s.heap.size ≤ q) s s.heap := by
    unfold GS
    rw [g0, g1]
    refine ⟨va_Zof (hts _ q898) (hal _ q113) eT hA, HT, va_Zof (hts _ q892) (hal _ q113) eO hA, HO, ⟨fun i hi => ?_, fun i j hi hj e => ?_⟩, va_Zof (hts _ q491) (hal _ q119) (va_eqt (hs _ (by decide +kernel))) hA, va_Zqof (hts _ q535) (hal _ q123) (hs _ (by decide +kernel)) hA, vx_Zqof (hts _ q649) (hal _ q125) (hs _ (by decide +kernel)) hA, vx_Zqof (hts _ q651) (hal _ q125) (hs _ (by decide +kernel)) hA⟩
    · dsimp only
      rw [gK i hi, gV i hi]
      exact hSt.1 i hi
    · dsimp only at e
      rw [gK i hi, gK j hj] at e
      exact hSt.2 i j hi hj e
  have GVh : GV gt s := ⟨by rw [show gt 2 = adK 0 from gK 0 (by decide)]; exact vk_R.of (hts _ q481) ev0, by rw [show gt 3 = adK 1 from gK 1 (by decide)]; exact vk_R.of (hts _ q1410) ev1, NW.ofT hts, va_AO.of (hts _ q151), va_AO.of (hts _ q254), hts _ q261⟩
  have E0 : En p s m #[Value.ref b] meth c (fun q => s.heap.size ≤ q) code 7 RX0 ret (dC, dI) [] gt := ⟨hx, hb, hml, hown, hal, ⟨hKc, fun k q h => by cases h⟩, ⟨GSh, GVh⟩, hlocks, hr, fun q h => h⟩
  obtain ⟨a1, h1⟩ := ty_int E0
  obtain ⟨a2, h2⟩ := ty_bool E0
  obtain ⟨a3, h3⟩ := ty_byte E0
  obtain ⟨a4, h4⟩ := ty_user E0
  obtain ⟨a5, h5⟩ := ty_plan E0
  obtain ⟨a6, h6⟩ := ty_ints hKc GVh.2.2.2.2.2
  obtain ⟨a7, h7⟩ := ty_long E0
  refine ⟨(dC, dI), gt, fun k => if k = 0 then a1 else if k = 1 then a2 else if k = 2 then a3 else if k = 3 then a4 else if k = 4 then a5 else if k = 5 then a6 else a7, ⟨hx, hb, hml, hown, hal, ⟨hKc, fun k q hq => ?_⟩, ⟨GSh, GVh⟩, hlocks, hr, fun q h => h⟩, va_Nc.of (hs (Cond.not (.castable nsE ioE)) (by decide +kernel))⟩
  match k, hq with
  | 0, hq => cases hq; exact h1.2 0 _ rfl
  | 1, hq => cases hq; exact h2.2 0 _ rfl
  | 2, hq => cases hq; exact h3.2 0 _ rfl
  | 3, hq => cases hq; exact h4.2 0 _ rfl
  | 4, hq => cases hq; exact h5.2 0 _ rfl
  | 5, hq => cases hq; exact h6.2 0 _ rfl
  | 6, hq => cases hq; exact h7.2 0 _ rfl
  | k + 7, hq => simp [tysA] at hq
