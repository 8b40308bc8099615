/-! POWERS IN A ROW OF THEIR OWN: for airs of up to eight users (a copy by program of what x4z_counted stands on) -/
set_option maxRecDepth 100000
def plFg (s : Nat → Nat → Int32) (q : Pr) : Int32 := match q.2.2.2 with
  | none => tA q.1 * s 46 q.2.1 + absI (tB q.1) * s 46 q.2.2.1 - s 3 (4 + q.1 / 2)
  | some w => tA q.1 * s 46 q.2.1 + absI (tB q.1) * s 46 q.2.2.1 + absI (tC q.1) * s 46 w - s 3 (4 + q.1 / 2)
def mayQg (s : Nat → Nat → Int32) (q : Pr) (u : Nat) : Bool := !decide (plFg s q < 0) && !decide (s 25 u = 0) && !inQ q u && !decide (pcF s q &&& s 25 (73 + u) = 0) && (decide (s 6 u = s 6 q.2.1) || (!decide (linkQ s q u = -2) && !decide (plFg s q < linkQ s q u)))
def hitQg (s : Nat → Nat → Int32) (q : Pr) (u : Nat) : Bool := mayQg s q u && !decide (s 0 31 < absI (s 25 u - pvF s q))
def hsQg (s : Nat → Nat → Int32) (n : Nat) (q : Pr) : Nat := setN (hitQg s q) n
def hitsFg (s : Nat → Nat → Int32) (n : Nat) (L : List Pr) (p : Nat) : Nat := pop (hsQg s n (qAt L p))
def madeFg (s : Nat → Nat → Int32) (n : Nat) (L : List Pr) (u p : Nat) : Nat := if inQ (qAt L p) u = true then pop (hsQg s n (qAt L p)) else 0
def heardFg (s : Nat → Nat → Int32) (L : List Pr) (p : Nat) : Nat := if plFg s (qAt L p) < 0 then 0 else 1
def hitsTg (s : Nat → Nat → Int32) (n : Nat) (L : List Pr) : Nat := sumN (hitsFg s n L) L.length
def madeNg (s : Nat → Nat → Int32) (n : Nat) (L : List Pr) (u : Nat) : Nat := sumN (madeFg s n L u) L.length
def heardNg (s : Nat → Nat → Int32) (L : List Pr) : Nat := sumN (heardFg s L) L.length
def hitLg (s : Nat → Nat → Int32) (L : List Pr) (u p : Nat) : Bool := hitQg s (qAt L p) u
def sortFg (s : Nat → Nat → Int32) (n : Nat) (L : List Pr) (k w p : Nat) : Nat := if (qAt L p).1 = k then (if w = 0 then 1 else if w = 1 then (if plFg s (qAt L p) < 0 then 0 else 1) else pop (hsQg s n (qAt L p))) else 0
def loudFg (s : Nat → Nat → Int32) (n : Nat) (L : List Pr) : Nat → Nat
  | 0 => 0
  | p + 1 => if hsQg s n (qAt L p) ≠ 0 ∧ (loudFg s n L p = 0 ∨ plFg s (qAt L (loudFg s n L p - 1)) < plFg s (qAt L p)) then p + 1 else loudFg s n L p
theorem loudF_leg (s : Nat → Nat → Int32) (n : Nat) (L : List Pr) (p : Nat) : loudFg s n L p ≤ p := by
  induction p with
  | zero => exact Nat.le_refl _
  | succ p ih => rw [loudFg]; split <;> omega
def whenFg (s : Nat → Nat → Int32) (L : List Pr) (u : Nat) : Nat → Int32
  | 0 => nI 0
  | p + 1 => if hitQg s (qAt L p) u = true then whenFg s L u p ||| (pcF s (qAt L p) &&& s 25 (73 + u)) else whenFg s L u p
def clearFg (s : Nat → Nat → Int32) (L : List Pr) (u : Nat) : Nat → Int32
  | 0 => -2
  | p + 1 => if mayQg s (qAt L p) u = true then (if clearFg s L u p = -2 ∨ farF s L u p < clearFg s L u p then farF s L u p else clearFg s L u p) else clearFg s L u p
theorem hitsT_appg (s : Nat → Nat → Int32) (n : Nat) (L : List Pr) (q : Pr) : hitsTg s n (L ++ [q]) = hitsTg s n L + pop (hsQg s n q) := sum_app (fun q => pop (hsQg s n q)) L q
theorem heardN_appg (s : Nat → Nat → Int32) (L : List Pr) (q : Pr) : heardNg s (L ++ [q]) = heardNg s L + (if plFg s q < 0 then 0 else 1) := sum_app (fun q => if plFg s q < 0 then 0 else 1) L q
theorem madeN_appg (s : Nat → Nat → Int32) (n : Nat) (L : List Pr) (q : Pr) (u : Nat) : madeNg s n (L ++ [q]) u = madeNg s n L u + (if inQ q u = true then pop (hsQg s n q) else 0) := sum_app (fun q => if inQ q u = true then pop (hsQg s n q) else 0) L q
def sortNg (s : Nat → Nat → Int32) (n : Nat) (L : List Pr) (k w : Nat) : Nat := sumN (sortFg s n L k w) L.length
def sortQg (s : Nat → Nat → Int32) (n : Nat) (q : Pr) (w : Nat) : Nat := if w = 0 then 1 else if w = 1 then (if plFg s q < 0 then 0 else 1) else pop (hsQg s n q)
theorem sortN_appg (s : Nat → Nat → Int32) (n : Nat) (L : List Pr) (q : Pr) (k w : Nat) : sortNg s n (L ++ [q]) k w = sortNg s n L k w + (if q.1 = k then sortQg s n q w else 0) := sum_app (fun q => if q.1 = k then sortQg s n q w else 0) L q
def hitNg (s : Nat → Nat → Int32) (L : List Pr) (u : Nat) : Nat := cntN (hitLg s L u) L.length
theorem hitN_appg (s : Nat → Nat → Int32) (L : List Pr) (q : Pr) (u : Nat) : hitNg s (L ++ [q]) u = hitNg s L u + (if hitQg s q u = true then 1 else 0) := sum_app (fun q => if hitQg s q u = true then 1 else 0) L q
theorem loudF_appg (s : Nat → Nat → Int32) (n : Nat) (L : List Pr) (q : Pr) : ∀ p, p ≤ L.length → loudFg s n (L ++ [q]) p = loudFg s n L p := by
  intro p
  induction p with
  | zero => intro _; rfl
  | succ p ih =>
    intro h
    have h1 := loudF_leg s n L p
    rw [loudFg, loudFg, ih (by omega), qAt_app (by omega)]
    by_cases e : loudFg s n L p = 0
    · simp [e]
    · rw [qAt_app (by omega)]
def loudNg (s : Nat → Nat → Int32) (n : Nat) (L : List Pr) : Nat := loudFg s n L L.length
def loudBg (s : Nat → Nat → Int32) (n : Nat) (L : List Pr) (q : Pr) : Prop := hsQg s n q ≠ 0 ∧ (loudNg s n L = 0 ∨ plFg s (qAt L (loudNg s n L - 1)) < plFg s q)
theorem loudN_tg {s : Nat → Nat → Int32} {n : Nat} {L : List Pr} {q : Pr} (h : loudBg s n L q) : loudNg s n (L ++ [q]) = L.length + 1 := by
  have h1 := loudF_leg s n L L.length
  unfold loudNg loudBg at *
  rw [len_app, loudFg, loudF_appg s n L q _ (Nat.le_refl _), qAt_last]
  by_cases e : loudFg s n L L.length = 0
  · rw [if_pos ⟨h.1, Or.inl e⟩]
  · rw [qAt_app (by omega)]; exact if_pos h
theorem loudN_fg {s : Nat → Nat → Int32} {n : Nat} {L : List Pr} {q : Pr} (h : ¬ loudBg s n L q) : loudNg s n (L ++ [q]) = loudNg s n L := by
  have h1 := loudF_leg s n L L.length
  unfold loudNg loudBg at *
  rw [len_app, loudFg, loudF_appg s n L q _ (Nat.le_refl _), qAt_last]
  by_cases e : loudFg s n L L.length = 0
  · rw [if_neg]
    intro k
    exact h ⟨k.1, Or.inl e⟩
  · rw [qAt_app (by omega)]; exact if_neg h
theorem loudN_leg (s : Nat → Nat → Int32) (n : Nat) (L : List Pr) : loudNg s n L ≤ L.length := loudF_leg s n L L.length
def whenNg (s : Nat → Nat → Int32) (L : List Pr) (u : Nat) : Int32 := whenFg s L u L.length
theorem whenN_appg (s : Nat → Nat → Int32) (L : List Pr) (q : Pr) (u : Nat) : whenNg s (L ++ [q]) u = if hitQg s q u = true then whenNg s L u ||| (pcF s q &&& s 25 (73 + u)) else whenNg s L u := by
  have h : ∀ p, p ≤ L.length → whenFg s (L ++ [q]) u p = whenFg s L u p := by
    intro p
    induction p with
    | zero => intro _; rfl
    | succ p ih => intro h; rw [whenFg, whenFg, ih (by omega), qAt_app (by omega)]
  unfold whenNg
  rw [len_app, whenFg, h _ (Nat.le_refl _), qAt_last]
def nearNg (s : Nat → Nat → Int32) (L : List Pr) (u : Nat) : Int32 := clearFg s L u L.length
theorem nearN_appg (s : Nat → Nat → Int32) (L : List Pr) (q : Pr) (u : Nat) : nearNg s (L ++ [q]) u = if mayQg s q u = true then (if nearNg s L u = -2 ∨ farQ s q u < nearNg s L u then farQ s q u else nearNg s L u) else nearNg s L u := by
  have h : ∀ p, p ≤ L.length → clearFg s (L ++ [q]) u p = clearFg s L u p := by
    intro p
    induction p with
    | zero => intro _; rfl
    | succ p ih =>
      intro h
      have e : farF s (L ++ [q]) u p = farF s L u p := by unfold farF; rw [qAt_app (by omega)]
      rw [clearFg, clearFg, ih (by omega), qAt_app (by omega), e]
  have e : farF s (L ++ [q]) u L.length = farQ s q u := by unfold farF farQ; rw [qAt_last]
  unfold nearNg
  rw [len_app, clearFg, h _ (Nat.le_refl _), qAt_last, e]
/-- the sums of powers -/
def puFg (s : Nat → Nat → Int32) (q : Pr) : Int32 := match q.2.2.2 with
  | none => tA q.1 * s 46 q.2.1 + absI (tB q.1) * s 46 q.2.2.1
  | some w => tA q.1 * s 46 q.2.1 + absI (tB q.1) * s 46 q.2.2.1 + absI (tC q.1) * s 46 w
theorem plF_pug (s : Nat → Nat → Int32) (q : Pr) : puFg s q - s 3 (4 + q.1 / 2) = plFg s q := by
  unfold puFg plFg
  cases q.2.2.2 <;> rfl
/-- what is told to an air, as a state of the reference has it -/
def AIg (s Y : Nat → Nat → Int32) (n : Nat) : Prop := Y 0 9 = nI n ∧ Y 0 10 = s 0 30 ∧ Y 0 11 = s 0 31 ∧ Y 0 12 = s 0 32 ∧ Y 0 13 = s 0 33 ∧ ∀ u, u < n → Y 1 u = s 6 u ∧ Y 2 u = s 46 u ∧ Y 3 u = s 25 u ∧ Y 6 u = s 25 (73 + u)
theorem AIg.cg {s Y Z : Nat → Nat → Int32} {n : Nat} (h : AIg s Y n) (h0 : ∀ k, 9 ≤ k → k ≤ 13 → Z 0 k = Y 0 k) (h1 : Z 1 = Y 1) (h2 : Z 2 = Y 2) (h3 : Z 3 = Y 3) (h6 : Z 6 = Y 6) : AIg s Z n := by
  unfold AIg at *
  rw [h0 9 (by decide) (by decide), h0 10 (by decide) (by decide), h0 11 (by decide) (by decide), h0 12 (by decide) (by decide), h0 13 (by decide) (by decide), h1, h2, h3, h6]
  exact h
theorem may_iffg {s τ : Nat → Nat → Int32} {n : Nat} {q : Pr} {o : Nat} (h : TA s τ n) (hq : q.2.1 < n) (ho : o < n) (hin : inQ q o = false) (hp : ¬ plFg s q < 0) : mayQg s q o = true ↔ (¬ s 25 o = 0 ∧ ¬ (pcF s q &&& s 25 (73 + o)) = 0 ∧ ¬ lnQ s q o < 0 ∧ ¬ plFg s q < lnQ s q o) := by
  have b2 := (h.2.2.2 _ ho).2
  have a2 := (h.2.2.2 _ hq).2
  have hl := h.2.2.1 (3 * tN (s 6 q.2.1) + tN (s 6 o)) (by omega)
  unfold mayQg lnQ
  by_cases e : s 6 o = s 6 q.2.1
  · have h0 : ¬ (0 : Int32) < 0 := by decide
    simp [hin, hp, e]
  · have e2 : linkQ s q o = -2 ↔ linkQ s q o < 0 := by
      unfold linkQ
      rcases hl with h1 | h1
      · rw [h1]; decide
      · exact ⟨fun k => absurd (by rw [k]; decide) h1, fun k => absurd k h1⟩
    simp [hin, hp, e, e2, and_assoc]
def nearUg (s : Nat → Nat → Int32) (q : Pr) (o : Nat) (Y : Nat → Nat → Int32) : Nat → Nat → Int32 := if mayQg s q o = true then st1 Y 8 o (nvF (Y 8 o) (farQ s q o)) else Y
def nearWg (s : Nat → Nat → Int32) (q : Pr) (Y : Nat → Nat → Int32) : Nat → Nat → Nat → Int32
  | 0 => Y
  | o + 1 => if inQ q o = true then nearWg s q Y o else nearUg s q o (nearWg s q Y o)
theorem nearU_rg {s Y : Nat → Nat → Int32} {q : Pr} {o r : Nat} (h : r ≠ 8) : nearUg s q o Y r = Y r := by
  unfold nearUg
  split
  · exact st1_ne h
  · rfl
theorem nearW_rg {s Y : Nat → Nat → Int32} {q : Pr} {r : Nat} (h : r ≠ 8) : ∀ o, nearWg s q Y o r = Y r := by
  intro o
  induction o with
  | zero => rfl
  | succ o ih =>
    rw [nearWg]
    split
    · exact ih
    · rw [nearU_rg h]; exact ih
theorem nearU_jg {s Y : Nat → Nat → Int32} {q : Pr} {o u : Nat} (h : u ≠ o) : nearUg s q o Y 8 u = Y 8 u := by
  unfold nearUg
  split
  · exact st1_nj h
  · rfl
theorem may_ing {s : Nat → Nat → Int32} {q : Pr} {u : Nat} (h : inQ q u = true) : ¬ mayQg s q u = true := by unfold mayQg; simp [h]
theorem may_log {s : Nat → Nat → Int32} {q : Pr} {u : Nat} (h : plFg s q < 0) : ¬ mayQg s q u = true := by unfold mayQg; simp [h]
theorem hit_mayg {s : Nat → Nat → Int32} {q : Pr} {u : Nat} (h : hitQg s q u = true) : mayQg s q u = true := by
  unfold hitQg at h
  simp only [Bool.and_eq_true] at h
  exact h.1
theorem nearW_8g {s Y : Nat → Nat → Int32} {q : Pr} : ∀ o u, nearWg s q Y o 8 u = if u < o ∧ mayQg s q u = true then nvF (Y 8 u) (farQ s q u) else Y 8 u := by
  intro o
  induction o with
  | zero => intro u; rw [if_neg (by omega)]; rfl
  | succ o ih =>
    intro u
    rw [nearWg]
    by_cases hi : inQ q o = true
    · rw [if_pos hi, ih]
      by_cases e : u = o
      · subst e
        rw [if_neg (by omega), if_neg (fun k => may_ing hi k.2)]
      · by_cases m : u < o ∧ mayQg s q u = true
        · rw [if_pos m, if_pos ⟨by omega, m.2⟩]
        · rw [if_neg m, if_neg (fun k => m ⟨by omega, k.2⟩)]
    · rw [if_neg hi]
      by_cases e : u = o
      · subst e
        have h1 := ih u
        rw [if_neg (by omega)] at h1
        unfold nearUg
        by_cases m : mayQg s q u = true
        · rw [if_pos m, st1_eq, if_pos ⟨by omega, m⟩, h1]
        · rw [if_neg m, if_neg (fun k => m k.2), h1]
      · rw [nearU_jg e, ih]
        by_cases m : u < o ∧ mayQg s q u = true
        · rw [if_pos m, if_pos ⟨by omega, m.2⟩]
        · rw [if_neg m, if_neg (fun k => m ⟨by omega, k.2⟩)]
def SKg (s : Nat → Nat → Int32) (n : Nat) (q : Pr) (Y : Nat → Nat → Int32) : Prop := Y 0 19 = nI q.1 ∧ Y 0 20 = nI q.2.1 ∧ Y 0 21 = nI q.2.2.1 ∧ Y 0 22 = cI q.2.2.2 ∧ Y 0 23 = pvF s q ∧ Y 0 24 = plFg s q ∧ Y 0 25 = nI (hsQg s n q)
def ALg (s : Nat → Nat → Int32) (n : Nat) (sg : Int32) (L : List Pr) (Y : Nat → Nat → Int32) : Prop := AIg s Y n ∧ Y 0 18 = sg ∧ Y 0 14 = nI L.length ∧ Y 0 15 = nI (heardNg s L) ∧ Y 0 16 = nI (hitsTg s n L) ∧ (∀ k w, k < 6 → w < 3 → Y 9 (3 * k + w) = nI (sortNg s n L k w)) ∧ (Y 0 26 = optI (loudNg s n L) ∧ (loudNg s n L ≠ 0 → Y 0 27 = plFg s (qAt L (loudNg s n L - 1)))) ∧ (∀ u, u < n → Y 8 u = nearNg s L u) ∧ (sg < 0 → ∀ u, u < n → Y 4 u = nI (hitNg s L u) ∧ Y 5 u = nI (madeNg s n L u) ∧ Y 7 u = whenNg s L u) ∧ ∀ p, sg = nI p → p < L.length → SKg s n (qAt L p) Y
theorem near_nng {s : Nat → Nat → Int32} {n u : Nat} (h : NB s n) (hu : u < n) {L : List Pr} (hL : ∀ q ∈ L, okP s q = true) : nearNg s L u = -2 ∨ In (nearNg s L u) 61 := by
  have key : ∀ p, p ≤ L.length → clearFg s L u p = -2 ∨ In (clearFg s L u p) 61 := by
    intro p
    induction p with
    | zero => intro _; exact Or.inl rfl
    | succ p ih =>
      intro hp
      have hf : In (farF s L u p) 61 := far_in h hu (hL _ (qAt_mem (by omega)))
      rw [clearFg]
      split
      · split
        · exact Or.inr hf
        · exact ih (by omega)
      · exact ih (by omega)
  exact key _ (Nat.le_refl _)
def mkZg (s : Nat → Nat → Int32) (n : Nat) (q : Pr) (sg : Int32) (Y : Nat → Nat → Int32) : Nat → Nat → Int32 := if sg < 0 then cntS s q (hsQg s n q) (pcF s q) (nearWg s q Y n) n else nearWg s q Y n
def skSg (s : Nat → Nat → Int32) (n : Nat) (q : Pr) (Z : Nat → Nat → Int32) : Nat → Nat → Int32 := if Z 0 14 = Z 0 18 then st1 (st1 (st1 (st1 (st1 (st1 (st1 Z 0 19 (nI q.1)) 0 20 (nI q.2.1)) 0 21 (nI q.2.2.1)) 0 22 (cI q.2.2.2)) 0 23 (pvF s q)) 0 24 (plFg s q)) 0 25 (nI (hsQg s n q)) else Z
def fiSg (s : Nat → Nat → Int32) (n : Nat) (q : Pr) (V : Nat → Nat → Int32) : Nat → Nat → Int32 := st1 (st1 (st1 V 0 14 (V 0 14 + nI 1)) 0 15 (V 0 15 + nI (if plFg s q < 0 then 0 else 1))) 0 16 (V 0 16 + nI (pop (hsQg s n q)))
def makSg (s : Nat → Nat → Int32) (n : Nat) (q : Pr) (sg : Int32) (Y : Nat → Nat → Int32) : Nat → Nat → Int32 := fiSg s n q (skSg s n q (ldS (hsQg s n q) (plFg s q) (srS q.1 (hsQg s n q) (plFg s q) (mkZg s n q sg Y))))
theorem mkZ_rg {s Y : Nat → Nat → Int32} {n r : Nat} {q : Pr} {sg : Int32} (h8 : r ≠ 8) (h5 : r ≠ 5) (h4 : r ≠ 4) (h7 : r ≠ 7) : mkZg s n q sg Y r = Y r := by
  unfold mkZg
  split
  · rw [cntS_r h5 h4 h7, nearW_rg h8]
  · rw [nearW_rg h8]
theorem mkZ_8g {s Y : Nat → Nat → Int32} {n u : Nat} {q : Pr} {sg : Int32} (hu : u < n) : mkZg s n q sg Y 8 u = if mayQg s q u = true then nvF (Y 8 u) (farQ s q u) else Y 8 u := by
  have e : mkZg s n q sg Y 8 = nearWg s q Y n 8 := by
    unfold mkZg
    split
    · rw [cntS_r (by decide) (by decide) (by decide)]
    · rfl
  rw [e, nearW_8g]
  by_cases m : mayQg s q u = true
  · rw [if_pos m, if_pos ⟨hu, m⟩]
  · rw [if_neg m, if_neg (fun k => m k.2)]
theorem skS_rg {s Z : Nat → Nat → Int32} {n r : Nat} {q : Pr} (h : r ≠ 0) : skSg s n q Z r = Z r := by
  unfold skSg
  split
  · rw [st1_ne h, st1_ne h, st1_ne h, st1_ne h, st1_ne h, st1_ne h, st1_ne h]
  · rfl
theorem skS_jg {s Z : Nat → Nat → Int32} {n j : Nat} {q : Pr} (h : j < 19 ∨ 25 < j) : skSg s n q Z 0 j = Z 0 j := by
  unfold skSg
  split
  · rw [st1_nj (by omega), st1_nj (by omega), st1_nj (by omega), st1_nj (by omega), st1_nj (by omega), st1_nj (by omega), st1_nj (by omega)]
  · rfl
theorem fiS_rg {s V : Nat → Nat → Int32} {n r : Nat} {q : Pr} (h : r ≠ 0) : fiSg s n q V r = V r := by unfold fiSg; rw [st1_ne h, st1_ne h, st1_ne h]
theorem fiS_jg {s V : Nat → Nat → Int32} {n j : Nat} {q : Pr} (h : j ≠ 14) (h2 : j ≠ 15) (h3 : j ≠ 16) : fiSg s n q V 0 j = V 0 j := by unfold fiSg; rw [st1_nj h3, st1_nj h2, st1_nj h]
theorem makS_rg {s Y : Nat → Nat → Int32} {n r : Nat} {q : Pr} {sg : Int32} (h0 : r ≠ 0) (h9 : r ≠ 9) : makSg s n q sg Y r = mkZg s n q sg Y r := by unfold makSg; rw [fiS_rg h0, skS_rg h0, ldS_r h0, srS_r h9]
theorem makS_jg {s Y : Nat → Nat → Int32} {n j : Nat} {q : Pr} {sg : Int32} (h : j < 14 ∨ (16 < j ∧ j < 19) ∨ 27 < j) : makSg s n q sg Y 0 j = Y 0 j := by
  unfold makSg
  rw [fiS_jg (by omega) (by omega) (by omega), skS_jg (by omega), ldS_j (by omega) (by omega), srS_r (by decide), mkZ_rg (by decide) (by decide) (by decide) (by decide)]
theorem ALg.add {s Y : Nat → Nat → Int32} {n : Nat} {sg : Int32} {L : List Pr} {q : Pr} (h : ALg s n sg L Y) (hB : NB s n) (hL : ∀ r ∈ L, okP s r = true) (ho : okP s q = true) (hk : q.1 < 6) (hlen : L.length < 10000) : ALg s n sg (L ++ [q]) (makSg s n q sg Y) := by
  obtain ⟨hA, h18, h14, h15, h16, h9, ⟨h26, h27⟩, h8, hs, hp⟩ := h
  have hZ0 : mkZg s n q sg Y 0 = Y 0 := mkZ_rg (by decide) (by decide) (by decide) (by decide)
  have hsr : ∀ k S pl, srS k S pl (mkZg s n q sg Y) 0 = Y 0 := fun k S pl => by rw [srS_r (by decide), hZ0]
  have hl := loudN_leg s n L
  refine ⟨hA.cg (fun k a b => makS_jg (by omega)) ?_ ?_ ?_ ?_, ?_, ?_, ?_, ?_, ?_, ?_, ?_, ?_, ?_⟩
  · rw [makS_rg (by decide) (by decide), mkZ_rg (by decide) (by decide) (by decide) (by decide)]
  · rw [makS_rg (by decide) (by decide), mkZ_rg (by decide) (by decide) (by decide) (by decide)]
  · rw [makS_rg (by decide) (by decide), mkZ_rg (by decide) (by decide) (by decide) (by decide)]
  · rw [makS_rg (by decide) (by decide), mkZ_rg (by decide) (by decide) (by decide) (by decide)]
  · rw [makS_jg (by omega), h18]
  · unfold makSg fiSg
    rw [st1_nj (by decide), st1_nj (by decide), st1_eq, skS_jg (by omega), ldS_j (by omega) (by omega), hsr, h14, len_app, nI_add]
  · unfold makSg fiSg
    rw [st1_nj (by decide), st1_eq, skS_jg (by omega), ldS_j (by omega) (by omega), hsr, h15, heardN_appg, nI_add]
  · unfold makSg fiSg
    rw [st1_eq, skS_jg (by omega), ldS_j (by omega) (by omega), hsr, h16, hitsT_appg, nI_add]
  · intro k w hk6 hw
    have e : makSg s n q sg Y 9 = srS q.1 (hsQg s n q) (plFg s q) (mkZg s n q sg Y) 9 := by unfold makSg; rw [fiS_rg (by decide), skS_rg (by decide), ldS_r (by decide)]
    rw [e, srS_9 hw, mkZ_rg (by decide) (by decide) (by decide) (by decide), h9 k w hk6 hw, sortN_appg]
    split
    · rw [nI_add]; rfl
    · rw [Nat.add_zero]
  · have e26 : makSg s n q sg Y 0 26 = ldS (hsQg s n q) (plFg s q) (srS q.1 (hsQg s n q) (plFg s q) (mkZg s n q sg Y)) 0 26 := by unfold makSg; rw [fiS_jg (by decide) (by decide) (by decide), skS_jg (by omega)]
    have e27 : makSg s n q sg Y 0 27 = ldS (hsQg s n q) (plFg s q) (srS q.1 (hsQg s n q) (plFg s q) (mkZg s n q sg Y)) 0 27 := by unfold makSg; rw [fiS_jg (by decide) (by decide) (by decide), skS_jg (by omega)]
    have hiff : (hsQg s n q ≠ 0 ∧ (Y 0 26 < 0 ∨ Y 0 27 < plFg s q)) ↔ loudBg s n L q := by
      unfold loudBg
      rw [h26, optI_neg (by omega)]
      by_cases e : loudNg s n L = 0
      · simp [e]
      · rw [h27 e]
    rw [e26, e27]
    unfold ldS
    rw [hsr]
    by_cases b : loudBg s n L q
    · rw [if_pos (hiff.mpr b), st1_eq, st1_nj (by decide), st1_eq, loudN_tg b, optI_s1, h14]
      refine ⟨rfl, fun _ => ?_⟩
      rw [show L.length + 1 - 1 = L.length by omega, qAt_last]
    · rw [if_neg (fun k => b (hiff.mp k)), hsr, loudN_fg b]
      refine ⟨h26, fun k => ?_⟩
      rw [h27 k, qAt_app (by omega)]
  · intro u hu
    rw [makS_rg (by decide) (by decide), mkZ_8g hu, nearN_appg, h8 u hu, nv_near (near_nng hB hu hL)]
  · intro hneg u hu
    obtain ⟨a4, a5, a7⟩ := hs hneg u hu
    have hb := setN_bit (hitQg s q) n u hu
    rw [makS_rg (by decide) (by decide), makS_rg (by decide) (by decide), makS_rg (by decide) (by decide)]
    unfold mkZg
    rw [if_pos hneg]
    unfold cntS
    simp only [show (4 : Nat) ≠ 5 by decide, show (7 : Nat) ≠ 5 by decide, show (7 : Nat) ≠ 4 by decide, if_false, if_true]
    rw [nearW_rg (by decide), nearW_rg (by decide), nearW_rg (by decide), a4, a5, a7, hitN_appg, madeN_appg, whenN_appg]
    have hbb : bit (hsQg s n q) u = if hitQg s q u = true then 1 else 0 := hb
    rw [hbb]
    refine ⟨?_, ?_, ?_⟩
    · by_cases k : hitQg s q u = true
      · rw [if_pos k, if_pos ⟨hu, rfl⟩, nI_add]
      · rw [if_neg k, if_neg (fun z => absurd z.2 (by decide)), Nat.add_zero]
    · split
      · rw [nI_add]
      · rw [Nat.add_zero]
    · by_cases k : hitQg s q u = true
      · rw [if_pos k, if_pos k, if_pos ⟨hu, rfl⟩]
      · rw [if_neg k, if_neg k, if_neg (fun z => absurd z.2 (by decide))]
  · intro p hp1 hp2
    rw [len_app] at hp2
    have e : ∀ j, 19 ≤ j → j ≤ 25 → makSg s n q sg Y 0 j = skSg s n q (ldS (hsQg s n q) (plFg s q) (srS q.1 (hsQg s n q) (plFg s q) (mkZg s n q sg Y))) 0 j := fun j a b => by unfold makSg; rw [fiS_jg (by omega) (by omega) (by omega)]
    have hc : (ldS (hsQg s n q) (plFg s q) (srS q.1 (hsQg s n q) (plFg s q) (mkZg s n q sg Y)) 0 14 = ldS (hsQg s n q) (plFg s q) (srS q.1 (hsQg s n q) (plFg s q) (mkZg s n q sg Y)) 0 18) ↔ p = L.length := by
      rw [ldS_j (by decide) (by decide), ldS_j (by decide) (by decide), hsr, h14, h18, hp1, nI_eq (by omega) (by omega)]
      exact eq_comm
    by_cases c : p = L.length
    · subst c
      rw [qAt_last]
      unfold SKg
      rw [e 19 (by decide) (by decide), e 20 (by decide) (by decide), e 21 (by decide) (by decide), e 22 (by decide) (by decide), e 23 (by decide) (by decide), e 24 (by decide) (by decide), e 25 (by decide) (by decide)]
      unfold skSg
      rw [if_pos (hc.mpr rfl)]
      refine ⟨?_, ?_, ?_, ?_, ?_, ?_, st1_eq⟩
      · rw [st1_nj (by decide), st1_nj (by decide), st1_nj (by decide), st1_nj (by decide), st1_nj (by decide), st1_nj (by decide), st1_eq]
      · rw [st1_nj (by decide), st1_nj (by decide), st1_nj (by decide), st1_nj (by decide), st1_nj (by decide), st1_eq]
      · rw [st1_nj (by decide), st1_nj (by decide), st1_nj (by decide), st1_nj (by decide), st1_eq]
      · rw [st1_nj (by decide), st1_nj (by decide), st1_nj (by decide), st1_eq]
      · rw [st1_nj (by decide), st1_nj (by decide), st1_eq]
      · rw [st1_nj (by decide), st1_eq]
    · have hlt : p < L.length := by omega
      have h3 := hp p hp1 hlt
      rw [qAt_app hlt]
      have e2 : ∀ j, 19 ≤ j → j ≤ 25 → makSg s n q sg Y 0 j = Y 0 j := fun j a b => by
        rw [e j a b]
        unfold skSg
        rw [if_neg (fun z => c (hc.mp z)), ldS_j (by omega) (by omega), hsr]
      unfold SKg at h3 ⊢
      rw [e2 19 (by decide) (by decide), e2 20 (by decide) (by decide), e2 21 (by decide) (by decide), e2 22 (by decide) (by decide), e2 23 (by decide) (by decide), e2 24 (by decide) (by decide), e2 25 (by decide) (by decide)]
      exact h3
theorem hit_iffg {s : Nat → Nat → Int32} {q : Pr} {o : Nat} (h : mayQg s q o = true) : hitQg s q o = true ↔ ¬ s 0 31 < farQ s q o := by
  unfold hitQg farQ
  rw [h]
  simp
set_option maxHeartbeats 1000000 in
set_option maxRecDepth 100000 in
theorem x4z_isAtg {l : Launch} {D : va_G} {gt : Nat → Nat} {ba ad : Nat → Nat} {ct : Nat → ClassId} {Nw : Nat} {τ σ ξ : Nat → Nat → Int32} (s : Nat → Nat → Int32) (n u a : Nat) (hA : AIg s σ n) (hnN : n ≤ Nw) (hN8 : Nw ≤ 8) (hu : u < n) : Ct l D gt yX4_isAt cX4_isAt 3 .boolean 0 0 0 0 [.ref (ba 0), .int (nI u), .int (nI a)] (aw ba ct Nw σ ad τ ξ) (tysA ct) (fun r σ2 => bI (thB s u a = true) = r ∧ σ = σ2) (fun σ2 : Nat → Nat → Int32 => aw ba ct Nw σ2 ad τ ξ) (fun _ => tysA ct) := by
  refine Ct.start RX4 (by decide) rfl (Nat.le_of_ble_eq_true rfl) rfl ?_
  intro pP eE sS mM aA bB hM cC QQ AA E Rt
  refine s_aload_n E dX4_isAt_0 (i := 0) (j := 0) rfl rfl ?_
  refine awX4_g0_0 E dX4_isAt_1 ?_
  refine s_iload_n E dX4_isAt_4 (i := 1) (j := 1) rfl rfl ?_
  refine aw_l1 E (v := s 6 u) (u) (rfl) (by omega) hN8 ((hA.2.2.2.2.2 u (by omega)).1) dX4_isAt_5 ?_
  refine s_iload_n E dX4_isAt_6 (i := 2) (j := 2) rfl rfl ?_
  refine s_icmp_ne E dX4_isAt_7 (tgt := 23) rfl (fun c7 => ?_) (fun c7 => ?_)
  · refine s_iconst E dX4_isAt_23 (v := nI 0) (by decide) ?_
    exact Rt (nI 0) (σ) dX4_isAt_24 (⟨by simp [bI, thB, c7], rfl⟩) rfl (Nat.le_refl _) (Nat.le_refl _) rfl E.2.2.2.2.2.1
  · refine s_aload_n E dX4_isAt_10 (i := 0) (j := 0) rfl rfl ?_
    refine awX4_g0_2 E dX4_isAt_11 ?_
    refine s_iload_n E dX4_isAt_14 (i := 1) (j := 1) rfl rfl ?_
    refine aw_l3 E (v := s 25 u) (u) (rfl) (by omega) hN8 ((hA.2.2.2.2.2 u (by omega)).2.2.1) dX4_isAt_15 ?_
    refine s_if_le E dX4_isAt_16 (tgt := 23) rfl (fun c16 => ?_) (fun c16 => ?_)
    · have c16 := Int32.not_lt.mpr c16
      refine s_iconst E dX4_isAt_23 (v := nI 0) (by decide) ?_
      exact Rt (nI 0) (σ) dX4_isAt_24 (⟨by simp [bI, thB, c7, c16], rfl⟩) rfl (Nat.le_refl _) (Nat.le_refl _) rfl E.2.2.2.2.2.1
    · have c16 := Int32.not_le.mp c16
      refine s_iconst E dX4_isAt_19 (v := nI 1) (by decide) ?_
      refine s_goto E dX4_isAt_20 (tgt := 24) rfl ?_
      exact Rt (nI 1) (σ) dX4_isAt_24 (⟨by simp [bI, thB, c7, c16], rfl⟩) rfl (Nat.le_refl _) (Nat.le_refl _) rfl E.2.2.2.2.2.1
set_option maxHeartbeats 1000000 in
set_option maxRecDepth 100000 in
theorem x4z_areCrowdedg {l : Launch} {D : va_G} {gt : Nat → Nat} {ba ad : Nat → Nat} {ct : Nat → ClassId} {Nw : Nat} {τ σ ξ : Nat → Nat → Int32} (s : Nat → Nat → Int32) (n u v : Nat) (hA : AIg s σ n) (hnN : n ≤ Nw) (hN8 : Nw ≤ 8) (hu : u < n) (hv : v < n) : Ct l D gt yX4_areCrowded cX4_areCrowded 3 .boolean 1 21 0 0 [.ref (ba 0), .int (nI u), .int (nI v)] (aw ba ct Nw σ ad τ ξ) (tysA ct) (fun r σ2 => bI (crowdB s u v = true) = r ∧ σ = σ2) (fun σ2 : Nat → Nat → Int32 => aw ba ct Nw σ2 ad τ ξ) (fun _ => tysA ct) := by
  refine Ct.start RX4 (by decide) rfl (Nat.le_of_ble_eq_true rfl) rfl ?_
  intro pP eE sS mM aA bB hM cC QQ AA E Rt
  refine s_iload_n E dX4_areCrowded_0 (i := 1) (j := 1) rfl rfl ?_
  refine s_iload_n E dX4_areCrowded_1 (i := 2) (j := 2) rfl rfl ?_
  refine s_icmp_eq E dX4_areCrowded_2 (tgt := 81) rfl (fun c2 => ?_) (fun c2 => ?_)
  · have c2 : u = v := (nI_eq (a := u) (b := v) (by omega) (by omega)).mp c2
    refine s_iconst E dX4_areCrowded_81 (v := nI 0) (by decide) ?_
    exact Rt (nI 0) (σ) dX4_areCrowded_82 (⟨by simp [bI, crowdB, c2], rfl⟩) rfl (Nat.le_refl _) (Nat.le_refl _) rfl E.2.2.2.2.2.1
  · have c2 : ¬ u = v := fun h => c2 ((nI_eq (a := u) (b := v) (by omega) (by omega)).mpr h)
    refine s_aload_n E dX4_areCrowded_5 (i := 0) (j := 0) rfl rfl ?_
    refine awX4_g0_0 E dX4_areCrowded_6 ?_
    refine s_iload_n E dX4_areCrowded_9 (i := 1) (j := 1) rfl rfl ?_
    refine aw_l1 E (v := s 6 u) (u) (rfl) (by omega) hN8 ((hA.2.2.2.2.2 u (by omega)).1) dX4_areCrowded_10 ?_
    refine s_aload_n E dX4_areCrowded_11 (i := 0) (j := 0) rfl rfl ?_
    refine awX4_g0_0 E dX4_areCrowded_12 ?_
    refine s_iload_n E dX4_areCrowded_15 (i := 2) (j := 2) rfl rfl ?_
    refine aw_l1 E (v := s 6 v) (v) (rfl) (by omega) hN8 ((hA.2.2.2.2.2 v (by omega)).1) dX4_areCrowded_16 ?_
    refine s_icmp_ne E dX4_areCrowded_17 (tgt := 81) rfl (fun c17 => ?_) (fun c17 => ?_)
    · refine s_iconst E dX4_areCrowded_81 (v := nI 0) (by decide) ?_
      exact Rt (nI 0) (σ) dX4_areCrowded_82 (⟨by simp [bI, crowdB, c2, c17], rfl⟩) rfl (Nat.le_refl _) (Nat.le_refl _) rfl E.2.2.2.2.2.1
    · refine s_aload_n E dX4_areCrowded_20 (i := 0) (j := 0) rfl rfl ?_
      refine awX4_g0_5 E dX4_areCrowded_21 ?_
      refine s_iload_n E dX4_areCrowded_24 (i := 1) (j := 1) rfl rfl ?_
      refine aw_l6 E (v := s 25 (73 + u)) (u) (rfl) (by omega) hN8 ((hA.2.2.2.2.2 u (by omega)).2.2.2) dX4_areCrowded_25 ?_
      refine s_aload_n E dX4_areCrowded_26 (i := 0) (j := 0) rfl rfl ?_
      refine awX4_g0_5 E dX4_areCrowded_27 ?_
      refine s_iload_n E dX4_areCrowded_30 (i := 2) (j := 2) rfl rfl ?_
      refine aw_l6 E (v := s 25 (73 + v)) (v) (rfl) (by omega) hN8 ((hA.2.2.2.2.2 v (by omega)).2.2.2) dX4_areCrowded_31 ?_
      refine s_iand E dX4_areCrowded_32 ?_
      refine s_if_eq E dX4_areCrowded_33 (tgt := 81) rfl (fun c33 => ?_) (fun c33 => ?_)
      · refine s_iconst E dX4_areCrowded_81 (v := nI 0) (by decide) ?_
        exact Rt (nI 0) (σ) dX4_areCrowded_82 (⟨by simp [bI, crowdB, c2, c17, c33], rfl⟩) rfl (Nat.le_refl _) (Nat.le_refl _) rfl E.2.2.2.2.2.1
      · refine s_aload_n E dX4_areCrowded_36 (i := 0) (j := 0) rfl rfl ?_
        refine awX4_g0_2 E dX4_areCrowded_37 ?_
        refine s_iload_n E dX4_areCrowded_40 (i := 1) (j := 1) rfl rfl ?_
        refine aw_l3 E (v := s 25 u) (u) (rfl) (by omega) hN8 ((hA.2.2.2.2.2 u (by omega)).2.2.1) dX4_areCrowded_41 ?_
        refine s_if_le E dX4_areCrowded_42 (tgt := 81) rfl (fun c42 => ?_) (fun c42 => ?_)
        · have c42 := Int32.not_lt.mpr c42
          refine s_iconst E dX4_areCrowded_81 (v := nI 0) (by decide) ?_
          exact Rt (nI 0) (σ) dX4_areCrowded_82 (⟨by simp [bI, crowdB, c2, c17, c33, c42], rfl⟩) rfl (Nat.le_refl _) (Nat.le_refl _) rfl E.2.2.2.2.2.1
        · have c42 := Int32.not_le.mp c42
          refine s_aload_n E dX4_areCrowded_45 (i := 0) (j := 0) rfl rfl ?_
          refine awX4_g0_2 E dX4_areCrowded_46 ?_
          refine s_iload_n E dX4_areCrowded_49 (i := 2) (j := 2) rfl rfl ?_
          refine aw_l3 E (v := s 25 v) (v) (rfl) (by omega) hN8 ((hA.2.2.2.2.2 v (by omega)).2.2.1) dX4_areCrowded_50 ?_
          refine s_if_le E dX4_areCrowded_51 (tgt := 81) rfl (fun c51 => ?_) (fun c51 => ?_)
          · have c51 := Int32.not_lt.mpr c51
            refine s_iconst E dX4_areCrowded_81 (v := nI 0) (by decide) ?_
            exact Rt (nI 0) (σ) dX4_areCrowded_82 (⟨by simp [bI, crowdB, c2, c17, c33, c42, c51], rfl⟩) rfl (Nat.le_refl _) (Nat.le_refl _) rfl E.2.2.2.2.2.1
          · have c51 := Int32.not_le.mp c51
            refine s_aload_n E dX4_areCrowded_54 (i := 0) (j := 0) rfl rfl ?_
            refine awX4_g0_2 E dX4_areCrowded_55 ?_
            refine s_iload_n E dX4_areCrowded_58 (i := 1) (j := 1) rfl rfl ?_
            refine aw_l3 E (v := s 25 u) (u) (rfl) (by omega) hN8 ((hA.2.2.2.2.2 u (by omega)).2.2.1) dX4_areCrowded_59 ?_
            refine s_aload_n E dX4_areCrowded_60 (i := 0) (j := 0) rfl rfl ?_
            refine awX4_g0_2 E dX4_areCrowded_61 ?_
            refine s_iload_n E dX4_areCrowded_64 (i := 2) (j := 2) rfl rfl ?_
            refine aw_l3 E (v := s 25 v) (v) (rfl) (by omega) hN8 ((hA.2.2.2.2.2 v (by omega)).2.2.1) dX4_areCrowded_65 ?_
            refine s_isub E dX4_areCrowded_66 ?_
            refine s_mabs E (v := absI (s 25 u - s 25 v)) (abs_eq _) q911 q912 q121 q913 (Nat.le_of_ble_eq_true rfl) (Nat.le_of_ble_eq_true rfl) (Nat.zero_le _) (Nat.zero_le _) dX4_areCrowded_67 ?_
            refine s_aload_n E dX4_areCrowded_70 (i := 0) (j := 0) rfl rfl ?_
            refine awX4_g0_12 E (v := s 0 32) (hA.2.2.2.1) dX4_areCrowded_71 ?_
            refine s_icmp_ge E dX4_areCrowded_74 (tgt := 81) rfl (fun c74 => ?_) (fun c74 => ?_)
            · have c74 := Int32.not_lt.mpr c74
              refine s_iconst E dX4_areCrowded_81 (v := nI 0) (by decide) ?_
              exact Rt (nI 0) (σ) dX4_areCrowded_82 (⟨by simp [bI, crowdB, c2, c17, c33, c42, c51, c74], rfl⟩) rfl (Nat.le_refl _) (Nat.le_refl _) rfl E.2.2.2.2.2.1
            · have c74 := Int32.not_le.mp c74
              refine s_iconst E dX4_areCrowded_77 (v := nI 1) (by decide) ?_
              refine s_goto E dX4_areCrowded_78 (tgt := 82) rfl ?_
              exact Rt (nI 1) (σ) dX4_areCrowded_82 (⟨by simp [bI, crowdB, c2, c17, c33, c42, c51, c74], rfl⟩) rfl (Nat.le_refl _) (Nat.le_refl _) rfl E.2.2.2.2.2.1
set_option maxHeartbeats 1000000 in
set_option maxRecDepth 100000 in
theorem x4z_sumCg {l : Launch} {D : va_G} {gt : Nat → Nat} {ba ad : Nat → Nat} {ct : Nat → ClassId} {Nw : Nat} {τ σ ξ : Nat → Nat → Int32} (s : Nat → Nat → Int32) (n k u v : Nat) (hA : AIg s σ n) (hnN : n ≤ Nw) (hN8 : Nw ≤ 8) (hk : k < 6) (hu : u < n) (hv : v < n) : Ct l D gt yX4_sum cX4_sum 11 .int 0 0 0 0 [.ref (ba 0), .int (nI k), .ref (ba 3), .int (nI u), .int (nI v), .int ((-1)), .int (nI 1)] (aw ba ct Nw σ ad τ ξ) (tysA ct) (fun r σ2 => pvF s (k, u, v, none) = r ∧ σ = σ2) (fun σ2 : Nat → Nat → Int32 => aw ba ct Nw σ2 ad τ ξ) (fun _ => tysA ct) := by
  refine Ct.start RX4 (by decide) rfl (Nat.le_of_ble_eq_true rfl) rfl ?_
  intro pP eE sS mM aA bB hM cC QQ AA E Rt
  refine s_iconst E dX4_sum_0 (v := nI 0) (by decide) ?_
  refine s_istore E (L2 := [(7, .int (nI 0)), (0, .ref (ba 0)), (1, .int (nI k)), (2, .ref (ba 3)), (3, .int (nI u)), (4, .int (nI v)), (5, .int ((-1))), (6, .int (nI 1))]) dX4_sum_1 (Nat.le_of_ble_eq_true rfl) rfl ?_
  refine s_iconst E dX4_sum_3 (v := nI 0) (by decide) ?_
  refine s_istore E (L2 := [(8, .int (nI 0)), (7, .int (nI 0)), (0, .ref (ba 0)), (1, .int (nI k)), (2, .ref (ba 3)), (3, .int (nI u)), (4, .int (nI v)), (5, .int ((-1))), (6, .int (nI 1))]) dX4_sum_4 (Nat.le_of_ble_eq_true rfl) rfl ?_
  refine s_iload E dX4_sum_6 (i := 8) (j := 0) rfl ?_
  refine s_iconst E dX4_sum_8 (v := nI 3) (by decide) ?_
  refine s_icmp_ge E dX4_sum_9 (tgt := 84) rfl (fun c9 => absurd c9 (by decide)) (fun c9 => ?_)
  refine s_iload E dX4_sum_12 (i := 8) (j := 0) rfl ?_
  refine s_if_ne E dX4_sum_14 (tgt := 21) rfl (fun c14 => absurd c14 (by decide)) (fun c14 => ?_)
  refine s_iload_n E dX4_sum_17 (i := 3) (j := 5) rfl rfl ?_
  refine s_goto E dX4_sum_18 (tgt := 34) rfl ?_
  refine s_istore E (L2 := [(9, .int (nI u)), (8, .int (nI 0)), (7, .int (nI 0)), (0, .ref (ba 0)), (1, .int (nI k)), (2, .ref (ba 3)), (3, .int (nI u)), (4, .int (nI v)), (5, .int ((-1))), (6, .int (nI 1))]) dX4_sum_34 (Nat.le_of_ble_eq_true rfl) rfl ?_
  refine s_getsN E E.2.2.2.2.2.2.1.1.1 q897 dX4_sum_36 ?_
  refine s_iconst E dX4_sum_39 (v := nI 3) (by decide) ?_
  refine s_iload_n E dX4_sum_40 (i := 1) (j := 4) rfl rfl ?_
  refine s_imul_ E dX4_sum_41 (v := nI (3 * k)) (pk_mul _ _) ?_
  refine s_iload E dX4_sum_42 (i := 8) (j := 1) rfl ?_
  refine s_iadd_ E dX4_sum_44 (v := nI (3 * k)) (nI_add _ _) ?_
  refine s_tald E E.2.2.2.2.2.2.1.1.2.1 (3 * k) (rfl) (by omega) (by decide) (v := .int (tA k)) (congrArg Value.int ((times_at k hk).1)) dX4_sum_45 ?_
  refine s_istore E (L2 := [(10, .int (tA k)), (9, .int (nI u)), (8, .int (nI 0)), (7, .int (nI 0)), (0, .ref (ba 0)), (1, .int (nI k)), (2, .ref (ba 3)), (3, .int (nI u)), (4, .int (nI v)), (5, .int ((-1))), (6, .int (nI 1))]) dX4_sum_46 (Nat.le_of_ble_eq_true rfl) rfl ?_
  refine s_iload E dX4_sum_48 (i := 9) (j := 1) rfl ?_
  refine s_if_lt E dX4_sum_50 (tgt := 78) rfl (fun c50 => absurd c50 (nI_pos (by omega))) (fun c50 => ?_)
  have c50 : ¬ u < 0 := fun h => c50 ((nI_ltI (a := u) (b := 0) (by omega) (by omega)).mpr h)
  refine s_iload E dX4_sum_53 (i := 7) (j := 3) rfl ?_
  refine s_iload E dX4_sum_55 (i := 6) (j := 10) rfl ?_
  refine s_if_eq E dX4_sum_57 (tgt := 65) rfl (fun c57 => absurd c57 (by decide)) (fun c57 => ?_)
  refine s_iload E dX4_sum_60 (i := 10) (j := 0) rfl ?_
  refine s_goto E dX4_sum_62 (tgt := 70) rfl ?_
  refine s_aload_n E dX4_sum_70 (i := 2) (j := 6) rfl rfl ?_
  refine s_iload E dX4_sum_71 (i := 9) (j := 1) rfl ?_
  refine aw_l3 E (v := s 25 u) (u) (rfl) (by omega) hN8 ((hA.2.2.2.2.2 u (by omega)).2.2.1) dX4_sum_73 ?_
  refine s_imul E dX4_sum_74 ?_
  refine s_iadd_ E dX4_sum_75 (v := tA k * s 25 u) (by rw [nI_0, Int32.zero_add]) ?_
  refine s_istore E (L2 := [(7, .int (tA k * s 25 u)), (10, .int (tA k)), (9, .int (nI u)), (8, .int (nI 0)), (0, .ref (ba 0)), (1, .int (nI k)), (2, .ref (ba 3)), (3, .int (nI u)), (4, .int (nI v)), (5, .int ((-1))), (6, .int (nI 1))]) dX4_sum_76 (Nat.le_of_ble_eq_true rfl) rfl ?_
  refine s_iinc E (L2 := [(8, .int (nI 1)), (7, .int (tA k * s 25 u)), (10, .int (tA k)), (9, .int (nI u)), (0, .ref (ba 0)), (1, .int (nI k)), (2, .ref (ba 3)), (3, .int (nI u)), (4, .int (nI v)), (5, .int ((-1))), (6, .int (nI 1))]) dX4_sum_78 (k := 3) rfl (v := nI 1) (rfl) (Nat.le_of_ble_eq_true rfl) rfl ?_
  refine s_goto E dX4_sum_81 (tgt := 6) rfl ?_
  refine s_iload E dX4_sum_6 (i := 8) (j := 0) rfl ?_
  refine s_iconst E dX4_sum_8 (v := nI 3) (by decide) ?_
  refine s_icmp_ge E dX4_sum_9 (tgt := 84) rfl (fun c9 => absurd c9 (by decide)) (fun c9 => ?_)
  refine s_iload E dX4_sum_12 (i := 8) (j := 0) rfl ?_
  refine s_if_ne E dX4_sum_14 (tgt := 21) rfl (fun c14 => ?_) (fun c14 => absurd c14 (by decide))
  refine s_iload E dX4_sum_21 (i := 8) (j := 0) rfl ?_
  refine s_iconst E dX4_sum_23 (v := nI 1) (by decide) ?_
  refine s_icmp_ne E dX4_sum_24 (tgt := 32) rfl (fun c24 => absurd c24 (by decide)) (fun c24 => ?_)
  refine s_iload E dX4_sum_27 (i := 4) (j := 8) rfl ?_
  refine s_goto E dX4_sum_29 (tgt := 34) rfl ?_
  refine s_istore E (L2 := [(9, .int (nI v)), (8, .int (nI 1)), (7, .int (tA k * s 25 u)), (10, .int (tA k)), (0, .ref (ba 0)), (1, .int (nI k)), (2, .ref (ba 3)), (3, .int (nI u)), (4, .int (nI v)), (5, .int ((-1))), (6, .int (nI 1))]) dX4_sum_34 (Nat.le_of_ble_eq_true rfl) rfl ?_
  refine s_getsN E E.2.2.2.2.2.2.1.1.1 q897 dX4_sum_36 ?_
  refine s_iconst E dX4_sum_39 (v := nI 3) (by decide) ?_
  refine s_iload_n E dX4_sum_40 (i := 1) (j := 5) rfl rfl ?_
  refine s_imul_ E dX4_sum_41 (v := nI (3 * k)) (pk_mul _ _) ?_
  refine s_iload E dX4_sum_42 (i := 8) (j := 1) rfl ?_
  refine s_iadd_ E dX4_sum_44 (v := nI (3 * k + 1)) (nI_add _ _) ?_
  refine s_tald E E.2.2.2.2.2.2.1.1.2.1 (3 * k + 1) (rfl) (by omega) (by decide) (v := .int (tB k)) (congrArg Value.int ((times_at k hk).2.1)) dX4_sum_45 ?_
  refine s_istore E (L2 := [(10, .int (tB k)), (9, .int (nI v)), (8, .int (nI 1)), (7, .int (tA k * s 25 u)), (0, .ref (ba 0)), (1, .int (nI k)), (2, .ref (ba 3)), (3, .int (nI u)), (4, .int (nI v)), (5, .int ((-1))), (6, .int (nI 1))]) dX4_sum_46 (Nat.le_of_ble_eq_true rfl) rfl ?_
  refine s_iload E dX4_sum_48 (i := 9) (j := 1) rfl ?_
  refine s_if_lt E dX4_sum_50 (tgt := 78) rfl (fun c50 => absurd c50 (nI_pos (by omega))) (fun c50 => ?_)
  have c50 : ¬ v < 0 := fun h => c50 ((nI_ltI (a := v) (b := 0) (by omega) (by omega)).mpr h)
  refine s_iload E dX4_sum_53 (i := 7) (j := 3) rfl ?_
  refine s_iload E dX4_sum_55 (i := 6) (j := 10) rfl ?_
  refine s_if_eq E dX4_sum_57 (tgt := 65) rfl (fun c57 => absurd c57 (by decide)) (fun c57 => ?_)
  refine s_iload E dX4_sum_60 (i := 10) (j := 0) rfl ?_
  refine s_goto E dX4_sum_62 (tgt := 70) rfl ?_
  refine s_aload_n E dX4_sum_70 (i := 2) (j := 6) rfl rfl ?_
  refine s_iload E dX4_sum_71 (i := 9) (j := 1) rfl ?_
  refine aw_l3 E (v := s 25 v) (v) (rfl) (by omega) hN8 ((hA.2.2.2.2.2 v (by omega)).2.2.1) dX4_sum_73 ?_
  refine s_imul E dX4_sum_74 ?_
  refine s_iadd_ E dX4_sum_75 (v := tA k * s 25 u + tB k * s 25 v) (rfl) ?_
  refine s_istore E (L2 := [(7, .int (tA k * s 25 u + tB k * s 25 v)), (10, .int (tB k)), (9, .int (nI v)), (8, .int (nI 1)), (0, .ref (ba 0)), (1, .int (nI k)), (2, .ref (ba 3)), (3, .int (nI u)), (4, .int (nI v)), (5, .int ((-1))), (6, .int (nI 1))]) dX4_sum_76 (Nat.le_of_ble_eq_true rfl) rfl ?_
  refine s_iinc E (L2 := [(8, .int (nI 2)), (7, .int (tA k * s 25 u + tB k * s 25 v)), (10, .int (tB k)), (9, .int (nI v)), (0, .ref (ba 0)), (1, .int (nI k)), (2, .ref (ba 3)), (3, .int (nI u)), (4, .int (nI v)), (5, .int ((-1))), (6, .int (nI 1))]) dX4_sum_78 (k := 3) rfl (v := nI 2) (rfl) (Nat.le_of_ble_eq_true rfl) rfl ?_
  refine s_goto E dX4_sum_81 (tgt := 6) rfl ?_
  refine s_iload E dX4_sum_6 (i := 8) (j := 0) rfl ?_
  refine s_iconst E dX4_sum_8 (v := nI 3) (by decide) ?_
  refine s_icmp_ge E dX4_sum_9 (tgt := 84) rfl (fun c9 => absurd c9 (by decide)) (fun c9 => ?_)
  refine s_iload E dX4_sum_12 (i := 8) (j := 0) rfl ?_
  refine s_if_ne E dX4_sum_14 (tgt := 21) rfl (fun c14 => ?_) (fun c14 => absurd c14 (by decide))
  refine s_iload E dX4_sum_21 (i := 8) (j := 0) rfl ?_
  refine s_iconst E dX4_sum_23 (v := nI 1) (by decide) ?_
  refine s_icmp_ne E dX4_sum_24 (tgt := 32) rfl (fun c24 => ?_) (fun c24 => absurd c24 (by decide))
  refine s_iload E dX4_sum_32 (i := 5) (j := 9) rfl ?_
  refine s_istore E (L2 := [(9, .int ((-1))), (8, .int (nI 2)), (7, .int (tA k * s 25 u + tB k * s 25 v)), (10, .int (tB k)), (0, .ref (ba 0)), (1, .int (nI k)), (2, .ref (ba 3)), (3, .int (nI u)), (4, .int (nI v)), (5, .int ((-1))), (6, .int (nI 1))]) dX4_sum_34 (Nat.le_of_ble_eq_true rfl) rfl ?_
  refine s_getsN E E.2.2.2.2.2.2.1.1.1 q897 dX4_sum_36 ?_
  refine s_iconst E dX4_sum_39 (v := nI 3) (by decide) ?_
  refine s_iload_n E dX4_sum_40 (i := 1) (j := 5) rfl rfl ?_
  refine s_imul_ E dX4_sum_41 (v := nI (3 * k)) (pk_mul _ _) ?_
  refine s_iload E dX4_sum_42 (i := 8) (j := 1) rfl ?_
  refine s_iadd_ E dX4_sum_44 (v := nI (3 * k + 2)) (nI_add _ _) ?_
  refine s_tald E E.2.2.2.2.2.2.1.1.2.1 (3 * k + 2) (rfl) (by omega) (by decide) (v := .int (tC k)) (congrArg Value.int ((times_at k hk).2.2)) dX4_sum_45 ?_
  refine s_istore E (L2 := [(10, .int (tC k)), (9, .int ((-1))), (8, .int (nI 2)), (7, .int (tA k * s 25 u + tB k * s 25 v)), (0, .ref (ba 0)), (1, .int (nI k)), (2, .ref (ba 3)), (3, .int (nI u)), (4, .int (nI v)), (5, .int ((-1))), (6, .int (nI 1))]) dX4_sum_46 (Nat.le_of_ble_eq_true rfl) rfl ?_
  refine s_iload E dX4_sum_48 (i := 9) (j := 1) rfl ?_
  refine s_if_lt E dX4_sum_50 (tgt := 78) rfl (fun c50 => ?_) (fun c50 => absurd (by decide) c50)
  refine s_iinc E (L2 := [(8, .int (nI 3)), (10, .int (tC k)), (9, .int ((-1))), (7, .int (tA k * s 25 u + tB k * s 25 v)), (0, .ref (ba 0)), (1, .int (nI k)), (2, .ref (ba 3)), (3, .int (nI u)), (4, .int (nI v)), (5, .int ((-1))), (6, .int (nI 1))]) dX4_sum_78 (k := 2) rfl (v := nI 3) (rfl) (Nat.le_of_ble_eq_true rfl) rfl ?_
  refine s_goto E dX4_sum_81 (tgt := 6) rfl ?_
  refine s_iload E dX4_sum_6 (i := 8) (j := 0) rfl ?_
  refine s_iconst E dX4_sum_8 (v := nI 3) (by decide) ?_
  refine s_icmp_ge E dX4_sum_9 (tgt := 84) rfl (fun c9 => ?_) (fun c9 => absurd c9 (by decide))
  refine s_iload E dX4_sum_84 (i := 7) (j := 3) rfl ?_
  exact Rt (tA k * s 25 u + tB k * s 25 v) (σ) dX4_sum_86 (⟨rfl, rfl⟩) rfl (Nat.le_refl _) (Nat.le_refl _) rfl E.2.2.2.2.2.1
set_option maxHeartbeats 1000000 in
set_option maxRecDepth 100000 in
theorem x4z_sumC3g {l : Launch} {D : va_G} {gt : Nat → Nat} {ba ad : Nat → Nat} {ct : Nat → ClassId} {Nw : Nat} {τ σ ξ : Nat → Nat → Int32} (s : Nat → Nat → Int32) (n k u v w : Nat) (hA : AIg s σ n) (hnN : n ≤ Nw) (hN8 : Nw ≤ 8) (hk : k < 6) (hu : u < n) (hv : v < n) (hw : w < n) : Ct l D gt yX4_sum cX4_sum 11 .int 0 0 0 0 [.ref (ba 0), .int (nI k), .ref (ba 3), .int (nI u), .int (nI v), .int (nI w), .int (nI 1)] (aw ba ct Nw σ ad τ ξ) (tysA ct) (fun r σ2 => pvF s (k, u, v, some w) = r ∧ σ = σ2) (fun σ2 : Nat → Nat → Int32 => aw ba ct Nw σ2 ad τ ξ) (fun _ => tysA ct) := by
  refine Ct.start RX4 (by decide) rfl (Nat.le_of_ble_eq_true rfl) rfl ?_
  intro pP eE sS mM aA bB hM cC QQ AA E Rt
  refine s_iconst E dX4_sum_0 (v := nI 0) (by decide) ?_
  refine s_istore E (L2 := [(7, .int (nI 0)), (0, .ref (ba 0)), (1, .int (nI k)), (2, .ref (ba 3)), (3, .int (nI u)), (4, .int (nI v)), (5, .int (nI w)), (6, .int (nI 1))]) dX4_sum_1 (Nat.le_of_ble_eq_true rfl) rfl ?_
  refine s_iconst E dX4_sum_3 (v := nI 0) (by decide) ?_
  refine s_istore E (L2 := [(8, .int (nI 0)), (7, .int (nI 0)), (0, .ref (ba 0)), (1, .int (nI k)), (2, .ref (ba 3)), (3, .int (nI u)), (4, .int (nI v)), (5, .int (nI w)), (6, .int (nI 1))]) dX4_sum_4 (Nat.le_of_ble_eq_true rfl) rfl ?_
  refine s_iload E dX4_sum_6 (i := 8) (j := 0) rfl ?_
  refine s_iconst E dX4_sum_8 (v := nI 3) (by decide) ?_
  refine s_icmp_ge E dX4_sum_9 (tgt := 84) rfl (fun c9 => absurd c9 (by decide)) (fun c9 => ?_)
  refine s_iload E dX4_sum_12 (i := 8) (j := 0) rfl ?_
  refine s_if_ne E dX4_sum_14 (tgt := 21) rfl (fun c14 => absurd c14 (by decide)) (fun c14 => ?_)
  refine s_iload_n E dX4_sum_17 (i := 3) (j := 5) rfl rfl ?_
  refine s_goto E dX4_sum_18 (tgt := 34) rfl ?_
  refine s_istore E (L2 := [(9, .int (nI u)), (8, .int (nI 0)), (7, .int (nI 0)), (0, .ref (ba 0)), (1, .int (nI k)), (2, .ref (ba 3)), (3, .int (nI u)), (4, .int (nI v)), (5, .int (nI w)), (6, .int (nI 1))]) dX4_sum_34 (Nat.le_of_ble_eq_true rfl) rfl ?_
  refine s_getsN E E.2.2.2.2.2.2.1.1.1 q897 dX4_sum_36 ?_
  refine s_iconst E dX4_sum_39 (v := nI 3) (by decide) ?_
  refine s_iload_n E dX4_sum_40 (i := 1) (j := 4) rfl rfl ?_
  refine s_imul_ E dX4_sum_41 (v := nI (3 * k)) (pk_mul _ _) ?_
  refine s_iload E dX4_sum_42 (i := 8) (j := 1) rfl ?_
  refine s_iadd_ E dX4_sum_44 (v := nI (3 * k)) (nI_add _ _) ?_
  refine s_tald E E.2.2.2.2.2.2.1.1.2.1 (3 * k) (rfl) (by omega) (by decide) (v := .int (tA k)) (congrArg Value.int ((times_at k hk).1)) dX4_sum_45 ?_
  refine s_istore E (L2 := [(10, .int (tA k)), (9, .int (nI u)), (8, .int (nI 0)), (7, .int (nI 0)), (0, .ref (ba 0)), (1, .int (nI k)), (2, .ref (ba 3)), (3, .int (nI u)), (4, .int (nI v)), (5, .int (nI w)), (6, .int (nI 1))]) dX4_sum_46 (Nat.le_of_ble_eq_true rfl) rfl ?_
  refine s_iload E dX4_sum_48 (i := 9) (j := 1) rfl ?_
  refine s_if_lt E dX4_sum_50 (tgt := 78) rfl (fun c50 => absurd c50 (nI_pos (by omega))) (fun c50 => ?_)
  have c50 : ¬ u < 0 := fun h => c50 ((nI_ltI (a := u) (b := 0) (by omega) (by omega)).mpr h)
  refine s_iload E dX4_sum_53 (i := 7) (j := 3) rfl ?_
  refine s_iload E dX4_sum_55 (i := 6) (j := 10) rfl ?_
  refine s_if_eq E dX4_sum_57 (tgt := 65) rfl (fun c57 => absurd c57 (by decide)) (fun c57 => ?_)
  refine s_iload E dX4_sum_60 (i := 10) (j := 0) rfl ?_
  refine s_goto E dX4_sum_62 (tgt := 70) rfl ?_
  refine s_aload_n E dX4_sum_70 (i := 2) (j := 6) rfl rfl ?_
  refine s_iload E dX4_sum_71 (i := 9) (j := 1) rfl ?_
  refine aw_l3 E (v := s 25 u) (u) (rfl) (by omega) hN8 ((hA.2.2.2.2.2 u (by omega)).2.2.1) dX4_sum_73 ?_
  refine s_imul E dX4_sum_74 ?_
  refine s_iadd_ E dX4_sum_75 (v := tA k * s 25 u) (by rw [nI_0, Int32.zero_add]) ?_
  refine s_istore E (L2 := [(7, .int (tA k * s 25 u)), (10, .int (tA k)), (9, .int (nI u)), (8, .int (nI 0)), (0, .ref (ba 0)), (1, .int (nI k)), (2, .ref (ba 3)), (3, .int (nI u)), (4, .int (nI v)), (5, .int (nI w)), (6, .int (nI 1))]) dX4_sum_76 (Nat.le_of_ble_eq_true rfl) rfl ?_
  refine s_iinc E (L2 := [(8, .int (nI 1)), (7, .int (tA k * s 25 u)), (10, .int (tA k)), (9, .int (nI u)), (0, .ref (ba 0)), (1, .int (nI k)), (2, .ref (ba 3)), (3, .int (nI u)), (4, .int (nI v)), (5, .int (nI w)), (6, .int (nI 1))]) dX4_sum_78 (k := 3) rfl (v := nI 1) (rfl) (Nat.le_of_ble_eq_true rfl) rfl ?_
  refine s_goto E dX4_sum_81 (tgt := 6) rfl ?_
  refine s_iload E dX4_sum_6 (i := 8) (j := 0) rfl ?_
  refine s_iconst E dX4_sum_8 (v := nI 3) (by decide) ?_
  refine s_icmp_ge E dX4_sum_9 (tgt := 84) rfl (fun c9 => absurd c9 (by decide)) (fun c9 => ?_)
  refine s_iload E dX4_sum_12 (i := 8) (j := 0) rfl ?_
  refine s_if_ne E dX4_sum_14 (tgt := 21) rfl (fun c14 => ?_) (fun c14 => absurd c14 (by decide))
  refine s_iload E dX4_sum_21 (i := 8) (j := 0) rfl ?_
  refine s_iconst E dX4_sum_23 (v := nI 1) (by decide) ?_
  refine s_icmp_ne E dX4_sum_24 (tgt := 32) rfl (fun c24 => absurd c24 (by decide)) (fun c24 => ?_)
  refine s_iload E dX4_sum_27 (i := 4) (j := 8) rfl ?_
  refine s_goto E dX4_sum_29 (tgt := 34) rfl ?_
  refine s_istore E (L2 := [(9, .int (nI v)), (8, .int (nI 1)), (7, .int (tA k * s 25 u)), (10, .int (tA k)), (0, .ref (ba 0)), (1, .int (nI k)), (2, .ref (ba 3)), (3, .int (nI u)), (4, .int (nI v)), (5, .int (nI w)), (6, .int (nI 1))]) dX4_sum_34 (Nat.le_of_ble_eq_true rfl) rfl ?_
  refine s_getsN E E.2.2.2.2.2.2.1.1.1 q897 dX4_sum_36 ?_
  refine s_iconst E dX4_sum_39 (v := nI 3) (by decide) ?_
  refine s_iload_n E dX4_sum_40 (i := 1) (j := 5) rfl rfl ?_
  refine s_imul_ E dX4_sum_41 (v := nI (3 * k)) (pk_mul _ _) ?_
  refine s_iload E dX4_sum_42 (i := 8) (j := 1) rfl ?_
  refine s_iadd_ E dX4_sum_44 (v := nI (3 * k + 1)) (nI_add _ _) ?_
  refine s_tald E E.2.2.2.2.2.2.1.1.2.1 (3 * k + 1) (rfl) (by omega) (by decide) (v := .int (tB k)) (congrArg Value.int ((times_at k hk).2.1)) dX4_sum_45 ?_
  refine s_istore E (L2 := [(10, .int (tB k)), (9, .int (nI v)), (8, .int (nI 1)), (7, .int (tA k * s 25 u)), (0, .ref (ba 0)), (1, .int (nI k)), (2, .ref (ba 3)), (3, .int (nI u)), (4, .int (nI v)), (5, .int (nI w)), (6, .int (nI 1))]) dX4_sum_46 (Nat.le_of_ble_eq_true rfl) rfl ?_
  refine s_iload E dX4_sum_48 (i := 9) (j := 1) rfl ?_
  refine s_if_lt E dX4_sum_50 (tgt := 78) rfl (fun c50 => absurd c50 (nI_pos (by omega))) (fun c50 => ?_)
  have c50 : ¬ v < 0 := fun h => c50 ((nI_ltI (a := v) (b := 0) (by omega) (by omega)).mpr h)
  refine s_iload E dX4_sum_53 (i := 7) (j := 3) rfl ?_
  refine s_iload E dX4_sum_55 (i := 6) (j := 10) rfl ?_
  refine s_if_eq E dX4_sum_57 (tgt := 65) rfl (fun c57 => absurd c57 (by decide)) (fun c57 => ?_)
  refine s_iload E dX4_sum_60 (i := 10) (j := 0) rfl ?_
  refine s_goto E dX4_sum_62 (tgt := 70) rfl ?_
  refine s_aload_n E dX4_sum_70 (i := 2) (j := 6) rfl rfl ?_
  refine s_iload E dX4_sum_71 (i := 9) (j := 1) rfl ?_
  refine aw_l3 E (v := s 25 v) (v) (rfl) (by omega) hN8 ((hA.2.2.2.2.2 v (by omega)).2.2.1) dX4_sum_73 ?_
  refine s_imul E dX4_sum_74 ?_
  refine s_iadd_ E dX4_sum_75 (v := tA k * s 25 u + tB k * s 25 v) (rfl) ?_
  refine s_istore E (L2 := [(7, .int (tA k * s 25 u + tB k * s 25 v)), (10, .int (tB k)), (9, .int (nI v)), (8, .int (nI 1)), (0, .ref (ba 0)), (1, .int (nI k)), (2, .ref (ba 3)), (3, .int (nI u)), (4, .int (nI v)), (5, .int (nI w)), (6, .int (nI 1))]) dX4_sum_76 (Nat.le_of_ble_eq_true rfl) rfl ?_
  refine s_iinc E (L2 := [(8, .int (nI 2)), (7, .int (tA k * s 25 u + tB k * s 25 v)), (10, .int (tB k)), (9, .int (nI v)), (0, .ref (ba 0)), (1, .int (nI k)), (2, .ref (ba 3)), (3, .int (nI u)), (4, .int (nI v)), (5, .int (nI w)), (6, .int (nI 1))]) dX4_sum_78 (k := 3) rfl (v := nI 2) (rfl) (Nat.le_of_ble_eq_true rfl) rfl ?_
  refine s_goto E dX4_sum_81 (tgt := 6) rfl ?_
  refine s_iload E dX4_sum_6 (i := 8) (j := 0) rfl ?_
  refine s_iconst E dX4_sum_8 (v := nI 3) (by decide) ?_
  refine s_icmp_ge E dX4_sum_9 (tgt := 84) rfl (fun c9 => absurd c9 (by decide)) (fun c9 => ?_)
  refine s_iload E dX4_sum_12 (i := 8) (j := 0) rfl ?_
  refine s_if_ne E dX4_sum_14 (tgt := 21) rfl (fun c14 => ?_) (fun c14 => absurd c14 (by decide))
  refine s_iload E dX4_sum_21 (i := 8) (j := 0) rfl ?_
  refine s_iconst E dX4_sum_23 (v := nI 1) (by decide) ?_
  refine s_icmp_ne E dX4_sum_24 (tgt := 32) rfl (fun c24 => ?_) (fun c24 => absurd c24 (by decide))
  refine s_iload E dX4_sum_32 (i := 5) (j := 9) rfl ?_
  refine s_istore E (L2 := [(9, .int (nI w)), (8, .int (nI 2)), (7, .int (tA k * s 25 u + tB k * s 25 v)), (10, .int (tB k)), (0, .ref (ba 0)), (1, .int (nI k)), (2, .ref (ba 3)), (3, .int (nI u)), (4, .int (nI v)), (5, .int (nI w)), (6, .int (nI 1))]) dX4_sum_34 (Nat.le_of_ble_eq_true rfl) rfl ?_
  refine s_getsN E E.2.2.2.2.2.2.1.1.1 q897 dX4_sum_36 ?_
  refine s_iconst E dX4_sum_39 (v := nI 3) (by decide) ?_
  refine s_iload_n E dX4_sum_40 (i := 1) (j := 5) rfl rfl ?_
  refine s_imul_ E dX4_sum_41 (v := nI (3 * k)) (pk_mul _ _) ?_
  refine s_iload E dX4_sum_42 (i := 8) (j := 1) rfl ?_
  refine s_iadd_ E dX4_sum_44 (v := nI (3 * k + 2)) (nI_add _ _) ?_
  refine s_tald E E.2.2.2.2.2.2.1.1.2.1 (3 * k + 2) (rfl) (by omega) (by decide) (v := .int (tC k)) (congrArg Value.int ((times_at k hk).2.2)) dX4_sum_45 ?_
  refine s_istore E (L2 := [(10, .int (tC k)), (9, .int (nI w)), (8, .int (nI 2)), (7, .int (tA k * s 25 u + tB k * s 25 v)), (0, .ref (ba 0)), (1, .int (nI k)), (2, .ref (ba 3)), (3, .int (nI u)), (4, .int (nI v)), (5, .int (nI w)), (6, .int (nI 1))]) dX4_sum_46 (Nat.le_of_ble_eq_true rfl) rfl ?_
  refine s_iload E dX4_sum_48 (i := 9) (j := 1) rfl ?_
  refine s_if_lt E dX4_sum_50 (tgt := 78) rfl (fun c50 => absurd c50 (nI_pos (by omega))) (fun c50 => ?_)
  have c50 : ¬ w < 0 := fun h => c50 ((nI_ltI (a := w) (b := 0) (by omega) (by omega)).mpr h)
  refine s_iload E dX4_sum_53 (i := 7) (j := 3) rfl ?_
  refine s_iload E dX4_sum_55 (i := 6) (j := 10) rfl ?_
  refine s_if_eq E dX4_sum_57 (tgt := 65) rfl (fun c57 => absurd c57 (by decide)) (fun c57 => ?_)
  refine s_iload E dX4_sum_60 (i := 10) (j := 0) rfl ?_
  refine s_goto E dX4_sum_62 (tgt := 70) rfl ?_
  refine s_aload_n E dX4_sum_70 (i := 2) (j := 6) rfl rfl ?_
  refine s_iload E dX4_sum_71 (i := 9) (j := 1) rfl ?_
  refine aw_l3 E (v := s 25 w) (w) (rfl) (by omega) hN8 ((hA.2.2.2.2.2 w (by omega)).2.2.1) dX4_sum_73 ?_
  refine s_imul E dX4_sum_74 ?_
  refine s_iadd_ E dX4_sum_75 (v := tA k * s 25 u + tB k * s 25 v + tC k * s 25 w) (rfl) ?_
  refine s_istore E (L2 := [(7, .int (tA k * s 25 u + tB k * s 25 v + tC k * s 25 w)), (10, .int (tC k)), (9, .int (nI w)), (8, .int (nI 2)), (0, .ref (ba 0)), (1, .int (nI k)), (2, .ref (ba 3)), (3, .int (nI u)), (4, .int (nI v)), (5, .int (nI w)), (6, .int (nI 1))]) dX4_sum_76 (Nat.le_of_ble_eq_true rfl) rfl ?_
  refine s_iinc E (L2 := [(8, .int (nI 3)), (7, .int (tA k * s 25 u + tB k * s 25 v + tC k * s 25 w)), (10, .int (tC k)), (9, .int (nI w)), (0, .ref (ba 0)), (1, .int (nI k)), (2, .ref (ba 3)), (3, .int (nI u)), (4, .int (nI v)), (5, .int (nI w)), (6, .int (nI 1))]) dX4_sum_78 (k := 3) rfl (v := nI 3) (rfl) (Nat.le_of_ble_eq_true rfl) rfl ?_
  refine s_goto E dX4_sum_81 (tgt := 6) rfl ?_
  refine s_iload E dX4_sum_6 (i := 8) (j := 0) rfl ?_
  refine s_iconst E dX4_sum_8 (v := nI 3) (by decide) ?_
  refine s_icmp_ge E dX4_sum_9 (tgt := 84) rfl (fun c9 => ?_) (fun c9 => absurd c9 (by decide))
  refine s_iload E dX4_sum_84 (i := 7) (j := 1) rfl ?_
  exact Rt (tA k * s 25 u + tB k * s 25 v + tC k * s 25 w) (σ) dX4_sum_86 (⟨rfl, rfl⟩) rfl (Nat.le_refl _) (Nat.le_refl _) rfl E.2.2.2.2.2.1
set_option maxHeartbeats 1000000 in
set_option maxRecDepth 100000 in
theorem x4z_sumPg {l : Launch} {D : va_G} {gt : Nat → Nat} {ba ad : Nat → Nat} {ct : Nat → ClassId} {Nw : Nat} {τ σ ξ : Nat → Nat → Int32} (s : Nat → Nat → Int32) (n k u v : Nat) (hA : AIg s σ n) (hnN : n ≤ Nw) (hN8 : Nw ≤ 8) (hk : k < 6) (hu : u < n) (hv : v < n) : Ct l D gt yX4_sum cX4_sum 11 .int 1 21 0 0 [.ref (ba 0), .int (nI k), .ref (ba 2), .int (nI u), .int (nI v), .int ((-1)), .int (nI 0)] (aw ba ct Nw σ ad τ ξ) (tysA ct) (fun r σ2 => puFg s (k, u, v, none) = r ∧ σ = σ2) (fun σ2 : Nat → Nat → Int32 => aw ba ct Nw σ2 ad τ ξ) (fun _ => tysA ct) := by
  refine Ct.start RX4 (by decide) rfl (Nat.le_of_ble_eq_true rfl) rfl ?_
  intro pP eE sS mM aA bB hM cC QQ AA E Rt
  refine s_iconst E dX4_sum_0 (v := nI 0) (by decide) ?_
  refine s_istore E (L2 := [(7, .int (nI 0)), (0, .ref (ba 0)), (1, .int (nI k)), (2, .ref (ba 2)), (3, .int (nI u)), (4, .int (nI v)), (5, .int ((-1))), (6, .int (nI 0))]) dX4_sum_1 (Nat.le_of_ble_eq_true rfl) rfl ?_
  refine s_iconst E dX4_sum_3 (v := nI 0) (by decide) ?_
  refine s_istore E (L2 := [(8, .int (nI 0)), (7, .int (nI 0)), (0, .ref (ba 0)), (1, .int (nI k)), (2, .ref (ba 2)), (3, .int (nI u)), (4, .int (nI v)), (5, .int ((-1))), (6, .int (nI 0))]) dX4_sum_4 (Nat.le_of_ble_eq_true rfl) rfl ?_
  refine s_iload E dX4_sum_6 (i := 8) (j := 0) rfl ?_
  refine s_iconst E dX4_sum_8 (v := nI 3) (by decide) ?_
  refine s_icmp_ge E dX4_sum_9 (tgt := 84) rfl (fun c9 => absurd c9 (by decide)) (fun c9 => ?_)
  refine s_iload E dX4_sum_12 (i := 8) (j := 0) rfl ?_
  refine s_if_ne E dX4_sum_14 (tgt := 21) rfl (fun c14 => absurd c14 (by decide)) (fun c14 => ?_)
  refine s_iload_n E dX4_sum_17 (i := 3) (j := 5) rfl rfl ?_
  refine s_goto E dX4_sum_18 (tgt := 34) rfl ?_
  refine s_istore E (L2 := [(9, .int (nI u)), (8, .int (nI 0)), (7, .int (nI 0)), (0, .ref (ba 0)), (1, .int (nI k)), (2, .ref (ba 2)), (3, .int (nI u)), (4, .int (nI v)), (5, .int ((-1))), (6, .int (nI 0))]) dX4_sum_34 (Nat.le_of_ble_eq_true rfl) rfl ?_
  refine s_getsN E E.2.2.2.2.2.2.1.1.1 q897 dX4_sum_36 ?_
  refine s_iconst E dX4_sum_39 (v := nI 3) (by decide) ?_
  refine s_iload_n E dX4_sum_40 (i := 1) (j := 4) rfl rfl ?_
  refine s_imul_ E dX4_sum_41 (v := nI (3 * k)) (pk_mul _ _) ?_
  refine s_iload E dX4_sum_42 (i := 8) (j := 1) rfl ?_
  refine s_iadd_ E dX4_sum_44 (v := nI (3 * k)) (nI_add _ _) ?_
  refine s_tald E E.2.2.2.2.2.2.1.1.2.1 (3 * k) (rfl) (by omega) (by decide) (v := .int (tA k)) (congrArg Value.int ((times_at k hk).1)) dX4_sum_45 ?_
  refine s_istore E (L2 := [(10, .int (tA k)), (9, .int (nI u)), (8, .int (nI 0)), (7, .int (nI 0)), (0, .ref (ba 0)), (1, .int (nI k)), (2, .ref (ba 2)), (3, .int (nI u)), (4, .int (nI v)), (5, .int ((-1))), (6, .int (nI 0))]) dX4_sum_46 (Nat.le_of_ble_eq_true rfl) rfl ?_
  refine s_iload E dX4_sum_48 (i := 9) (j := 1) rfl ?_
  refine s_if_lt E dX4_sum_50 (tgt := 78) rfl (fun c50 => absurd c50 (nI_pos (by omega))) (fun c50 => ?_)
  have c50 : ¬ u < 0 := fun h => c50 ((nI_ltI (a := u) (b := 0) (by omega) (by omega)).mpr h)
  refine s_iload E dX4_sum_53 (i := 7) (j := 3) rfl ?_
  refine s_iload E dX4_sum_55 (i := 6) (j := 10) rfl ?_
  refine s_if_eq E dX4_sum_57 (tgt := 65) rfl (fun c57 => ?_) (fun c57 => absurd c57 (by decide))
  refine s_iload E dX4_sum_65 (i := 10) (j := 0) rfl ?_
  refine s_mabs E (v := tA k) (by rw [abs_eq, absI_tA]) q911 q912 q121 q913 (Nat.le_of_ble_eq_true rfl) (Nat.le_of_ble_eq_true rfl) (Nat.zero_le _) (Nat.zero_le _) dX4_sum_67 ?_
  refine s_aload_n E dX4_sum_70 (i := 2) (j := 6) rfl rfl ?_
  refine s_iload E dX4_sum_71 (i := 9) (j := 1) rfl ?_
  refine aw_l2 E (v := s 46 u) (u) (rfl) (by omega) hN8 ((hA.2.2.2.2.2 u (by omega)).2.1) dX4_sum_73 ?_
  refine s_imul E dX4_sum_74 ?_
  refine s_iadd_ E dX4_sum_75 (v := tA k * s 46 u) (by rw [nI_0, Int32.zero_add]) ?_
  refine s_istore E (L2 := [(7, .int (tA k * s 46 u)), (10, .int (tA k)), (9, .int (nI u)), (8, .int (nI 0)), (0, .ref (ba 0)), (1, .int (nI k)), (2, .ref (ba 2)), (3, .int (nI u)), (4, .int (nI v)), (5, .int ((-1))), (6, .int (nI 0))]) dX4_sum_76 (Nat.le_of_ble_eq_true rfl) rfl ?_
  refine s_iinc E (L2 := [(8, .int (nI 1)), (7, .int (tA k * s 46 u)), (10, .int (tA k)), (9, .int (nI u)), (0, .ref (ba 0)), (1, .int (nI k)), (2, .ref (ba 2)), (3, .int (nI u)), (4, .int (nI v)), (5, .int ((-1))), (6, .int (nI 0))]) dX4_sum_78 (k := 3) rfl (v := nI 1) (rfl) (Nat.le_of_ble_eq_true rfl) rfl ?_
  refine s_goto E dX4_sum_81 (tgt := 6) rfl ?_
  refine s_iload E dX4_sum_6 (i := 8) (j := 0) rfl ?_
  refine s_iconst E dX4_sum_8 (v := nI 3) (by decide) ?_
  refine s_icmp_ge E dX4_sum_9 (tgt := 84) rfl (fun c9 => absurd c9 (by decide)) (fun c9 => ?_)
  refine s_iload E dX4_sum_12 (i := 8) (j := 0) rfl ?_
  refine s_if_ne E dX4_sum_14 (tgt := 21) rfl (fun c14 => ?_) (fun c14 => absurd c14 (by decide))
  refine s_iload E dX4_sum_21 (i := 8) (j := 0) rfl ?_
  refine s_iconst E dX4_sum_23 (v := nI 1) (by decide) ?_
  refine s_icmp_ne E dX4_sum_24 (tgt := 32) rfl (fun c24 => absurd c24 (by decide)) (fun c24 => ?_)
  refine s_iload E dX4_sum_27 (i := 4) (j := 8) rfl ?_
  refine s_goto E dX4_sum_29 (tgt := 34) rfl ?_
  refine s_istore E (L2 := [(9, .int (nI v)), (8, .int (nI 1)), (7, .int (tA k * s 46 u)), (10, .int (tA k)), (0, .ref (ba 0)), (1, .int (nI k)), (2, .ref (ba 2)), (3, .int (nI u)), (4, .int (nI v)), (5, .int ((-1))), (6, .int (nI 0))]) dX4_sum_34 (Nat.le_of_ble_eq_true rfl) rfl ?_
  refine s_getsN E E.2.2.2.2.2.2.1.1.1 q897 dX4_sum_36 ?_
  refine s_iconst E dX4_sum_39 (v := nI 3) (by decide) ?_
  refine s_iload_n E dX4_sum_40 (i := 1) (j := 5) rfl rfl ?_
  refine s_imul_ E dX4_sum_41 (v := nI (3 * k)) (pk_mul _ _) ?_
  refine s_iload E dX4_sum_42 (i := 8) (j := 1) rfl ?_
  refine s_iadd_ E dX4_sum_44 (v := nI (3 * k + 1)) (nI_add _ _) ?_
  refine s_tald E E.2.2.2.2.2.2.1.1.2.1 (3 * k + 1) (rfl) (by omega) (by decide) (v := .int (tB k)) (congrArg Value.int ((times_at k hk).2.1)) dX4_sum_45 ?_
  refine s_istore E (L2 := [(10, .int (tB k)), (9, .int (nI v)), (8, .int (nI 1)), (7, .int (tA k * s 46 u)), (0, .ref (ba 0)), (1, .int (nI k)), (2, .ref (ba 2)), (3, .int (nI u)), (4, .int (nI v)), (5, .int ((-1))), (6, .int (nI 0))]) dX4_sum_46 (Nat.le_of_ble_eq_true rfl) rfl ?_
  refine s_iload E dX4_sum_48 (i := 9) (j := 1) rfl ?_
  refine s_if_lt E dX4_sum_50 (tgt := 78) rfl (fun c50 => absurd c50 (nI_pos (by omega))) (fun c50 => ?_)
  have c50 : ¬ v < 0 := fun h => c50 ((nI_ltI (a := v) (b := 0) (by omega) (by omega)).mpr h)
  refine s_iload E dX4_sum_53 (i := 7) (j := 3) rfl ?_
  refine s_iload E dX4_sum_55 (i := 6) (j := 10) rfl ?_
  refine s_if_eq E dX4_sum_57 (tgt := 65) rfl (fun c57 => ?_) (fun c57 => absurd c57 (by decide))
  refine s_iload E dX4_sum_65 (i := 10) (j := 0) rfl ?_
  refine s_mabs E (v := absI (tB k)) (abs_eq _) q911 q912 q121 q913 (Nat.le_of_ble_eq_true rfl) (Nat.le_of_ble_eq_true rfl) (Nat.zero_le _) (Nat.zero_le _) dX4_sum_67 ?_
  refine s_aload_n E dX4_sum_70 (i := 2) (j := 6) rfl rfl ?_
  refine s_iload E dX4_sum_71 (i := 9) (j := 1) rfl ?_
  refine aw_l2 E (v := s 46 v) (v) (rfl) (by omega) hN8 ((hA.2.2.2.2.2 v (by omega)).2.1) dX4_sum_73 ?_
  refine s_imul E dX4_sum_74 ?_
  refine s_iadd_ E dX4_sum_75 (v := tA k * s 46 u + absI (tB k) * s 46 v) (rfl) ?_
  refine s_istore E (L2 := [(7, .int (tA k * s 46 u + absI (tB k) * s 46 v)), (10, .int (tB k)), (9, .int (nI v)), (8, .int (nI 1)), (0, .ref (ba 0)), (1, .int (nI k)), (2, .ref (ba 2)), (3, .int (nI u)), (4, .int (nI v)), (5, .int ((-1))), (6, .int (nI 0))]) dX4_sum_76 (Nat.le_of_ble_eq_true rfl) rfl ?_
  refine s_iinc E (L2 := [(8, .int (nI 2)), (7, .int (tA k * s 46 u + absI (tB k) * s 46 v)), (10, .int (tB k)), (9, .int (nI v)), (0, .ref (ba 0)), (1, .int (nI k)), (2, .ref (ba 2)), (3, .int (nI u)), (4, .int (nI v)), (5, .int ((-1))), (6, .int (nI 0))]) dX4_sum_78 (k := 3) rfl (v := nI 2) (rfl) (Nat.le_of_ble_eq_true rfl) rfl ?_
  refine s_goto E dX4_sum_81 (tgt := 6) rfl ?_
  refine s_iload E dX4_sum_6 (i := 8) (j := 0) rfl ?_
  refine s_iconst E dX4_sum_8 (v := nI 3) (by decide) ?_
  refine s_icmp_ge E dX4_sum_9 (tgt := 84) rfl (fun c9 => absurd c9 (by decide)) (fun c9 => ?_)
  refine s_iload E dX4_sum_12 (i := 8) (j := 0) rfl ?_
  refine s_if_ne E dX4_sum_14 (tgt := 21) rfl (fun c14 => ?_) (fun c14 => absurd c14 (by decide))
  refine s_iload E dX4_sum_21 (i := 8) (j := 0) rfl ?_
  refine s_iconst E dX4_sum_23 (v := nI 1) (by decide) ?_
  refine s_icmp_ne E dX4_sum_24 (tgt := 32) rfl (fun c24 => ?_) (fun c24 => absurd c24 (by decide))
  refine s_iload E dX4_sum_32 (i := 5) (j := 9) rfl ?_
  refine s_istore E (L2 := [(9, .int ((-1))), (8, .int (nI 2)), (7, .int (tA k * s 46 u + absI (tB k) * s 46 v)), (10, .int (tB k)), (0, .ref (ba 0)), (1, .int (nI k)), (2, .ref (ba 2)), (3, .int (nI u)), (4, .int (nI v)), (5, .int ((-1))), (6, .int (nI 0))]) dX4_sum_34 (Nat.le_of_ble_eq_true rfl) rfl ?_
  refine s_getsN E E.2.2.2.2.2.2.1.1.1 q897 dX4_sum_36 ?_
  refine s_iconst E dX4_sum_39 (v := nI 3) (by decide) ?_
  refine s_iload_n E dX4_sum_40 (i := 1) (j := 5) rfl rfl ?_
  refine s_imul_ E dX4_sum_41 (v := nI (3 * k)) (pk_mul _ _) ?_
  refine s_iload E dX4_sum_42 (i := 8) (j := 1) rfl ?_
  refine s_iadd_ E dX4_sum_44 (v := nI (3 * k + 2)) (nI_add _ _) ?_
  refine s_tald E E.2.2.2.2.2.2.1.1.2.1 (3 * k + 2) (rfl) (by omega) (by decide) (v := .int (tC k)) (congrArg Value.int ((times_at k hk).2.2)) dX4_sum_45 ?_
  refine s_istore E (L2 := [(10, .int (tC k)), (9, .int ((-1))), (8, .int (nI 2)), (7, .int (tA k * s 46 u + absI (tB k) * s 46 v)), (0, .ref (ba 0)), (1, .int (nI k)), (2, .ref (ba 2)), (3, .int (nI u)), (4, .int (nI v)), (5, .int ((-1))), (6, .int (nI 0))]) dX4_sum_46 (Nat.le_of_ble_eq_true rfl) rfl ?_
  refine s_iload E dX4_sum_48 (i := 9) (j := 1) rfl ?_
  refine s_if_lt E dX4_sum_50 (tgt := 78) rfl (fun c50 => ?_) (fun c50 => absurd (by decide) c50)
  refine s_iinc E (L2 := [(8, .int (nI 3)), (10, .int (tC k)), (9, .int ((-1))), (7, .int (tA k * s 46 u + absI (tB k) * s 46 v)), (0, .ref (ba 0)), (1, .int (nI k)), (2, .ref (ba 2)), (3, .int (nI u)), (4, .int (nI v)), (5, .int ((-1))), (6, .int (nI 0))]) dX4_sum_78 (k := 2) rfl (v := nI 3) (rfl) (Nat.le_of_ble_eq_true rfl) rfl ?_
  refine s_goto E dX4_sum_81 (tgt := 6) rfl ?_
  refine s_iload E dX4_sum_6 (i := 8) (j := 0) rfl ?_
  refine s_iconst E dX4_sum_8 (v := nI 3) (by decide) ?_
  refine s_icmp_ge E dX4_sum_9 (tgt := 84) rfl (fun c9 => ?_) (fun c9 => absurd c9 (by decide))
  refine s_iload E dX4_sum_84 (i := 7) (j := 3) rfl ?_
  exact Rt (tA k * s 46 u + absI (tB k) * s 46 v) (σ) dX4_sum_86 (⟨rfl, rfl⟩) rfl (Nat.le_refl _) (Nat.le_refl _) rfl E.2.2.2.2.2.1
set_option maxHeartbeats 1000000 in
set_option maxRecDepth 100000 in
theorem x4z_sumP3g {l : Launch} {D : va_G} {gt : Nat → Nat} {ba ad : Nat → Nat} {ct : Nat → ClassId} {Nw : Nat} {τ σ ξ : Nat → Nat → Int32} (s : Nat → Nat → Int32) (n k u v w : Nat) (hA : AIg s σ n) (hnN : n ≤ Nw) (hN8 : Nw ≤ 8) (hk : k < 6) (hu : u < n) (hv : v < n) (hw : w < n) : Ct l D gt yX4_sum cX4_sum 11 .int 1 21 0 0 [.ref (ba 0), .int (nI k), .ref (ba 2), .int (nI u), .int (nI v), .int (nI w), .int (nI 0)] (aw ba ct Nw σ ad τ ξ) (tysA ct) (fun r σ2 => puFg s (k, u, v, some w) = r ∧ σ = σ2) (fun σ2 : Nat → Nat → Int32 => aw ba ct Nw σ2 ad τ ξ) (fun _ => tysA ct) := by
  refine Ct.start RX4 (by decide) rfl (Nat.le_of_ble_eq_true rfl) rfl ?_
  intro pP eE sS mM aA bB hM cC QQ AA E Rt
  refine s_iconst E dX4_sum_0 (v := nI 0) (by decide) ?_
  refine s_istore E (L2 := [(7, .int (nI 0)), (0, .ref (ba 0)), (1, .int (nI k)), (2, .ref (ba 2)), (3, .int (nI u)), (4, .int (nI v)), (5, .int (nI w)), (6, .int (nI 0))]) dX4_sum_1 (Nat.le_of_ble_eq_true rfl) rfl ?_
  refine s_iconst E dX4_sum_3 (v := nI 0) (by decide) ?_
  refine s_istore E (L2 := [(8, .int (nI 0)), (7, .int (nI 0)), (0, .ref (ba 0)), (1, .int (nI k)), (2, .ref (ba 2)), (3, .int (nI u)), (4, .int (nI v)), (5, .int (nI w)), (6, .int (nI 0))]) dX4_sum_4 (Nat.le_of_ble_eq_true rfl) rfl ?_
  refine s_iload E dX4_sum_6 (i := 8) (j := 0) rfl ?_
  refine s_iconst E dX4_sum_8 (v := nI 3) (by decide) ?_
  refine s_icmp_ge E dX4_sum_9 (tgt := 84) rfl (fun c9 => absurd c9 (by decide)) (fun c9 => ?_)
  refine s_iload E dX4_sum_12 (i := 8) (j := 0) rfl ?_
  refine s_if_ne E dX4_sum_14 (tgt := 21) rfl (fun c14 => absurd c14 (by decide)) (fun c14 => ?_)
  refine s_iload_n E dX4_sum_17 (i := 3) (j := 5) rfl rfl ?_
  refine s_goto E dX4_sum_18 (tgt := 34) rfl ?_
  refine s_istore E (L2 := [(9, .int (nI u)), (8, .int (nI 0)), (7, .int (nI 0)), (0, .ref (ba 0)), (1, .int (nI k)), (2, .ref (ba 2)), (3, .int (nI u)), (4, .int (nI v)), (5, .int (nI w)), (6, .int (nI 0))]) dX4_sum_34 (Nat.le_of_ble_eq_true rfl) rfl ?_
  refine s_getsN E E.2.2.2.2.2.2.1.1.1 q897 dX4_sum_36 ?_
  refine s_iconst E dX4_sum_39 (v := nI 3) (by decide) ?_
  refine s_iload_n E dX4_sum_40 (i := 1) (j := 4) rfl rfl ?_
  refine s_imul_ E dX4_sum_41 (v := nI (3 * k)) (pk_mul _ _) ?_
  refine s_iload E dX4_sum_42 (i := 8) (j := 1) rfl ?_
  refine s_iadd_ E dX4_sum_44 (v := nI (3 * k)) (nI_add _ _) ?_
  refine s_tald E E.2.2.2.2.2.2.1.1.2.1 (3 * k) (rfl) (by omega) (by decide) (v := .int (tA k)) (congrArg Value.int ((times_at k hk).1)) dX4_sum_45 ?_
  refine s_istore E (L2 := [(10, .int (tA k)), (9, .int (nI u)), (8, .int (nI 0)), (7, .int (nI 0)), (0, .ref (ba 0)), (1, .int (nI k)), (2, .ref (ba 2)), (3, .int (nI u)), (4, .int (nI v)), (5, .int (nI w)), (6, .int (nI 0))]) dX4_sum_46 (Nat.le_of_ble_eq_true rfl) rfl ?_
  refine s_iload E dX4_sum_48 (i := 9) (j := 1) rfl ?_
  refine s_if_lt E dX4_sum_50 (tgt := 78) rfl (fun c50 => absurd c50 (nI_pos (by omega))) (fun c50 => ?_)
  have c50 : ¬ u < 0 := fun h => c50 ((nI_ltI (a := u) (b := 0) (by omega) (by omega)).mpr h)
  refine s_iload E dX4_sum_53 (i := 7) (j := 3) rfl ?_
  refine s_iload E dX4_sum_55 (i := 6) (j := 10) rfl ?_
  refine s_if_eq E dX4_sum_57 (tgt := 65) rfl (fun c57 => ?_) (fun c57 => absurd c57 (by decide))
  refine s_iload E dX4_sum_65 (i := 10) (j := 0) rfl ?_
  refine s_mabs E (v := tA k) (by rw [abs_eq, absI_tA]) q911 q912 q121 q913 (Nat.le_of_ble_eq_true rfl) (Nat.le_of_ble_eq_true rfl) (Nat.zero_le _) (Nat.zero_le _) dX4_sum_67 ?_
  refine s_aload_n E dX4_sum_70 (i := 2) (j := 6) rfl rfl ?_
  refine s_iload E dX4_sum_71 (i := 9) (j := 1) rfl ?_
  refine aw_l2 E (v := s 46 u) (u) (rfl) (by omega) hN8 ((hA.2.2.2.2.2 u (by omega)).2.1) dX4_sum_73 ?_
  refine s_imul E dX4_sum_74 ?_
  refine s_iadd_ E dX4_sum_75 (v := tA k * s 46 u) (by rw [nI_0, Int32.zero_add]) ?_
  refine s_istore E (L2 := [(7, .int (tA k * s 46 u)), (10, .int (tA k)), (9, .int (nI u)), (8, .int (nI 0)), (0, .ref (ba 0)), (1, .int (nI k)), (2, .ref (ba 2)), (3, .int (nI u)), (4, .int (nI v)), (5, .int (nI w)), (6, .int (nI 0))]) dX4_sum_76 (Nat.le_of_ble_eq_true rfl) rfl ?_
  refine s_iinc E (L2 := [(8, .int (nI 1)), (7, .int (tA k * s 46 u)), (10, .int (tA k)), (9, .int (nI u)), (0, .ref (ba 0)), (1, .int (nI k)), (2, .ref (ba 2)), (3, .int (nI u)), (4, .int (nI v)), (5, .int (nI w)), (6, .int (nI 0))]) dX4_sum_78 (k := 3) rfl (v := nI 1) (rfl) (Nat.le_of_ble_eq_true rfl) rfl ?_
  refine s_goto E dX4_sum_81 (tgt := 6) rfl ?_
  refine s_iload E dX4_sum_6 (i := 8) (j := 0) rfl ?_
  refine s_iconst E dX4_sum_8 (v := nI 3) (by decide) ?_
  refine s_icmp_ge E dX4_sum_9 (tgt := 84) rfl (fun c9 => absurd c9 (by decide)) (fun c9 => ?_)
  refine s_iload E dX4_sum_12 (i := 8) (j := 0) rfl ?_
  refine s_if_ne E dX4_sum_14 (tgt := 21) rfl (fun c14 => ?_) (fun c14 => absurd c14 (by decide))
  refine s_iload E dX4_sum_21 (i := 8) (j := 0) rfl ?_
  refine s_iconst E dX4_sum_23 (v := nI 1) (by decide) ?_
  refine s_icmp_ne E dX4_sum_24 (tgt := 32) rfl (fun c24 => absurd c24 (by decide)) (fun c24 => ?_)
  refine s_iload E dX4_sum_27 (i := 4) (j := 8) rfl ?_
  refine s_goto E dX4_sum_29 (tgt := 34) rfl ?_
  refine s_istore E (L2 := [(9, .int (nI v)), (8, .int (nI 1)), (7, .int (tA k * s 46 u)), (10, .int (tA k)), (0, .ref (ba 0)), (1, .int (nI k)), (2, .ref (ba 2)), (3, .int (nI u)), (4, .int (nI v)), (5, .int (nI w)), (6, .int (nI 0))]) dX4_sum_34 (Nat.le_of_ble_eq_true rfl) rfl ?_
  refine s_getsN E E.2.2.2.2.2.2.1.1.1 q897 dX4_sum_36 ?_
  refine s_iconst E dX4_sum_39 (v := nI 3) (by decide) ?_
  refine s_iload_n E dX4_sum_40 (i := 1) (j := 5) rfl rfl ?_
  refine s_imul_ E dX4_sum_41 (v := nI (3 * k)) (pk_mul _ _) ?_
  refine s_iload E dX4_sum_42 (i := 8) (j := 1) rfl ?_
  refine s_iadd_ E dX4_sum_44 (v := nI (3 * k + 1)) (nI_add _ _) ?_
  refine s_tald E E.2.2.2.2.2.2.1.1.2.1 (3 * k + 1) (rfl) (by omega) (by decide) (v := .int (tB k)) (congrArg Value.int ((times_at k hk).2.1)) dX4_sum_45 ?_
  refine s_istore E (L2 := [(10, .int (tB k)), (9, .int (nI v)), (8, .int (nI 1)), (7, .int (tA k * s 46 u)), (0, .ref (ba 0)), (1, .int (nI k)), (2, .ref (ba 2)), (3, .int (nI u)), (4, .int (nI v)), (5, .int (nI w)), (6, .int (nI 0))]) dX4_sum_46 (Nat.le_of_ble_eq_true rfl) rfl ?_
  refine s_iload E dX4_sum_48 (i := 9) (j := 1) rfl ?_
  refine s_if_lt E dX4_sum_50 (tgt := 78) rfl (fun c50 => absurd c50 (nI_pos (by omega))) (fun c50 => ?_)
  have c50 : ¬ v < 0 := fun h => c50 ((nI_ltI (a := v) (b := 0) (by omega) (by omega)).mpr h)
  refine s_iload E dX4_sum_53 (i := 7) (j := 3) rfl ?_
  refine s_iload E dX4_sum_55 (i := 6) (j := 10) rfl ?_
  refine s_if_eq E dX4_sum_57 (tgt := 65) rfl (fun c57 => ?_) (fun c57 => absurd c57 (by decide))
  refine s_iload E dX4_sum_65 (i := 10) (j := 0) rfl ?_
  refine s_mabs E (v := absI (tB k)) (abs_eq _) q911 q912 q121 q913 (Nat.le_of_ble_eq_true rfl) (Nat.le_of_ble_eq_true rfl) (Nat.zero_le _) (Nat.zero_le _) dX4_sum_67 ?_
  refine s_aload_n E dX4_sum_70 (i := 2) (j := 6) rfl rfl ?_
  refine s_iload E dX4_sum_71 (i := 9) (j := 1) rfl ?_
  refine aw_l2 E (v := s 46 v) (v) (rfl) (by omega) hN8 ((hA.2.2.2.2.2 v (by omega)).2.1) dX4_sum_73 ?_
  refine s_imul E dX4_sum_74 ?_
  refine s_iadd_ E dX4_sum_75 (v := tA k * s 46 u + absI (tB k) * s 46 v) (rfl) ?_
  refine s_istore E (L2 := [(7, .int (tA k * s 46 u + absI (tB k) * s 46 v)), (10, .int (tB k)), (9, .int (nI v)), (8, .int (nI 1)), (0, .ref (ba 0)), (1, .int (nI k)), (2, .ref (ba 2)), (3, .int (nI u)), (4, .int (nI v)), (5, .int (nI w)), (6, .int (nI 0))]) dX4_sum_76 (Nat.le_of_ble_eq_true rfl) rfl ?_
  refine s_iinc E (L2 := [(8, .int (nI 2)), (7, .int (tA k * s 46 u + absI (tB k) * s 46 v)), (10, .int (tB k)), (9, .int (nI v)), (0, .ref (ba 0)), (1, .int (nI k)), (2, .ref (ba 2)), (3, .int (nI u)), (4, .int (nI v)), (5, .int (nI w)), (6, .int (nI 0))]) dX4_sum_78 (k := 3) rfl (v := nI 2) (rfl) (Nat.le_of_ble_eq_true rfl) rfl ?_
  refine s_goto E dX4_sum_81 (tgt := 6) rfl ?_
  refine s_iload E dX4_sum_6 (i := 8) (j := 0) rfl ?_
  refine s_iconst E dX4_sum_8 (v := nI 3) (by decide) ?_
  refine s_icmp_ge E dX4_sum_9 (tgt := 84) rfl (fun c9 => absurd c9 (by decide)) (fun c9 => ?_)
  refine s_iload E dX4_sum_12 (i := 8) (j := 0) rfl ?_
  refine s_if_ne E dX4_sum_14 (tgt := 21) rfl (fun c14 => ?_) (fun c14 => absurd c14 (by decide))
  refine s_iload E dX4_sum_21 (i := 8) (j := 0) rfl ?_
  refine s_iconst E dX4_sum_23 (v := nI 1) (by decide) ?_
  refine s_icmp_ne E dX4_sum_24 (tgt := 32) rfl (fun c24 => ?_) (fun c24 => absurd c24 (by decide))
  refine s_iload E dX4_sum_32 (i := 5) (j := 9) rfl ?_
  refine s_istore E (L2 := [(9, .int (nI w)), (8, .int (nI 2)), (7, .int (tA k * s 46 u + absI (tB k) * s 46 v)), (10, .int (tB k)), (0, .ref (ba 0)), (1, .int (nI k)), (2, .ref (ba 2)), (3, .int (nI u)), (4, .int (nI v)), (5, .int (nI w)), (6, .int (nI 0))]) dX4_sum_34 (Nat.le_of_ble_eq_true rfl) rfl ?_
  refine s_getsN E E.2.2.2.2.2.2.1.1.1 q897 dX4_sum_36 ?_
  refine s_iconst E dX4_sum_39 (v := nI 3) (by decide) ?_
  refine s_iload_n E dX4_sum_40 (i := 1) (j := 5) rfl rfl ?_
  refine s_imul_ E dX4_sum_41 (v := nI (3 * k)) (pk_mul _ _) ?_
  refine s_iload E dX4_sum_42 (i := 8) (j := 1) rfl ?_
  refine s_iadd_ E dX4_sum_44 (v := nI (3 * k + 2)) (nI_add _ _) ?_
  refine s_tald E E.2.2.2.2.2.2.1.1.2.1 (3 * k + 2) (rfl) (by omega) (by decide) (v := .int (tC k)) (congrArg Value.int ((times_at k hk).2.2)) dX4_sum_45 ?_
  refine s_istore E (L2 := [(10, .int (tC k)), (9, .int (nI w)), (8, .int (nI 2)), (7, .int (tA k * s 46 u + absI (tB k) * s 46 v)), (0, .ref (ba 0)), (1, .int (nI k)), (2, .ref (ba 2)), (3, .int (nI u)), (4, .int (nI v)), (5, .int (nI w)), (6, .int (nI 0))]) dX4_sum_46 (Nat.le_of_ble_eq_true rfl) rfl ?_
  refine s_iload E dX4_sum_48 (i := 9) (j := 1) rfl ?_
  refine s_if_lt E dX4_sum_50 (tgt := 78) rfl (fun c50 => absurd c50 (nI_pos (by omega))) (fun c50 => ?_)
  have c50 : ¬ w < 0 := fun h => c50 ((nI_ltI (a := w) (b := 0) (by omega) (by omega)).mpr h)
  refine s_iload E dX4_sum_53 (i := 7) (j := 3) rfl ?_
  refine s_iload E dX4_sum_55 (i := 6) (j := 10) rfl ?_
  refine s_if_eq E dX4_sum_57 (tgt := 65) rfl (fun c57 => ?_) (fun c57 => absurd c57 (by decide))
  refine s_iload E dX4_sum_65 (i := 10) (j := 0) rfl ?_
  refine s_mabs E (v := absI (tC k)) (abs_eq _) q911 q912 q121 q913 (Nat.le_of_ble_eq_true rfl) (Nat.le_of_ble_eq_true rfl) (Nat.zero_le _) (Nat.zero_le _) dX4_sum_67 ?_
  refine s_aload_n E dX4_sum_70 (i := 2) (j := 6) rfl rfl ?_
  refine s_iload E dX4_sum_71 (i := 9) (j := 1) rfl ?_
  refine aw_l2 E (v := s 46 w) (w) (rfl) (by omega) hN8 ((hA.2.2.2.2.2 w (by omega)).2.1) dX4_sum_73 ?_
  refine s_imul E dX4_sum_74 ?_
  refine s_iadd_ E dX4_sum_75 (v := tA k * s 46 u + absI (tB k) * s 46 v + absI (tC k) * s 46 w) (rfl) ?_
  refine s_istore E (L2 := [(7, .int (tA k * s 46 u + absI (tB k) * s 46 v + absI (tC k) * s 46 w)), (10, .int (tC k)), (9, .int (nI w)), (8, .int (nI 2)), (0, .ref (ba 0)), (1, .int (nI k)), (2, .ref (ba 2)), (3, .int (nI u)), (4, .int (nI v)), (5, .int (nI w)), (6, .int (nI 0))]) dX4_sum_76 (Nat.le_of_ble_eq_true rfl) rfl ?_
  refine s_iinc E (L2 := [(8, .int (nI 3)), (7, .int (tA k * s 46 u + absI (tB k) * s 46 v + absI (tC k) * s 46 w)), (10, .int (tC k)), (9, .int (nI w)), (0, .ref (ba 0)), (1, .int (nI k)), (2, .ref (ba 2)), (3, .int (nI u)), (4, .int (nI v)), (5, .int (nI w)), (6, .int (nI 0))]) dX4_sum_78 (k := 3) rfl (v := nI 3) (rfl) (Nat.le_of_ble_eq_true rfl) rfl ?_
  refine s_goto E dX4_sum_81 (tgt := 6) rfl ?_
  refine s_iload E dX4_sum_6 (i := 8) (j := 0) rfl ?_
  refine s_iconst E dX4_sum_8 (v := nI 3) (by decide) ?_
  refine s_icmp_ge E dX4_sum_9 (tgt := 84) rfl (fun c9 => ?_) (fun c9 => absurd c9 (by decide))
  refine s_iload E dX4_sum_84 (i := 7) (j := 1) rfl ?_
  exact Rt (tA k * s 46 u + absI (tB k) * s 46 v + absI (tC k) * s 46 w) (σ) dX4_sum_86 (⟨rfl, rfl⟩) rfl (Nat.le_refl _) (Nat.le_refl _) rfl E.2.2.2.2.2.1
set_option maxHeartbeats 1000000 in
set_option maxRecDepth 100000 in
theorem x4z_isHitg {l : Launch} {D : va_G} {gt : Nat → Nat} {ba ad : Nat → Nat} {ct : Nat → ClassId} {Nw : Nat} {τ σ ξ : Nat → Nat → Int32} (s : Nat → Nat → Int32) (n : Nat) (q : Pr) (o : Nat) (hA : AIg s σ n) (hnN : n ≤ Nw) (hN8 : Nw ≤ 8) (hT : TA s τ n) (hqa : q.2.1 < n) (ho : o < n) (hin : inQ q o = false) (hpl : ¬ plFg s q < 0) : Ct l D gt yX4_isHit cX4_isHit 8 .boolean 1 21 0 0 [.ref (ba 0), .int (nI o), .int (s 6 q.2.1), .int (pvF s q), .int (plFg s q), .int (pcF s q)] (aw ba ct Nw σ ad τ ξ) (tysA ct) (fun r σ2 => bI (hitQg s q o = true) = r ∧ nearUg s q o σ = σ2) (fun σ2 : Nat → Nat → Int32 => aw ba ct Nw σ2 ad τ ξ) (fun _ => tysA ct) := by
  refine Ct.start RX4 (by decide) rfl (Nat.le_of_ble_eq_true rfl) rfl ?_
  intro pP eE sS mM aA bB hM cC QQ AA E Rt
  have hm := may_iffg hT hqa ho hin hpl
  have t1 := hT.2.2.2 _ hqa
  have t2 := hT.2.2.2 _ ho
  refine s_aload_n E dX4_isHit_0 (i := 0) (j := 0) rfl rfl ?_
  refine awX4_g0_28 E dX4_isHit_1 ?_
  refine awX4_g10_4 E dX4_isHit_4 ?_
  refine awX4_g11_3 E dX4_isHit_7 ?_
  refine s_iconst E dX4_isHit_10 (v := nI 3) (by decide) ?_
  refine s_iload_n E dX4_isHit_11 (i := 2) (j := 2) rfl rfl ?_
  refine s_imul_ E dX4_isHit_12 (v := nI (3 * tN (s 6 q.2.1))) (by rw [← pk_mul, ← t1.1]) ?_
  refine s_aload_n E dX4_isHit_13 (i := 0) (j := 0) rfl rfl ?_
  refine awX4_g0_0 E dX4_isHit_14 ?_
  refine s_iload_n E dX4_isHit_17 (i := 1) (j := 1) rfl rfl ?_
  refine aw_l1 E (v := nI (tN (s 6 o))) (o) (rfl) (by omega) hN8 (((hA.2.2.2.2.2 o (by omega)).1).trans t2.1) dX4_isHit_18 ?_
  refine s_iadd_ E dX4_isHit_19 (v := nI ((3 * tN (s 6 q.2.1)) + (tN (s 6 o)))) (nI_add _ _) ?_
  refine aw_l13 E (v := lnQ s q o) ((3 * tN (s 6 q.2.1)) + (tN (s 6 o))) (rfl) (by have := t1.2; have := t2.2; omega) (lnk_at hT hqa ho) dX4_isHit_20 ?_
  refine s_istore E (L2 := [(6, .int (lnQ s q o)), (0, .ref (ba 0)), (1, .int (nI o)), (2, .int (s 6 q.2.1)), (3, .int (pvF s q)), (4, .int (plFg s q)), (5, .int (pcF s q))]) dX4_isHit_21 (Nat.le_of_ble_eq_true rfl) rfl ?_
  refine s_aload_n E dX4_isHit_23 (i := 0) (j := 1) rfl rfl ?_
  refine awX4_g0_2 E dX4_isHit_24 ?_
  refine s_iload_n E dX4_isHit_27 (i := 1) (j := 2) rfl rfl ?_
  refine aw_l3 E (v := s 25 o) (o) (rfl) (by omega) hN8 ((hA.2.2.2.2.2 o (by omega)).2.2.1) dX4_isHit_28 ?_
  refine s_if_eq E dX4_isHit_29 (tgt := 56) rfl (fun c29 => ?_) (fun c29 => ?_)
  · refine s_iconst E dX4_isHit_56 (v := nI 0) (by decide) ?_
    exact Rt (nI 0) (σ) dX4_isHit_57 (⟨bI_f (fun h => absurd (hm.mp (hit_mayg h)) (by intro hh; first | exact hh.1 c29 | exact hh.2.1 c41 | exact hh.2.2.1 c46 | exact hh.2.2.2 c53)), if_neg (fun h => absurd (hm.mp h) (by intro hh; first | exact hh.1 c29 | exact hh.2.1 c41 | exact hh.2.2.1 c46 | exact hh.2.2.2 c53))⟩) rfl (Nat.le_refl _) (Nat.le_refl _) rfl E.2.2.2.2.2.1
  · refine s_aload_n E dX4_isHit_32 (i := 0) (j := 1) rfl rfl ?_
    refine awX4_g0_5 E dX4_isHit_33 ?_
    refine s_iload_n E dX4_isHit_36 (i := 1) (j := 2) rfl rfl ?_
    refine aw_l6 E (v := s 25 (73 + o)) (o) (rfl) (by omega) hN8 ((hA.2.2.2.2.2 o (by omega)).2.2.2) dX4_isHit_37 ?_
    refine s_iload E dX4_isHit_38 (i := 5) (j := 6) rfl ?_
    refine s_iand_ E dX4_isHit_40 (v := pcF s q &&& s 25 (73 + o)) (Int32.and_comm _ _) ?_
    refine s_if_eq E dX4_isHit_41 (tgt := 56) rfl (fun c41 => ?_) (fun c41 => ?_)
    · refine s_iconst E dX4_isHit_56 (v := nI 0) (by decide) ?_
      exact Rt (nI 0) (σ) dX4_isHit_57 (⟨bI_f (fun h => absurd (hm.mp (hit_mayg h)) (by intro hh; first | exact hh.1 c29 | exact hh.2.1 c41 | exact hh.2.2.1 c46 | exact hh.2.2.2 c53)), if_neg (fun h => absurd (hm.mp h) (by intro hh; first | exact hh.1 c29 | exact hh.2.1 c41 | exact hh.2.2.1 c46 | exact hh.2.2.2 c53))⟩) rfl (Nat.le_refl _) (Nat.le_refl _) rfl E.2.2.2.2.2.1
    · refine s_iload E dX4_isHit_44 (i := 6) (j := 0) rfl ?_
      refine s_if_lt E dX4_isHit_46 (tgt := 56) rfl (fun c46 => ?_) (fun c46 => ?_)
      · refine s_iconst E dX4_isHit_56 (v := nI 0) (by decide) ?_
        exact Rt (nI 0) (σ) dX4_isHit_57 (⟨bI_f (fun h => absurd (hm.mp (hit_mayg h)) (by intro hh; first | exact hh.1 c29 | exact hh.2.1 c41 | exact hh.2.2.1 c46 | exact hh.2.2.2 c53)), if_neg (fun h => absurd (hm.mp h) (by intro hh; first | exact hh.1 c29 | exact hh.2.1 c41 | exact hh.2.2.1 c46 | exact hh.2.2.2 c53))⟩) rfl (Nat.le_refl _) (Nat.le_refl _) rfl E.2.2.2.2.2.1
      · refine s_iload E dX4_isHit_49 (i := 4) (j := 5) rfl ?_
        refine s_iload E dX4_isHit_51 (i := 6) (j := 0) rfl ?_
        refine s_icmp_ge E dX4_isHit_53 (tgt := 58) rfl (fun c53 => ?_) (fun c53 => ?_)
        · have c53 := Int32.not_lt.mpr c53
          refine s_aload_n E dX4_isHit_58 (i := 0) (j := 1) rfl rfl ?_
          refine awX4_g0_2 E dX4_isHit_59 ?_
          refine s_iload_n E dX4_isHit_62 (i := 1) (j := 2) rfl rfl ?_
          refine aw_l3 E (v := s 25 o) (o) (rfl) (by omega) hN8 ((hA.2.2.2.2.2 o (by omega)).2.2.1) dX4_isHit_63 ?_
          refine s_iload_n E dX4_isHit_64 (i := 3) (j := 4) rfl rfl ?_
          refine s_isub E dX4_isHit_65 ?_
          refine s_mabs E (v := absI (s 25 o - pvF s q)) (abs_eq _) q911 q912 q121 q913 (Nat.le_of_ble_eq_true rfl) (Nat.le_of_ble_eq_true rfl) (Nat.zero_le _) (Nat.zero_le _) dX4_isHit_66 ?_
          refine s_istore E (L2 := [(7, .int (absI (s 25 o - pvF s q))), (6, .int (lnQ s q o)), (0, .ref (ba 0)), (1, .int (nI o)), (2, .int (s 6 q.2.1)), (3, .int (pvF s q)), (4, .int (plFg s q)), (5, .int (pcF s q))]) dX4_isHit_69 (Nat.le_of_ble_eq_true rfl) rfl ?_
          refine s_aload_n E dX4_isHit_71 (i := 0) (j := 2) rfl rfl ?_
          refine awX4_g0_7 E dX4_isHit_72 ?_
          refine s_iload_n E dX4_isHit_75 (i := 1) (j := 3) rfl rfl ?_
          refine s_aload_n E dX4_isHit_76 (i := 0) (j := 2) rfl rfl ?_
          refine awX4_g0_7 E dX4_isHit_77 ?_
          refine s_iload_n E dX4_isHit_80 (i := 1) (j := 3) rfl rfl ?_
          refine aw_l8 E (v := σ 8 o) (o) (rfl) (by omega) hN8 (rfl) dX4_isHit_81 ?_
          refine s_if_ge E dX4_isHit_82 (tgt := 90) rfl (fun c82 => ?_) (fun c82 => ?_)
          · have c82 := Int32.not_lt.mpr c82
            refine s_aload_n E dX4_isHit_90 (i := 0) (j := 2) rfl rfl ?_
            refine awX4_g0_7 E dX4_isHit_91 ?_
            refine s_iload_n E dX4_isHit_94 (i := 1) (j := 3) rfl rfl ?_
            refine aw_l8 E (v := σ 8 o) (o) (rfl) (by omega) hN8 (rfl) dX4_isHit_95 ?_
            refine s_iload E dX4_isHit_96 (i := 7) (j := 0) rfl ?_
            refine c_gos E (rSN E (cutZ _ _) (x1z_lesser (σ 8 o) (absI (s 25 o - pvF s q))) K_X4_188 (Nat.le_of_ble_eq_true rfl) (Nat.le_of_ble_eq_true rfl) (Nat.zero_le _) (Nat.zero_le _) rfl rfl (Nat.le_of_ble_eq_true rfl) dX4_isHit_98) (fun r98 h98 => ?_)
            subst h98
            refine aw_s8 E (o) (rfl) (by omega) hN8 dX4_isHit_101 ?_
            refine s_iload E dX4_isHit_102 (i := 7) (j := 0) rfl ?_
            refine s_aload_n E dX4_isHit_104 (i := 0) (j := 2) rfl rfl ?_
            refine awX4_g0_11 E (v := s 0 31) (hA.2.2.1) dX4_isHit_105 ?_
            refine s_icmp_gt E dX4_isHit_108 (tgt := 115) rfl (fun c108 => ?_) (fun c108 => ?_)
            · refine s_iconst E dX4_isHit_115 (v := nI 0) (by decide) ?_
              exact Rt (nI 0) (st1 σ 8 o (if (σ 8 o) < (absI (s 25 o - pvF s q)) then (σ 8 o) else (absI (s 25 o - pvF s q)))) dX4_isHit_116 (⟨bI_f (fun h => (hit_iffg (hm.mpr ⟨c29, c41, c46, c53⟩)).mp h c108), by unfold nearUg; rw [if_pos (hm.mpr ⟨c29, c41, c46, c53⟩)]; unfold nvF farQ; first | rw [if_pos c82] | rw [if_neg c82]⟩) rfl (Nat.le_refl _) (Nat.le_refl _) rfl E.2.2.2.2.2.1
            · refine s_iconst E dX4_isHit_111 (v := nI 1) (by decide) ?_
              refine s_goto E dX4_isHit_112 (tgt := 116) rfl ?_
              exact Rt (nI 1) (st1 σ 8 o (if (σ 8 o) < (absI (s 25 o - pvF s q)) then (σ 8 o) else (absI (s 25 o - pvF s q)))) dX4_isHit_116 (⟨bI_t ((hit_iffg (hm.mpr ⟨c29, c41, c46, c53⟩)).mpr c108), by unfold nearUg; rw [if_pos (hm.mpr ⟨c29, c41, c46, c53⟩)]; unfold nvF farQ; first | rw [if_pos c82] | rw [if_neg c82]⟩) rfl (Nat.le_refl _) (Nat.le_refl _) rfl E.2.2.2.2.2.1
          · have c82 := Int32.not_le.mp c82
            refine s_iload E dX4_isHit_85 (i := 7) (j := 0) rfl ?_
            refine s_goto E dX4_isHit_87 (tgt := 101) rfl ?_
            refine aw_s8 E (o) (rfl) (by omega) hN8 dX4_isHit_101 ?_
            refine s_iload E dX4_isHit_102 (i := 7) (j := 0) rfl ?_
            refine s_aload_n E dX4_isHit_104 (i := 0) (j := 2) rfl rfl ?_
            refine awX4_g0_11 E (v := s 0 31) (hA.2.2.1) dX4_isHit_105 ?_
            refine s_icmp_gt E dX4_isHit_108 (tgt := 115) rfl (fun c108 => ?_) (fun c108 => ?_)
            · refine s_iconst E dX4_isHit_115 (v := nI 0) (by decide) ?_
              exact Rt (nI 0) (st1 σ 8 o (absI (s 25 o - pvF s q))) dX4_isHit_116 (⟨bI_f (fun h => (hit_iffg (hm.mpr ⟨c29, c41, c46, c53⟩)).mp h c108), by unfold nearUg; rw [if_pos (hm.mpr ⟨c29, c41, c46, c53⟩)]; unfold nvF farQ; first | rw [if_pos c82] | rw [if_neg c82]⟩) rfl (Nat.le_refl _) (Nat.le_refl _) rfl E.2.2.2.2.2.1
            · refine s_iconst E dX4_isHit_111 (v := nI 1) (by decide) ?_
              refine s_goto E dX4_isHit_112 (tgt := 116) rfl ?_
              exact Rt (nI 1) (st1 σ 8 o (absI (s 25 o - pvF s q))) dX4_isHit_116 (⟨bI_t ((hit_iffg (hm.mpr ⟨c29, c41, c46, c53⟩)).mpr c108), by unfold nearUg; rw [if_pos (hm.mpr ⟨c29, c41, c46, c53⟩)]; unfold nvF farQ; first | rw [if_pos c82] | rw [if_neg c82]⟩) rfl (Nat.le_refl _) (Nat.le_refl _) rfl E.2.2.2.2.2.1
        · have c53 := Int32.not_le.mp c53
          refine s_iconst E dX4_isHit_56 (v := nI 0) (by decide) ?_
          exact Rt (nI 0) (σ) dX4_isHit_57 (⟨bI_f (fun h => absurd (hm.mp (hit_mayg h)) (by intro hh; first | exact hh.1 c29 | exact hh.2.1 c41 | exact hh.2.2.1 c46 | exact hh.2.2.2 c53)), if_neg (fun h => absurd (hm.mp h) (by intro hh; first | exact hh.1 c29 | exact hh.2.1 c41 | exact hh.2.2.1 c46 | exact hh.2.2.2 c53))⟩) rfl (Nat.le_refl _) (Nat.le_refl _) rfl E.2.2.2.2.2.1
set_option maxHeartbeats 1000000 in
set_option maxRecDepth 100000 in
theorem x4z_countsg {l : Launch} {D : va_G} {gt : Nat → Nat} {ba ad : Nat → Nat} {ct : Nat → ClassId} {Nw : Nat} {τ σ ξ : Nat → Nat → Int32} (s : Nat → Nat → Int32) (n k u v S : Nat) (cm : Int32) (hA : AIg s σ n) (hnN : n ≤ Nw) (hN8 : Nw ≤ 8) (hu : u < n) (hv : v < n) (huv : u ≠ v) (hS : S < 256) : Cv l D gt yX4_counts cX4_counts 8 1 20 0 0 [.ref (ba 0), .int (nI S), .int (cm), .int (nI u), .int (nI v), .int ((-1))] (aw ba ct Nw σ ad τ ξ) (tysA ct) (fun σ2 => cntS s (k, u, v, none) S cm σ n = σ2) (fun σ2 : Nat → Nat → Int32 => aw ba ct Nw σ2 ad τ ξ) (fun _ => tysA ct) := by
  refine Cv.start RX4 (by decide) rfl (Nat.le_of_ble_eq_true rfl) rfl ?_
  intro pP eE sS mM aA bB hM cC QQ AA E Rt
  refine s_iload_n E dX4_counts_0 (i := 1) (j := 1) rfl rfl ?_
  refine c_gos E (rS E (cutZ _ _) (j8z_bitCount S (hS)) K_X4_156 (Nat.le_of_ble_eq_true rfl) (Nat.le_of_ble_eq_true rfl) (Nat.zero_le _) (Nat.zero_le _) rfl rfl (Nat.le_of_ble_eq_true rfl) dX4_counts_1) (fun r1 h1 => ?_)
  subst h1
  refine s_istore E (L2 := [(6, .int (nI (pop S))), (0, .ref (ba 0)), (1, .int (nI S)), (2, .int (cm)), (3, .int (nI u)), (4, .int (nI v)), (5, .int ((-1)))]) dX4_counts_4 (Nat.le_of_ble_eq_true rfl) rfl ?_
  refine s_aload_n E dX4_counts_6 (i := 0) (j := 1) rfl rfl ?_
  refine awX4_g0_4 E dX4_counts_7 ?_
  refine s_iload_n E dX4_counts_10 (i := 3) (j := 4) rfl rfl ?_
  refine s_dup2 E dX4_counts_11 rfl rfl ?_
  refine aw_l5 E (v := σ 5 u) (u) (rfl) (by omega) hN8 (rfl) dX4_counts_12 ?_
  refine s_iload E dX4_counts_13 (i := 6) (j := 0) rfl ?_
  refine s_iadd E dX4_counts_15 ?_
  refine aw_s5 E (u) (rfl) (by omega) hN8 dX4_counts_16 ?_
  refine s_aload_n E dX4_counts_17 (i := 0) (j := 1) rfl rfl ?_
  refine awX4_g0_4 E dX4_counts_18 ?_
  refine s_iload E dX4_counts_21 (i := 4) (j := 5) rfl ?_
  refine s_dup2 E dX4_counts_23 rfl rfl ?_
  refine aw_l5 E (v := σ 5 v) (v) (rfl) (by omega) hN8 (st1_nj (fun e => huv e.symm)) dX4_counts_24 ?_
  refine s_iload E dX4_counts_25 (i := 6) (j := 0) rfl ?_
  refine s_iadd E dX4_counts_27 ?_
  refine aw_s5 E (v) (rfl) (by omega) hN8 dX4_counts_28 ?_
  refine s_iload E dX4_counts_29 (i := 5) (j := 6) rfl ?_
  refine s_if_lt E dX4_counts_31 (tgt := 46) rfl (fun c31 => ?_) (fun c31 => absurd (by decide) c31)
  refine s_ws (ws2 := aw ba ct Nw (cntS s (k, u, v, none) S cm σ 0) ad τ ξ) (congrArg (fun z => aw ba ct Nw z ad τ ξ) (show _ = _ from by exact cntS_0n huv)) ?_
  refine s_iconst E dX4_counts_46 (v := nI 0) (by decide) ?_
  refine s_istore E (L2 := [(7, .int (nI 0)), (6, .int (nI (pop S))), (0, .ref (ba 0)), (1, .int (nI S)), (2, .int (cm)), (3, .int (nI u)), (4, .int (nI v)), (5, .int ((-1)))]) dX4_counts_47 (Nat.le_of_ble_eq_true rfl) rfl ?_
  have L49 : ∀ (fuel : Nat) (i : Nat), (i ≤ n) → (n - i) < fuel → Sm pP l eE { frames := 1, cells := 0, slots := 0, locals := 20 } sS mM aA bB hM cC QQ AA D 8 0 0 (aw ba ct Nw (cntS s (k, u, v, none) S cm σ i) ad τ ξ) 49 [(0, .ref (ba 0)), (1, .int (nI S)), (2, .int (cm)), (7, .int (nI i))] [] := by
    intro fuel
    induction fuel with
    | zero =>
      intro i hi hf49
      exact absurd hf49 (Nat.not_lt_zero _)
    | succ fuel ih49 =>
      intro i hi hf49
      refine s_iload E dX4_counts_49 (i := 7) (j := 3) rfl ?_
      refine s_aload_n E dX4_counts_51 (i := 0) (j := 0) rfl rfl ?_
      refine awX4_g0_9 E (v := nI n) (by exact (congrFun (cntS_r (by decide) (by decide) (by decide)) _).trans hA.1) dX4_counts_52 ?_
      refine s_icmp_ge E dX4_counts_55 (tgt := 106) rfl (fun c55 => ?_) (fun c55 => ?_)
      · have c55 : ¬ i < n := fun h => absurd c55 (Int32.not_le.mpr ((nI_ltI (a := i) (b := n) (by omega) (by omega)).mpr h))
        exact Rt (cntS s (k, u, v, none) S cm σ i) dX4_counts_106 (by rw [show i = n by omega]) rfl (Nat.le_refl _) (Nat.le_refl _) E.2.2.2.2.2.1
      · have c55 : i < n := (nI_ltI (a := i) (b := n) (by omega) (by omega)).mp (Int32.not_le.mp c55)
        refine s_iload_n E dX4_counts_58 (i := 1) (j := 1) rfl rfl ?_
        refine s_iload E dX4_counts_59 (i := 7) (j := 3) rfl ?_
        refine s_ishr E dX4_counts_61 ?_
        refine s_iconst E dX4_counts_62 (v := nI 1) (by decide) ?_
        refine s_iand_ E dX4_counts_63 (v := nI (bit S i)) (bit_at i (by omega) S hS) ?_
        refine s_if_ne E dX4_counts_64 (tgt := 70) rfl (fun c64 => ?_) (fun c64 => ?_)
        · have c64 : ¬ bit S i = 0 := fun e => c64 (by rw [e]; rfl)
          have c64 : bit S i = 1 := by have := bit_01 S i; omega
          refine s_aload_n E dX4_counts_70 (i := 0) (j := 0) rfl rfl ?_
          refine awX4_g0_3 E dX4_counts_71 ?_
          refine s_iload E dX4_counts_74 (i := 7) (j := 3) rfl ?_
          refine s_dup2 E dX4_counts_76 rfl rfl ?_
          refine aw_l4 E (v := σ 4 i) (i) (rfl) (by omega) hN8 (by unfold cntS; simp) dX4_counts_77 ?_
          refine s_iconst E dX4_counts_78 (v := nI 1) (by decide) ?_
          refine s_iadd E dX4_counts_79 ?_
          refine aw_s4 E (i) (rfl) (by omega) hN8 dX4_counts_80 ?_
          refine s_aload_n E dX4_counts_81 (i := 0) (j := 0) rfl rfl ?_
          refine awX4_g0_6 E dX4_counts_82 ?_
          refine s_iload E dX4_counts_85 (i := 7) (j := 3) rfl ?_
          refine s_dup2 E dX4_counts_87 rfl rfl ?_
          refine aw_l7 E (v := σ 7 i) (i) (rfl) (by omega) hN8 (by rw [st1_ne (by decide)]; unfold cntS; simp) dX4_counts_88 ?_
          refine s_iload_n E dX4_counts_89 (i := 2) (j := 2) rfl rfl ?_
          refine s_aload_n E dX4_counts_90 (i := 0) (j := 0) rfl rfl ?_
          refine awX4_g0_5 E dX4_counts_91 ?_
          refine s_iload E dX4_counts_94 (i := 7) (j := 3) rfl ?_
          refine aw_l6 E (v := s 25 (73 + i)) (i) (rfl) (by omega) hN8 (by rw [st1_ne (by decide), cntS_r (by decide) (by decide) (by decide)]; exact (hA.2.2.2.2.2 i (by omega)).2.2.2) dX4_counts_96 ?_
          refine s_iand E dX4_counts_97 ?_
          refine s_ior E dX4_counts_98 ?_
          refine aw_s7 E (i) (rfl) (by omega) hN8 dX4_counts_99 ?_
          refine s_iinc E (L2 := [(7, .int (nI (i + 1))), (0, .ref (ba 0)), (1, .int (nI S)), (2, .int (cm))]) dX4_counts_100 (k := 3) rfl (v := nI (i + 1)) (nI_inc _) (Nat.le_of_ble_eq_true rfl) rfl ?_
          refine s_goto E dX4_counts_103 (tgt := 49) rfl ?_
          refine s_ws (ws2 := aw ba ct Nw (cntS s (k, u, v, none) S cm σ (i + 1)) ad τ ξ) (congrArg (fun z => aw ba ct Nw z ad τ ξ) (cntS_t c64)) ?_
          refine s_loc (L2 := [(0, .ref (ba 0)), (1, .int (nI S)), (2, .int (cm)), (7, .int (nI (i + 1)))]) [1, 2, 3, 0] rfl ?_
          exact ih49 (i + 1) (by omega) (by omega)
        · have c64 : bit S i = 0 := by have := bit_01 S i; rcases this with e | e; exact e; rw [e] at c64; exact absurd c64 (by decide)
          refine s_goto E dX4_counts_67 (tgt := 100) rfl ?_
          refine s_iinc E (L2 := [(7, .int (nI (i + 1))), (0, .ref (ba 0)), (1, .int (nI S)), (2, .int (cm))]) dX4_counts_100 (k := 3) rfl (v := nI (i + 1)) (nI_inc _) (Nat.le_of_ble_eq_true rfl) rfl ?_
          refine s_goto E dX4_counts_103 (tgt := 49) rfl ?_
          refine s_ws (ws2 := aw ba ct Nw (cntS s (k, u, v, none) S cm σ (i + 1)) ad τ ξ) (congrArg (fun z => aw ba ct Nw z ad τ ξ) (cntS_f (by rw [c64]; decide))) ?_
          refine s_loc (L2 := [(0, .ref (ba 0)), (1, .int (nI S)), (2, .int (cm)), (7, .int (nI (i + 1)))]) [1, 2, 3, 0] rfl ?_
          exact ih49 (i + 1) (by omega) (by omega)
  refine s_loc (L2 := [(0, .ref (ba 0)), (1, .int (nI S)), (2, .int (cm)), (7, .int (nI 0))]) [2, 3, 4, 0] rfl ?_
  exact L49 (_ + 1) 0 (Nat.zero_le _) (Nat.lt_succ_self _)
set_option maxHeartbeats 1000000 in
set_option maxRecDepth 100000 in
theorem x4z_counts3g {l : Launch} {D : va_G} {gt : Nat → Nat} {ba ad : Nat → Nat} {ct : Nat → ClassId} {Nw : Nat} {τ σ ξ : Nat → Nat → Int32} (s : Nat → Nat → Int32) (n k u v w S : Nat) (cm : Int32) (hA : AIg s σ n) (hnN : n ≤ Nw) (hN8 : Nw ≤ 8) (hu : u < n) (hv : v < n) (hw : w < n) (huw : w ≠ u) (hvw : w ≠ v) (huv : u ≠ v) (hS : S < 256) : Cv l D gt yX4_counts cX4_counts 8 1 20 0 0 [.ref (ba 0), .int (nI S), .int (cm), .int (nI u), .int (nI v), .int (nI w)] (aw ba ct Nw σ ad τ ξ) (tysA ct) (fun σ2 => cntS s (k, u, v, some w) S cm σ n = σ2) (fun σ2 : Nat → Nat → Int32 => aw ba ct Nw σ2 ad τ ξ) (fun _ => tysA ct) := by
  refine Cv.start RX4 (by decide) rfl (Nat.le_of_ble_eq_true rfl) rfl ?_
  intro pP eE sS mM aA bB hM cC QQ AA E Rt
  refine s_iload_n E dX4_counts_0 (i := 1) (j := 1) rfl rfl ?_
  refine c_gos E (rS E (cutZ _ _) (j8z_bitCount S (hS)) K_X4_156 (Nat.le_of_ble_eq_true rfl) (Nat.le_of_ble_eq_true rfl) (Nat.zero_le _) (Nat.zero_le _) rfl rfl (Nat.le_of_ble_eq_true rfl) dX4_counts_1) (fun r1 h1 => ?_)
  subst h1
  refine s_istore E (L2 := [(6, .int (nI (pop S))), (0, .ref (ba 0)), (1, .int (nI S)), (2, .int (cm)), (3, .int (nI u)), (4, .int (nI v)), (5, .int (nI w))]) dX4_counts_4 (Nat.le_of_ble_eq_true rfl) rfl ?_
  refine s_aload_n E dX4_counts_6 (i := 0) (j := 1) rfl rfl ?_
  refine awX4_g0_4 E dX4_counts_7 ?_
  refine s_iload_n E dX4_counts_10 (i := 3) (j := 4) rfl rfl ?_
  refine s_dup2 E dX4_counts_11 rfl rfl ?_
  refine aw_l5 E (v := σ 5 u) (u) (rfl) (by omega) hN8 (rfl) dX4_counts_12 ?_
  refine s_iload E dX4_counts_13 (i := 6) (j := 0) rfl ?_
  refine s_iadd E dX4_counts_15 ?_
  refine aw_s5 E (u) (rfl) (by omega) hN8 dX4_counts_16 ?_
  refine s_aload_n E dX4_counts_17 (i := 0) (j := 1) rfl rfl ?_
  refine awX4_g0_4 E dX4_counts_18 ?_
  refine s_iload E dX4_counts_21 (i := 4) (j := 5) rfl ?_
  refine s_dup2 E dX4_counts_23 rfl rfl ?_
  refine aw_l5 E (v := σ 5 v) (v) (rfl) (by omega) hN8 (st1_nj (fun e => huv e.symm)) dX4_counts_24 ?_
  refine s_iload E dX4_counts_25 (i := 6) (j := 0) rfl ?_
  refine s_iadd E dX4_counts_27 ?_
  refine aw_s5 E (v) (rfl) (by omega) hN8 dX4_counts_28 ?_
  refine s_iload E dX4_counts_29 (i := 5) (j := 6) rfl ?_
  refine s_if_lt E dX4_counts_31 (tgt := 46) rfl (fun c31 => absurd c31 (nI_pos (by omega))) (fun c31 => ?_)
  have c31 : ¬ w < 0 := fun h => c31 ((nI_ltI (a := w) (b := 0) (by omega) (by omega)).mpr h)
  refine s_aload_n E dX4_counts_34 (i := 0) (j := 1) rfl rfl ?_
  refine awX4_g0_4 E dX4_counts_35 ?_
  refine s_iload E dX4_counts_38 (i := 5) (j := 6) rfl ?_
  refine s_dup2 E dX4_counts_40 rfl rfl ?_
  refine aw_l5 E (v := σ 5 w) (w) (rfl) (by omega) hN8 ((st1_nj hvw).trans (st1_nj huw)) dX4_counts_41 ?_
  refine s_iload E dX4_counts_42 (i := 6) (j := 0) rfl ?_
  refine s_iadd E dX4_counts_44 ?_
  refine aw_s5 E (w) (rfl) (by omega) hN8 dX4_counts_45 ?_
  refine s_ws (ws2 := aw ba ct Nw (cntS s (k, u, v, some w) S cm σ 0) ad τ ξ) (congrArg (fun z => aw ba ct Nw z ad τ ξ) (show _ = _ from by exact cntS_0s huv huw hvw)) ?_
  refine s_iconst E dX4_counts_46 (v := nI 0) (by decide) ?_
  refine s_istore E (L2 := [(7, .int (nI 0)), (6, .int (nI (pop S))), (0, .ref (ba 0)), (1, .int (nI S)), (2, .int (cm)), (3, .int (nI u)), (4, .int (nI v)), (5, .int (nI w))]) dX4_counts_47 (Nat.le_of_ble_eq_true rfl) rfl ?_
  have L49 : ∀ (fuel : Nat) (i : Nat), (i ≤ n) → (n - i) < fuel → Sm pP l eE { frames := 1, cells := 0, slots := 0, locals := 20 } sS mM aA bB hM cC QQ AA D 8 0 0 (aw ba ct Nw (cntS s (k, u, v, some w) S cm σ i) ad τ ξ) 49 [(0, .ref (ba 0)), (1, .int (nI S)), (2, .int (cm)), (7, .int (nI i))] [] := by
    intro fuel
    induction fuel with
    | zero =>
      intro i hi hf49
      exact absurd hf49 (Nat.not_lt_zero _)
    | succ fuel ih49 =>
      intro i hi hf49
      refine s_iload E dX4_counts_49 (i := 7) (j := 3) rfl ?_
      refine s_aload_n E dX4_counts_51 (i := 0) (j := 0) rfl rfl ?_
      refine awX4_g0_9 E (v := nI n) (by exact (congrFun (cntS_r (by decide) (by decide) (by decide)) _).trans hA.1) dX4_counts_52 ?_
      refine s_icmp_ge E dX4_counts_55 (tgt := 106) rfl (fun c55 => ?_) (fun c55 => ?_)
      · have c55 : ¬ i < n := fun h => absurd c55 (Int32.not_le.mpr ((nI_ltI (a := i) (b := n) (by omega) (by omega)).mpr h))
        exact Rt (cntS s (k, u, v, some w) S cm σ i) dX4_counts_106 (by rw [show i = n by omega]) rfl (Nat.le_refl _) (Nat.le_refl _) E.2.2.2.2.2.1
      · have c55 : i < n := (nI_ltI (a := i) (b := n) (by omega) (by omega)).mp (Int32.not_le.mp c55)
        refine s_iload_n E dX4_counts_58 (i := 1) (j := 1) rfl rfl ?_
        refine s_iload E dX4_counts_59 (i := 7) (j := 3) rfl ?_
        refine s_ishr E dX4_counts_61 ?_
        refine s_iconst E dX4_counts_62 (v := nI 1) (by decide) ?_
        refine s_iand_ E dX4_counts_63 (v := nI (bit S i)) (bit_at i (by omega) S hS) ?_
        refine s_if_ne E dX4_counts_64 (tgt := 70) rfl (fun c64 => ?_) (fun c64 => ?_)
        · have c64 : ¬ bit S i = 0 := fun e => c64 (by rw [e]; rfl)
          have c64 : bit S i = 1 := by have := bit_01 S i; omega
          refine s_aload_n E dX4_counts_70 (i := 0) (j := 0) rfl rfl ?_
          refine awX4_g0_3 E dX4_counts_71 ?_
          refine s_iload E dX4_counts_74 (i := 7) (j := 3) rfl ?_
          refine s_dup2 E dX4_counts_76 rfl rfl ?_
          refine aw_l4 E (v := σ 4 i) (i) (rfl) (by omega) hN8 (by unfold cntS; simp) dX4_counts_77 ?_
          refine s_iconst E dX4_counts_78 (v := nI 1) (by decide) ?_
          refine s_iadd E dX4_counts_79 ?_
          refine aw_s4 E (i) (rfl) (by omega) hN8 dX4_counts_80 ?_
          refine s_aload_n E dX4_counts_81 (i := 0) (j := 0) rfl rfl ?_
          refine awX4_g0_6 E dX4_counts_82 ?_
          refine s_iload E dX4_counts_85 (i := 7) (j := 3) rfl ?_
          refine s_dup2 E dX4_counts_87 rfl rfl ?_
          refine aw_l7 E (v := σ 7 i) (i) (rfl) (by omega) hN8 (by rw [st1_ne (by decide)]; unfold cntS; simp) dX4_counts_88 ?_
          refine s_iload_n E dX4_counts_89 (i := 2) (j := 2) rfl rfl ?_
          refine s_aload_n E dX4_counts_90 (i := 0) (j := 0) rfl rfl ?_
          refine awX4_g0_5 E dX4_counts_91 ?_
          refine s_iload E dX4_counts_94 (i := 7) (j := 3) rfl ?_
          refine aw_l6 E (v := s 25 (73 + i)) (i) (rfl) (by omega) hN8 (by rw [st1_ne (by decide), cntS_r (by decide) (by decide) (by decide)]; exact (hA.2.2.2.2.2 i (by omega)).2.2.2) dX4_counts_96 ?_
          refine s_iand E dX4_counts_97 ?_
          refine s_ior E dX4_counts_98 ?_
          refine aw_s7 E (i) (rfl) (by omega) hN8 dX4_counts_99 ?_
          refine s_iinc E (L2 := [(7, .int (nI (i + 1))), (0, .ref (ba 0)), (1, .int (nI S)), (2, .int (cm))]) dX4_counts_100 (k := 3) rfl (v := nI (i + 1)) (nI_inc _) (Nat.le_of_ble_eq_true rfl) rfl ?_
          refine s_goto E dX4_counts_103 (tgt := 49) rfl ?_
          refine s_ws (ws2 := aw ba ct Nw (cntS s (k, u, v, some w) S cm σ (i + 1)) ad τ ξ) (congrArg (fun z => aw ba ct Nw z ad τ ξ) (cntS_t c64)) ?_
          refine s_loc (L2 := [(0, .ref (ba 0)), (1, .int (nI S)), (2, .int (cm)), (7, .int (nI (i + 1)))]) [1, 2, 3, 0] rfl ?_
          exact ih49 (i + 1) (by omega) (by omega)
        · have c64 : bit S i = 0 := by have := bit_01 S i; rcases this with e | e; exact e; rw [e] at c64; exact absurd c64 (by decide)
          refine s_goto E dX4_counts_67 (tgt := 100) rfl ?_
          refine s_iinc E (L2 := [(7, .int (nI (i + 1))), (0, .ref (ba 0)), (1, .int (nI S)), (2, .int (cm))]) dX4_counts_100 (k := 3) rfl (v := nI (i + 1)) (nI_inc _) (Nat.le_of_ble_eq_true rfl) rfl ?_
          refine s_goto E dX4_counts_103 (tgt := 49) rfl ?_
          refine s_ws (ws2 := aw ba ct Nw (cntS s (k, u, v, some w) S cm σ (i + 1)) ad τ ξ) (congrArg (fun z => aw ba ct Nw z ad τ ξ) (cntS_f (by rw [c64]; decide))) ?_
          refine s_loc (L2 := [(0, .ref (ba 0)), (1, .int (nI S)), (2, .int (cm)), (7, .int (nI (i + 1)))]) [1, 2, 3, 0] rfl ?_
          exact ih49 (i + 1) (by omega) (by omega)
  refine s_loc (L2 := [(0, .ref (ba 0)), (1, .int (nI S)), (2, .int (cm)), (7, .int (nI 0))]) [2, 3, 4, 0] rfl ?_
  exact L49 (_ + 1) 0 (Nat.zero_le _) (Nat.lt_succ_self _)
def AMg (s : Nat → Nat → Int32) (n : Nat) (sg : Int32) (L : List Pr) (Y : Nat → Nat → Int32) : Prop := ALg s n sg L Y ∧ ∀ r ∈ L, okP s r = true
theorem AMg.no {s Y : Nat → Nat → Int32} {n : Nat} {sg : Int32} {L : List Pr} {q : Pr} (h : AMg s n sg L Y) (ho : ¬ okP s q = true) : AMg s n sg (L ++ okL s q) Y := by
  unfold okL
  rw [if_neg ho, List.append_nil]
  exact h
theorem AMg.ok {s Y : Nat → Nat → Int32} {n : Nat} {sg : Int32} {L : List Pr} {q : Pr} (h : AMg s n sg L Y) (hB : NB s n) (ho : okP s q = true) (hk : q.1 < 6) (hlen : (L ++ okL s q).length ≤ 9216) : AMg s n sg (L ++ okL s q) (makSg s n q sg Y) := by
  have e : okL s q = [q] := by unfold okL; rw [if_pos ho]
  rw [e] at hlen ⊢
  rw [len_app] at hlen
  refine ⟨h.1.add hB h.2 ho hk (by omega), fun r hr => ?_⟩
  rcases List.mem_append.mp hr with h1 | h1
  · exact h.2 r h1
  · rw [List.mem_singleton.mp h1]; exact ho
theorem nearW_log {s Y : Nat → Nat → Int32} {q : Pr} (h : plFg s q < 0) : ∀ o, nearWg s q Y o = Y := by
  intro o
  induction o with
  | zero => rfl
  | succ o ih =>
    rw [nearWg]
    split
    · exact ih
    · unfold nearUg; rw [if_neg (may_log h)]; exact ih
theorem nw_end1g {s Y : Nat → Nat → Int32} {q : Pr} {o n : Nat} (h : ¬ o < n) (h2 : o ≤ n) : setN (hitQg s q) o = hsQg s n q ∧ nearWg s q Y o = nearWg s q Y n := by
  obtain rfl : o = n := by omega
  exact ⟨rfl, rfl⟩
theorem nw_end2g {s Y : Nat → Nat → Int32} {q : Pr} {o n : Nat} (h : plFg s q < 0) : setN (hitQg s q) o = hsQg s n q ∧ nearWg s q Y o = nearWg s q Y n := by
  have h0 : ∀ u, ¬ hitQg s q u = true := fun u k => may_log h (hit_mayg k)
  exact ⟨(setN_none h0).trans (setN_none (i := n) h0).symm, (nearW_log h o).trans (nearW_log h n).symm⟩
theorem AMg.cr {s Y : Nat → Nat → Int32} {n : Nat} {sg v : Int32} {L : List Pr} (h : AMg s n sg L Y) : AMg s n sg L (st1 Y 0 17 v) := by
  obtain ⟨⟨hA, h18, h14, h15, h16, h9, h26, h8, hs, hp⟩, ho⟩ := h
  have e : ∀ j, j ≠ 17 → st1 Y 0 17 v 0 j = Y 0 j := fun j hj => st1_nj hj
  have r : ∀ r, r ≠ 0 → st1 Y 0 17 v r = Y r := fun r hr => st1_ne hr
  refine ⟨⟨hA.cg (fun k a b => e k (by omega)) (r 1 (by decide)) (r 2 (by decide)) (r 3 (by decide)) (r 6 (by decide)), ?_, ?_, ?_, ?_, ?_, ?_, ?_, ?_, ?_⟩, ho⟩
  · rw [e 18 (by decide)]; exact h18
  · rw [e 14 (by decide)]; exact h14
  · rw [e 15 (by decide)]; exact h15
  · rw [e 16 (by decide)]; exact h16
  · rw [r 9 (by decide)]; exact h9
  · rw [e 26 (by decide), e 27 (by decide)]; exact h26
  · rw [r 8 (by decide)]; exact h8
  · rw [r 4 (by decide), r 5 (by decide), r 7 (by decide)]; exact hs
  · intro p a b
    have := hp p a b
    unfold SKg at this ⊢
    rw [e 19 (by decide), e 20 (by decide), e 21 (by decide), e 22 (by decide), e 23 (by decide), e 24 (by decide), e 25 (by decide)]
    exact this
theorem AMg.zero {s Y : Nat → Nat → Int32} {n : Nat} {sg : Int32} (h : AIg s Y n) : AMg s n sg [] (AZ sg n Y) := by
  refine ⟨⟨h.cg (fun k a b => ?_) rfl rfl rfl rfl, rfl, rfl, rfl, rfl, ?_, ⟨rfl, fun k => absurd rfl k⟩, ?_, ?_, ?_⟩, fun r hr => absurd hr List.not_mem_nil⟩
  · unfold AZ
    rw [if_pos rfl, if_neg (by omega), if_neg (by omega), if_neg (by omega)]
  · intro k w hk hw
    unfold AZ
    rw [if_neg (by decide), if_pos rfl, if_pos (by omega)]
    rfl
  · intro u hu
    show (if u < n then (-2 : Int32) else Y 8 u) = -2
    rw [if_pos hu]
  · intro _ u hu
    refine ⟨?_, ?_, ?_⟩
    · show (if u < n then nI 0 else Y 4 u) = nI 0
      rw [if_pos hu]
    · show (if u < n then nI 0 else Y 5 u) = nI 0
      rw [if_pos hu]
    · show (if u < n then nI 0 else Y 7 u) = nI 0
      rw [if_pos hu]
  · intro p _ hp; exact absurd hp (Nat.not_lt_zero _)
set_option maxHeartbeats 4000000 in
set_option maxRecDepth 100000 in
theorem x4z_makesg {l : Launch} {D : va_G} {gt : Nat → Nat} {ba ad : Nat → Nat} {ct : Nat → ClassId} {Nw : Nat} {τ σ ξ : Nat → Nat → Int32} (s : Nat → Nat → Int32) (n : Nat) (sg : Int32) (L : List Pr) (k u v : Nat) (hL : AMg s n sg L σ) (hnN : n ≤ Nw) (hN8 : Nw ≤ 8) (hT : TA s τ n) (hB : NB s n) (hk : k < 6) (hu : u < n) (hv : v < n) (huv : u ≠ v) (hlen : (L ++ okL s (k, u, v, none)).length ≤ 9216) : Cv l D gt yX4_makes cX4_makes 10 2 51 0 0 [.ref (ba 0), .int (nI k), .int (nI u), .int (nI v), .int ((-1))] (aw ba ct Nw σ ad τ ξ) (tysA ct) (fun σ2 => AMg s n sg (L ++ okL s (k, u, v, none)) σ2) (fun σ2 : Nat → Nat → Int32 => aw ba ct Nw σ2 ad τ ξ) (fun _ => tysA ct) := by
  refine Cv.start RX4 (by decide) rfl (Nat.le_of_ble_eq_true rfl) rfl ?_
  intro pP eE sS mM aA bB hM cC QQ AA E Rt
  have hA := hL.1.1
  have h256 : hsQg s n (k, u, v, none) < 256 := setN_256 _ (by omega)
  refine s_aload_n E dX4_makes_0 (i := 0) (j := 0) rfl rfl ?_
  refine s_iload_n E dX4_makes_1 (i := 1) (j := 1) rfl rfl ?_
  refine s_aload_n E dX4_makes_2 (i := 0) (j := 0) rfl rfl ?_
  refine awX4_g0_2 E dX4_makes_3 ?_
  refine s_iload_n E dX4_makes_6 (i := 2) (j := 2) rfl rfl ?_
  refine s_iload_n E dX4_makes_7 (i := 3) (j := 3) rfl rfl ?_
  refine s_iload E dX4_makes_8 (i := 4) (j := 4) rfl ?_
  refine s_iconst E dX4_makes_10 (v := nI 1) (by decide) ?_
  refine c_goi0 E (rV E (cutS _ _) (x4z_sumCg s n k u v (hA) (hnN) (hN8) (hk) (hu) (hv)) K_X4_137 (Nat.le_of_ble_eq_true rfl) (Nat.le_of_ble_eq_true rfl) (Nat.zero_le _) (Nat.zero_le _) 0 rfl rfl rfl rfl (Nat.le_of_ble_eq_true rfl) dX4_makes_11) (fun r11 w11 h11 => ?_)
  obtain ⟨rfl, rfl⟩ := h11
  refine s_istore E (L2 := [(5, .int (pvF s (k, u, v, none))), (0, .ref (ba 0)), (1, .int (nI k)), (2, .int (nI u)), (3, .int (nI v)), (4, .int ((-1)))]) dX4_makes_14 (Nat.le_of_ble_eq_true rfl) rfl ?_
  refine s_iload E dX4_makes_16 (i := 5) (j := 0) rfl ?_
  refine s_iconst E dX4_makes_18 (v := nI 1) (by decide) ?_
  refine s_aload_n E dX4_makes_19 (i := 0) (j := 1) rfl rfl ?_
  refine awX4_g0_10 E (v := s 0 30) (hA.2.1) dX4_makes_20 ?_
  refine c_gos E (rSN E (cutZ _ _) (x1z_isIn (pvF s (k, u, v, none)) (nI 1) (s 0 30)) K_X4_141 (Nat.le_of_ble_eq_true rfl) (Nat.le_of_ble_eq_true rfl) (Nat.zero_le _) (Nat.zero_le _) rfl rfl (Nat.le_of_ble_eq_true rfl) dX4_makes_23) (fun r23 h23 => ?_)
  subst h23
  refine s_if_ne E dX4_makes_26 (tgt := 30) rfl (fun c26 => ?_) (fun c26 => ?_)
  · have c26 := bI_n0 c26
    refine s_aload_n E dX4_makes_30 (i := 0) (j := 1) rfl rfl ?_
    refine awX4_g0_5 E dX4_makes_31 ?_
    refine s_iload_n E dX4_makes_34 (i := 2) (j := 3) rfl rfl ?_
    refine aw_l6 E (v := s 25 (73 + u)) (u) (rfl) (by omega) hN8 ((hA.2.2.2.2.2 u (by omega)).2.2.2) dX4_makes_35 ?_
    refine s_aload_n E dX4_makes_36 (i := 0) (j := 1) rfl rfl ?_
    refine awX4_g0_5 E dX4_makes_37 ?_
    refine s_iload_n E dX4_makes_40 (i := 3) (j := 4) rfl rfl ?_
    refine aw_l6 E (v := s 25 (73 + v)) (v) (rfl) (by omega) hN8 ((hA.2.2.2.2.2 v (by omega)).2.2.2) dX4_makes_41 ?_
    refine s_iand E dX4_makes_42 ?_
    refine s_iload E dX4_makes_43 (i := 4) (j := 5) rfl ?_
    refine s_if_ge E dX4_makes_45 (tgt := 54) rfl (fun c45 => absurd c45 (by decide)) (fun c45 => ?_)
    have c45 := Int32.not_le.mp c45
    refine s_sipush E dX4_makes_48 (v := nI 255) (by decide) ?_
    refine s_goto E dX4_makes_51 (tgt := 61) rfl ?_
    refine s_iand_ E dX4_makes_61 (v := pcF s (k, u, v, none)) (rfl) ?_
    refine s_istore E (L2 := [(6, .int (pcF s (k, u, v, none))), (5, .int (pvF s (k, u, v, none))), (0, .ref (ba 0)), (1, .int (nI k)), (2, .int (nI u)), (3, .int (nI v)), (4, .int ((-1)))]) dX4_makes_62 (Nat.le_of_ble_eq_true rfl) rfl ?_
    refine s_iload E dX4_makes_64 (i := 6) (j := 0) rfl ?_
    refine s_if_ne E dX4_makes_66 (tgt := 70) rfl (fun c66 => ?_) (fun c66 => ?_)
    · refine s_aload_n E dX4_makes_70 (i := 0) (j := 2) rfl rfl ?_
      refine s_iload_n E dX4_makes_71 (i := 1) (j := 3) rfl rfl ?_
      refine s_aload_n E dX4_makes_72 (i := 0) (j := 2) rfl rfl ?_
      refine awX4_g0_1 E dX4_makes_73 ?_
      refine s_iload_n E dX4_makes_76 (i := 2) (j := 4) rfl rfl ?_
      refine s_iload_n E dX4_makes_77 (i := 3) (j := 5) rfl rfl ?_
      refine s_iload E dX4_makes_78 (i := 4) (j := 6) rfl ?_
      refine s_iconst E dX4_makes_80 (v := nI 0) (by decide) ?_
      refine c_goi0 E (rV E (cutS _ _) (x4z_sumPg s n k u v (hA) (hnN) (hN8) (hk) (hu) (hv)) K_X4_137 (Nat.le_of_ble_eq_true rfl) (Nat.le_of_ble_eq_true rfl) (Nat.zero_le _) (Nat.zero_le _) 0 rfl rfl rfl rfl (Nat.le_of_ble_eq_true rfl) dX4_makes_81) (fun r81 w81 h81 => ?_)
      obtain ⟨rfl, rfl⟩ := h81
      refine s_aload_n E dX4_makes_84 (i := 0) (j := 2) rfl rfl ?_
      refine awX4_g0_28 E dX4_makes_85 ?_
      refine awX4_g10_4 E dX4_makes_88 ?_
      refine awX4_g11_2 E dX4_makes_91 ?_
      refine s_getsN E E.2.2.2.2.2.2.1.1.2.2.1 q891 dX4_makes_94 ?_
      refine s_iload_n E dX4_makes_97 (i := 1) (j := 3) rfl rfl ?_
      refine s_tald E E.2.2.2.2.2.2.1.1.2.2.2.1 (k) (rfl) (by omega) (by decide) (v := .int (nI (k / 2))) (congrArg Value.int (order_at k hk)) dX4_makes_98 ?_
      refine aw_l12 E (v := s 3 (4 + k / 2)) (k / 2) (rfl) (by omega) (by unfold losF; rw [if_pos (by omega)]; exact hT.1 _ (by omega)) dX4_makes_99 ?_
      refine s_isub_ E dX4_makes_100 (v := plFg s (k, u, v, none)) (plF_pug s (k, u, v, none)) ?_
      refine s_istore E (L2 := [(7, .int (plFg s (k, u, v, none))), (6, .int (pcF s (k, u, v, none))), (5, .int (pvF s (k, u, v, none))), (0, .ref (ba 0)), (1, .int (nI k)), (2, .int (nI u)), (3, .int (nI v)), (4, .int ((-1)))]) dX4_makes_101 (Nat.le_of_ble_eq_true rfl) rfl ?_
      refine s_iconst E dX4_makes_103 (v := nI 0) (by decide) ?_
      refine s_istore E (L2 := [(8, .int (nI 0)), (7, .int (plFg s (k, u, v, none))), (6, .int (pcF s (k, u, v, none))), (5, .int (pvF s (k, u, v, none))), (0, .ref (ba 0)), (1, .int (nI k)), (2, .int (nI u)), (3, .int (nI v)), (4, .int ((-1)))]) dX4_makes_104 (Nat.le_of_ble_eq_true rfl) rfl ?_
      have J178 : Sm pP l eE { frames := 2, cells := 0, slots := 0, locals := 51 } sS mM aA bB hM cC QQ AA D 10 0 0 (aw ba ct Nw (nearWg s (k, u, v, none) σ n) ad τ ξ) 178 [(0, .ref (ba 0)), (1, .int (nI k)), (2, .int (nI u)), (3, .int (nI v)), (4, .int ((-1))), (5, .int (pvF s (k, u, v, none))), (6, .int (pcF s (k, u, v, none))), (7, .int (plFg s (k, u, v, none))), (8, .int (nI (hsQg s n (k, u, v, none))))] [] := by
        have J197 : Sm pP l eE { frames := 2, cells := 0, slots := 0, locals := 51 } sS mM aA bB hM cC QQ AA D 10 0 0 (aw ba ct Nw (mkZg s n (k, u, v, none) sg σ) ad τ ξ) 197 [(0, .ref (ba 0)), (1, .int (nI k)), (2, .int (nI u)), (3, .int (nI v)), (4, .int ((-1))), (5, .int (pvF s (k, u, v, none))), (6, .int (pcF s (k, u, v, none))), (7, .int (plFg s (k, u, v, none))), (8, .int (nI (hsQg s n (k, u, v, none))))] [] := by
          obtain ⟨Z, hZ⟩ : ∃ Z, Z = mkZg s n (k, u, v, none) sg σ := ⟨_, rfl⟩
          refine s_ws (ws2 := aw ba ct Nw Z ad τ ξ) (congrArg (fun z => aw ba ct Nw z ad τ ξ) (show _ = _ from by rw [hZ])) ?_
          refine s_aload_n E dX4_makes_197 (i := 0) (j := 0) rfl rfl ?_
          refine awX4_g0_8 E dX4_makes_198 ?_
          refine s_iconst E dX4_makes_201 (v := nI 3) (by decide) ?_
          refine s_iload_n E dX4_makes_202 (i := 1) (j := 1) rfl rfl ?_
          refine s_imul_ E dX4_makes_203 (v := nI (3 * k)) (pk_mul _ _) ?_
          refine s_dup2 E dX4_makes_204 rfl rfl ?_
          refine aw_l9 E (v := Z 9 (3 * k)) (3 * k) (rfl) (by omega) (rfl) dX4_makes_205 ?_
          refine s_iconst E dX4_makes_206 (v := nI 1) (by decide) ?_
          refine s_iadd E dX4_makes_207 ?_
          refine aw_s9 E (3 * k) (rfl) (by omega) dX4_makes_208 ?_
          refine s_aload_n E dX4_makes_209 (i := 0) (j := 0) rfl rfl ?_
          refine awX4_g0_8 E dX4_makes_210 ?_
          refine s_iconst E dX4_makes_213 (v := nI 3) (by decide) ?_
          refine s_iload_n E dX4_makes_214 (i := 1) (j := 1) rfl rfl ?_
          refine s_imul_ E dX4_makes_215 (v := nI (3 * k)) (pk_mul _ _) ?_
          refine s_iconst E dX4_makes_216 (v := nI 1) (by decide) ?_
          refine s_iadd_ E dX4_makes_217 (v := nI ((3 * k) + 1)) (nI_add _ _) ?_
          refine s_dup2 E dX4_makes_218 rfl rfl ?_
          refine aw_l9 E (v := Z 9 (3 * k + 1)) ((3 * k) + 1) (rfl) (by omega) (st1_nj (by omega)) dX4_makes_219 ?_
          refine s_iload E dX4_makes_220 (i := 7) (j := 7) rfl ?_
          have J230 : Sm pP l eE { frames := 2, cells := 0, slots := 0, locals := 51 } sS mM aA bB hM cC QQ AA D 10 0 0 (aw ba ct Nw (st1 Z 9 (3 * k) ((Z 9 (3 * k)) + (nI 1))) ad τ ξ) 230 [(0, .ref (ba 0)), (1, .int (nI k)), (2, .int (nI u)), (3, .int (nI v)), (4, .int ((-1))), (5, .int (pvF s (k, u, v, none))), (6, .int (pcF s (k, u, v, none))), (7, .int (plFg s (k, u, v, none))), (8, .int (nI (hsQg s n (k, u, v, none))))] [.int (nI (if plFg s (k, u, v, none) < 0 then 0 else 1)), .int (Z 9 (3 * k + 1)), .int (nI ((3 * k) + 1)), .ref (ba 9)] := by
            refine s_iadd E dX4_makes_230 ?_
            refine aw_s9 E ((3 * k) + 1) (rfl) (by omega) dX4_makes_231 ?_
            refine s_aload_n E dX4_makes_232 (i := 0) (j := 0) rfl rfl ?_
            refine awX4_g0_8 E dX4_makes_233 ?_
            refine s_iconst E dX4_makes_236 (v := nI 3) (by decide) ?_
            refine s_iload_n E dX4_makes_237 (i := 1) (j := 1) rfl rfl ?_
            refine s_imul_ E dX4_makes_238 (v := nI (3 * k)) (pk_mul _ _) ?_
            refine s_iconst E dX4_makes_239 (v := nI 2) (by decide) ?_
            refine s_iadd_ E dX4_makes_240 (v := nI ((3 * k) + 2)) (nI_add _ _) ?_
            refine s_dup2 E dX4_makes_241 rfl rfl ?_
            refine aw_l9 E (v := Z 9 (3 * k + 2)) ((3 * k) + 2) (rfl) (by omega) ((st1_nj (by omega)).trans (st1_nj (by omega))) dX4_makes_242 ?_
            refine s_iload E dX4_makes_243 (i := 8) (j := 8) rfl ?_
            refine c_gos E (rS E (cutZ _ _) (j8z_bitCount (hsQg s n (k, u, v, none)) (h256)) K_X4_156 (Nat.le_of_ble_eq_true rfl) (Nat.le_of_ble_eq_true rfl) (Nat.zero_le _) (Nat.zero_le _) rfl rfl (Nat.le_of_ble_eq_true rfl) dX4_makes_245) (fun r245 h245 => ?_)
            subst h245
            refine s_iadd E dX4_makes_248 ?_
            refine aw_s9 E ((3 * k) + 2) (rfl) (by omega) dX4_makes_249 ?_
            refine s_ws (ws2 := aw ba ct Nw (srS k (hsQg s n (k, u, v, none)) (plFg s (k, u, v, none)) Z) ad τ ξ) (congrArg (fun z => aw ba ct Nw z ad τ ξ) (rfl)) ?_
            have J285 : Sm pP l eE { frames := 2, cells := 0, slots := 0, locals := 51 } sS mM aA bB hM cC QQ AA D 10 0 0 (aw ba ct Nw (ldS (hsQg s n (k, u, v, none)) (plFg s (k, u, v, none)) (srS k (hsQg s n (k, u, v, none)) (plFg s (k, u, v, none)) Z)) ad τ ξ) 285 [(0, .ref (ba 0)), (1, .int (nI k)), (2, .int (nI u)), (3, .int (nI v)), (4, .int ((-1))), (5, .int (pvF s (k, u, v, none))), (6, .int (pcF s (k, u, v, none))), (7, .int (plFg s (k, u, v, none))), (8, .int (nI (hsQg s n (k, u, v, none))))] [] := by
              have J345 : Sm pP l eE { frames := 2, cells := 0, slots := 0, locals := 51 } sS mM aA bB hM cC QQ AA D 10 0 0 (aw ba ct Nw (skSg s n (k, u, v, none) (ldS (hsQg s n (k, u, v, none)) (plFg s (k, u, v, none)) (srS k (hsQg s n (k, u, v, none)) (plFg s (k, u, v, none)) Z))) ad τ ξ) 345 [(0, .ref (ba 0)), (1, .int (nI k)), (2, .int (nI u)), (3, .int (nI v)), (4, .int ((-1))), (5, .int (pvF s (k, u, v, none))), (6, .int (pcF s (k, u, v, none))), (7, .int (plFg s (k, u, v, none))), (8, .int (nI (hsQg s n (k, u, v, none))))] [] := by
                refine s_aload_n E dX4_makes_345 (i := 0) (j := 0) rfl rfl ?_
                refine s_dup E dX4_makes_346 rfl ?_
                refine awX4_g0_14 E (v := (skSg s n (k, u, v, none) (ldS (hsQg s n (k, u, v, none)) (plFg s (k, u, v, none)) (srS k (hsQg s n (k, u, v, none)) (plFg s (k, u, v, none)) Z))) 0 14) (rfl) dX4_makes_347 ?_
                refine s_iconst E dX4_makes_350 (v := nI 1) (by decide) ?_
                refine s_iadd E dX4_makes_351 ?_
                refine awX4_p0_14 E dX4_makes_352 ?_
                refine s_aload_n E dX4_makes_355 (i := 0) (j := 0) rfl rfl ?_
                refine s_dup E dX4_makes_356 rfl ?_
                refine awX4_g0_15 E (v := (skSg s n (k, u, v, none) (ldS (hsQg s n (k, u, v, none)) (plFg s (k, u, v, none)) (srS k (hsQg s n (k, u, v, none)) (plFg s (k, u, v, none)) Z))) 0 15) (rfl) dX4_makes_357 ?_
                refine s_iload E dX4_makes_360 (i := 7) (j := 7) rfl ?_
                have J370 : Sm pP l eE { frames := 2, cells := 0, slots := 0, locals := 51 } sS mM aA bB hM cC QQ AA D 10 0 0 (aw ba ct Nw (st1 (skSg s n (k, u, v, none) (ldS (hsQg s n (k, u, v, none)) (plFg s (k, u, v, none)) (srS k (hsQg s n (k, u, v, none)) (plFg s (k, u, v, none)) Z))) 0 14 (((skSg s n (k, u, v, none) (ldS (hsQg s n (k, u, v, none)) (plFg s (k, u, v, none)) (srS k (hsQg s n (k, u, v, none)) (plFg s (k, u, v, none)) Z))) 0 14) + (nI 1))) ad τ ξ) 370 [(0, .ref (ba 0)), (1, .int (nI k)), (2, .int (nI u)), (3, .int (nI v)), (4, .int ((-1))), (5, .int (pvF s (k, u, v, none))), (6, .int (pcF s (k, u, v, none))), (7, .int (plFg s (k, u, v, none))), (8, .int (nI (hsQg s n (k, u, v, none))))] [.int (nI (if plFg s (k, u, v, none) < 0 then 0 else 1)), .int ((skSg s n (k, u, v, none) (ldS (hsQg s n (k, u, v, none)) (plFg s (k, u, v, none)) (srS k (hsQg s n (k, u, v, none)) (plFg s (k, u, v, none)) Z))) 0 15), .ref (ba 0)] := by
                  refine s_iadd E dX4_makes_370 ?_
                  refine awX4_p0_15 E dX4_makes_371 ?_
                  refine s_aload_n E dX4_makes_374 (i := 0) (j := 0) rfl rfl ?_
                  refine s_dup E dX4_makes_375 rfl ?_
                  refine awX4_g0_16 E (v := (skSg s n (k, u, v, none) (ldS (hsQg s n (k, u, v, none)) (plFg s (k, u, v, none)) (srS k (hsQg s n (k, u, v, none)) (plFg s (k, u, v, none)) Z))) 0 16) (rfl) dX4_makes_376 ?_
                  refine s_iload E dX4_makes_379 (i := 8) (j := 8) rfl ?_
                  refine c_gos E (rS E (cutZ _ _) (j8z_bitCount (hsQg s n (k, u, v, none)) (h256)) K_X4_156 (Nat.le_of_ble_eq_true rfl) (Nat.le_of_ble_eq_true rfl) (Nat.zero_le _) (Nat.zero_le _) rfl rfl (Nat.le_of_ble_eq_true rfl) dX4_makes_381) (fun r381 h381 => ?_)
                  subst h381
                  refine s_iadd E dX4_makes_384 ?_
                  refine awX4_p0_16 E dX4_makes_385 ?_
                  exact Rt (st1 (st1 (st1 (skSg s n (k, u, v, none) (ldS (hsQg s n (k, u, v, none)) (plFg s (k, u, v, none)) (srS k (hsQg s n (k, u, v, none)) (plFg s (k, u, v, none)) Z))) 0 14 (((skSg s n (k, u, v, none) (ldS (hsQg s n (k, u, v, none)) (plFg s (k, u, v, none)) (srS k (hsQg s n (k, u, v, none)) (plFg s (k, u, v, none)) Z))) 0 14) + (nI 1))) 0 15 (((skSg s n (k, u, v, none) (ldS (hsQg s n (k, u, v, none)) (plFg s (k, u, v, none)) (srS k (hsQg s n (k, u, v, none)) (plFg s (k, u, v, none)) Z))) 0 15) + (nI (if plFg s (k, u, v, none) < 0 then 0 else 1)))) 0 16 (((skSg s n (k, u, v, none) (ldS (hsQg s n (k, u, v, none)) (plFg s (k, u, v, none)) (srS k (hsQg s n (k, u, v, none)) (plFg s (k, u, v, none)) Z))) 0 16) + (nI (pop (hsQg s n (k, u, v, none)))))) dX4_makes_388 (by subst hZ; exact hL.ok hB (by unfold okP; simp only [Bool.and_eq_true, Bool.not_eq_true', decide_eq_false_iff_not]; exact ⟨c26, c66⟩) hk hlen) rfl (Nat.le_refl _) (Nat.le_refl _) E.2.2.2.2.2.1
                refine s_if_lt E dX4_makes_362 (tgt := 369) rfl (fun c362 => ?_) (fun c362 => ?_)
                · refine s_iconst E dX4_makes_369 (v := nI 0) (by decide) ?_
                  refine s_top (v2 := nI (if plFg s (k, u, v, none) < 0 then 0 else 1)) (by rw [if_pos c362]) ?_
                  exact J370
                · refine s_iconst E dX4_makes_365 (v := nI 1) (by decide) ?_
                  refine s_goto E dX4_makes_366 (tgt := 370) rfl ?_
                  refine s_top (v2 := nI (if plFg s (k, u, v, none) < 0 then 0 else 1)) (by rw [if_neg c362]) ?_
                  exact J370
              refine s_aload_n E dX4_makes_285 (i := 0) (j := 0) rfl rfl ?_
              refine awX4_g0_14 E (v := (ldS (hsQg s n (k, u, v, none)) (plFg s (k, u, v, none)) (srS k (hsQg s n (k, u, v, none)) (plFg s (k, u, v, none)) Z)) 0 14) (rfl) dX4_makes_286 ?_
              refine s_aload_n E dX4_makes_289 (i := 0) (j := 0) rfl rfl ?_
              refine awX4_g0_18 E (v := (ldS (hsQg s n (k, u, v, none)) (plFg s (k, u, v, none)) (srS k (hsQg s n (k, u, v, none)) (plFg s (k, u, v, none)) Z)) 0 18) (rfl) dX4_makes_290 ?_
              refine s_icmp_ne E dX4_makes_293 (tgt := 345) rfl (fun c293 => ?_) (fun c293 => ?_)
              · refine s_ws (ws2 := aw ba ct Nw (skSg s n (k, u, v, none) (ldS (hsQg s n (k, u, v, none)) (plFg s (k, u, v, none)) (srS k (hsQg s n (k, u, v, none)) (plFg s (k, u, v, none)) Z))) ad τ ξ) (congrArg (fun z => aw ba ct Nw z ad τ ξ) (show _ = _ from by unfold skSg; rw [if_neg c293])) ?_
                exact J345
              · refine s_aload_n E dX4_makes_296 (i := 0) (j := 0) rfl rfl ?_
                refine s_iload_n E dX4_makes_297 (i := 1) (j := 1) rfl rfl ?_
                refine awX4_p0_19 E dX4_makes_298 ?_
                refine s_aload_n E dX4_makes_301 (i := 0) (j := 0) rfl rfl ?_
                refine s_iload_n E dX4_makes_302 (i := 2) (j := 2) rfl rfl ?_
                refine awX4_p0_20 E dX4_makes_303 ?_
                refine s_aload_n E dX4_makes_306 (i := 0) (j := 0) rfl rfl ?_
                refine s_iload_n E dX4_makes_307 (i := 3) (j := 3) rfl rfl ?_
                refine awX4_p0_21 E dX4_makes_308 ?_
                refine s_aload_n E dX4_makes_311 (i := 0) (j := 0) rfl rfl ?_
                refine s_iload E dX4_makes_312 (i := 4) (j := 4) rfl ?_
                refine s_if_ge E dX4_makes_314 (tgt := 322) rfl (fun c314 => absurd c314 (by decide)) (fun c314 => ?_)
                have c314 := Int32.not_le.mp c314
                refine s_bipush E dX4_makes_317 (v := (-2)) (by decide) ?_
                refine s_goto E dX4_makes_319 (tgt := 324) rfl ?_
                refine awX4_p0_22 E dX4_makes_324 ?_
                refine s_aload_n E dX4_makes_327 (i := 0) (j := 0) rfl rfl ?_
                refine s_iload E dX4_makes_328 (i := 5) (j := 5) rfl ?_
                refine awX4_p0_23 E dX4_makes_330 ?_
                refine s_aload_n E dX4_makes_333 (i := 0) (j := 0) rfl rfl ?_
                refine s_iload E dX4_makes_334 (i := 7) (j := 7) rfl ?_
                refine awX4_p0_24 E dX4_makes_336 ?_
                refine s_aload_n E dX4_makes_339 (i := 0) (j := 0) rfl rfl ?_
                refine s_iload E dX4_makes_340 (i := 8) (j := 8) rfl ?_
                refine awX4_p0_25 E dX4_makes_342 ?_
                refine s_ws (ws2 := aw ba ct Nw (skSg s n (k, u, v, none) (ldS (hsQg s n (k, u, v, none)) (plFg s (k, u, v, none)) (srS k (hsQg s n (k, u, v, none)) (plFg s (k, u, v, none)) Z))) ad τ ξ) (congrArg (fun z => aw ba ct Nw z ad τ ξ) (show _ = _ from by unfold skSg; rw [if_pos c293]; rfl)) ?_
                exact J345
            refine s_iload E dX4_makes_250 (i := 8) (j := 8) rfl ?_
            refine s_if_eq E dX4_makes_252 (tgt := 285) rfl (fun c252 => ?_) (fun c252 => ?_)
            · have c252 : hsQg s n (k, u, v, none) = 0 := (nI_eq (a := hsQg s n (k, u, v, none)) (b := 0) (by omega) (by omega)).mp c252
              refine s_ws (ws2 := aw ba ct Nw (ldS (hsQg s n (k, u, v, none)) (plFg s (k, u, v, none)) (srS k (hsQg s n (k, u, v, none)) (plFg s (k, u, v, none)) Z)) ad τ ξ) (congrArg (fun z => aw ba ct Nw z ad τ ξ) (show _ = _ from by unfold ldS; rw [if_neg (fun h => h.1 c252)])) ?_
              exact J285
            · have c252 : ¬ hsQg s n (k, u, v, none) = 0 := fun h => c252 ((nI_eq (a := hsQg s n (k, u, v, none)) (b := 0) (by omega) (by omega)).mpr h)
              refine s_aload_n E dX4_makes_255 (i := 0) (j := 0) rfl rfl ?_
              refine awX4_g0_26 E (v := (srS k (hsQg s n (k, u, v, none)) (plFg s (k, u, v, none)) Z) 0 26) (rfl) dX4_makes_256 ?_
              refine s_if_lt E dX4_makes_259 (tgt := 271) rfl (fun c259 => ?_) (fun c259 => ?_)
              · refine s_aload_n E dX4_makes_271 (i := 0) (j := 0) rfl rfl ?_
                refine s_aload_n E dX4_makes_272 (i := 0) (j := 0) rfl rfl ?_
                refine awX4_g0_14 E (v := (srS k (hsQg s n (k, u, v, none)) (plFg s (k, u, v, none)) Z) 0 14) (rfl) dX4_makes_273 ?_
                refine awX4_p0_26 E dX4_makes_276 ?_
                refine s_aload_n E dX4_makes_279 (i := 0) (j := 0) rfl rfl ?_
                refine s_iload E dX4_makes_280 (i := 7) (j := 7) rfl ?_
                refine awX4_p0_27 E dX4_makes_282 ?_
                refine s_ws (ws2 := aw ba ct Nw (ldS (hsQg s n (k, u, v, none)) (plFg s (k, u, v, none)) (srS k (hsQg s n (k, u, v, none)) (plFg s (k, u, v, none)) Z)) ad τ ξ) (congrArg (fun z => aw ba ct Nw z ad τ ξ) (show _ = _ from by unfold ldS; rw [if_pos ⟨c252, by first | exact Or.inl c259 | exact Or.inr c268⟩])) ?_
                exact J285
              · refine s_iload E dX4_makes_262 (i := 7) (j := 7) rfl ?_
                refine s_aload_n E dX4_makes_264 (i := 0) (j := 0) rfl rfl ?_
                refine awX4_g0_27 E (v := (srS k (hsQg s n (k, u, v, none)) (plFg s (k, u, v, none)) Z) 0 27) (rfl) dX4_makes_265 ?_
                refine s_icmp_le E dX4_makes_268 (tgt := 285) rfl (fun c268 => ?_) (fun c268 => ?_)
                · have c268 := Int32.not_lt.mpr c268
                  refine s_ws (ws2 := aw ba ct Nw (ldS (hsQg s n (k, u, v, none)) (plFg s (k, u, v, none)) (srS k (hsQg s n (k, u, v, none)) (plFg s (k, u, v, none)) Z)) ad τ ξ) (congrArg (fun z => aw ba ct Nw z ad τ ξ) (show _ = _ from by unfold ldS; rw [if_neg (fun h => Or.elim h.2 c259 c268)])) ?_
                  exact J285
                · have c268 := Int32.not_le.mp c268
                  refine s_aload_n E dX4_makes_271 (i := 0) (j := 0) rfl rfl ?_
                  refine s_aload_n E dX4_makes_272 (i := 0) (j := 0) rfl rfl ?_
                  refine awX4_g0_14 E (v := (srS k (hsQg s n (k, u, v, none)) (plFg s (k, u, v, none)) Z) 0 14) (rfl) dX4_makes_273 ?_
                  refine awX4_p0_26 E dX4_makes_276 ?_
                  refine s_aload_n E dX4_makes_279 (i := 0) (j := 0) rfl rfl ?_
                  refine s_iload E dX4_makes_280 (i := 7) (j := 7) rfl ?_
                  refine awX4_p0_27 E dX4_makes_282 ?_
                  refine s_ws (ws2 := aw ba ct Nw (ldS (hsQg s n (k, u, v, none)) (plFg s (k, u, v, none)) (srS k (hsQg s n (k, u, v, none)) (plFg s (k, u, v, none)) Z)) ad τ ξ) (congrArg (fun z => aw ba ct Nw z ad τ ξ) (show _ = _ from by unfold ldS; rw [if_pos ⟨c252, by first | exact Or.inl c259 | exact Or.inr c268⟩])) ?_
                  exact J285
          refine s_if_lt E dX4_makes_222 (tgt := 229) rfl (fun c222 => ?_) (fun c222 => ?_)
          · refine s_iconst E dX4_makes_229 (v := nI 0) (by decide) ?_
            refine s_top (v2 := nI (if plFg s (k, u, v, none) < 0 then 0 else 1)) (by rw [if_pos c222]) ?_
            exact J230
          · refine s_iconst E dX4_makes_225 (v := nI 1) (by decide) ?_
            refine s_goto E dX4_makes_226 (tgt := 230) rfl ?_
            refine s_top (v2 := nI (if plFg s (k, u, v, none) < 0 then 0 else 1)) (by rw [if_neg c222]) ?_
            exact J230
        have hAn := hA.cg (Z := nearWg s (k, u, v, none) σ n) (fun k _ _ => congrFun (nearW_rg (by decide) n) k) (nearW_rg (by decide) n) (nearW_rg (by decide) n) (nearW_rg (by decide) n) (nearW_rg (by decide) n)
        refine s_aload_n E dX4_makes_178 (i := 0) (j := 0) rfl rfl ?_
        refine awX4_g0_18 E (v := sg) ((congrFun (nearW_rg (by decide) n) 18).trans hL.1.2.1) dX4_makes_179 ?_
        refine s_if_ge E dX4_makes_182 (tgt := 197) rfl (fun c182 => ?_) (fun c182 => ?_)
        · have c182 := Int32.not_lt.mpr c182
          refine s_ws (ws2 := aw ba ct Nw (mkZg s n (k, u, v, none) sg σ) ad τ ξ) (congrArg (fun z => aw ba ct Nw z ad τ ξ) (show _ = _ from by unfold mkZg; rw [if_neg c182])) ?_
          exact J197
        · have c182 := Int32.not_le.mp c182
          refine s_aload_n E dX4_makes_185 (i := 0) (j := 0) rfl rfl ?_
          refine s_iload E dX4_makes_186 (i := 8) (j := 8) rfl ?_
          refine s_iload E dX4_makes_188 (i := 6) (j := 6) rfl ?_
          refine s_iload_n E dX4_makes_190 (i := 2) (j := 2) rfl rfl ?_
          refine s_iload_n E dX4_makes_191 (i := 3) (j := 3) rfl rfl ?_
          refine s_iload E dX4_makes_192 (i := 4) (j := 4) rfl ?_
          refine c_gov0 E (rV E (cutS _ _) (x4z_countsg s n k u v (hsQg s n (k, u, v, none)) (pcF s (k, u, v, none)) (hAn) (hnN) (hN8) (hu) (hv) (huv) (h256)) K_X4_152 (Nat.le_of_ble_eq_true rfl) (Nat.le_of_ble_eq_true rfl) (Nat.zero_le _) (Nat.zero_le _) 0 rfl rfl rfl rfl (Nat.le_of_ble_eq_true rfl) dX4_makes_194) (fun w194 h194 => ?_)
          subst h194
          refine s_ws (ws2 := aw ba ct Nw (mkZg s n (k, u, v, none) sg σ) ad τ ξ) (congrArg (fun z => aw ba ct Nw z ad τ ξ) (show _ = _ from by unfold mkZg; rw [if_pos c182])) ?_
          exact J197
      refine s_iconst E dX4_makes_106 (v := nI 0) (by decide) ?_
      refine s_istore E (L2 := [(9, .int (nI 0)), (8, .int (nI 0)), (7, .int (plFg s (k, u, v, none))), (6, .int (pcF s (k, u, v, none))), (5, .int (pvF s (k, u, v, none))), (0, .ref (ba 0)), (1, .int (nI k)), (2, .int (nI u)), (3, .int (nI v)), (4, .int ((-1)))]) dX4_makes_107 (Nat.le_of_ble_eq_true rfl) rfl ?_
      have L109 : ∀ (fuel : Nat) (o : Nat), (o ≤ n) → (n - o) < fuel → Sm pP l eE { frames := 2, cells := 0, slots := 0, locals := 51 } sS mM aA bB hM cC QQ AA D 10 0 0 (aw ba ct Nw (nearWg s (k, u, v, none) σ o) ad τ ξ) 109 [(0, .ref (ba 0)), (1, .int (nI k)), (2, .int (nI u)), (3, .int (nI v)), (4, .int ((-1))), (5, .int (pvF s (k, u, v, none))), (6, .int (pcF s (k, u, v, none))), (7, .int (plFg s (k, u, v, none))), (8, .int (nI (setN (hitQg s (k, u, v, none)) o))), (9, .int (nI o))] [] := by
        intro fuel
        induction fuel with
        | zero =>
          intro o hoi hf109
          exact absurd hf109 (Nat.not_lt_zero _)
        | succ fuel ih109 =>
          intro o hoi hf109
          have hAo := hA.cg (Z := nearWg s (k, u, v, none) σ o) (fun k _ _ => congrFun (nearW_rg (by decide) o) k) (nearW_rg (by decide) o) (nearW_rg (by decide) o) (nearW_rg (by decide) o) (nearW_rg (by decide) o)
          refine s_iload E dX4_makes_109 (i := 9) (j := 9) rfl ?_
          refine s_aload_n E dX4_makes_111 (i := 0) (j := 0) rfl rfl ?_
          refine awX4_g0_9 E (v := nI n) ((congrFun (nearW_rg (by decide) o) 9).trans hA.1) dX4_makes_112 ?_
          refine s_icmp_ge E dX4_makes_115 (tgt := 178) rfl (fun c115 => ?_) (fun c115 => ?_)
          · have c115 : ¬ o < n := fun h => absurd c115 (Int32.not_le.mpr ((nI_ltI (a := o) (b := n) (by omega) (by omega)).mpr h))
            have hx := nw_end1g (s := s) (q := (k, u, v, none)) (Y := σ) c115 hoi
            refine s_loc (L2 := [(0, .ref (ba 0)), (1, .int (nI k)), (2, .int (nI u)), (3, .int (nI v)), (4, .int ((-1))), (5, .int (pvF s (k, u, v, none))), (6, .int (pcF s (k, u, v, none))), (7, .int (plFg s (k, u, v, none))), (8, .int (nI (setN (hitQg s (k, u, v, none)) o)))]) [0, 1, 2, 3, 4, 5, 6, 7, 8] rfl ?_
            refine s_L (L2 := [(0, .ref (ba 0)), (1, .int (nI k)), (2, .int (nI u)), (3, .int (nI v)), (4, .int ((-1))), (5, .int (pvF s (k, u, v, none))), (6, .int (pcF s (k, u, v, none))), (7, .int (plFg s (k, u, v, none))), (8, .int (nI (hsQg s n (k, u, v, none))))]) (by rw [hx.1]) ?_
            refine s_ws (ws2 := aw ba ct Nw (nearWg s (k, u, v, none) σ n) ad τ ξ) (congrArg (fun z => aw ba ct Nw z ad τ ξ) (show _ = _ from by rw [hx.2])) ?_
            exact J178
          · have c115 : o < n := (nI_ltI (a := o) (b := n) (by omega) (by omega)).mp (Int32.not_le.mp c115)
            refine s_iload E dX4_makes_118 (i := 7) (j := 7) rfl ?_
            refine s_if_lt E dX4_makes_120 (tgt := 178) rfl (fun c120 => ?_) (fun c120 => ?_)
            · have hx := nw_end2g (s := s) (q := (k, u, v, none)) (Y := σ) (o := o) (n := n) c120
              refine s_loc (L2 := [(0, .ref (ba 0)), (1, .int (nI k)), (2, .int (nI u)), (3, .int (nI v)), (4, .int ((-1))), (5, .int (pvF s (k, u, v, none))), (6, .int (pcF s (k, u, v, none))), (7, .int (plFg s (k, u, v, none))), (8, .int (nI (setN (hitQg s (k, u, v, none)) o)))]) [0, 1, 2, 3, 4, 5, 6, 7, 8] rfl ?_
              refine s_L (L2 := [(0, .ref (ba 0)), (1, .int (nI k)), (2, .int (nI u)), (3, .int (nI v)), (4, .int ((-1))), (5, .int (pvF s (k, u, v, none))), (6, .int (pcF s (k, u, v, none))), (7, .int (plFg s (k, u, v, none))), (8, .int (nI (hsQg s n (k, u, v, none))))]) (by rw [hx.1]) ?_
              refine s_ws (ws2 := aw ba ct Nw (nearWg s (k, u, v, none) σ n) ad τ ξ) (congrArg (fun z => aw ba ct Nw z ad τ ξ) (show _ = _ from by rw [hx.2])) ?_
              exact J178
            · refine s_iload E dX4_makes_123 (i := 9) (j := 9) rfl ?_
              refine s_iload_n E dX4_makes_125 (i := 2) (j := 2) rfl rfl ?_
              refine s_icmp_eq E dX4_makes_126 (tgt := 172) rfl (fun c126 => ?_) (fun c126 => ?_)
              · have c126 : o = u := (nI_eq (a := o) (b := u) (by omega) (by omega)).mp c126
                have hin : inQ (k, u, v, none) o = true := inQ_y1 c126
                refine s_iinc E (L2 := [(9, .int (nI (o + 1))), (0, .ref (ba 0)), (1, .int (nI k)), (2, .int (nI u)), (3, .int (nI v)), (4, .int ((-1))), (5, .int (pvF s (k, u, v, none))), (6, .int (pcF s (k, u, v, none))), (7, .int (plFg s (k, u, v, none))), (8, .int (nI (setN (hitQg s (k, u, v, none)) o)))]) dX4_makes_172 (k := 9) rfl (v := nI (o + 1)) (nI_inc _) (Nat.le_of_ble_eq_true rfl) rfl ?_
                refine s_goto E dX4_makes_175 (tgt := 109) rfl ?_
                refine s_ws (ws2 := aw ba ct Nw (nearWg s (k, u, v, none) σ (o + 1)) ad τ ξ) (congrArg (fun z => aw ba ct Nw z ad τ ξ) (show _ = _ from by rw [nearWg, if_pos hin])) ?_
                refine s_loc (L2 := [(0, .ref (ba 0)), (1, .int (nI k)), (2, .int (nI u)), (3, .int (nI v)), (4, .int ((-1))), (5, .int (pvF s (k, u, v, none))), (6, .int (pcF s (k, u, v, none))), (7, .int (plFg s (k, u, v, none))), (8, .int (nI (setN (hitQg s (k, u, v, none)) o))), (9, .int (nI (o + 1)))]) [1, 2, 3, 4, 5, 6, 7, 8, 9, 0] rfl ?_
                refine s_L (L2 := [(0, .ref (ba 0)), (1, .int (nI k)), (2, .int (nI u)), (3, .int (nI v)), (4, .int ((-1))), (5, .int (pvF s (k, u, v, none))), (6, .int (pcF s (k, u, v, none))), (7, .int (plFg s (k, u, v, none))), (8, .int (nI (setN (hitQg s (k, u, v, none)) (o + 1)))), (9, .int (nI (o + 1)))]) (by rw [setN_f (f := hitQg s (k, u, v, none)) (fun h => may_ing hin (hit_mayg h))]) ?_
                exact ih109 (o + 1) (by omega) (by omega)
              · have c126 : ¬ o = u := fun h => c126 ((nI_eq (a := o) (b := u) (by omega) (by omega)).mpr h)
                refine s_iload E dX4_makes_129 (i := 9) (j := 9) rfl ?_
                refine s_iload_n E dX4_makes_131 (i := 3) (j := 3) rfl rfl ?_
                refine s_icmp_eq E dX4_makes_132 (tgt := 172) rfl (fun c132 => ?_) (fun c132 => ?_)
                · have c132 : o = v := (nI_eq (a := o) (b := v) (by omega) (by omega)).mp c132
                  have hin : inQ (k, u, v, none) o = true := inQ_y2 c132
                  refine s_iinc E (L2 := [(9, .int (nI (o + 1))), (0, .ref (ba 0)), (1, .int (nI k)), (2, .int (nI u)), (3, .int (nI v)), (4, .int ((-1))), (5, .int (pvF s (k, u, v, none))), (6, .int (pcF s (k, u, v, none))), (7, .int (plFg s (k, u, v, none))), (8, .int (nI (setN (hitQg s (k, u, v, none)) o)))]) dX4_makes_172 (k := 9) rfl (v := nI (o + 1)) (nI_inc _) (Nat.le_of_ble_eq_true rfl) rfl ?_
                  refine s_goto E dX4_makes_175 (tgt := 109) rfl ?_
                  refine s_ws (ws2 := aw ba ct Nw (nearWg s (k, u, v, none) σ (o + 1)) ad τ ξ) (congrArg (fun z => aw ba ct Nw z ad τ ξ) (show _ = _ from by rw [nearWg, if_pos hin])) ?_
                  refine s_loc (L2 := [(0, .ref (ba 0)), (1, .int (nI k)), (2, .int (nI u)), (3, .int (nI v)), (4, .int ((-1))), (5, .int (pvF s (k, u, v, none))), (6, .int (pcF s (k, u, v, none))), (7, .int (plFg s (k, u, v, none))), (8, .int (nI (setN (hitQg s (k, u, v, none)) o))), (9, .int (nI (o + 1)))]) [1, 2, 3, 4, 5, 6, 7, 8, 9, 0] rfl ?_
                  refine s_L (L2 := [(0, .ref (ba 0)), (1, .int (nI k)), (2, .int (nI u)), (3, .int (nI v)), (4, .int ((-1))), (5, .int (pvF s (k, u, v, none))), (6, .int (pcF s (k, u, v, none))), (7, .int (plFg s (k, u, v, none))), (8, .int (nI (setN (hitQg s (k, u, v, none)) (o + 1)))), (9, .int (nI (o + 1)))]) (by rw [setN_f (f := hitQg s (k, u, v, none)) (fun h => may_ing hin (hit_mayg h))]) ?_
                  exact ih109 (o + 1) (by omega) (by omega)
                · have c132 : ¬ o = v := fun h => c132 ((nI_eq (a := o) (b := v) (by omega) (by omega)).mpr h)
                  refine s_iload E dX4_makes_135 (i := 9) (j := 9) rfl ?_
                  refine s_iload E dX4_makes_137 (i := 4) (j := 4) rfl ?_
                  refine s_icmp_eq E dX4_makes_139 (tgt := 172) rfl (fun c139 => absurd c139 (nI_n1 (by omega))) (fun c139 => ?_)
                  have hin : inQ (k, u, v, none) o = false := inQ_no2 c126 c132
                  refine s_aload_n E dX4_makes_142 (i := 0) (j := 0) rfl rfl ?_
                  refine s_iload E dX4_makes_143 (i := 9) (j := 9) rfl ?_
                  refine s_aload_n E dX4_makes_145 (i := 0) (j := 0) rfl rfl ?_
                  refine awX4_g0_0 E dX4_makes_146 ?_
                  refine s_iload_n E dX4_makes_149 (i := 2) (j := 2) rfl rfl ?_
                  refine aw_l1 E (v := s 6 u) (u) (rfl) (by omega) hN8 ((congrFun (nearW_rg (by decide) o) u).trans (hA.2.2.2.2.2 u hu).1) dX4_makes_150 ?_
                  refine s_iload E dX4_makes_151 (i := 5) (j := 5) rfl ?_
                  refine s_iload E dX4_makes_153 (i := 7) (j := 7) rfl ?_
                  refine s_iload E dX4_makes_155 (i := 6) (j := 6) rfl ?_
                  refine c_goi0 E (rV E (cutS _ _) (x4z_isHitg s n (k, u, v, none) o (hAo) (hnN) (hN8) (hT) (hu) (by omega) (hin) (c120)) K_X4_148 (Nat.le_of_ble_eq_true rfl) (Nat.le_of_ble_eq_true rfl) (Nat.zero_le _) (Nat.zero_le _) 0 rfl rfl rfl rfl (Nat.le_of_ble_eq_true rfl) dX4_makes_157) (fun r157 w157 h157 => ?_)
                  obtain ⟨rfl, rfl⟩ := h157
                  refine s_if_eq E dX4_makes_160 (tgt := 172) rfl (fun c160 => ?_) (fun c160 => ?_)
                  · have c160 := bI_0 c160
                    refine s_iinc E (L2 := [(9, .int (nI (o + 1))), (0, .ref (ba 0)), (1, .int (nI k)), (2, .int (nI u)), (3, .int (nI v)), (4, .int ((-1))), (5, .int (pvF s (k, u, v, none))), (6, .int (pcF s (k, u, v, none))), (7, .int (plFg s (k, u, v, none))), (8, .int (nI (setN (hitQg s (k, u, v, none)) o)))]) dX4_makes_172 (k := 9) rfl (v := nI (o + 1)) (nI_inc _) (Nat.le_of_ble_eq_true rfl) rfl ?_
                    refine s_goto E dX4_makes_175 (tgt := 109) rfl ?_
                    refine s_ws (ws2 := aw ba ct Nw (nearWg s (k, u, v, none) σ (o + 1)) ad τ ξ) (congrArg (fun z => aw ba ct Nw z ad τ ξ) (show _ = _ from by rw [nearWg, if_neg (by rw [hin]; decide)])) ?_
                    refine s_loc (L2 := [(0, .ref (ba 0)), (1, .int (nI k)), (2, .int (nI u)), (3, .int (nI v)), (4, .int ((-1))), (5, .int (pvF s (k, u, v, none))), (6, .int (pcF s (k, u, v, none))), (7, .int (plFg s (k, u, v, none))), (8, .int (nI (setN (hitQg s (k, u, v, none)) o))), (9, .int (nI (o + 1)))]) [1, 2, 3, 4, 5, 6, 7, 8, 9, 0] rfl ?_
                    refine s_L (L2 := [(0, .ref (ba 0)), (1, .int (nI k)), (2, .int (nI u)), (3, .int (nI v)), (4, .int ((-1))), (5, .int (pvF s (k, u, v, none))), (6, .int (pcF s (k, u, v, none))), (7, .int (plFg s (k, u, v, none))), (8, .int (nI (setN (hitQg s (k, u, v, none)) (o + 1)))), (9, .int (nI (o + 1)))]) (by rw [setN_f c160]) ?_
                    exact ih109 (o + 1) (by omega) (by omega)
                  · have c160 := bI_n0 c160
                    refine s_iload E dX4_makes_163 (i := 8) (j := 8) rfl ?_
                    refine s_iconst E dX4_makes_165 (v := nI 1) (by decide) ?_
                    refine s_iload E dX4_makes_166 (i := 9) (j := 9) rfl ?_
                    refine s_ishl E dX4_makes_168 ?_
                    refine s_ior_ E dX4_makes_169 (v := nI (setN (hitQg s (k, u, v, none)) (o + 1))) (setN_t (by omega) c160) ?_
                    refine s_istore E (L2 := [(8, .int (nI (setN (hitQg s (k, u, v, none)) (o + 1)))), (0, .ref (ba 0)), (1, .int (nI k)), (2, .int (nI u)), (3, .int (nI v)), (4, .int ((-1))), (5, .int (pvF s (k, u, v, none))), (6, .int (pcF s (k, u, v, none))), (7, .int (plFg s (k, u, v, none))), (9, .int (nI o))]) dX4_makes_170 (Nat.le_of_ble_eq_true rfl) rfl ?_
                    refine s_iinc E (L2 := [(9, .int (nI (o + 1))), (8, .int (nI (setN (hitQg s (k, u, v, none)) (o + 1)))), (0, .ref (ba 0)), (1, .int (nI k)), (2, .int (nI u)), (3, .int (nI v)), (4, .int ((-1))), (5, .int (pvF s (k, u, v, none))), (6, .int (pcF s (k, u, v, none))), (7, .int (plFg s (k, u, v, none)))]) dX4_makes_172 (k := 9) rfl (v := nI (o + 1)) (nI_inc _) (Nat.le_of_ble_eq_true rfl) rfl ?_
                    refine s_goto E dX4_makes_175 (tgt := 109) rfl ?_
                    refine s_ws (ws2 := aw ba ct Nw (nearWg s (k, u, v, none) σ (o + 1)) ad τ ξ) (congrArg (fun z => aw ba ct Nw z ad τ ξ) (show _ = _ from by rw [nearWg, if_neg (by rw [hin]; decide)])) ?_
                    refine s_loc (L2 := [(0, .ref (ba 0)), (1, .int (nI k)), (2, .int (nI u)), (3, .int (nI v)), (4, .int ((-1))), (5, .int (pvF s (k, u, v, none))), (6, .int (pcF s (k, u, v, none))), (7, .int (plFg s (k, u, v, none))), (8, .int (nI (setN (hitQg s (k, u, v, none)) (o + 1)))), (9, .int (nI (o + 1)))]) [2, 3, 4, 5, 6, 7, 8, 9, 1, 0] rfl ?_
                    exact ih109 (o + 1) (by omega) (by omega)
      refine s_loc (L2 := [(0, .ref (ba 0)), (1, .int (nI k)), (2, .int (nI u)), (3, .int (nI v)), (4, .int ((-1))), (5, .int (pvF s (k, u, v, none))), (6, .int (pcF s (k, u, v, none))), (7, .int (plFg s (k, u, v, none))), (8, .int (nI 0)), (9, .int (nI 0))]) [5, 6, 7, 8, 9, 4, 3, 2, 1, 0] rfl ?_
      exact L109 (_ + 1) 0 (Nat.zero_le _) (Nat.lt_succ_self _)
    · exact Rt (σ) dX4_makes_69 (hL.no (by unfold okP; simp only [Bool.and_eq_true, Bool.not_eq_true', decide_eq_false_iff_not]; exact fun h => h.2 c66)) rfl (Nat.le_refl _) (Nat.le_refl _) E.2.2.2.2.2.1
  · have c26 := bI_0 c26
    exact Rt (σ) dX4_makes_29 (hL.no (by unfold okP; simp only [Bool.and_eq_true, Bool.not_eq_true', decide_eq_false_iff_not]; exact fun h => c26 h.1)) rfl (Nat.le_refl _) (Nat.le_refl _) E.2.2.2.2.2.1
set_option maxHeartbeats 4000000 in
set_option maxRecDepth 100000 in
theorem x4z_makes3g {l : Launch} {D : va_G} {gt : Nat → Nat} {ba ad : Nat → Nat} {ct : Nat → ClassId} {Nw : Nat} {τ σ ξ : Nat → Nat → Int32} (s : Nat → Nat → Int32) (n : Nat) (sg : Int32) (L : List Pr) (k u v w : Nat) (hL : AMg s n sg L σ) (hnN : n ≤ Nw) (hN8 : Nw ≤ 8) (hT : TA s τ n) (hB : NB s n) (hk : k < 6) (hu : u < n) (hv : v < n) (hw : w < n) (huw : w ≠ u) (hvw : w ≠ v) (huv : u ≠ v) (hlen : (L ++ okL s (k, u, v, some w)).length ≤ 9216) : Cv l D gt yX4_makes cX4_makes 10 2 51 0 0 [.ref (ba 0), .int (nI k), .int (nI u), .int (nI v), .int (nI w)] (aw ba ct Nw σ ad τ ξ) (tysA ct) (fun σ2 => AMg s n sg (L ++ okL s (k, u, v, some w)) σ2) (fun σ2 : Nat → Nat → Int32 => aw ba ct Nw σ2 ad τ ξ) (fun _ => tysA ct) := by
  refine Cv.start RX4 (by decide) rfl (Nat.le_of_ble_eq_true rfl) rfl ?_
  intro pP eE sS mM aA bB hM cC QQ AA E Rt
  have hA := hL.1.1
  have h256 : hsQg s n (k, u, v, some w) < 256 := setN_256 _ (by omega)
  refine s_aload_n E dX4_makes_0 (i := 0) (j := 0) rfl rfl ?_
  refine s_iload_n E dX4_makes_1 (i := 1) (j := 1) rfl rfl ?_
  refine s_aload_n E dX4_makes_2 (i := 0) (j := 0) rfl rfl ?_
  refine awX4_g0_2 E dX4_makes_3 ?_
  refine s_iload_n E dX4_makes_6 (i := 2) (j := 2) rfl rfl ?_
  refine s_iload_n E dX4_makes_7 (i := 3) (j := 3) rfl rfl ?_
  refine s_iload E dX4_makes_8 (i := 4) (j := 4) rfl ?_
  refine s_iconst E dX4_makes_10 (v := nI 1) (by decide) ?_
  refine c_goi0 E (rV E (cutS _ _) (x4z_sumC3g s n k u v w (hA) (hnN) (hN8) (hk) (hu) (hv) (hw)) K_X4_137 (Nat.le_of_ble_eq_true rfl) (Nat.le_of_ble_eq_true rfl) (Nat.zero_le _) (Nat.zero_le _) 0 rfl rfl rfl rfl (Nat.le_of_ble_eq_true rfl) dX4_makes_11) (fun r11 w11 h11 => ?_)
  obtain ⟨rfl, rfl⟩ := h11
  refine s_istore E (L2 := [(5, .int (pvF s (k, u, v, some w))), (0, .ref (ba 0)), (1, .int (nI k)), (2, .int (nI u)), (3, .int (nI v)), (4, .int (nI w))]) dX4_makes_14 (Nat.le_of_ble_eq_true rfl) rfl ?_
  refine s_iload E dX4_makes_16 (i := 5) (j := 0) rfl ?_
  refine s_iconst E dX4_makes_18 (v := nI 1) (by decide) ?_
  refine s_aload_n E dX4_makes_19 (i := 0) (j := 1) rfl rfl ?_
  refine awX4_g0_10 E (v := s 0 30) (hA.2.1) dX4_makes_20 ?_
  refine c_gos E (rSN E (cutZ _ _) (x1z_isIn (pvF s (k, u, v, some w)) (nI 1) (s 0 30)) K_X4_141 (Nat.le_of_ble_eq_true rfl) (Nat.le_of_ble_eq_true rfl) (Nat.zero_le _) (Nat.zero_le _) rfl rfl (Nat.le_of_ble_eq_true rfl) dX4_makes_23) (fun r23 h23 => ?_)
  subst h23
  refine s_if_ne E dX4_makes_26 (tgt := 30) rfl (fun c26 => ?_) (fun c26 => ?_)
  · have c26 := bI_n0 c26
    refine s_aload_n E dX4_makes_30 (i := 0) (j := 1) rfl rfl ?_
    refine awX4_g0_5 E dX4_makes_31 ?_
    refine s_iload_n E dX4_makes_34 (i := 2) (j := 3) rfl rfl ?_
    refine aw_l6 E (v := s 25 (73 + u)) (u) (rfl) (by omega) hN8 ((hA.2.2.2.2.2 u (by omega)).2.2.2) dX4_makes_35 ?_
    refine s_aload_n E dX4_makes_36 (i := 0) (j := 1) rfl rfl ?_
    refine awX4_g0_5 E dX4_makes_37 ?_
    refine s_iload_n E dX4_makes_40 (i := 3) (j := 4) rfl rfl ?_
    refine aw_l6 E (v := s 25 (73 + v)) (v) (rfl) (by omega) hN8 ((hA.2.2.2.2.2 v (by omega)).2.2.2) dX4_makes_41 ?_
    refine s_iand E dX4_makes_42 ?_
    refine s_iload E dX4_makes_43 (i := 4) (j := 5) rfl ?_
    refine s_if_ge E dX4_makes_45 (tgt := 54) rfl (fun c45 => ?_) (fun c45 => absurd (nI_pos' (by omega)) c45)
    have c45 : ¬ w < 0 := fun h => absurd c45 (Int32.not_le.mpr ((nI_ltI (a := w) (b := 0) (by omega) (by omega)).mpr h))
    refine s_aload_n E dX4_makes_54 (i := 0) (j := 1) rfl rfl ?_
    refine awX4_g0_5 E dX4_makes_55 ?_
    refine s_iload E dX4_makes_58 (i := 4) (j := 5) rfl ?_
    refine aw_l6 E (v := s 25 (73 + w)) (w) (rfl) (by omega) hN8 ((hA.2.2.2.2.2 w (by omega)).2.2.2) dX4_makes_60 ?_
    refine s_iand_ E dX4_makes_61 (v := pcF s (k, u, v, some w)) (rfl) ?_
    refine s_istore E (L2 := [(6, .int (pcF s (k, u, v, some w))), (5, .int (pvF s (k, u, v, some w))), (0, .ref (ba 0)), (1, .int (nI k)), (2, .int (nI u)), (3, .int (nI v)), (4, .int (nI w))]) dX4_makes_62 (Nat.le_of_ble_eq_true rfl) rfl ?_
    refine s_iload E dX4_makes_64 (i := 6) (j := 0) rfl ?_
    refine s_if_ne E dX4_makes_66 (tgt := 70) rfl (fun c66 => ?_) (fun c66 => ?_)
    · refine s_aload_n E dX4_makes_70 (i := 0) (j := 2) rfl rfl ?_
      refine s_iload_n E dX4_makes_71 (i := 1) (j := 3) rfl rfl ?_
      refine s_aload_n E dX4_makes_72 (i := 0) (j := 2) rfl rfl ?_
      refine awX4_g0_1 E dX4_makes_73 ?_
      refine s_iload_n E dX4_makes_76 (i := 2) (j := 4) rfl rfl ?_
      refine s_iload_n E dX4_makes_77 (i := 3) (j := 5) rfl rfl ?_
      refine s_iload E dX4_makes_78 (i := 4) (j := 6) rfl ?_
      refine s_iconst E dX4_makes_80 (v := nI 0) (by decide) ?_
      refine c_goi0 E (rV E (cutS _ _) (x4z_sumP3g s n k u v w (hA) (hnN) (hN8) (hk) (hu) (hv) (hw)) K_X4_137 (Nat.le_of_ble_eq_true rfl) (Nat.le_of_ble_eq_true rfl) (Nat.zero_le _) (Nat.zero_le _) 0 rfl rfl rfl rfl (Nat.le_of_ble_eq_true rfl) dX4_makes_81) (fun r81 w81 h81 => ?_)
      obtain ⟨rfl, rfl⟩ := h81
      refine s_aload_n E dX4_makes_84 (i := 0) (j := 2) rfl rfl ?_
      refine awX4_g0_28 E dX4_makes_85 ?_
      refine awX4_g10_4 E dX4_makes_88 ?_
      refine awX4_g11_2 E dX4_makes_91 ?_
      refine s_getsN E E.2.2.2.2.2.2.1.1.2.2.1 q891 dX4_makes_94 ?_
      refine s_iload_n E dX4_makes_97 (i := 1) (j := 3) rfl rfl ?_
      refine s_tald E E.2.2.2.2.2.2.1.1.2.2.2.1 (k) (rfl) (by omega) (by decide) (v := .int (nI (k / 2))) (congrArg Value.int (order_at k hk)) dX4_makes_98 ?_
      refine aw_l12 E (v := s 3 (4 + k / 2)) (k / 2) (rfl) (by omega) (by unfold losF; rw [if_pos (by omega)]; exact hT.1 _ (by omega)) dX4_makes_99 ?_
      refine s_isub_ E dX4_makes_100 (v := plFg s (k, u, v, some w)) (plF_pug s (k, u, v, some w)) ?_
      refine s_istore E (L2 := [(7, .int (plFg s (k, u, v, some w))), (6, .int (pcF s (k, u, v, some w))), (5, .int (pvF s (k, u, v, some w))), (0, .ref (ba 0)), (1, .int (nI k)), (2, .int (nI u)), (3, .int (nI v)), (4, .int (nI w))]) dX4_makes_101 (Nat.le_of_ble_eq_true rfl) rfl ?_
      refine s_iconst E dX4_makes_103 (v := nI 0) (by decide) ?_
      refine s_istore E (L2 := [(8, .int (nI 0)), (7, .int (plFg s (k, u, v, some w))), (6, .int (pcF s (k, u, v, some w))), (5, .int (pvF s (k, u, v, some w))), (0, .ref (ba 0)), (1, .int (nI k)), (2, .int (nI u)), (3, .int (nI v)), (4, .int (nI w))]) dX4_makes_104 (Nat.le_of_ble_eq_true rfl) rfl ?_
      have J178 : Sm pP l eE { frames := 2, cells := 0, slots := 0, locals := 51 } sS mM aA bB hM cC QQ AA D 10 0 0 (aw ba ct Nw (nearWg s (k, u, v, some w) σ n) ad τ ξ) 178 [(0, .ref (ba 0)), (1, .int (nI k)), (2, .int (nI u)), (3, .int (nI v)), (4, .int (nI w)), (5, .int (pvF s (k, u, v, some w))), (6, .int (pcF s (k, u, v, some w))), (7, .int (plFg s (k, u, v, some w))), (8, .int (nI (hsQg s n (k, u, v, some w))))] [] := by
        have J197 : Sm pP l eE { frames := 2, cells := 0, slots := 0, locals := 51 } sS mM aA bB hM cC QQ AA D 10 0 0 (aw ba ct Nw (mkZg s n (k, u, v, some w) sg σ) ad τ ξ) 197 [(0, .ref (ba 0)), (1, .int (nI k)), (2, .int (nI u)), (3, .int (nI v)), (4, .int (nI w)), (5, .int (pvF s (k, u, v, some w))), (6, .int (pcF s (k, u, v, some w))), (7, .int (plFg s (k, u, v, some w))), (8, .int (nI (hsQg s n (k, u, v, some w))))] [] := by
          obtain ⟨Z, hZ⟩ : ∃ Z, Z = mkZg s n (k, u, v, some w) sg σ := ⟨_, rfl⟩
          refine s_ws (ws2 := aw ba ct Nw Z ad τ ξ) (congrArg (fun z => aw ba ct Nw z ad τ ξ) (show _ = _ from by rw [hZ])) ?_
          refine s_aload_n E dX4_makes_197 (i := 0) (j := 0) rfl rfl ?_
          refine awX4_g0_8 E dX4_makes_198 ?_
          refine s_iconst E dX4_makes_201 (v := nI 3) (by decide) ?_
          refine s_iload_n E dX4_makes_202 (i := 1) (j := 1) rfl rfl ?_
          refine s_imul_ E dX4_makes_203 (v := nI (3 * k)) (pk_mul _ _) ?_
          refine s_dup2 E dX4_makes_204 rfl rfl ?_
          refine aw_l9 E (v := Z 9 (3 * k)) (3 * k) (rfl) (by omega) (rfl) dX4_makes_205 ?_
          refine s_iconst E dX4_makes_206 (v := nI 1) (by decide) ?_
          refine s_iadd E dX4_makes_207 ?_
          refine aw_s9 E (3 * k) (rfl) (by omega) dX4_makes_208 ?_
          refine s_aload_n E dX4_makes_209 (i := 0) (j := 0) rfl rfl ?_
          refine awX4_g0_8 E dX4_makes_210 ?_
          refine s_iconst E dX4_makes_213 (v := nI 3) (by decide) ?_
          refine s_iload_n E dX4_makes_214 (i := 1) (j := 1) rfl rfl ?_
          refine s_imul_ E dX4_makes_215 (v := nI (3 * k)) (pk_mul _ _) ?_
          refine s_iconst E dX4_makes_216 (v := nI 1) (by decide) ?_
          refine s_iadd_ E dX4_makes_217 (v := nI ((3 * k) + 1)) (nI_add _ _) ?_
          refine s_dup2 E dX4_makes_218 rfl rfl ?_
          refine aw_l9 E (v := Z 9 (3 * k + 1)) ((3 * k) + 1) (rfl) (by omega) (st1_nj (by omega)) dX4_makes_219 ?_
          refine s_iload E dX4_makes_220 (i := 7) (j := 7) rfl ?_
          have J230 : Sm pP l eE { frames := 2, cells := 0, slots := 0, locals := 51 } sS mM aA bB hM cC QQ AA D 10 0 0 (aw ba ct Nw (st1 Z 9 (3 * k) ((Z 9 (3 * k)) + (nI 1))) ad τ ξ) 230 [(0, .ref (ba 0)), (1, .int (nI k)), (2, .int (nI u)), (3, .int (nI v)), (4, .int (nI w)), (5, .int (pvF s (k, u, v, some w))), (6, .int (pcF s (k, u, v, some w))), (7, .int (plFg s (k, u, v, some w))), (8, .int (nI (hsQg s n (k, u, v, some w))))] [.int (nI (if plFg s (k, u, v, some w) < 0 then 0 else 1)), .int (Z 9 (3 * k + 1)), .int (nI ((3 * k) + 1)), .ref (ba 9)] := by
            refine s_iadd E dX4_makes_230 ?_
            refine aw_s9 E ((3 * k) + 1) (rfl) (by omega) dX4_makes_231 ?_
            refine s_aload_n E dX4_makes_232 (i := 0) (j := 0) rfl rfl ?_
            refine awX4_g0_8 E dX4_makes_233 ?_
            refine s_iconst E dX4_makes_236 (v := nI 3) (by decide) ?_
            refine s_iload_n E dX4_makes_237 (i := 1) (j := 1) rfl rfl ?_
            refine s_imul_ E dX4_makes_238 (v := nI (3 * k)) (pk_mul _ _) ?_
            refine s_iconst E dX4_makes_239 (v := nI 2) (by decide) ?_
            refine s_iadd_ E dX4_makes_240 (v := nI ((3 * k) + 2)) (nI_add _ _) ?_
            refine s_dup2 E dX4_makes_241 rfl rfl ?_
            refine aw_l9 E (v := Z 9 (3 * k + 2)) ((3 * k) + 2) (rfl) (by omega) ((st1_nj (by omega)).trans (st1_nj (by omega))) dX4_makes_242 ?_
            refine s_iload E dX4_makes_243 (i := 8) (j := 8) rfl ?_
            refine c_gos E (rS E (cutZ _ _) (j8z_bitCount (hsQg s n (k, u, v, some w)) (h256)) K_X4_156 (Nat.le_of_ble_eq_true rfl) (Nat.le_of_ble_eq_true rfl) (Nat.zero_le _) (Nat.zero_le _) rfl rfl (Nat.le_of_ble_eq_true rfl) dX4_makes_245) (fun r245 h245 => ?_)
            subst h245
            refine s_iadd E dX4_makes_248 ?_
            refine aw_s9 E ((3 * k) + 2) (rfl) (by omega) dX4_makes_249 ?_
            refine s_ws (ws2 := aw ba ct Nw (srS k (hsQg s n (k, u, v, some w)) (plFg s (k, u, v, some w)) Z) ad τ ξ) (congrArg (fun z => aw ba ct Nw z ad τ ξ) (rfl)) ?_
            have J285 : Sm pP l eE { frames := 2, cells := 0, slots := 0, locals := 51 } sS mM aA bB hM cC QQ AA D 10 0 0 (aw ba ct Nw (ldS (hsQg s n (k, u, v, some w)) (plFg s (k, u, v, some w)) (srS k (hsQg s n (k, u, v, some w)) (plFg s (k, u, v, some w)) Z)) ad τ ξ) 285 [(0, .ref (ba 0)), (1, .int (nI k)), (2, .int (nI u)), (3, .int (nI v)), (4, .int (nI w)), (5, .int (pvF s (k, u, v, some w))), (6, .int (pcF s (k, u, v, some w))), (7, .int (plFg s (k, u, v, some w))), (8, .int (nI (hsQg s n (k, u, v, some w))))] [] := by
              have J345 : Sm pP l eE { frames := 2, cells := 0, slots := 0, locals := 51 } sS mM aA bB hM cC QQ AA D 10 0 0 (aw ba ct Nw (skSg s n (k, u, v, some w) (ldS (hsQg s n (k, u, v, some w)) (plFg s (k, u, v, some w)) (srS k (hsQg s n (k, u, v, some w)) (plFg s (k, u, v, some w)) Z))) ad τ ξ) 345 [(0, .ref (ba 0)), (1, .int (nI k)), (2, .int (nI u)), (3, .int (nI v)), (4, .int (nI w)), (5, .int (pvF s (k, u, v, some w))), (6, .int (pcF s (k, u, v, some w))), (7, .int (plFg s (k, u, v, some w))), (8, .int (nI (hsQg s n (k, u, v, some w))))] [] := by
                refine s_aload_n E dX4_makes_345 (i := 0) (j := 0) rfl rfl ?_
                refine s_dup E dX4_makes_346 rfl ?_
                refine awX4_g0_14 E (v := (skSg s n (k, u, v, some w) (ldS (hsQg s n (k, u, v, some w)) (plFg s (k, u, v, some w)) (srS k (hsQg s n (k, u, v, some w)) (plFg s (k, u, v, some w)) Z))) 0 14) (rfl) dX4_makes_347 ?_
                refine s_iconst E dX4_makes_350 (v := nI 1) (by decide) ?_
                refine s_iadd E dX4_makes_351 ?_
                refine awX4_p0_14 E dX4_makes_352 ?_
                refine s_aload_n E dX4_makes_355 (i := 0) (j := 0) rfl rfl ?_
                refine s_dup E dX4_makes_356 rfl ?_
                refine awX4_g0_15 E (v := (skSg s n (k, u, v, some w) (ldS (hsQg s n (k, u, v, some w)) (plFg s (k, u, v, some w)) (srS k (hsQg s n (k, u, v, some w)) (plFg s (k, u, v, some w)) Z))) 0 15) (rfl) dX4_makes_357 ?_
                refine s_iload E dX4_makes_360 (i := 7) (j := 7) rfl ?_
                have J370 : Sm pP l eE { frames := 2, cells := 0, slots := 0, locals := 51 } sS mM aA bB hM cC QQ AA D 10 0 0 (aw ba ct Nw (st1 (skSg s n (k, u, v, some w) (ldS (hsQg s n (k, u, v, some w)) (plFg s (k, u, v, some w)) (srS k (hsQg s n (k, u, v, some w)) (plFg s (k, u, v, some w)) Z))) 0 14 (((skSg s n (k, u, v, some w) (ldS (hsQg s n (k, u, v, some w)) (plFg s (k, u, v, some w)) (srS k (hsQg s n (k, u, v, some w)) (plFg s (k, u, v, some w)) Z))) 0 14) + (nI 1))) ad τ ξ) 370 [(0, .ref (ba 0)), (1, .int (nI k)), (2, .int (nI u)), (3, .int (nI v)), (4, .int (nI w)), (5, .int (pvF s (k, u, v, some w))), (6, .int (pcF s (k, u, v, some w))), (7, .int (plFg s (k, u, v, some w))), (8, .int (nI (hsQg s n (k, u, v, some w))))] [.int (nI (if plFg s (k, u, v, some w) < 0 then 0 else 1)), .int ((skSg s n (k, u, v, some w) (ldS (hsQg s n (k, u, v, some w)) (plFg s (k, u, v, some w)) (srS k (hsQg s n (k, u, v, some w)) (plFg s (k, u, v, some w)) Z))) 0 15), .ref (ba 0)] := by
                  refine s_iadd E dX4_makes_370 ?_
                  refine awX4_p0_15 E dX4_makes_371 ?_
                  refine s_aload_n E dX4_makes_374 (i := 0) (j := 0) rfl rfl ?_
                  refine s_dup E dX4_makes_375 rfl ?_
                  refine awX4_g0_16 E (v := (skSg s n (k, u, v, some w) (ldS (hsQg s n (k, u, v, some w)) (plFg s (k, u, v, some w)) (srS k (hsQg s n (k, u, v, some w)) (plFg s (k, u, v, some w)) Z))) 0 16) (rfl) dX4_makes_376 ?_
                  refine s_iload E dX4_makes_379 (i := 8) (j := 8) rfl ?_
                  refine c_gos E (rS E (cutZ _ _) (j8z_bitCount (hsQg s n (k, u, v, some w)) (h256)) K_X4_156 (Nat.le_of_ble_eq_true rfl) (Nat.le_of_ble_eq_true rfl) (Nat.zero_le _) (Nat.zero_le _) rfl rfl (Nat.le_of_ble_eq_true rfl) dX4_makes_381) (fun r381 h381 => ?_)
                  subst h381
                  refine s_iadd E dX4_makes_384 ?_
                  refine awX4_p0_16 E dX4_makes_385 ?_
                  exact Rt (st1 (st1 (st1 (skSg s n (k, u, v, some w) (ldS (hsQg s n (k, u, v, some w)) (plFg s (k, u, v, some w)) (srS k (hsQg s n (k, u, v, some w)) (plFg s (k, u, v, some w)) Z))) 0 14 (((skSg s n (k, u, v, some w) (ldS (hsQg s n (k, u, v, some w)) (plFg s (k, u, v, some w)) (srS k (hsQg s n (k, u, v, some w)) (plFg s (k, u, v, some w)) Z))) 0 14) + (nI 1))) 0 15 (((skSg s n (k, u, v, some w) (ldS (hsQg s n (k, u, v, some w)) (plFg s (k, u, v, some w)) (srS k (hsQg s n (k, u, v, some w)) (plFg s (k, u, v, some w)) Z))) 0 15) + (nI (if plFg s (k, u, v, some w) < 0 then 0 else 1)))) 0 16 (((skSg s n (k, u, v, some w) (ldS (hsQg s n (k, u, v, some w)) (plFg s (k, u, v, some w)) (srS k (hsQg s n (k, u, v, some w)) (plFg s (k, u, v, some w)) Z))) 0 16) + (nI (pop (hsQg s n (k, u, v, some w)))))) dX4_makes_388 (by subst hZ; exact hL.ok hB (by unfold okP; simp only [Bool.and_eq_true, Bool.not_eq_true', decide_eq_false_iff_not]; exact ⟨c26, c66⟩) hk hlen) rfl (Nat.le_refl _) (Nat.le_refl _) E.2.2.2.2.2.1
                refine s_if_lt E dX4_makes_362 (tgt := 369) rfl (fun c362 => ?_) (fun c362 => ?_)
                · refine s_iconst E dX4_makes_369 (v := nI 0) (by decide) ?_
                  refine s_top (v2 := nI (if plFg s (k, u, v, some w) < 0 then 0 else 1)) (by rw [if_pos c362]) ?_
                  exact J370
                · refine s_iconst E dX4_makes_365 (v := nI 1) (by decide) ?_
                  refine s_goto E dX4_makes_366 (tgt := 370) rfl ?_
                  refine s_top (v2 := nI (if plFg s (k, u, v, some w) < 0 then 0 else 1)) (by rw [if_neg c362]) ?_
                  exact J370
              refine s_aload_n E dX4_makes_285 (i := 0) (j := 0) rfl rfl ?_
              refine awX4_g0_14 E (v := (ldS (hsQg s n (k, u, v, some w)) (plFg s (k, u, v, some w)) (srS k (hsQg s n (k, u, v, some w)) (plFg s (k, u, v, some w)) Z)) 0 14) (rfl) dX4_makes_286 ?_
              refine s_aload_n E dX4_makes_289 (i := 0) (j := 0) rfl rfl ?_
              refine awX4_g0_18 E (v := (ldS (hsQg s n (k, u, v, some w)) (plFg s (k, u, v, some w)) (srS k (hsQg s n (k, u, v, some w)) (plFg s (k, u, v, some w)) Z)) 0 18) (rfl) dX4_makes_290 ?_
              refine s_icmp_ne E dX4_makes_293 (tgt := 345) rfl (fun c293 => ?_) (fun c293 => ?_)
              · refine s_ws (ws2 := aw ba ct Nw (skSg s n (k, u, v, some w) (ldS (hsQg s n (k, u, v, some w)) (plFg s (k, u, v, some w)) (srS k (hsQg s n (k, u, v, some w)) (plFg s (k, u, v, some w)) Z))) ad τ ξ) (congrArg (fun z => aw ba ct Nw z ad τ ξ) (show _ = _ from by unfold skSg; rw [if_neg c293])) ?_
                exact J345
              · refine s_aload_n E dX4_makes_296 (i := 0) (j := 0) rfl rfl ?_
                refine s_iload_n E dX4_makes_297 (i := 1) (j := 1) rfl rfl ?_
                refine awX4_p0_19 E dX4_makes_298 ?_
                refine s_aload_n E dX4_makes_301 (i := 0) (j := 0) rfl rfl ?_
                refine s_iload_n E dX4_makes_302 (i := 2) (j := 2) rfl rfl ?_
                refine awX4_p0_20 E dX4_makes_303 ?_
                refine s_aload_n E dX4_makes_306 (i := 0) (j := 0) rfl rfl ?_
                refine s_iload_n E dX4_makes_307 (i := 3) (j := 3) rfl rfl ?_
                refine awX4_p0_21 E dX4_makes_308 ?_
                refine s_aload_n E dX4_makes_311 (i := 0) (j := 0) rfl rfl ?_
                refine s_iload E dX4_makes_312 (i := 4) (j := 4) rfl ?_
                refine s_if_ge E dX4_makes_314 (tgt := 322) rfl (fun c314 => ?_) (fun c314 => absurd (nI_pos' (by omega)) c314)
                have c314 : ¬ w < 0 := fun h => absurd c314 (Int32.not_le.mpr ((nI_ltI (a := w) (b := 0) (by omega) (by omega)).mpr h))
                refine s_iload E dX4_makes_322 (i := 4) (j := 4) rfl ?_
                refine awX4_p0_22 E dX4_makes_324 ?_
                refine s_aload_n E dX4_makes_327 (i := 0) (j := 0) rfl rfl ?_
                refine s_iload E dX4_makes_328 (i := 5) (j := 5) rfl ?_
                refine awX4_p0_23 E dX4_makes_330 ?_
                refine s_aload_n E dX4_makes_333 (i := 0) (j := 0) rfl rfl ?_
                refine s_iload E dX4_makes_334 (i := 7) (j := 7) rfl ?_
                refine awX4_p0_24 E dX4_makes_336 ?_
                refine s_aload_n E dX4_makes_339 (i := 0) (j := 0) rfl rfl ?_
                refine s_iload E dX4_makes_340 (i := 8) (j := 8) rfl ?_
                refine awX4_p0_25 E dX4_makes_342 ?_
                refine s_ws (ws2 := aw ba ct Nw (skSg s n (k, u, v, some w) (ldS (hsQg s n (k, u, v, some w)) (plFg s (k, u, v, some w)) (srS k (hsQg s n (k, u, v, some w)) (plFg s (k, u, v, some w)) Z))) ad τ ξ) (congrArg (fun z => aw ba ct Nw z ad τ ξ) (show _ = _ from by unfold skSg; rw [if_pos c293]; rfl)) ?_
                exact J345
            refine s_iload E dX4_makes_250 (i := 8) (j := 8) rfl ?_
            refine s_if_eq E dX4_makes_252 (tgt := 285) rfl (fun c252 => ?_) (fun c252 => ?_)
            · have c252 : hsQg s n (k, u, v, some w) = 0 := (nI_eq (a := hsQg s n (k, u, v, some w)) (b := 0) (by omega) (by omega)).mp c252
              refine s_ws (ws2 := aw ba ct Nw (ldS (hsQg s n (k, u, v, some w)) (plFg s (k, u, v, some w)) (srS k (hsQg s n (k, u, v, some w)) (plFg s (k, u, v, some w)) Z)) ad τ ξ) (congrArg (fun z => aw ba ct Nw z ad τ ξ) (show _ = _ from by unfold ldS; rw [if_neg (fun h => h.1 c252)])) ?_
              exact J285
            · have c252 : ¬ hsQg s n (k, u, v, some w) = 0 := fun h => c252 ((nI_eq (a := hsQg s n (k, u, v, some w)) (b := 0) (by omega) (by omega)).mpr h)
              refine s_aload_n E dX4_makes_255 (i := 0) (j := 0) rfl rfl ?_
              refine awX4_g0_26 E (v := (srS k (hsQg s n (k, u, v, some w)) (plFg s (k, u, v, some w)) Z) 0 26) (rfl) dX4_makes_256 ?_
              refine s_if_lt E dX4_makes_259 (tgt := 271) rfl (fun c259 => ?_) (fun c259 => ?_)
              · refine s_aload_n E dX4_makes_271 (i := 0) (j := 0) rfl rfl ?_
                refine s_aload_n E dX4_makes_272 (i := 0) (j := 0) rfl rfl ?_
                refine awX4_g0_14 E (v := (srS k (hsQg s n (k, u, v, some w)) (plFg s (k, u, v, some w)) Z) 0 14) (rfl) dX4_makes_273 ?_
                refine awX4_p0_26 E dX4_makes_276 ?_
                refine s_aload_n E dX4_makes_279 (i := 0) (j := 0) rfl rfl ?_
                refine s_iload E dX4_makes_280 (i := 7) (j := 7) rfl ?_
                refine awX4_p0_27 E dX4_makes_282 ?_
                refine s_ws (ws2 := aw ba ct Nw (ldS (hsQg s n (k, u, v, some w)) (plFg s (k, u, v, some w)) (srS k (hsQg s n (k, u, v, some w)) (plFg s (k, u, v, some w)) Z)) ad τ ξ) (congrArg (fun z => aw ba ct Nw z ad τ ξ) (show _ = _ from by unfold ldS; rw [if_pos ⟨c252, by first | exact Or.inl c259 | exact Or.inr c268⟩])) ?_
                exact J285
              · refine s_iload E dX4_makes_262 (i := 7) (j := 7) rfl ?_
                refine s_aload_n E dX4_makes_264 (i := 0) (j := 0) rfl rfl ?_
                refine awX4_g0_27 E (v := (srS k (hsQg s n (k, u, v, some w)) (plFg s (k, u, v, some w)) Z) 0 27) (rfl) dX4_makes_265 ?_
                refine s_icmp_le E dX4_makes_268 (tgt := 285) rfl (fun c268 => ?_) (fun c268 => ?_)
                · have c268 := Int32.not_lt.mpr c268
                  refine s_ws (ws2 := aw ba ct Nw (ldS (hsQg s n (k, u, v, some w)) (plFg s (k, u, v, some w)) (srS k (hsQg s n (k, u, v, some w)) (plFg s (k, u, v, some w)) Z)) ad τ ξ) (congrArg (fun z => aw ba ct Nw z ad τ ξ) (show _ = _ from by unfold ldS; rw [if_neg (fun h => Or.elim h.2 c259 c268)])) ?_
                  exact J285
                · have c268 := Int32.not_le.mp c268
                  refine s_aload_n E dX4_makes_271 (i := 0) (j := 0) rfl rfl ?_
                  refine s_aload_n E dX4_makes_272 (i := 0) (j := 0) rfl rfl ?_
                  refine awX4_g0_14 E (v := (srS k (hsQg s n (k, u, v, some w)) (plFg s (k, u, v, some w)) Z) 0 14) (rfl) dX4_makes_273 ?_
                  refine awX4_p0_26 E dX4_makes_276 ?_
                  refine s_aload_n E dX4_makes_279 (i := 0) (j := 0) rfl rfl ?_
                  refine s_iload E dX4_makes_280 (i := 7) (j := 7) rfl ?_
                  refine awX4_p0_27 E dX4_makes_282 ?_
                  refine s_ws (ws2 := aw ba ct Nw (ldS (hsQg s n (k, u, v, some w)) (plFg s (k, u, v, some w)) (srS k (hsQg s n (k, u, v, some w)) (plFg s (k, u, v, some w)) Z)) ad τ ξ) (congrArg (fun z => aw ba ct Nw z ad τ ξ) (show _ = _ from by unfold ldS; rw [if_pos ⟨c252, by first | exact Or.inl c259 | exact Or.inr c268⟩])) ?_
                  exact J285
          refine s_if_lt E dX4_makes_222 (tgt := 229) rfl (fun c222 => ?_) (fun c222 => ?_)
          · refine s_iconst E dX4_makes_229 (v := nI 0) (by decide) ?_
            refine s_top (v2 := nI (if plFg s (k, u, v, some w) < 0 then 0 else 1)) (by rw [if_pos c222]) ?_
            exact J230
          · refine s_iconst E dX4_makes_225 (v := nI 1) (by decide) ?_
            refine s_goto E dX4_makes_226 (tgt := 230) rfl ?_
            refine s_top (v2 := nI (if plFg s (k, u, v, some w) < 0 then 0 else 1)) (by rw [if_neg c222]) ?_
            exact J230
        have hAn := hA.cg (Z := nearWg s (k, u, v, some w) σ n) (fun k _ _ => congrFun (nearW_rg (by decide) n) k) (nearW_rg (by decide) n) (nearW_rg (by decide) n) (nearW_rg (by decide) n) (nearW_rg (by decide) n)
        refine s_aload_n E dX4_makes_178 (i := 0) (j := 0) rfl rfl ?_
        refine awX4_g0_18 E (v := sg) ((congrFun (nearW_rg (by decide) n) 18).trans hL.1.2.1) dX4_makes_179 ?_
        refine s_if_ge E dX4_makes_182 (tgt := 197) rfl (fun c182 => ?_) (fun c182 => ?_)
        · have c182 := Int32.not_lt.mpr c182
          refine s_ws (ws2 := aw ba ct Nw (mkZg s n (k, u, v, some w) sg σ) ad τ ξ) (congrArg (fun z => aw ba ct Nw z ad τ ξ) (show _ = _ from by unfold mkZg; rw [if_neg c182])) ?_
          exact J197
        · have c182 := Int32.not_le.mp c182
          refine s_aload_n E dX4_makes_185 (i := 0) (j := 0) rfl rfl ?_
          refine s_iload E dX4_makes_186 (i := 8) (j := 8) rfl ?_
          refine s_iload E dX4_makes_188 (i := 6) (j := 6) rfl ?_
          refine s_iload_n E dX4_makes_190 (i := 2) (j := 2) rfl rfl ?_
          refine s_iload_n E dX4_makes_191 (i := 3) (j := 3) rfl rfl ?_
          refine s_iload E dX4_makes_192 (i := 4) (j := 4) rfl ?_
          refine c_gov0 E (rV E (cutS _ _) (x4z_counts3g s n k u v w (hsQg s n (k, u, v, some w)) (pcF s (k, u, v, some w)) (hAn) (hnN) (hN8) (hu) (hv) (hw) (huw) (hvw) (huv) (h256)) K_X4_152 (Nat.le_of_ble_eq_true rfl) (Nat.le_of_ble_eq_true rfl) (Nat.zero_le _) (Nat.zero_le _) 0 rfl rfl rfl rfl (Nat.le_of_ble_eq_true rfl) dX4_makes_194) (fun w194 h194 => ?_)
          subst h194
          refine s_ws (ws2 := aw ba ct Nw (mkZg s n (k, u, v, some w) sg σ) ad τ ξ) (congrArg (fun z => aw ba ct Nw z ad τ ξ) (show _ = _ from by unfold mkZg; rw [if_pos c182])) ?_
          exact J197
      refine s_iconst E dX4_makes_106 (v := nI 0) (by decide) ?_
      refine s_istore E (L2 := [(9, .int (nI 0)), (8, .int (nI 0)), (7, .int (plFg s (k, u, v, some w))), (6, .int (pcF s (k, u, v, some w))), (5, .int (pvF s (k, u, v, some w))), (0, .ref (ba 0)), (1, .int (nI k)), (2, .int (nI u)), (3, .int (nI v)), (4, .int (nI w))]) dX4_makes_107 (Nat.le_of_ble_eq_true rfl) rfl ?_
      have L109 : ∀ (fuel : Nat) (o : Nat), (o ≤ n) → (n - o) < fuel → Sm pP l eE { frames := 2, cells := 0, slots := 0, locals := 51 } sS mM aA bB hM cC QQ AA D 10 0 0 (aw ba ct Nw (nearWg s (k, u, v, some w) σ o) ad τ ξ) 109 [(0, .ref (ba 0)), (1, .int (nI k)), (2, .int (nI u)), (3, .int (nI v)), (4, .int (nI w)), (5, .int (pvF s (k, u, v, some w))), (6, .int (pcF s (k, u, v, some w))), (7, .int (plFg s (k, u, v, some w))), (8, .int (nI (setN (hitQg s (k, u, v, some w)) o))), (9, .int (nI o))] [] := by
        intro fuel
        induction fuel with
        | zero =>
          intro o hoi hf109
          exact absurd hf109 (Nat.not_lt_zero _)
        | succ fuel ih109 =>
          intro o hoi hf109
          have hAo := hA.cg (Z := nearWg s (k, u, v, some w) σ o) (fun k _ _ => congrFun (nearW_rg (by decide) o) k) (nearW_rg (by decide) o) (nearW_rg (by decide) o) (nearW_rg (by decide) o) (nearW_rg (by decide) o)
          refine s_iload E dX4_makes_109 (i := 9) (j := 9) rfl ?_
          refine s_aload_n E dX4_makes_111 (i := 0) (j := 0) rfl rfl ?_
          refine awX4_g0_9 E (v := nI n) ((congrFun (nearW_rg (by decide) o) 9).trans hA.1) dX4_makes_112 ?_
          refine s_icmp_ge E dX4_makes_115 (tgt := 178) rfl (fun c115 => ?_) (fun c115 => ?_)
          · have c115 : ¬ o < n := fun h => absurd c115 (Int32.not_le.mpr ((nI_ltI (a := o) (b := n) (by omega) (by omega)).mpr h))
            have hx := nw_end1g (s := s) (q := (k, u, v, some w)) (Y := σ) c115 hoi
            refine s_loc (L2 := [(0, .ref (ba 0)), (1, .int (nI k)), (2, .int (nI u)), (3, .int (nI v)), (4, .int (nI w)), (5, .int (pvF s (k, u, v, some w))), (6, .int (pcF s (k, u, v, some w))), (7, .int (plFg s (k, u, v, some w))), (8, .int (nI (setN (hitQg s (k, u, v, some w)) o)))]) [0, 1, 2, 3, 4, 5, 6, 7, 8] rfl ?_
            refine s_L (L2 := [(0, .ref (ba 0)), (1, .int (nI k)), (2, .int (nI u)), (3, .int (nI v)), (4, .int (nI w)), (5, .int (pvF s (k, u, v, some w))), (6, .int (pcF s (k, u, v, some w))), (7, .int (plFg s (k, u, v, some w))), (8, .int (nI (hsQg s n (k, u, v, some w))))]) (by rw [hx.1]) ?_
            refine s_ws (ws2 := aw ba ct Nw (nearWg s (k, u, v, some w) σ n) ad τ ξ) (congrArg (fun z => aw ba ct Nw z ad τ ξ) (show _ = _ from by rw [hx.2])) ?_
            exact J178
          · have c115 : o < n := (nI_ltI (a := o) (b := n) (by omega) (by omega)).mp (Int32.not_le.mp c115)
            refine s_iload E dX4_makes_118 (i := 7) (j := 7) rfl ?_
            refine s_if_lt E dX4_makes_120 (tgt := 178) rfl (fun c120 => ?_) (fun c120 => ?_)
            · have hx := nw_end2g (s := s) (q := (k, u, v, some w)) (Y := σ) (o := o) (n := n) c120
              refine s_loc (L2 := [(0, .ref (ba 0)), (1, .int (nI k)), (2, .int (nI u)), (3, .int (nI v)), (4, .int (nI w)), (5, .int (pvF s (k, u, v, some w))), (6, .int (pcF s (k, u, v, some w))), (7, .int (plFg s (k, u, v, some w))), (8, .int (nI (setN (hitQg s (k, u, v, some w)) o)))]) [0, 1, 2, 3, 4, 5, 6, 7, 8] rfl ?_
              refine s_L (L2 := [(0, .ref (ba 0)), (1, .int (nI k)), (2, .int (nI u)), (3, .int (nI v)), (4, .int (nI w)), (5, .int (pvF s (k, u, v, some w))), (6, .int (pcF s (k, u, v, some w))), (7, .int (plFg s (k, u, v, some w))), (8, .int (nI (hsQg s n (k, u, v, some w))))]) (by rw [hx.1]) ?_
              refine s_ws (ws2 := aw ba ct Nw (nearWg s (k, u, v, some w) σ n) ad τ ξ) (congrArg (fun z => aw ba ct Nw z ad τ ξ) (show _ = _ from by rw [hx.2])) ?_
              exact J178
            · refine s_iload E dX4_makes_123 (i := 9) (j := 9) rfl ?_
              refine s_iload_n E dX4_makes_125 (i := 2) (j := 2) rfl rfl ?_
              refine s_icmp_eq E dX4_makes_126 (tgt := 172) rfl (fun c126 => ?_) (fun c126 => ?_)
              · have c126 : o = u := (nI_eq (a := o) (b := u) (by omega) (by omega)).mp c126
                have hin : inQ (k, u, v, some w) o = true := inQ_y1 c126
                refine s_iinc E (L2 := [(9, .int (nI (o + 1))), (0, .ref (ba 0)), (1, .int (nI k)), (2, .int (nI u)), (3, .int (nI v)), (4, .int (nI w)), (5, .int (pvF s (k, u, v, some w))), (6, .int (pcF s (k, u, v, some w))), (7, .int (plFg s (k, u, v, some w))), (8, .int (nI (setN (hitQg s (k, u, v, some w)) o)))]) dX4_makes_172 (k := 9) rfl (v := nI (o + 1)) (nI_inc _) (Nat.le_of_ble_eq_true rfl) rfl ?_
                refine s_goto E dX4_makes_175 (tgt := 109) rfl ?_
                refine s_ws (ws2 := aw ba ct Nw (nearWg s (k, u, v, some w) σ (o + 1)) ad τ ξ) (congrArg (fun z => aw ba ct Nw z ad τ ξ) (show _ = _ from by rw [nearWg, if_pos hin])) ?_
                refine s_loc (L2 := [(0, .ref (ba 0)), (1, .int (nI k)), (2, .int (nI u)), (3, .int (nI v)), (4, .int (nI w)), (5, .int (pvF s (k, u, v, some w))), (6, .int (pcF s (k, u, v, some w))), (7, .int (plFg s (k, u, v, some w))), (8, .int (nI (setN (hitQg s (k, u, v, some w)) o))), (9, .int (nI (o + 1)))]) [1, 2, 3, 4, 5, 6, 7, 8, 9, 0] rfl ?_
                refine s_L (L2 := [(0, .ref (ba 0)), (1, .int (nI k)), (2, .int (nI u)), (3, .int (nI v)), (4, .int (nI w)), (5, .int (pvF s (k, u, v, some w))), (6, .int (pcF s (k, u, v, some w))), (7, .int (plFg s (k, u, v, some w))), (8, .int (nI (setN (hitQg s (k, u, v, some w)) (o + 1)))), (9, .int (nI (o + 1)))]) (by rw [setN_f (f := hitQg s (k, u, v, some w)) (fun h => may_ing hin (hit_mayg h))]) ?_
                exact ih109 (o + 1) (by omega) (by omega)
              · have c126 : ¬ o = u := fun h => c126 ((nI_eq (a := o) (b := u) (by omega) (by omega)).mpr h)
                refine s_iload E dX4_makes_129 (i := 9) (j := 9) rfl ?_
                refine s_iload_n E dX4_makes_131 (i := 3) (j := 3) rfl rfl ?_
                refine s_icmp_eq E dX4_makes_132 (tgt := 172) rfl (fun c132 => ?_) (fun c132 => ?_)
                · have c132 : o = v := (nI_eq (a := o) (b := v) (by omega) (by omega)).mp c132
                  have hin : inQ (k, u, v, some w) o = true := inQ_y2 c132
                  refine s_iinc E (L2 := [(9, .int (nI (o + 1))), (0, .ref (ba 0)), (1, .int (nI k)), (2, .int (nI u)), (3, .int (nI v)), (4, .int (nI w)), (5, .int (pvF s (k, u, v, some w))), (6, .int (pcF s (k, u, v, some w))), (7, .int (plFg s (k, u, v, some w))), (8, .int (nI (setN (hitQg s (k, u, v, some w)) o)))]) dX4_makes_172 (k := 9) rfl (v := nI (o + 1)) (nI_inc _) (Nat.le_of_ble_eq_true rfl) rfl ?_
                  refine s_goto E dX4_makes_175 (tgt := 109) rfl ?_
                  refine s_ws (ws2 := aw ba ct Nw (nearWg s (k, u, v, some w) σ (o + 1)) ad τ ξ) (congrArg (fun z => aw ba ct Nw z ad τ ξ) (show _ = _ from by rw [nearWg, if_pos hin])) ?_
                  refine s_loc (L2 := [(0, .ref (ba 0)), (1, .int (nI k)), (2, .int (nI u)), (3, .int (nI v)), (4, .int (nI w)), (5, .int (pvF s (k, u, v, some w))), (6, .int (pcF s (k, u, v, some w))), (7, .int (plFg s (k, u, v, some w))), (8, .int (nI (setN (hitQg s (k, u, v, some w)) o))), (9, .int (nI (o + 1)))]) [1, 2, 3, 4, 5, 6, 7, 8, 9, 0] rfl ?_
                  refine s_L (L2 := [(0, .ref (ba 0)), (1, .int (nI k)), (2, .int (nI u)), (3, .int (nI v)), (4, .int (nI w)), (5, .int (pvF s (k, u, v, some w))), (6, .int (pcF s (k, u, v, some w))), (7, .int (plFg s (k, u, v, some w))), (8, .int (nI (setN (hitQg s (k, u, v, some w)) (o + 1)))), (9, .int (nI (o + 1)))]) (by rw [setN_f (f := hitQg s (k, u, v, some w)) (fun h => may_ing hin (hit_mayg h))]) ?_
                  exact ih109 (o + 1) (by omega) (by omega)
                · have c132 : ¬ o = v := fun h => c132 ((nI_eq (a := o) (b := v) (by omega) (by omega)).mpr h)
                  refine s_iload E dX4_makes_135 (i := 9) (j := 9) rfl ?_
                  refine s_iload E dX4_makes_137 (i := 4) (j := 4) rfl ?_
                  refine s_icmp_eq E dX4_makes_139 (tgt := 172) rfl (fun c139 => ?_) (fun c139 => ?_)
                  · have c139 : o = w := (nI_eq (a := o) (b := w) (by omega) (by omega)).mp c139
                    have hin : inQ (k, u, v, some w) o = true := inQ_y3 c139
                    refine s_iinc E (L2 := [(9, .int (nI (o + 1))), (0, .ref (ba 0)), (1, .int (nI k)), (2, .int (nI u)), (3, .int (nI v)), (4, .int (nI w)), (5, .int (pvF s (k, u, v, some w))), (6, .int (pcF s (k, u, v, some w))), (7, .int (plFg s (k, u, v, some w))), (8, .int (nI (setN (hitQg s (k, u, v, some w)) o)))]) dX4_makes_172 (k := 9) rfl (v := nI (o + 1)) (nI_inc _) (Nat.le_of_ble_eq_true rfl) rfl ?_
                    refine s_goto E dX4_makes_175 (tgt := 109) rfl ?_
                    refine s_ws (ws2 := aw ba ct Nw (nearWg s (k, u, v, some w) σ (o + 1)) ad τ ξ) (congrArg (fun z => aw ba ct Nw z ad τ ξ) (show _ = _ from by rw [nearWg, if_pos hin])) ?_
                    refine s_loc (L2 := [(0, .ref (ba 0)), (1, .int (nI k)), (2, .int (nI u)), (3, .int (nI v)), (4, .int (nI w)), (5, .int (pvF s (k, u, v, some w))), (6, .int (pcF s (k, u, v, some w))), (7, .int (plFg s (k, u, v, some w))), (8, .int (nI (setN (hitQg s (k, u, v, some w)) o))), (9, .int (nI (o + 1)))]) [1, 2, 3, 4, 5, 6, 7, 8, 9, 0] rfl ?_
                    refine s_L (L2 := [(0, .ref (ba 0)), (1, .int (nI k)), (2, .int (nI u)), (3, .int (nI v)), (4, .int (nI w)), (5, .int (pvF s (k, u, v, some w))), (6, .int (pcF s (k, u, v, some w))), (7, .int (plFg s (k, u, v, some w))), (8, .int (nI (setN (hitQg s (k, u, v, some w)) (o + 1)))), (9, .int (nI (o + 1)))]) (by rw [setN_f (f := hitQg s (k, u, v, some w)) (fun h => may_ing hin (hit_mayg h))]) ?_
                    exact ih109 (o + 1) (by omega) (by omega)
                  · have c139 : ¬ o = w := fun h => c139 ((nI_eq (a := o) (b := w) (by omega) (by omega)).mpr h)
                    have hin : inQ (k, u, v, some w) o = false := inQ_no3 c126 c132 c139
                    refine s_aload_n E dX4_makes_142 (i := 0) (j := 0) rfl rfl ?_
                    refine s_iload E dX4_makes_143 (i := 9) (j := 9) rfl ?_
                    refine s_aload_n E dX4_makes_145 (i := 0) (j := 0) rfl rfl ?_
                    refine awX4_g0_0 E dX4_makes_146 ?_
                    refine s_iload_n E dX4_makes_149 (i := 2) (j := 2) rfl rfl ?_
                    refine aw_l1 E (v := s 6 u) (u) (rfl) (by omega) hN8 ((congrFun (nearW_rg (by decide) o) u).trans (hA.2.2.2.2.2 u hu).1) dX4_makes_150 ?_
                    refine s_iload E dX4_makes_151 (i := 5) (j := 5) rfl ?_
                    refine s_iload E dX4_makes_153 (i := 7) (j := 7) rfl ?_
                    refine s_iload E dX4_makes_155 (i := 6) (j := 6) rfl ?_
                    refine c_goi0 E (rV E (cutS _ _) (x4z_isHitg s n (k, u, v, some w) o (hAo) (hnN) (hN8) (hT) (hu) (by omega) (hin) (c120)) K_X4_148 (Nat.le_of_ble_eq_true rfl) (Nat.le_of_ble_eq_true rfl) (Nat.zero_le _) (Nat.zero_le _) 0 rfl rfl rfl rfl (Nat.le_of_ble_eq_true rfl) dX4_makes_157) (fun r157 w157 h157 => ?_)
                    obtain ⟨rfl, rfl⟩ := h157
                    refine s_if_eq E dX4_makes_160 (tgt := 172) rfl (fun c160 => ?_) (fun c160 => ?_)
                    · have c160 := bI_0 c160
                      refine s_iinc E (L2 := [(9, .int (nI (o + 1))), (0, .ref (ba 0)), (1, .int (nI k)), (2, .int (nI u)), (3, .int (nI v)), (4, .int (nI w)), (5, .int (pvF s (k, u, v, some w))), (6, .int (pcF s (k, u, v, some w))), (7, .int (plFg s (k, u, v, some w))), (8, .int (nI (setN (hitQg s (k, u, v, some w)) o)))]) dX4_makes_172 (k := 9) rfl (v := nI (o + 1)) (nI_inc _) (Nat.le_of_ble_eq_true rfl) rfl ?_
                      refine s_goto E dX4_makes_175 (tgt := 109) rfl ?_
                      refine s_ws (ws2 := aw ba ct Nw (nearWg s (k, u, v, some w) σ (o + 1)) ad τ ξ) (congrArg (fun z => aw ba ct Nw z ad τ ξ) (show _ = _ from by rw [nearWg, if_neg (by rw [hin]; decide)])) ?_
                      refine s_loc (L2 := [(0, .ref (ba 0)), (1, .int (nI k)), (2, .int (nI u)), (3, .int (nI v)), (4, .int (nI w)), (5, .int (pvF s (k, u, v, some w))), (6, .int (pcF s (k, u, v, some w))), (7, .int (plFg s (k, u, v, some w))), (8, .int (nI (setN (hitQg s (k, u, v, some w)) o))), (9, .int (nI (o + 1)))]) [1, 2, 3, 4, 5, 6, 7, 8, 9, 0] rfl ?_
                      refine s_L (L2 := [(0, .ref (ba 0)), (1, .int (nI k)), (2, .int (nI u)), (3, .int (nI v)), (4, .int (nI w)), (5, .int (pvF s (k, u, v, some w))), (6, .int (pcF s (k, u, v, some w))), (7, .int (plFg s (k, u, v, some w))), (8, .int (nI (setN (hitQg s (k, u, v, some w)) (o + 1)))), (9, .int (nI (o + 1)))]) (by rw [setN_f c160]) ?_
                      exact ih109 (o + 1) (by omega) (by omega)
                    · have c160 := bI_n0 c160
                      refine s_iload E dX4_makes_163 (i := 8) (j := 8) rfl ?_
                      refine s_iconst E dX4_makes_165 (v := nI 1) (by decide) ?_
                      refine s_iload E dX4_makes_166 (i := 9) (j := 9) rfl ?_
                      refine s_ishl E dX4_makes_168 ?_
                      refine s_ior_ E dX4_makes_169 (v := nI (setN (hitQg s (k, u, v, some w)) (o + 1))) (setN_t (by omega) c160) ?_
                      refine s_istore E (L2 := [(8, .int (nI (setN (hitQg s (k, u, v, some w)) (o + 1)))), (0, .ref (ba 0)), (1, .int (nI k)), (2, .int (nI u)), (3, .int (nI v)), (4, .int (nI w)), (5, .int (pvF s (k, u, v, some w))), (6, .int (pcF s (k, u, v, some w))), (7, .int (plFg s (k, u, v, some w))), (9, .int (nI o))]) dX4_makes_170 (Nat.le_of_ble_eq_true rfl) rfl ?_
                      refine s_iinc E (L2 := [(9, .int (nI (o + 1))), (8, .int (nI (setN (hitQg s (k, u, v, some w)) (o + 1)))), (0, .ref (ba 0)), (1, .int (nI k)), (2, .int (nI u)), (3, .int (nI v)), (4, .int (nI w)), (5, .int (pvF s (k, u, v, some w))), (6, .int (pcF s (k, u, v, some w))), (7, .int (plFg s (k, u, v, some w)))]) dX4_makes_172 (k := 9) rfl (v := nI (o + 1)) (nI_inc _) (Nat.le_of_ble_eq_true rfl) rfl ?_
                      refine s_goto E dX4_makes_175 (tgt := 109) rfl ?_
                      refine s_ws (ws2 := aw ba ct Nw (nearWg s (k, u, v, some w) σ (o + 1)) ad τ ξ) (congrArg (fun z => aw ba ct Nw z ad τ ξ) (show _ = _ from by rw [nearWg, if_neg (by rw [hin]; decide)])) ?_
                      refine s_loc (L2 := [(0, .ref (ba 0)), (1, .int (nI k)), (2, .int (nI u)), (3, .int (nI v)), (4, .int (nI w)), (5, .int (pvF s (k, u, v, some w))), (6, .int (pcF s (k, u, v, some w))), (7, .int (plFg s (k, u, v, some w))), (8, .int (nI (setN (hitQg s (k, u, v, some w)) (o + 1)))), (9, .int (nI (o + 1)))]) [2, 3, 4, 5, 6, 7, 8, 9, 1, 0] rfl ?_
                      exact ih109 (o + 1) (by omega) (by omega)
      refine s_loc (L2 := [(0, .ref (ba 0)), (1, .int (nI k)), (2, .int (nI u)), (3, .int (nI v)), (4, .int (nI w)), (5, .int (pvF s (k, u, v, some w))), (6, .int (pcF s (k, u, v, some w))), (7, .int (plFg s (k, u, v, some w))), (8, .int (nI 0)), (9, .int (nI 0))]) [5, 6, 7, 8, 9, 4, 3, 2, 1, 0] rfl ?_
      exact L109 (_ + 1) 0 (Nat.zero_le _) (Nat.lt_succ_self _)
    · exact Rt (σ) dX4_makes_69 (hL.no (by unfold okP; simp only [Bool.and_eq_true, Bool.not_eq_true', decide_eq_false_iff_not]; exact fun h => h.2 c66)) rfl (Nat.le_refl _) (Nat.le_refl _) E.2.2.2.2.2.1
  · have c26 := bI_0 c26
    exact Rt (σ) dX4_makes_29 (hL.no (by unfold okP; simp only [Bool.and_eq_true, Bool.not_eq_true', decide_eq_false_iff_not]; exact fun h => c26 h.1)) rfl (Nat.le_refl _) (Nat.le_refl _) E.2.2.2.2.2.1
set_option maxHeartbeats 4000000 in
set_option maxRecDepth 100000 in
theorem x4z_goesg {l : Launch} {D : va_G} {gt : Nat → Nat} {ba ad : Nat → Nat} {ct : Nat → ClassId} {Nw : Nat} {τ σ ξ : Nat → Nat → Int32} (s : Nat → Nat → Int32) (n : Nat) (sg : Int32) (L : List Pr) (at0 k : Nat) (hL : AMg s n sg L σ) (hnN : n ≤ Nw) (hN8 : Nw ≤ 8) (hT : TA s τ n) (hB : NB s n) (hk : k < 6) (hlen : (L ++ catN (fA s n at0 k) n).length ≤ 9216) : Cv l D gt yX4_goes cX4_goes 8 3 80 0 0 [.ref (ba 0), .int (nI at0), .int (nI k)] (aw ba ct Nw σ ad τ ξ) (tysA ct) (fun σ2 => AMg s n sg (L ++ catN (fA s n at0 k) n) σ2) (fun σ2 : Nat → Nat → Int32 => aw ba ct Nw σ2 ad τ ξ) (fun _ => tysA ct) := by
  refine Cv.start RX4 (by decide) rfl (Nat.le_of_ble_eq_true rfl) rfl ?_
  intro pP eE sS mM aA bB hM cC QQ AA E Rt
  have tt := third_t k hk
  have to := ord_t k hk
  refine s_getsN E E.2.2.2.2.2.2.1.1.1 q897 dX4_goes_0 ?_
  refine s_iconst E dX4_goes_3 (v := nI 3) (by decide) ?_
  refine s_iload_n E dX4_goes_4 (i := 2) (j := 2) rfl rfl ?_
  refine s_imul_ E dX4_goes_5 (v := nI (3 * k)) (pk_mul _ _) ?_
  refine s_iconst E dX4_goes_6 (v := nI 2) (by decide) ?_
  refine s_iadd_ E dX4_goes_7 (v := nI ((3 * k) + 2)) (nI_add _ _) ?_
  refine s_tald E E.2.2.2.2.2.2.1.1.2.1 ((3 * k) + 2) (rfl) (by omega) (by decide) (v := .int (tC k)) (congrArg Value.int ((times_at k hk).2.2)) dX4_goes_8 ?_
  have J17 : Sm pP l eE { frames := 3, cells := 0, slots := 0, locals := 80 } sS mM aA bB hM cC QQ AA D 8 0 0 (aw ba ct Nw σ ad τ ξ) 17 [(0, .ref (ba 0)), (1, .int (nI at0)), (2, .int (nI k))] [.int (bI (third k = true))] := by
    refine s_istore_n E (L2 := [(3, .int (bI (third k = true))), (0, .ref (ba 0)), (1, .int (nI at0)), (2, .int (nI k))]) dX4_goes_17 rfl (Nat.le_of_ble_eq_true rfl) rfl ?_
    refine s_getsN E E.2.2.2.2.2.2.1.1.1 q897 dX4_goes_18 ?_
    refine s_iconst E dX4_goes_21 (v := nI 3) (by decide) ?_
    refine s_iload_n E dX4_goes_22 (i := 2) (j := 3) rfl rfl ?_
    refine s_imul_ E dX4_goes_23 (v := nI (3 * k)) (pk_mul _ _) ?_
    refine s_tald E E.2.2.2.2.2.2.1.1.2.1 (3 * k) (rfl) (by omega) (by decide) (v := .int (tA k)) (congrArg Value.int ((times_at k hk).1)) dX4_goes_24 ?_
    refine s_getsN E E.2.2.2.2.2.2.1.1.1 q897 dX4_goes_25 ?_
    refine s_iconst E dX4_goes_28 (v := nI 3) (by decide) ?_
    refine s_iload_n E dX4_goes_29 (i := 2) (j := 3) rfl rfl ?_
    refine s_imul_ E dX4_goes_30 (v := nI (3 * k)) (pk_mul _ _) ?_
    refine s_iconst E dX4_goes_31 (v := nI 1) (by decide) ?_
    refine s_iadd_ E dX4_goes_32 (v := nI ((3 * k) + 1)) (nI_add _ _) ?_
    refine s_tald E E.2.2.2.2.2.2.1.1.2.1 ((3 * k) + 1) (rfl) (by omega) (by decide) (v := .int (tB k)) (congrArg Value.int ((times_at k hk).2.1)) dX4_goes_33 ?_
    have J42 : Sm pP l eE { frames := 3, cells := 0, slots := 0, locals := 80 } sS mM aA bB hM cC QQ AA D 8 0 0 (aw ba ct Nw σ ad τ ξ) 42 [(3, .int (bI (third k = true))), (0, .ref (ba 0)), (1, .int (nI at0)), (2, .int (nI k))] [.int (bI (ordK k = true))] := by
      refine s_istore E (L2 := [(4, .int (bI (ordK k = true))), (3, .int (bI (third k = true))), (0, .ref (ba 0)), (1, .int (nI at0)), (2, .int (nI k))]) dX4_goes_42 (Nat.le_of_ble_eq_true rfl) rfl ?_
      refine s_iconst E dX4_goes_44 (v := nI 0) (by decide) ?_
      refine s_istore E (L2 := [(5, .int (nI 0)), (4, .int (bI (ordK k = true))), (3, .int (bI (third k = true))), (0, .ref (ba 0)), (1, .int (nI at0)), (2, .int (nI k))]) dX4_goes_45 (Nat.le_of_ble_eq_true rfl) rfl ?_
      have L47 : ∀ (fuel : Nat) (u : Nat) (w47 : Nat → Nat → Int32), (u ≤ n) → (AMg s n sg (L ++ catN (fA s n at0 k) u) w47) → (n - u) < fuel → Sm pP l eE { frames := 3, cells := 0, slots := 0, locals := 80 } sS mM aA bB hM cC QQ AA D 8 0 0 (aw ba ct Nw w47 ad τ ξ) 47 [(0, .ref (ba 0)), (1, .int (nI at0)), (2, .int (nI k)), (3, .int (bI (third k = true))), (4, .int (bI (ordK k = true))), (5, .int (nI u))] [] := by
        intro fuel
        induction fuel with
        | zero =>
          intro u w47 hui hL47 hf47
          exact absurd hf47 (Nat.not_lt_zero _)
        | succ fuel ih47 =>
          intro u w47 hui hL47 hf47
          refine s_iload E dX4_goes_47 (i := 5) (j := 5) rfl ?_
          refine s_aload_n E dX4_goes_49 (i := 0) (j := 0) rfl rfl ?_
          refine awX4_g0_9 E (v := nI n) (hL47.1.1.1) dX4_goes_50 ?_
          refine s_icmp_ge E dX4_goes_53 (tgt := 196) rfl (fun c53 => ?_) (fun c53 => ?_)
          · have c53 : ¬ u < n := fun h => absurd c53 (Int32.not_le.mpr ((nI_ltI (a := u) (b := n) (by omega) (by omega)).mpr h))
            exact Rt (w47) dX4_goes_196 (by obtain rfl : u = n := (by omega); exact hL47) rfl (Nat.le_refl _) (Nat.le_refl _) E.2.2.2.2.2.1
          · have c53 : u < n := (nI_ltI (a := u) (b := n) (by omega) (by omega)).mp (Int32.not_le.mp c53)
            refine s_aload_n E dX4_goes_56 (i := 0) (j := 0) rfl rfl ?_
            refine s_iload E dX4_goes_57 (i := 5) (j := 5) rfl ?_
            refine s_iload_n E dX4_goes_59 (i := 1) (j := 1) rfl rfl ?_
            refine c_goi0 E (rV E (cutS _ _) (x4z_isAtg s n u at0 (hL47.1.1) (hnN) (hN8) (by omega)) K_X4_124 (Nat.le_of_ble_eq_true rfl) (Nat.le_of_ble_eq_true rfl) (Nat.zero_le _) (Nat.zero_le _) 0 rfl rfl rfl rfl (Nat.le_of_ble_eq_true rfl) dX4_goes_60) (fun r60 w60 h60 => ?_)
            obtain ⟨rfl, rfl⟩ := h60
            refine s_if_ne E dX4_goes_63 (tgt := 69) rfl (fun c63 => ?_) (fun c63 => ?_)
            · have c63 := bI_n0 c63
              refine s_iload E dX4_goes_69 (i := 4) (j := 4) rfl ?_
              have J82 : Sm pP l eE { frames := 3, cells := 0, slots := 0, locals := 80 } sS mM aA bB hM cC QQ AA D 8 0 0 (aw ba ct Nw w47 ad τ ξ) 82 [(0, .ref (ba 0)), (1, .int (nI at0)), (2, .int (nI k)), (3, .int (bI (third k = true))), (4, .int (bI (ordK k = true))), (5, .int (nI u))] [.int (nI (vzF k u))] := by
                refine s_istore E (L2 := [(6, .int (nI (vzF k u))), (0, .ref (ba 0)), (1, .int (nI at0)), (2, .int (nI k)), (3, .int (bI (third k = true))), (4, .int (bI (ordK k = true))), (5, .int (nI u))]) dX4_goes_82 (Nat.le_of_ble_eq_true rfl) rfl ?_
                have L84 : ∀ (fuel : Nat) (v : Nat) (w84 : Nat → Nat → Int32), (v ≤ n) → (vzF k u ≤ v) → (AMg s n sg (L ++ catN (fA s n at0 k) u ++ catN (fB s n at0 k u) v) w84) → (n - v) < fuel → Sm pP l eE { frames := 3, cells := 0, slots := 0, locals := 80 } sS mM aA bB hM cC QQ AA D 8 0 0 (aw ba ct Nw w84 ad τ ξ) 84 [(0, .ref (ba 0)), (1, .int (nI at0)), (2, .int (nI k)), (3, .int (bI (third k = true))), (4, .int (bI (ordK k = true))), (5, .int (nI u)), (6, .int (nI v))] [] := by
                  intro fuel
                  induction fuel with
                  | zero =>
                    intro v w84 hvi hvz hL84 hf84
                    exact absurd hf84 (Nat.not_lt_zero _)
                  | succ fuel ih84 =>
                    intro v w84 hvi hvz hL84 hf84
                    refine s_iload E dX4_goes_84 (i := 6) (j := 6) rfl ?_
                    refine s_aload_n E dX4_goes_86 (i := 0) (j := 0) rfl rfl ?_
                    refine awX4_g0_9 E (v := nI n) (hL84.1.1.1) dX4_goes_87 ?_
                    refine s_icmp_ge E dX4_goes_90 (tgt := 190) rfl (fun c90 => ?_) (fun c90 => ?_)
                    · have c90 : ¬ v < n := fun h => absurd c90 (Int32.not_le.mpr ((nI_ltI (a := v) (b := n) (by omega) (by omega)).mpr h))
                      refine s_iinc E (L2 := [(5, .int (nI (u + 1))), (0, .ref (ba 0)), (1, .int (nI at0)), (2, .int (nI k)), (3, .int (bI (third k = true))), (4, .int (bI (ordK k = true))), (6, .int (nI v))]) dX4_goes_190 (k := 5) rfl (v := nI (u + 1)) (nI_inc _) (Nat.le_of_ble_eq_true rfl) rfl ?_
                      refine s_goto E dX4_goes_193 (tgt := 47) rfl ?_
                      refine s_loc (L2 := [(0, .ref (ba 0)), (1, .int (nI at0)), (2, .int (nI k)), (3, .int (bI (third k = true))), (4, .int (bI (ordK k = true))), (5, .int (nI (u + 1)))]) [1, 2, 3, 4, 5, 0] rfl ?_
                      exact ih47 (u + 1) w84 (by omega) (by obtain rfl : v = n := (by omega); rw [catN, ← List.append_assoc]; exact hL84) (by omega)
                    · have c90 : v < n := (nI_ltI (a := v) (b := n) (by omega) (by omega)).mp (Int32.not_le.mp c90)
                      refine s_iload E dX4_goes_93 (i := 6) (j := 6) rfl ?_
                      refine s_iload E dX4_goes_95 (i := 5) (j := 5) rfl ?_
                      refine s_icmp_eq E dX4_goes_97 (tgt := 184) rfl (fun c97 => ?_) (fun c97 => ?_)
                      · have c97 : v = u := (nI_eq (a := v) (b := u) (by omega) (by omega)).mp c97
                        refine s_iinc E (L2 := [(6, .int (nI (v + 1))), (0, .ref (ba 0)), (1, .int (nI at0)), (2, .int (nI k)), (3, .int (bI (third k = true))), (4, .int (bI (ordK k = true))), (5, .int (nI u))]) dX4_goes_184 (k := 6) rfl (v := nI (v + 1)) (nI_inc _) (Nat.le_of_ble_eq_true rfl) rfl ?_
                        refine s_goto E dX4_goes_187 (tgt := 84) rfl ?_
                        refine s_loc (L2 := [(0, .ref (ba 0)), (1, .int (nI at0)), (2, .int (nI k)), (3, .int (bI (third k = true))), (4, .int (bI (ordK k = true))), (5, .int (nI u)), (6, .int (nI (v + 1)))]) [1, 2, 3, 4, 5, 6, 0] rfl ?_
                        exact ih84 (v + 1) w84 (by omega) (by omega) (by rw [catN, fB_un (by first | exact Or.inl c97 | exact Or.inr c107), List.append_nil]; exact hL84) (by omega)
                      · have c97 : ¬ v = u := fun h => c97 ((nI_eq (a := v) (b := u) (by omega) (by omega)).mpr h)
                        refine s_aload_n E dX4_goes_100 (i := 0) (j := 0) rfl rfl ?_
                        refine s_iload E dX4_goes_101 (i := 6) (j := 6) rfl ?_
                        refine s_iload_n E dX4_goes_103 (i := 1) (j := 1) rfl rfl ?_
                        refine c_goi0 E (rV E (cutS _ _) (x4z_isAtg s n v at0 (hL84.1.1) (hnN) (hN8) (by omega)) K_X4_124 (Nat.le_of_ble_eq_true rfl) (Nat.le_of_ble_eq_true rfl) (Nat.zero_le _) (Nat.zero_le _) 0 rfl rfl rfl rfl (Nat.le_of_ble_eq_true rfl) dX4_goes_104) (fun r104 w104 h104 => ?_)
                        obtain ⟨rfl, rfl⟩ := h104
                        refine s_if_ne E dX4_goes_107 (tgt := 113) rfl (fun c107 => ?_) (fun c107 => ?_)
                        · have c107 := bI_n0 c107
                          refine s_iload_n E dX4_goes_113 (i := 3) (j := 3) rfl rfl ?_
                          refine s_if_ne E dX4_goes_114 (tgt := 127) rfl (fun c114 => ?_) (fun c114 => ?_)
                          · have c114 := bI_n0 c114
                            refine s_iconst E dX4_goes_127 (v := nI 0) (by decide) ?_
                            refine s_istore E (L2 := [(7, .int (nI 0)), (0, .ref (ba 0)), (1, .int (nI at0)), (2, .int (nI k)), (3, .int (bI (third k = true))), (4, .int (bI (ordK k = true))), (5, .int (nI u)), (6, .int (nI v))]) dX4_goes_128 (Nat.le_of_ble_eq_true rfl) rfl ?_
                            have L130 : ∀ (fuel : Nat) (w : Nat) (w130 : Nat → Nat → Int32), (w ≤ n) → (AMg s n sg (L ++ catN (fA s n at0 k) u ++ catN (fB s n at0 k u) v ++ catN (fC s at0 k u v) w) w130) → (n - w) < fuel → Sm pP l eE { frames := 3, cells := 0, slots := 0, locals := 80 } sS mM aA bB hM cC QQ AA D 8 0 0 (aw ba ct Nw w130 ad τ ξ) 130 [(0, .ref (ba 0)), (1, .int (nI at0)), (2, .int (nI k)), (3, .int (bI (third k = true))), (4, .int (bI (ordK k = true))), (5, .int (nI u)), (6, .int (nI v)), (7, .int (nI w))] [] := by
                              intro fuel
                              induction fuel with
                              | zero =>
                                intro w w130 hwi hL130 hf130
                                exact absurd hf130 (Nat.not_lt_zero _)
                              | succ fuel ih130 =>
                                intro w w130 hwi hL130 hf130
                                refine s_iload_n E dX4_goes_130 (i := 3) (j := 3) rfl rfl ?_
                                refine s_if_eq E dX4_goes_131 (tgt := 184) rfl (fun c131 => absurd c114 (bI_0 c131)) (fun c131 => ?_)
                                have c131 := bI_n0 c131
                                refine s_iload E dX4_goes_134 (i := 7) (j := 7) rfl ?_
                                refine s_aload_n E dX4_goes_136 (i := 0) (j := 0) rfl rfl ?_
                                refine awX4_g0_9 E (v := nI n) (hL130.1.1.1) dX4_goes_137 ?_
                                refine s_icmp_ge E dX4_goes_140 (tgt := 184) rfl (fun c140 => ?_) (fun c140 => ?_)
                                · have c140 : ¬ w < n := fun h => absurd c140 (Int32.not_le.mpr ((nI_ltI (a := w) (b := n) (by omega) (by omega)).mpr h))
                                  refine s_iinc E (L2 := [(6, .int (nI (v + 1))), (0, .ref (ba 0)), (1, .int (nI at0)), (2, .int (nI k)), (3, .int (bI (third k = true))), (4, .int (bI (ordK k = true))), (5, .int (nI u)), (7, .int (nI w))]) dX4_goes_184 (k := 6) rfl (v := nI (v + 1)) (nI_inc _) (Nat.le_of_ble_eq_true rfl) rfl ?_
                                  refine s_goto E dX4_goes_187 (tgt := 84) rfl ?_
                                  refine s_loc (L2 := [(0, .ref (ba 0)), (1, .int (nI at0)), (2, .int (nI k)), (3, .int (bI (third k = true))), (4, .int (bI (ordK k = true))), (5, .int (nI u)), (6, .int (nI (v + 1)))]) [1, 2, 3, 4, 5, 6, 0] rfl ?_
                                  exact ih84 (v + 1) w130 (by omega) (by omega) (by obtain rfl : w = n := (by omega); rw [catN, ← List.append_assoc, fB_3 c63 c107 c97 hvz c114]; exact hL130) (by omega)
                                · have c140 : w < n := (nI_ltI (a := w) (b := n) (by omega) (by omega)).mp (Int32.not_le.mp c140)
                                  refine s_iload E dX4_goes_143 (i := 7) (j := 7) rfl ?_
                                  refine s_iload E dX4_goes_145 (i := 5) (j := 5) rfl ?_
                                  refine s_icmp_eq E dX4_goes_147 (tgt := 178) rfl (fun c147 => ?_) (fun c147 => ?_)
                                  · have c147 : w = u := (nI_eq (a := w) (b := u) (by omega) (by omega)).mp c147
                                    refine s_iinc E (L2 := [(7, .int (nI (w + 1))), (0, .ref (ba 0)), (1, .int (nI at0)), (2, .int (nI k)), (3, .int (bI (third k = true))), (4, .int (bI (ordK k = true))), (5, .int (nI u)), (6, .int (nI v))]) dX4_goes_178 (k := 7) rfl (v := nI (w + 1)) (nI_inc _) (Nat.le_of_ble_eq_true rfl) rfl ?_
                                    refine s_goto E dX4_goes_181 (tgt := 130) rfl ?_
                                    refine s_loc (L2 := [(0, .ref (ba 0)), (1, .int (nI at0)), (2, .int (nI k)), (3, .int (bI (third k = true))), (4, .int (bI (ordK k = true))), (5, .int (nI u)), (6, .int (nI v)), (7, .int (nI (w + 1)))]) [1, 2, 3, 4, 5, 6, 7, 0] rfl ?_
                                    exact ih130 (w + 1) w130 (by omega) (by rw [catN, show fC s at0 k u v w = [] from (by unfold fC; rw [if_neg]; first | (simp [c147]; done) | (simp [c154]; done) | (simp [c164]; done)), List.append_nil]; exact hL130) (by omega)
                                  · have c147 : ¬ w = u := fun h => c147 ((nI_eq (a := w) (b := u) (by omega) (by omega)).mpr h)
                                    refine s_iload E dX4_goes_150 (i := 7) (j := 7) rfl ?_
                                    refine s_iload E dX4_goes_152 (i := 6) (j := 6) rfl ?_
                                    refine s_icmp_eq E dX4_goes_154 (tgt := 178) rfl (fun c154 => ?_) (fun c154 => ?_)
                                    · have c154 : w = v := (nI_eq (a := w) (b := v) (by omega) (by omega)).mp c154
                                      refine s_iinc E (L2 := [(7, .int (nI (w + 1))), (0, .ref (ba 0)), (1, .int (nI at0)), (2, .int (nI k)), (3, .int (bI (third k = true))), (4, .int (bI (ordK k = true))), (5, .int (nI u)), (6, .int (nI v))]) dX4_goes_178 (k := 7) rfl (v := nI (w + 1)) (nI_inc _) (Nat.le_of_ble_eq_true rfl) rfl ?_
                                      refine s_goto E dX4_goes_181 (tgt := 130) rfl ?_
                                      refine s_loc (L2 := [(0, .ref (ba 0)), (1, .int (nI at0)), (2, .int (nI k)), (3, .int (bI (third k = true))), (4, .int (bI (ordK k = true))), (5, .int (nI u)), (6, .int (nI v)), (7, .int (nI (w + 1)))]) [1, 2, 3, 4, 5, 6, 7, 0] rfl ?_
                                      exact ih130 (w + 1) w130 (by omega) (by rw [catN, show fC s at0 k u v w = [] from (by unfold fC; rw [if_neg]; first | (simp [c147]; done) | (simp [c154]; done) | (simp [c164]; done)), List.append_nil]; exact hL130) (by omega)
                                    · have c154 : ¬ w = v := fun h => c154 ((nI_eq (a := w) (b := v) (by omega) (by omega)).mpr h)
                                      refine s_aload_n E dX4_goes_157 (i := 0) (j := 0) rfl rfl ?_
                                      refine s_iload E dX4_goes_158 (i := 7) (j := 7) rfl ?_
                                      refine s_iload_n E dX4_goes_160 (i := 1) (j := 1) rfl rfl ?_
                                      refine c_goi0 E (rV E (cutS _ _) (x4z_isAtg s n w at0 (hL130.1.1) (hnN) (hN8) (by omega)) K_X4_124 (Nat.le_of_ble_eq_true rfl) (Nat.le_of_ble_eq_true rfl) (Nat.zero_le _) (Nat.zero_le _) 0 rfl rfl rfl rfl (Nat.le_of_ble_eq_true rfl) dX4_goes_161) (fun r161 w161 h161 => ?_)
                                      obtain ⟨rfl, rfl⟩ := h161
                                      refine s_if_eq E dX4_goes_164 (tgt := 178) rfl (fun c164 => ?_) (fun c164 => ?_)
                                      · have c164 := bI_0 c164
                                        refine s_iinc E (L2 := [(7, .int (nI (w + 1))), (0, .ref (ba 0)), (1, .int (nI at0)), (2, .int (nI k)), (3, .int (bI (third k = true))), (4, .int (bI (ordK k = true))), (5, .int (nI u)), (6, .int (nI v))]) dX4_goes_178 (k := 7) rfl (v := nI (w + 1)) (nI_inc _) (Nat.le_of_ble_eq_true rfl) rfl ?_
                                        refine s_goto E dX4_goes_181 (tgt := 130) rfl ?_
                                        refine s_loc (L2 := [(0, .ref (ba 0)), (1, .int (nI at0)), (2, .int (nI k)), (3, .int (bI (third k = true))), (4, .int (bI (ordK k = true))), (5, .int (nI u)), (6, .int (nI v)), (7, .int (nI (w + 1)))]) [1, 2, 3, 4, 5, 6, 7, 0] rfl ?_
                                        exact ih130 (w + 1) w130 (by omega) (by rw [catN, show fC s at0 k u v w = [] from (by unfold fC; rw [if_neg]; first | (simp [c147]; done) | (simp [c154]; done) | (simp [c164]; done)), List.append_nil]; exact hL130) (by omega)
                                      · have c164 := bI_n0 c164
                                        refine s_aload_n E dX4_goes_167 (i := 0) (j := 0) rfl rfl ?_
                                        refine s_iload_n E dX4_goes_168 (i := 2) (j := 2) rfl rfl ?_
                                        refine s_iload E dX4_goes_169 (i := 5) (j := 5) rfl ?_
                                        refine s_iload E dX4_goes_171 (i := 6) (j := 6) rfl ?_
                                        refine s_iload E dX4_goes_173 (i := 7) (j := 7) rfl ?_
                                        refine c_gov0 E (rV E (cutS _ _) (x4z_makes3g s n sg (L ++ catN (fA s n at0 k) u ++ catN (fB s n at0 k u) v ++ catN (fC s at0 k u v) w) k u v w (hL130) (hnN) (hN8) (hT) (hB) (hk) (by omega) (by omega) (by omega) (c147) (c154) (fun e => c97 e.symm) ((by have h1 := catN_mono (fA s n at0 k) (show u + 1 ≤ n by omega); have h2 := catN_mono (fB s n at0 k u) (show v + 1 ≤ n by omega); have h3 := fB_3 (s := s) (n := n) c63 c107 c97 hvz c114; have h4 := catN_mono (fC s at0 k u v) (show w + 1 ≤ n by omega); have h5 : fC s at0 k u v w = okL s (k, u, v, some w) := (by unfold fC; rw [if_pos]; simp [c147, c154, c164]); simp only [catN, fA, h3, h5, List.length_append] at h1 h2 h4 hlen ⊢; omega))) K_X4_127 (Nat.le_of_ble_eq_true rfl) (Nat.le_of_ble_eq_true rfl) (Nat.zero_le _) (Nat.zero_le _) 0 rfl rfl rfl rfl (Nat.le_of_ble_eq_true rfl) dX4_goes_175) (fun w175 h175 => ?_)
                                        refine s_iinc E (L2 := [(7, .int (nI (w + 1))), (0, .ref (ba 0)), (1, .int (nI at0)), (2, .int (nI k)), (3, .int (bI (third k = true))), (4, .int (bI (ordK k = true))), (5, .int (nI u)), (6, .int (nI v))]) dX4_goes_178 (k := 7) rfl (v := nI (w + 1)) (nI_inc _) (Nat.le_of_ble_eq_true rfl) rfl ?_
                                        refine s_goto E dX4_goes_181 (tgt := 130) rfl ?_
                                        refine s_loc (L2 := [(0, .ref (ba 0)), (1, .int (nI at0)), (2, .int (nI k)), (3, .int (bI (third k = true))), (4, .int (bI (ordK k = true))), (5, .int (nI u)), (6, .int (nI v)), (7, .int (nI (w + 1)))]) [1, 2, 3, 4, 5, 6, 7, 0] rfl ?_
                                        exact ih130 (w + 1) w175 (by omega) (by rw [catN, ← List.append_assoc, show fC s at0 k u v w = okL s (k, u, v, some w) from (by unfold fC; rw [if_pos]; simp [c147, c154, c164])]; exact h175) (by omega)
                            refine s_loc (L2 := [(0, .ref (ba 0)), (1, .int (nI at0)), (2, .int (nI k)), (3, .int (bI (third k = true))), (4, .int (bI (ordK k = true))), (5, .int (nI u)), (6, .int (nI v)), (7, .int (nI 0))]) [1, 2, 3, 4, 5, 6, 7, 0] rfl ?_
                            exact L130 (_ + 1) 0 w84 (Nat.zero_le _) (by rw [catN, List.append_nil]; exact hL84) (Nat.lt_succ_self _)
                          · have c114 := bI_0 c114
                            refine s_aload_n E dX4_goes_117 (i := 0) (j := 0) rfl rfl ?_
                            refine s_iload_n E dX4_goes_118 (i := 2) (j := 2) rfl rfl ?_
                            refine s_iload E dX4_goes_119 (i := 5) (j := 5) rfl ?_
                            refine s_iload E dX4_goes_121 (i := 6) (j := 6) rfl ?_
                            refine s_iconst E dX4_goes_123 (v := (-1)) (by decide) ?_
                            refine c_gov0 E (rV E (cutS _ _) (x4z_makesg s n sg (L ++ catN (fA s n at0 k) u ++ catN (fB s n at0 k u) v) k u v (hL84) (hnN) (hN8) (hT) (hB) (hk) (by omega) (by omega) (fun e => c97 e.symm) ((by have h1 := catN_mono (fA s n at0 k) (show u + 1 ≤ n by omega); have h2 := catN_mono (fB s n at0 k u) (show v + 1 ≤ n by omega); have h3 : fB s n at0 k u v = okL s (k, u, v, none) := fB_2 c63 c107 c97 hvz c114; simp only [catN, fA, h3, List.length_append] at h1 h2 hlen ⊢; omega))) K_X4_127 (Nat.le_of_ble_eq_true rfl) (Nat.le_of_ble_eq_true rfl) (Nat.zero_le _) (Nat.zero_le _) 0 rfl rfl rfl rfl (Nat.le_of_ble_eq_true rfl) dX4_goes_124) (fun w124 h124 => ?_)
                            refine s_iconst E dX4_goes_127 (v := nI 0) (by decide) ?_
                            refine s_istore E (L2 := [(7, .int (nI 0)), (0, .ref (ba 0)), (1, .int (nI at0)), (2, .int (nI k)), (3, .int (bI (third k = true))), (4, .int (bI (ordK k = true))), (5, .int (nI u)), (6, .int (nI v))]) dX4_goes_128 (Nat.le_of_ble_eq_true rfl) rfl ?_
                            refine s_iload_n E dX4_goes_130 (i := 3) (j := 4) rfl rfl ?_
                            refine s_if_eq E dX4_goes_131 (tgt := 184) rfl (fun c131 => ?_) (fun c131 => absurd (bI_n0 c131) c114)
                            have c131 := bI_0 c131
                            refine s_iinc E (L2 := [(6, .int (nI (v + 1))), (7, .int (nI 0)), (0, .ref (ba 0)), (1, .int (nI at0)), (2, .int (nI k)), (3, .int (bI (third k = true))), (4, .int (bI (ordK k = true))), (5, .int (nI u))]) dX4_goes_184 (k := 7) rfl (v := nI (v + 1)) (nI_inc _) (Nat.le_of_ble_eq_true rfl) rfl ?_
                            refine s_goto E dX4_goes_187 (tgt := 84) rfl ?_
                            refine s_loc (L2 := [(0, .ref (ba 0)), (1, .int (nI at0)), (2, .int (nI k)), (3, .int (bI (third k = true))), (4, .int (bI (ordK k = true))), (5, .int (nI u)), (6, .int (nI (v + 1)))]) [2, 3, 4, 5, 6, 7, 0] rfl ?_
                            exact ih84 (v + 1) w124 (by omega) (by omega) (by rw [catN, ← List.append_assoc, fB_2 c63 c107 c97 hvz c114]; exact h124) (by omega)
                        · have c107 := bI_0 c107
                          refine s_goto E dX4_goes_110 (tgt := 184) rfl ?_
                          refine s_iinc E (L2 := [(6, .int (nI (v + 1))), (0, .ref (ba 0)), (1, .int (nI at0)), (2, .int (nI k)), (3, .int (bI (third k = true))), (4, .int (bI (ordK k = true))), (5, .int (nI u))]) dX4_goes_184 (k := 6) rfl (v := nI (v + 1)) (nI_inc _) (Nat.le_of_ble_eq_true rfl) rfl ?_
                          refine s_goto E dX4_goes_187 (tgt := 84) rfl ?_
                          refine s_loc (L2 := [(0, .ref (ba 0)), (1, .int (nI at0)), (2, .int (nI k)), (3, .int (bI (third k = true))), (4, .int (bI (ordK k = true))), (5, .int (nI u)), (6, .int (nI (v + 1)))]) [1, 2, 3, 4, 5, 6, 0] rfl ?_
                          exact ih84 (v + 1) w84 (by omega) (by omega) (by rw [catN, fB_un (by first | exact Or.inl c97 | exact Or.inr c107), List.append_nil]; exact hL84) (by omega)
                refine s_loc (L2 := [(0, .ref (ba 0)), (1, .int (nI at0)), (2, .int (nI k)), (3, .int (bI (third k = true))), (4, .int (bI (ordK k = true))), (5, .int (nI u)), (6, .int (nI (vzF k u)))]) [1, 2, 3, 4, 5, 6, 0] rfl ?_
                exact L84 (_ + 1) (vzF k u) w47 (by unfold vzF; split <;> omega) (Nat.le_refl _) (by rw [fB_vz, List.append_nil]; exact hL47) (Nat.lt_succ_self _)
              refine s_if_eq E dX4_goes_71 (tgt := 81) rfl (fun c71 => ?_) (fun c71 => ?_)
              · have c71 := bI_0 c71
                refine s_iconst E dX4_goes_81 (v := nI 0) (by decide) ?_
                refine s_top (v2 := nI (vzF k u)) (by unfold vzF; rw [if_neg c71]) ?_
                exact J82
              · have c71 := bI_n0 c71
                refine s_iload E dX4_goes_74 (i := 5) (j := 5) rfl ?_
                refine s_iconst E dX4_goes_76 (v := nI 1) (by decide) ?_
                refine s_iadd_ E dX4_goes_77 (v := nI (u + 1)) (nI_add _ _) ?_
                refine s_goto E dX4_goes_78 (tgt := 82) rfl ?_
                refine s_top (v2 := nI (vzF k u)) (by unfold vzF; rw [if_pos c71]) ?_
                exact J82
            · have c63 := bI_0 c63
              refine s_goto E dX4_goes_66 (tgt := 190) rfl ?_
              refine s_iinc E (L2 := [(5, .int (nI (u + 1))), (0, .ref (ba 0)), (1, .int (nI at0)), (2, .int (nI k)), (3, .int (bI (third k = true))), (4, .int (bI (ordK k = true)))]) dX4_goes_190 (k := 5) rfl (v := nI (u + 1)) (nI_inc _) (Nat.le_of_ble_eq_true rfl) rfl ?_
              refine s_goto E dX4_goes_193 (tgt := 47) rfl ?_
              refine s_loc (L2 := [(0, .ref (ba 0)), (1, .int (nI at0)), (2, .int (nI k)), (3, .int (bI (third k = true))), (4, .int (bI (ordK k = true))), (5, .int (nI (u + 1)))]) [1, 2, 3, 4, 5, 0] rfl ?_
              exact ih47 (u + 1) w47 (by omega) (by rw [catN, fA_nil c63, List.append_nil]; exact hL47) (by omega)
      refine s_loc (L2 := [(0, .ref (ba 0)), (1, .int (nI at0)), (2, .int (nI k)), (3, .int (bI (third k = true))), (4, .int (bI (ordK k = true))), (5, .int (nI 0))]) [3, 4, 5, 2, 1, 0] rfl ?_
      exact L47 (_ + 1) 0 σ (Nat.zero_le _) (by rw [catN, List.append_nil]; exact hL) (Nat.lt_succ_self _)
    refine s_icmp_ne E dX4_goes_34 (tgt := 41) rfl (fun c34 => ?_) (fun c34 => ?_)
    · refine s_iconst E dX4_goes_41 (v := nI 0) (by decide) ?_
      refine s_top (v2 := bI (ordK k = true)) ((bI_f (fun h => c34 (to.mp h))).symm) ?_
      exact J42
    · refine s_iconst E dX4_goes_37 (v := nI 1) (by decide) ?_
      refine s_goto E dX4_goes_38 (tgt := 42) rfl ?_
      refine s_top (v2 := bI (ordK k = true)) ((bI_t (to.mpr c34)).symm) ?_
      exact J42
  refine s_if_eq E dX4_goes_9 (tgt := 16) rfl (fun c9 => ?_) (fun c9 => ?_)
  · refine s_iconst E dX4_goes_16 (v := nI 0) (by decide) ?_
    refine s_top (v2 := bI (third k = true)) ((bI_f (fun h => tt.mp h c9)).symm) ?_
    exact J17
  · refine s_iconst E dX4_goes_12 (v := nI 1) (by decide) ?_
    refine s_goto E dX4_goes_13 (tgt := 17) rfl ?_
    refine s_top (v2 := bI (third k = true)) ((bI_t (tt.mpr c9)).symm) ?_
    exact J17
set_option maxHeartbeats 4000000 in
set_option maxRecDepth 100000 in
theorem x4z_counted_2g {l : Launch} {D : va_G} {gt : Nat → Nat} {ba ad : Nat → Nat} {ct : Nat → ClassId} {Nw : Nat} {τ σ ξ : Nat → Nat → Int32} (s : Nat → Nat → Int32) (n : Nat) (pl : Int32) (hA : AIg s σ n) (hnN : n ≤ Nw) (hN8 : Nw ≤ 8) (hT : TA s τ n) (hB : NB s n) (ho : In (s 0 33) 8) : Cr l D gt yX4_counted_2 cX4_counted_2 4 (.object RX4) 4 107 0 0 [.ref (ba 0), .int (pl)] (aw ba ct Nw σ ad τ ξ) (tysA ct) (fun σ2 => AMg s n pl (prods s n) σ2 ∧ σ2 0 17 = nI (crowdsT s n)) (fun _ => ba 0) (fun σ2 : Nat → Nat → Int32 => aw ba ct Nw σ2 ad τ ξ) (fun _ => tysA ct) := by
  refine Cr.start (Or.inl ⟨_, rfl⟩) RX4 (by decide) rfl (Nat.le_of_ble_eq_true rfl) rfl ?_
  intro pP eE sS mM aA bB hM cC QQ AA E Rt
  refine s_aload_n E dX4_counted_2_0 (i := 0) (j := 0) rfl rfl ?_
  refine s_iload_n E dX4_counted_2_1 (i := 1) (j := 1) rfl rfl ?_
  refine awX4_p0_18 E dX4_counted_2_2 ?_
  refine s_aload_n E dX4_counted_2_5 (i := 0) (j := 0) rfl rfl ?_
  refine s_iconst E dX4_counted_2_6 (v := nI 0) (by decide) ?_
  refine awX4_p0_14 E dX4_counted_2_7 ?_
  refine s_aload_n E dX4_counted_2_10 (i := 0) (j := 0) rfl rfl ?_
  refine s_iconst E dX4_counted_2_11 (v := nI 0) (by decide) ?_
  refine awX4_p0_15 E dX4_counted_2_12 ?_
  refine s_aload_n E dX4_counted_2_15 (i := 0) (j := 0) rfl rfl ?_
  refine s_iconst E dX4_counted_2_16 (v := nI 0) (by decide) ?_
  refine awX4_p0_16 E dX4_counted_2_17 ?_
  refine s_aload_n E dX4_counted_2_20 (i := 0) (j := 0) rfl rfl ?_
  refine s_bipush E dX4_counted_2_21 (v := (-2)) (by decide) ?_
  refine awX4_p0_26 E dX4_counted_2_23 ?_
  refine s_ws (ws2 := aw ba ct Nw (AZ1 pl 0 0 σ) ad τ ξ) (congrArg (fun z => aw ba ct Nw z ad τ ξ) (AZ1_0)) ?_
  refine s_iconst E dX4_counted_2_26 (v := nI 0) (by decide) ?_
  refine s_istore_n E (L2 := [(2, .int (nI 0)), (0, .ref (ba 0)), (1, .int (pl))]) dX4_counted_2_27 rfl (Nat.le_of_ble_eq_true rfl) rfl ?_
  have L28 : ∀ (fuel : Nat) (i : Nat), (i ≤ 18) → (18 - i) < fuel → Sm pP l eE { frames := 4, cells := 0, slots := 0, locals := 107 } sS mM aA bB hM cC QQ AA D 4 0 0 (aw ba ct Nw (AZ1 pl i 0 σ) ad τ ξ) 28 [(0, .ref (ba 0)), (1, .int (pl)), (2, .int (nI i))] [] := by
    intro fuel
    induction fuel with
    | zero =>
      intro i hi hf28
      exact absurd hf28 (Nat.not_lt_zero _)
    | succ fuel ih28 =>
      intro i hi hf28
      refine s_iload_n E dX4_counted_2_28 (i := 2) (j := 2) rfl rfl ?_
      refine s_bipush E dX4_counted_2_29 (v := nI 18) (by decide) ?_
      refine s_icmp_ge E dX4_counted_2_31 (tgt := 47) rfl (fun c31 => ?_) (fun c31 => ?_)
      · have c31 : ¬ i < 18 := fun h => absurd c31 (Int32.not_le.mpr ((nI_ltI (a := i) (b := 18) (by omega) (by omega)).mpr h))
        refine s_iconst E dX4_counted_2_47 (v := nI 0) (by decide) ?_
        refine s_istore_n E (L2 := [(2, .int (nI 0)), (0, .ref (ba 0)), (1, .int (pl))]) dX4_counted_2_48 rfl (Nat.le_of_ble_eq_true rfl) rfl ?_
        have L49 : ∀ (fuel : Nat) (u : Nat), (u ≤ n) → (n - u) < fuel → Sm pP l eE { frames := 4, cells := 0, slots := 0, locals := 107 } sS mM aA bB hM cC QQ AA D 4 0 0 (aw ba ct Nw (AZ1 pl 18 u σ) ad τ ξ) 49 [(0, .ref (ba 0)), (1, .int (pl)), (2, .int (nI u))] [] := by
          intro fuel
          induction fuel with
          | zero =>
            intro u hu hf49
            exact absurd hf49 (Nat.not_lt_zero _)
          | succ fuel ih49 =>
            intro u hu hf49
            refine s_iload_n E dX4_counted_2_49 (i := 2) (j := 2) rfl rfl ?_
            refine s_aload_n E dX4_counted_2_50 (i := 0) (j := 0) rfl rfl ?_
            refine awX4_g0_9 E (v := nI n) (hA.1) dX4_counted_2_51 ?_
            refine s_icmp_ge E dX4_counted_2_54 (tgt := 92) rfl (fun c54 => ?_) (fun c54 => ?_)
            · have c54 : ¬ u < n := fun h => absurd c54 (Int32.not_le.mpr ((nI_ltI (a := u) (b := n) (by omega) (by omega)).mpr h))
              refine s_iconst E dX4_counted_2_92 (v := nI 0) (by decide) ?_
              refine s_istore_n E (L2 := [(2, .int (nI 0)), (0, .ref (ba 0)), (1, .int (pl))]) dX4_counted_2_93 rfl (Nat.le_of_ble_eq_true rfl) rfl ?_
              have L94 : ∀ (fuel : Nat) (t : Nat) (w94 : Nat → Nat → Int32), (t ≤ 3) → (AMg s n pl (catN (fS s n) t) w94) → (3 - t) < fuel → Sm pP l eE { frames := 4, cells := 0, slots := 0, locals := 107 } sS mM aA bB hM cC QQ AA D 4 0 0 (aw ba ct Nw w94 ad τ ξ) 94 [(0, .ref (ba 0)), (1, .int (pl)), (2, .int (nI t))] [] := by
                intro fuel
                induction fuel with
                | zero =>
                  intro t w94 hti hL94 hf94
                  exact absurd hf94 (Nat.not_lt_zero _)
                | succ fuel ih94 =>
                  intro t w94 hti hL94 hf94
                  refine s_iload_n E dX4_counted_2_94 (i := 2) (j := 2) rfl rfl ?_
                  refine s_iconst E dX4_counted_2_95 (v := nI 3) (by decide) ?_
                  refine s_icmp_ge E dX4_counted_2_96 (tgt := 141) rfl (fun c96 => ?_) (fun c96 => ?_)
                  · have c96 : ¬ t < 3 := fun h => absurd c96 (Int32.not_le.mpr ((nI_ltI (a := t) (b := 3) (by omega) (by omega)).mpr h))
                    refine s_aload_n E dX4_counted_2_141 (i := 0) (j := 0) rfl rfl ?_
                    refine s_iconst E dX4_counted_2_142 (v := nI 0) (by decide) ?_
                    refine awX4_p0_17 E dX4_counted_2_143 ?_
                    refine s_iconst E dX4_counted_2_146 (v := nI 0) (by decide) ?_
                    refine s_istore_n E (L2 := [(2, .int (nI 0)), (0, .ref (ba 0)), (1, .int (pl))]) dX4_counted_2_147 rfl (Nat.le_of_ble_eq_true rfl) rfl ?_
                    have L148 : ∀ (fuel : Nat) (u : Nat) (w148 : Nat → Nat → Int32), (u ≤ n) → (AMg s n pl (prods s n) w148) → (n - u) < fuel → Sm pP l eE { frames := 4, cells := 0, slots := 0, locals := 107 } sS mM aA bB hM cC QQ AA D 4 0 0 (aw ba ct Nw (st1 w148 0 17 (nI (sumN (fun a => cntN (crowdB s a) a) u))) ad τ ξ) 148 [(0, .ref (ba 0)), (1, .int (pl)), (2, .int (nI u))] [] := by
                      intro fuel
                      induction fuel with
                      | zero =>
                        intro u w148 hui h148 hf148
                        exact absurd hf148 (Nat.not_lt_zero _)
                      | succ fuel ih148 =>
                        intro u w148 hui h148 hf148
                        refine s_iload_n E dX4_counted_2_148 (i := 2) (j := 2) rfl rfl ?_
                        refine s_aload_n E dX4_counted_2_149 (i := 0) (j := 0) rfl rfl ?_
                        refine awX4_g0_9 E (v := nI n) (by exact h148.1.1.1) dX4_counted_2_150 ?_
                        refine s_icmp_ge E dX4_counted_2_153 (tgt := 198) rfl (fun c153 => ?_) (fun c153 => ?_)
                        · have c153 : ¬ u < n := fun h => absurd c153 (Int32.not_le.mpr ((nI_ltI (a := u) (b := n) (by omega) (by omega)).mpr h))
                          refine s_aload_n E dX4_counted_2_198 (i := 0) (j := 0) rfl rfl ?_
                          exact Rt (ba 0) (st1 w148 0 17 (nI (sumN (fun a => cntN (crowdB s a) a) u))) dX4_counted_2_199 (⟨h148.cr, by rw [st1_eq, show u = n by omega]; exact congrArg nI (crowdsT_p hB (by omega))⟩) rfl rfl (Nat.le_refl _) (Nat.le_refl _) E.2.2.2.2.2.1
                        · have c153 : u < n := (nI_ltI (a := u) (b := n) (by omega) (by omega)).mp (Int32.not_le.mp c153)
                          refine s_iconst E dX4_counted_2_156 (v := nI 0) (by decide) ?_
                          refine s_istore_n E (L2 := [(3, .int (nI 0)), (0, .ref (ba 0)), (1, .int (pl)), (2, .int (nI u))]) dX4_counted_2_157 rfl (Nat.le_of_ble_eq_true rfl) rfl ?_
                          have L158 : ∀ (fuel : Nat) (v : Nat), (v ≤ u) → (u - v) < fuel → Sm pP l eE { frames := 4, cells := 0, slots := 0, locals := 107 } sS mM aA bB hM cC QQ AA D 4 0 0 (aw ba ct Nw (st1 w148 0 17 (nI (sumN (fun a => cntN (crowdB s a) a) u + cntN (crowdB s u) v))) ad τ ξ) 158 [(0, .ref (ba 0)), (1, .int (pl)), (2, .int (nI u)), (3, .int (nI v))] [] := by
                            intro fuel
                            induction fuel with
                            | zero =>
                              intro v hvi hf158
                              exact absurd hf158 (Nat.not_lt_zero _)
                            | succ fuel ih158 =>
                              intro v hvi hf158
                              refine s_iload_n E dX4_counted_2_158 (i := 3) (j := 3) rfl rfl ?_
                              refine s_iload_n E dX4_counted_2_159 (i := 2) (j := 2) rfl rfl ?_
                              refine s_icmp_ge E dX4_counted_2_160 (tgt := 192) rfl (fun c160 => ?_) (fun c160 => ?_)
                              · have c160 : ¬ v < u := fun h => absurd c160 (Int32.not_le.mpr ((nI_ltI (a := v) (b := u) (by omega) (by omega)).mpr h))
                                refine s_iinc E (L2 := [(2, .int (nI (u + 1))), (0, .ref (ba 0)), (1, .int (pl)), (3, .int (nI v))]) dX4_counted_2_192 (k := 2) rfl (v := nI (u + 1)) (nI_inc _) (Nat.le_of_ble_eq_true rfl) rfl ?_
                                refine s_goto E dX4_counted_2_195 (tgt := 148) rfl ?_
                                obtain rfl : u = v := by omega
                                refine s_loc (L2 := [(0, .ref (ba 0)), (1, .int (pl)), (2, .int (nI (u + 1)))]) [1, 2, 0] rfl ?_
                                exact ih148 (u + 1) w148 (by omega) (h148) (by omega)
                              · have c160 : v < u := (nI_ltI (a := v) (b := u) (by omega) (by omega)).mp (Int32.not_le.mp c160)
                                refine s_aload_n E dX4_counted_2_163 (i := 0) (j := 0) rfl rfl ?_
                                refine s_dup E dX4_counted_2_164 rfl ?_
                                refine awX4_g0_17 E (v := nI (sumN (fun a => cntN (crowdB s a) a) u + cntN (crowdB s u) v)) (rfl) dX4_counted_2_165 ?_
                                refine s_aload_n E dX4_counted_2_168 (i := 0) (j := 0) rfl rfl ?_
                                refine s_iload_n E dX4_counted_2_169 (i := 2) (j := 2) rfl rfl ?_
                                refine s_iload_n E dX4_counted_2_170 (i := 3) (j := 3) rfl rfl ?_
                                refine c_goi0 E (rV E (cutS _ _) (x4z_areCrowdedg s n u v ((h148.cr (v := nI (sumN (fun a => cntN (crowdB s a) a) u + cntN (crowdB s u) v))).1.1) (hnN) (hN8) (by omega) (by omega)) K_X4_117 (Nat.le_of_ble_eq_true rfl) (Nat.le_of_ble_eq_true rfl) (Nat.zero_le _) (Nat.zero_le _) 0 rfl rfl rfl rfl (Nat.le_of_ble_eq_true rfl) dX4_counted_2_171) (fun r171 w171 h171 => ?_)
                                obtain ⟨rfl, rfl⟩ := h171
                                have J182 : Sm pP l eE { frames := 4, cells := 0, slots := 0, locals := 107 } sS mM aA bB hM cC QQ AA D 4 0 0 (aw ba ct Nw (st1 w148 0 17 (nI (sumN (fun a => cntN (crowdB s a) a) u + cntN (crowdB s u) v))) ad τ ξ) 182 [(0, .ref (ba 0)), (1, .int (pl)), (2, .int (nI u)), (3, .int (nI v))] [.int (nI (cntF (crowdB s u) v)), .int (nI (sumN (fun a => cntN (crowdB s a) a) u + cntN (crowdB s u) v)), .ref (ba 0)] := by
                                  refine s_iadd_ E dX4_counted_2_182 (v := nI (sumN (fun a => cntN (crowdB s a) a) u + cntN (crowdB s u) (v + 1))) (by rw [nI_add, Nat.add_assoc]; rfl) ?_
                                  refine awX4_p0_17 E dX4_counted_2_183 ?_
                                  refine s_ws (ws2 := aw ba ct Nw (st1 w148 0 17 (nI (sumN (fun a => cntN (crowdB s a) a) u + cntN (crowdB s u) (v + 1)))) ad τ ξ) (congrArg (fun z => aw ba ct Nw z ad τ ξ) (st1_2)) ?_
                                  refine s_iinc E (L2 := [(3, .int (nI (v + 1))), (0, .ref (ba 0)), (1, .int (pl)), (2, .int (nI u))]) dX4_counted_2_186 (k := 3) rfl (v := nI (v + 1)) (nI_inc _) (Nat.le_of_ble_eq_true rfl) rfl ?_
                                  refine s_goto E dX4_counted_2_189 (tgt := 158) rfl ?_
                                  refine s_loc (L2 := [(0, .ref (ba 0)), (1, .int (pl)), (2, .int (nI u)), (3, .int (nI (v + 1)))]) [1, 2, 3, 0] rfl ?_
                                  exact ih158 (v + 1) (by omega) (by omega)
                                refine s_if_eq E dX4_counted_2_174 (tgt := 181) rfl (fun c174 => ?_) (fun c174 => ?_)
                                · have c174 := bI_0 c174
                                  refine s_iconst E dX4_counted_2_181 (v := nI 0) (by decide) ?_
                                  refine s_top (v2 := nI (cntF (crowdB s u) v)) (by unfold cntF; rw [if_neg c174]) ?_
                                  exact J182
                                · have c174 := bI_n0 c174
                                  refine s_iconst E dX4_counted_2_177 (v := nI 1) (by decide) ?_
                                  refine s_goto E dX4_counted_2_178 (tgt := 182) rfl ?_
                                  refine s_top (v2 := nI (cntF (crowdB s u) v)) (by unfold cntF; rw [if_pos c174]) ?_
                                  exact J182
                          refine s_loc (L2 := [(0, .ref (ba 0)), (1, .int (pl)), (2, .int (nI u)), (3, .int (nI 0))]) [1, 2, 3, 0] rfl ?_
                          exact L158 (_ + 1) 0 (Nat.zero_le _) (Nat.lt_succ_self _)
                    refine s_loc (L2 := [(0, .ref (ba 0)), (1, .int (pl)), (2, .int (nI 0))]) [1, 2, 0] rfl ?_
                    exact L148 (_ + 1) 0 w94 (Nat.zero_le _) (by obtain rfl : t = 3 := (by omega); exact hL94) (Nat.lt_succ_self _)
                  · have c96 : t < 3 := (nI_ltI (a := t) (b := 3) (by omega) (by omega)).mp (Int32.not_le.mp c96)
                    refine s_iconst E dX4_counted_2_99 (v := nI 0) (by decide) ?_
                    refine s_istore_n E (L2 := [(3, .int (nI 0)), (0, .ref (ba 0)), (1, .int (pl)), (2, .int (nI t))]) dX4_counted_2_100 rfl (Nat.le_of_ble_eq_true rfl) rfl ?_
                    have L101 : ∀ (fuel : Nat) (k : Nat) (w101 : Nat → Nat → Int32), (k ≤ 6) → (AMg s n pl (catN (fS s n) t ++ catN (fK s n t) k) w101) → (6 - k) < fuel → Sm pP l eE { frames := 4, cells := 0, slots := 0, locals := 107 } sS mM aA bB hM cC QQ AA D 4 0 0 (aw ba ct Nw w101 ad τ ξ) 101 [(0, .ref (ba 0)), (1, .int (pl)), (2, .int (nI t)), (3, .int (nI k))] [] := by
                      intro fuel
                      induction fuel with
                      | zero =>
                        intro k w101 hki hL101 hf101
                        exact absurd hf101 (Nat.not_lt_zero _)
                      | succ fuel ih101 =>
                        intro k w101 hki hL101 hf101
                        refine s_iload_n E dX4_counted_2_101 (i := 3) (j := 3) rfl rfl ?_
                        refine s_bipush E dX4_counted_2_102 (v := nI 6) (by decide) ?_
                        refine s_icmp_ge E dX4_counted_2_104 (tgt := 135) rfl (fun c104 => ?_) (fun c104 => ?_)
                        · have c104 : ¬ k < 6 := fun h => absurd c104 (Int32.not_le.mpr ((nI_ltI (a := k) (b := 6) (by omega) (by omega)).mpr h))
                          refine s_iinc E (L2 := [(2, .int (nI (t + 1))), (0, .ref (ba 0)), (1, .int (pl)), (3, .int (nI k))]) dX4_counted_2_135 (k := 2) rfl (v := nI (t + 1)) (nI_inc _) (Nat.le_of_ble_eq_true rfl) rfl ?_
                          refine s_goto E dX4_counted_2_138 (tgt := 94) rfl ?_
                          refine s_loc (L2 := [(0, .ref (ba 0)), (1, .int (pl)), (2, .int (nI (t + 1)))]) [1, 2, 0] rfl ?_
                          exact ih94 (t + 1) w101 (by omega) (by obtain rfl : k = 6 := (by omega); rw [catN]; exact hL101) (by omega)
                        · have c104 : k < 6 := (nI_ltI (a := k) (b := 6) (by omega) (by omega)).mp (Int32.not_le.mp c104)
                          refine s_aload_n E dX4_counted_2_107 (i := 0) (j := 0) rfl rfl ?_
                          refine awX4_g0_13 E (v := s 0 33) (hL101.1.1.2.2.2.2.1) dX4_counted_2_108 ?_
                          refine s_getsN E E.2.2.2.2.2.2.1.1.2.2.1 q891 dX4_counted_2_111 ?_
                          refine s_iload_n E dX4_counted_2_114 (i := 3) (j := 3) rfl rfl ?_
                          refine s_tald E E.2.2.2.2.2.2.1.1.2.2.2.1 (k) (rfl) (by omega) (by decide) (v := .int (nI (k / 2))) (congrArg Value.int (order_at k (by omega))) dX4_counted_2_115 ?_
                          refine s_ishr_ E dX4_counted_2_116 (v := s 0 33 >>> (nI (k / 2) &&& 31)) (rfl) ?_
                          refine s_iconst E dX4_counted_2_117 (v := nI 1) (by decide) ?_
                          refine s_iand_ E dX4_counted_2_118 (v := (s 0 33 >>> (nI (k / 2) &&& 31)) &&& nI 1) (rfl) ?_
                          refine s_iconst E dX4_counted_2_119 (v := nI 1) (by decide) ?_
                          refine s_icmp_ne E dX4_counted_2_120 (tgt := 129) rfl (fun c120 => ?_) (fun c120 => ?_)
                          · have hob : (s 0 33 >>> (nI (k / 2) &&& 31)) &&& nI 1 = nI 1 ↔ ¬ s 0 33 &&& bO k = 0 := by rw [ho.1]; exact ord_bit _ ho.2 k (by omega)
                            have hfk : fK s n t k = [] := by unfold fK; rw [if_pos (Classical.not_not.mp (fun h => c120 (hob.mpr h)))]
                            refine s_iinc E (L2 := [(3, .int (nI (k + 1))), (0, .ref (ba 0)), (1, .int (pl)), (2, .int (nI t))]) dX4_counted_2_129 (k := 3) rfl (v := nI (k + 1)) (nI_inc _) (Nat.le_of_ble_eq_true rfl) rfl ?_
                            refine s_goto E dX4_counted_2_132 (tgt := 101) rfl ?_
                            refine s_loc (L2 := [(0, .ref (ba 0)), (1, .int (pl)), (2, .int (nI t)), (3, .int (nI (k + 1)))]) [1, 2, 3, 0] rfl ?_
                            exact ih101 (k + 1) w101 (by omega) (by rw [catN, hfk, List.append_nil]; exact hL101) (by omega)
                          · have hob : (s 0 33 >>> (nI (k / 2) &&& 31)) &&& nI 1 = nI 1 ↔ ¬ s 0 33 &&& bO k = 0 := by rw [ho.1]; exact ord_bit _ ho.2 k (by omega)
                            have hfk : fK s n t k = catN (fA s n t k) n := by unfold fK; rw [if_neg (hob.mp c120)]
                            refine s_aload_n E dX4_counted_2_123 (i := 0) (j := 0) rfl rfl ?_
                            refine s_iload_n E dX4_counted_2_124 (i := 2) (j := 2) rfl rfl ?_
                            refine s_iload_n E dX4_counted_2_125 (i := 3) (j := 3) rfl rfl ?_
                            refine c_gov0 E (rV E (cutS _ _) (x4z_goesg s n pl (catN (fS s n) t ++ catN (fK s n t) k) t k (hL101) (hnN) (hN8) (hT) (hB) (by omega) (by have h1 := catN_mono (fS s n) (show t + 1 ≤ 3 by omega); have h2 := catN_mono (fK s n t) (show k + 1 ≤ 6 by omega); have h4 := prods_len8 s (n := n) (by omega); unfold prods at h4; simp only [catN, fS, hfk, List.length_append] at h1 h2 h4 ⊢; omega)) K_X4_110 (Nat.le_of_ble_eq_true rfl) (Nat.le_of_ble_eq_true rfl) (Nat.zero_le _) (Nat.zero_le _) 0 rfl rfl rfl rfl (Nat.le_of_ble_eq_true rfl) dX4_counted_2_126) (fun w126 h126 => ?_)
                            refine s_iinc E (L2 := [(3, .int (nI (k + 1))), (0, .ref (ba 0)), (1, .int (pl)), (2, .int (nI t))]) dX4_counted_2_129 (k := 3) rfl (v := nI (k + 1)) (nI_inc _) (Nat.le_of_ble_eq_true rfl) rfl ?_
                            refine s_goto E dX4_counted_2_132 (tgt := 101) rfl ?_
                            refine s_loc (L2 := [(0, .ref (ba 0)), (1, .int (pl)), (2, .int (nI t)), (3, .int (nI (k + 1)))]) [1, 2, 3, 0] rfl ?_
                            exact ih101 (k + 1) w126 (by omega) (by rw [catN, ← List.append_assoc, hfk]; exact h126) (by omega)
                    refine s_loc (L2 := [(0, .ref (ba 0)), (1, .int (pl)), (2, .int (nI t)), (3, .int (nI 0))]) [1, 2, 3, 0] rfl ?_
                    exact L101 (_ + 1) 0 w94 (Nat.zero_le _) (by rw [catN, List.append_nil]; exact hL94) (Nat.lt_succ_self _)
              refine s_loc (L2 := [(0, .ref (ba 0)), (1, .int (pl)), (2, .int (nI 0))]) [1, 2, 0] rfl ?_
              exact L94 (_ + 1) 0 (AZ1 pl 18 u σ) (Nat.zero_le _) (by obtain rfl : u = n := (by omega); exact AMg.zero hA) (Nat.lt_succ_self _)
            · have c54 : u < n := (nI_ltI (a := u) (b := n) (by omega) (by omega)).mp (Int32.not_le.mp c54)
              refine s_aload_n E dX4_counted_2_57 (i := 0) (j := 0) rfl rfl ?_
              refine awX4_g0_3 E dX4_counted_2_58 ?_
              refine s_iload_n E dX4_counted_2_61 (i := 2) (j := 2) rfl rfl ?_
              refine s_iconst E dX4_counted_2_62 (v := nI 0) (by decide) ?_
              refine aw_s4 E (u) (rfl) (by omega) hN8 dX4_counted_2_63 ?_
              refine s_aload_n E dX4_counted_2_64 (i := 0) (j := 0) rfl rfl ?_
              refine awX4_g0_4 E dX4_counted_2_65 ?_
              refine s_iload_n E dX4_counted_2_68 (i := 2) (j := 2) rfl rfl ?_
              refine s_iconst E dX4_counted_2_69 (v := nI 0) (by decide) ?_
              refine aw_s5 E (u) (rfl) (by omega) hN8 dX4_counted_2_70 ?_
              refine s_aload_n E dX4_counted_2_71 (i := 0) (j := 0) rfl rfl ?_
              refine awX4_g0_6 E dX4_counted_2_72 ?_
              refine s_iload_n E dX4_counted_2_75 (i := 2) (j := 2) rfl rfl ?_
              refine s_iconst E dX4_counted_2_76 (v := nI 0) (by decide) ?_
              refine aw_s7 E (u) (rfl) (by omega) hN8 dX4_counted_2_77 ?_
              refine s_aload_n E dX4_counted_2_78 (i := 0) (j := 0) rfl rfl ?_
              refine awX4_g0_7 E dX4_counted_2_79 ?_
              refine s_iload_n E dX4_counted_2_82 (i := 2) (j := 2) rfl rfl ?_
              refine s_bipush E dX4_counted_2_83 (v := (-2)) (by decide) ?_
              refine aw_s8 E (u) (rfl) (by omega) hN8 dX4_counted_2_85 ?_
              refine s_ws (ws2 := aw ba ct Nw (AZ1 pl 18 (u + 1) σ) ad τ ξ) (congrArg (fun z => aw ba ct Nw z ad τ ξ) (AZ1_u)) ?_
              refine s_iinc E (L2 := [(2, .int (nI (u + 1))), (0, .ref (ba 0)), (1, .int (pl))]) dX4_counted_2_86 (k := 2) rfl (v := nI (u + 1)) (nI_inc _) (Nat.le_of_ble_eq_true rfl) rfl ?_
              refine s_goto E dX4_counted_2_89 (tgt := 49) rfl ?_
              refine s_loc (L2 := [(0, .ref (ba 0)), (1, .int (pl)), (2, .int (nI (u + 1)))]) [1, 2, 0] rfl ?_
              exact ih49 (u + 1) (by omega) (by omega)
        obtain rfl : i = 18 := by omega
        refine s_loc (L2 := [(0, .ref (ba 0)), (1, .int (pl)), (2, .int (nI 0))]) [1, 2, 0] rfl ?_
        exact L49 (_ + 1) 0 (Nat.zero_le _) (Nat.lt_succ_self _)
      · have c31 : i < 18 := (nI_ltI (a := i) (b := 18) (by omega) (by omega)).mp (Int32.not_le.mp c31)
        refine s_aload_n E dX4_counted_2_34 (i := 0) (j := 0) rfl rfl ?_
        refine awX4_g0_8 E dX4_counted_2_35 ?_
        refine s_iload_n E dX4_counted_2_38 (i := 2) (j := 2) rfl rfl ?_
        refine s_iconst E dX4_counted_2_39 (v := nI 0) (by decide) ?_
        refine aw_s9 E (i) (rfl) (by omega) dX4_counted_2_40 ?_
        refine s_ws (ws2 := aw ba ct Nw (AZ1 pl (i + 1) 0 σ) ad τ ξ) (congrArg (fun z => aw ba ct Nw z ad τ ξ) (AZ1_i)) ?_
        refine s_iinc E (L2 := [(2, .int (nI (i + 1))), (0, .ref (ba 0)), (1, .int (pl))]) dX4_counted_2_41 (k := 2) rfl (v := nI (i + 1)) (nI_inc _) (Nat.le_of_ble_eq_true rfl) rfl ?_
        refine s_goto E dX4_counted_2_44 (tgt := 28) rfl ?_
        refine s_loc (L2 := [(0, .ref (ba 0)), (1, .int (pl)), (2, .int (nI (i + 1)))]) [1, 2, 0] rfl ?_
        exact ih28 (i + 1) (by omega) (by omega)
  refine s_loc (L2 := [(0, .ref (ba 0)), (1, .int (pl)), (2, .int (nI 0))]) [1, 2, 0] rfl ?_
  exact L28 (_ + 1) 0 (Nat.zero_le _) (Nat.lt_succ_self _)
set_option maxHeartbeats 1000000 in
set_option maxRecDepth 100000 in
theorem x4z_countedg {l : Launch} {D : va_G} {gt : Nat → Nat} {ba ad : Nat → Nat} {ct : Nat → ClassId} {Nw : Nat} {τ σ ξ : Nat → Nat → Int32} (s : Nat → Nat → Int32) (n : Nat) (hA : AIg s σ n) (hnN : n ≤ Nw) (hN8 : Nw ≤ 8) (hT : TA s τ n) (hB : NB s n) (ho : In (s 0 33) 8) : Cr l D gt yX4_counted cX4_counted 1 (.object RX4) 5 130 0 0 [.ref (ba 0)] (aw ba ct Nw σ ad τ ξ) (tysA ct) (fun σ2 => AMg s n (-1) (prods s n) σ2 ∧ σ2 0 17 = nI (crowdsT s n)) (fun _ => ba 0) (fun σ2 : Nat → Nat → Int32 => aw ba ct Nw σ2 ad τ ξ) (fun _ => tysA ct) := by
  refine Cr.start (Or.inl ⟨_, rfl⟩) RX4 (by decide) rfl (Nat.le_of_ble_eq_true rfl) rfl ?_
  intro pP eE sS mM aA bB hM cC QQ AA E Rt
  refine s_aload_n E dX4_counted_0 (i := 0) (j := 0) rfl rfl ?_
  refine s_iconst E dX4_counted_1 (v := (-1)) (by decide) ?_
  refine c_gor0 E (rV E (cutS _ _) (x4z_counted_2g s n (-1) (hA) (hnN) (hN8) (hT) (hB) (ho)) K_X4_91 (Nat.le_of_ble_eq_true rfl) (Nat.le_of_ble_eq_true rfl) (Nat.zero_le _) (Nat.zero_le _) 0 rfl rfl rfl rfl (Nat.le_of_ble_eq_true rfl) dX4_counted_2) (fun w2 h2 => ?_)
  exact Rt (ba 0) (w2) dX4_counted_5 (h2) rfl rfl (Nat.le_refl _) (Nat.le_refl _) E.2.2.2.2.2.1
