/-! AN AIR: what is counted of a list of products, one more at a time -/
theorem qAt_app {L : List Pr} {q : Pr} {p : Nat} (h : p < L.length) : qAt (L ++ [q]) p = qAt L p := by
  unfold qAt
  rw [List.getD_eq_getElem?_getD, List.getD_eq_getElem?_getD, List.getElem?_append_left h]
theorem qAt_last {L : List Pr} {q : Pr} : qAt (L ++ [q]) L.length = q := by
  unfold qAt
  rw [List.getD_eq_getElem?_getD, List.getElem?_append_right (Nat.le_refl _), Nat.sub_self]
  rfl
theorem len_app (L : List Pr) (q : Pr) : (L ++ [q]).length = L.length + 1 := by simp
theorem sum_app (g : Pr → Nat) (L : List Pr) (q : Pr) : sumN (fun p => g (qAt (L ++ [q]) p)) (L ++ [q]).length = sumN (fun p => g (qAt L p)) L.length + g q := by
  rw [len_app, sumN, qAt_last]
  congr 1
  exact sumN_congr fun u hu => by rw [qAt_app hu]
theorem hitsT_app (s : Nat → Nat → Int32) (n : Nat) (L : List Pr) (q : Pr) : hitsT s n (L ++ [q]) = hitsT s n L + pop (hsQ s n q) := sum_app (fun q => pop (hsQ s n q)) L q
theorem heardN_app (s : Nat → Nat → Int32) (L : List Pr) (q : Pr) : heardN s (L ++ [q]) = heardN s L + (if plF s q < 0 then 0 else 1) := sum_app (fun q => if plF s q < 0 then 0 else 1) L q
theorem madeN_app (s : Nat → Nat → Int32) (n : Nat) (L : List Pr) (q : Pr) (u : Nat) : madeN s n (L ++ [q]) u = madeN s n L u + (if inQ q u = true then pop (hsQ s n q) else 0) := sum_app (fun q => if inQ q u = true then pop (hsQ s n q) else 0) L q
def sortN (s : Nat → Nat → Int32) (n : Nat) (L : List Pr) (k w : Nat) : Nat := sumN (sortF s n L k w) L.length
def sortQ (s : Nat → Nat → Int32) (n : Nat) (q : Pr) (w : Nat) : Nat := if w = 0 then 1 else if w = 1 then (if plF s q < 0 then 0 else 1) else pop (hsQ s n q)
theorem sortN_app (s : Nat → Nat → Int32) (n : Nat) (L : List Pr) (q : Pr) (k w : Nat) : sortN s n (L ++ [q]) k w = sortN s n L k w + (if q.1 = k then sortQ s n q w else 0) := sum_app (fun q => if q.1 = k then sortQ s n q w else 0) L q
def hitN (s : Nat → Nat → Int32) (L : List Pr) (u : Nat) : Nat := cntN (hitL s L u) L.length
theorem hitN_app (s : Nat → Nat → Int32) (L : List Pr) (q : Pr) (u : Nat) : hitN s (L ++ [q]) u = hitN s L u + (if hitQ s q u = true then 1 else 0) := sum_app (fun q => if hitQ s q u = true then 1 else 0) L q
theorem loudF_app (s : Nat → Nat → Int32) (n : Nat) (L : List Pr) (q : Pr) : ∀ p, p ≤ L.length → loudF s n (L ++ [q]) p = loudF s n L p := by
  intro p
  induction p with
  | zero => intro _; rfl
  | succ p ih =>
    intro h
    have h1 := loudF_le s n L p
    rw [loudF, loudF, ih (by omega), qAt_app (by omega)]
    by_cases e : loudF s n L p = 0
    · simp [e]
    · rw [qAt_app (by omega)]
def loudN (s : Nat → Nat → Int32) (n : Nat) (L : List Pr) : Nat := loudF s n L L.length
def loudB (s : Nat → Nat → Int32) (n : Nat) (L : List Pr) (q : Pr) : Prop := hsQ s n q ≠ 0 ∧ (loudN s n L = 0 ∨ plF s (qAt L (loudN s n L - 1)) < plF s q)
theorem loudN_t {s : Nat → Nat → Int32} {n : Nat} {L : List Pr} {q : Pr} (h : loudB s n L q) : loudN s n (L ++ [q]) = L.length + 1 := by
  have h1 := loudF_le s n L L.length
  unfold loudN loudB at *
  rw [len_app, loudF, loudF_app s n L q _ (Nat.le_refl _), qAt_last]
  by_cases e : loudF s n L L.length = 0
  · rw [if_pos ⟨h.1, Or.inl e⟩]
  · rw [qAt_app (by omega)]; exact if_pos h
theorem loudN_f {s : Nat → Nat → Int32} {n : Nat} {L : List Pr} {q : Pr} (h : ¬ loudB s n L q) : loudN s n (L ++ [q]) = loudN s n L := by
  have h1 := loudF_le s n L L.length
  unfold loudN loudB at *
  rw [len_app, loudF, loudF_app s n L q _ (Nat.le_refl _), qAt_last]
  by_cases e : loudF s n L L.length = 0
  · rw [if_neg]
    intro k
    exact h ⟨k.1, Or.inl e⟩
  · rw [qAt_app (by omega)]; exact if_neg h
theorem loudN_le (s : Nat → Nat → Int32) (n : Nat) (L : List Pr) : loudN s n L ≤ L.length := loudF_le s n L L.length
def whenN (s : Nat → Nat → Int32) (L : List Pr) (u : Nat) : Int32 := whenF s L u L.length
theorem whenN_app (s : Nat → Nat → Int32) (L : List Pr) (q : Pr) (u : Nat) : whenN s (L ++ [q]) u = if hitQ s q u = true then whenN s L u ||| (pcF s q &&& s 25 (73 + u)) else whenN s L u := by
  have h : ∀ p, p ≤ L.length → whenF s (L ++ [q]) u p = whenF s L u p := by
    intro p
    induction p with
    | zero => intro _; rfl
    | succ p ih => intro h; rw [whenF, whenF, ih (by omega), qAt_app (by omega)]
  unfold whenN
  rw [len_app, whenF, h _ (Nat.le_refl _), qAt_last]
def farQ (s : Nat → Nat → Int32) (q : Pr) (u : Nat) : Int32 := absI (s 25 u - pvF s q)
def nearN (s : Nat → Nat → Int32) (L : List Pr) (u : Nat) : Int32 := clearF s L u L.length
theorem nearN_app (s : Nat → Nat → Int32) (L : List Pr) (q : Pr) (u : Nat) : nearN s (L ++ [q]) u = if mayQ s q u = true then (if nearN s L u = -2 ∨ farQ s q u < nearN s L u then farQ s q u else nearN s L u) else nearN s L u := by
  have h : ∀ p, p ≤ L.length → clearF s (L ++ [q]) u p = clearF s L u p := by
    intro p
    induction p with
    | zero => intro _; rfl
    | succ p ih =>
      intro h
      have e : farF s (L ++ [q]) u p = farF s L u p := by unfold farF; rw [qAt_app (by omega)]
      rw [clearF, clearF, ih (by omega), qAt_app (by omega), e]
  have e : farF s (L ++ [q]) u L.length = farQ s q u := by unfold farF farQ; rw [qAt_last]
  unfold nearN
  rw [len_app, clearF, h _ (Nat.le_refl _), qAt_last, e]
theorem abs_eq (x : Int32) : (if 0 ≤ x then x else 0 - x) = absI x := by
  unfold absI
  by_cases h : x < 0
  · rw [if_pos h, if_neg (Int32.not_le.mpr h), Int32.zero_sub]
  · rw [if_neg h, if_pos (Int32.not_lt.mp h)]
theorem absI_nn {x : Int32} (h : In x 100000) : absI x = x := by
  unfold absI
  rw [if_neg]
  rw [h.1]; exact nI_pos (by have := h.2; omega)
theorem absI_tA (k : Nat) : absI (tA k) = tA k := by
  unfold tA
  repeat' split
  all_goals decide
theorem times_at : ∀ k, k < 6 → timesF (3 * k) = tA k ∧ timesF (3 * k + 1) = tB k ∧ timesF (3 * k + 2) = tC k := by decide +kernel
theorem order_at : ∀ k, k < 6 → orderF k = nI (k / 2) := by decide +kernel
/-- the sums of powers -/
def puF (s : Nat → Nat → Int32) (q : Pr) : Int32 := match q.2.2.2 with
  | none => tA q.1 * s 25 (6 + q.2.1) + absI (tB q.1) * s 25 (6 + q.2.2.1)
  | some w => tA q.1 * s 25 (6 + q.2.1) + absI (tB q.1) * s 25 (6 + q.2.2.1) + absI (tC q.1) * s 25 (6 + w)
theorem plF_pu (s : Nat → Nat → Int32) (q : Pr) : puF s q - s 3 (4 + q.1 / 2) = plF s q := by
  unfold puF plF
  cases q.2.2.2 <;> rfl
/-- what is told to an air, as a state of the reference has it -/
def AI (s Y : Nat → Nat → Int32) (n : Nat) : Prop := Y 0 9 = nI n ∧ Y 0 10 = s 0 30 ∧ Y 0 11 = s 0 31 ∧ Y 0 12 = s 0 32 ∧ Y 0 13 = s 0 33 ∧ ∀ u, u < n → Y 1 u = s 6 u ∧ Y 2 u = s 25 (6 + u) ∧ Y 3 u = s 25 u ∧ Y 6 u = s 25 (73 + u)
theorem AI.cg {s Y Z : Nat → Nat → Int32} {n : Nat} (h : AI s Y n) (h0 : ∀ k, 9 ≤ k → k ≤ 13 → Z 0 k = Y 0 k) (h1 : Z 1 = Y 1) (h2 : Z 2 = Y 2) (h3 : Z 3 = Y 3) (h6 : Z 6 = Y 6) : AI s Z n := by
  unfold AI at *
  rw [h0 9 (by decide) (by decide), h0 10 (by decide) (by decide), h0 11 (by decide) (by decide), h0 12 (by decide) (by decide), h0 13 (by decide) (by decide), h1, h2, h3, h6]
  exact h
def TA (s τ : Nat → Nat → Int32) (n : Nat) : Prop := (∀ j, j < 3 → τ 3 (4 + j) = s 3 (4 + j)) ∧ (∀ j, j < 9 → τ 12 j = s 12 j) ∧ (∀ j, j < 9 → s 12 j = -2 ∨ ¬ s 12 j < 0) ∧ ∀ u, u < n → In (s 6 u) 3
def lnQ (s : Nat → Nat → Int32) (q : Pr) (o : Nat) : Int32 := if s 6 o = s 6 q.2.1 then 0 else linkQ s q o
theorem lnk_at {s τ : Nat → Nat → Int32} {n : Nat} {q : Pr} {o : Nat} (h : TA s τ n) (hq : q.2.1 < n) (ho : o < n) : lnkF τ (3 * tN (s 6 q.2.1) + tN (s 6 o)) = lnQ s q o := by
  obtain ⟨a1, a2⟩ := h.2.2.2 _ hq
  obtain ⟨b1, b2⟩ := h.2.2.2 _ ho
  unfold lnkF lnQ linkQ
  rw [if_pos (by omega)]
  by_cases e : tN (s 6 o) = tN (s 6 q.2.1)
  · rw [if_pos (by omega), if_pos (by rw [a1, b1, e])]
  · rw [if_neg (by omega), if_neg (fun k => e (by rw [k])), h.2.1 _ (by omega)]
theorem may_iff {s τ : Nat → Nat → Int32} {n : Nat} {q : Pr} {o : Nat} (h : TA s τ n) (hq : q.2.1 < n) (ho : o < n) (hin : inQ q o = false) (hp : ¬ plF s q < 0) : mayQ s q o = true ↔ (¬ s 25 o = 0 ∧ ¬ (pcF s q &&& s 25 (73 + o)) = 0 ∧ ¬ lnQ s q o < 0 ∧ ¬ plF s q < lnQ s q o) := by
  have b2 := (h.2.2.2 _ ho).2
  have a2 := (h.2.2.2 _ hq).2
  have hl := h.2.2.1 (3 * tN (s 6 q.2.1) + tN (s 6 o)) (by omega)
  unfold mayQ lnQ
  by_cases e : s 6 o = s 6 q.2.1
  · have h0 : ¬ (0 : Int32) < 0 := by decide
    simp [hin, hp, e]
  · have e2 : linkQ s q o = -2 ↔ linkQ s q o < 0 := by
      unfold linkQ
      rcases hl with h1 | h1
      · rw [h1]; decide
      · exact ⟨fun k => absurd (by rw [k]; decide) h1, fun k => absurd k h1⟩
    simp [hin, hp, e, e2, and_assoc]
def nvF (x far : Int32) : Int32 := if x < 0 then far else if x < far then x else far
def nearU (s : Nat → Nat → Int32) (q : Pr) (o : Nat) (Y : Nat → Nat → Int32) : Nat → Nat → Int32 := if mayQ s q o = true then st1 Y 8 o (nvF (Y 8 o) (farQ s q o)) else Y
def nearW (s : Nat → Nat → Int32) (q : Pr) (Y : Nat → Nat → Int32) : Nat → Nat → Nat → Int32
  | 0 => Y
  | o + 1 => if inQ q o = true then nearW s q Y o else nearU s q o (nearW s q Y o)
theorem nearU_r {s Y : Nat → Nat → Int32} {q : Pr} {o r : Nat} (h : r ≠ 8) : nearU s q o Y r = Y r := by
  unfold nearU
  split
  · exact st1_ne h
  · rfl
theorem nearW_r {s Y : Nat → Nat → Int32} {q : Pr} {r : Nat} (h : r ≠ 8) : ∀ o, nearW s q Y o r = Y r := by
  intro o
  induction o with
  | zero => rfl
  | succ o ih =>
    rw [nearW]
    split
    · exact ih
    · rw [nearU_r h]; exact ih
theorem nearU_j {s Y : Nat → Nat → Int32} {q : Pr} {o u : Nat} (h : u ≠ o) : nearU s q o Y 8 u = Y 8 u := by
  unfold nearU
  split
  · exact st1_nj h
  · rfl
theorem may_in {s : Nat → Nat → Int32} {q : Pr} {u : Nat} (h : inQ q u = true) : ¬ mayQ s q u = true := by unfold mayQ; simp [h]
theorem may_lo {s : Nat → Nat → Int32} {q : Pr} {u : Nat} (h : plF s q < 0) : ¬ mayQ s q u = true := by unfold mayQ; simp [h]
theorem hit_may {s : Nat → Nat → Int32} {q : Pr} {u : Nat} (h : hitQ s q u = true) : mayQ s q u = true := by
  unfold hitQ at h
  simp only [Bool.and_eq_true] at h
  exact h.1
theorem nearW_8 {s Y : Nat → Nat → Int32} {q : Pr} : ∀ o u, nearW s q Y o 8 u = if u < o ∧ mayQ s q u = true then nvF (Y 8 u) (farQ s q u) else Y 8 u := by
  intro o
  induction o with
  | zero => intro u; rw [if_neg (by omega)]; rfl
  | succ o ih =>
    intro u
    rw [nearW]
    by_cases hi : inQ q o = true
    · rw [if_pos hi, ih]
      by_cases e : u = o
      · subst e
        rw [if_neg (by omega), if_neg (fun k => may_in hi k.2)]
      · by_cases m : u < o ∧ mayQ s q u = true
        · rw [if_pos m, if_pos ⟨by omega, m.2⟩]
        · rw [if_neg m, if_neg (fun k => m ⟨by omega, k.2⟩)]
    · rw [if_neg hi]
      by_cases e : u = o
      · subst e
        have h1 := ih u
        rw [if_neg (by omega)] at h1
        unfold nearU
        by_cases m : mayQ s q u = true
        · rw [if_pos m, st1_eq, if_pos ⟨by omega, m⟩, h1]
        · rw [if_neg m, if_neg (fun k => m k.2), h1]
      · rw [nearU_j e, ih]
        by_cases m : u < o ∧ mayQ s q u = true
        · rw [if_pos m, if_pos ⟨by omega, m.2⟩]
        · rw [if_neg m, if_neg (fun k => m ⟨by omega, k.2⟩)]
theorem setN_none {f : Nat → Bool} {i : Nat} (h : ∀ u, ¬ f u = true) : setN f i = 0 := by
  induction i with
  | zero => rfl
  | succ i ih => rw [setN, if_neg (h i), ih]
theorem setN_bit (f : Nat → Bool) : ∀ n u, u < n → bit (setN f n) u = if f u = true then 1 else 0 := by
  intro n
  induction n with
  | zero => intro u h; omega
  | succ n ih =>
    intro u h
    have hl := setN_lt f n
    rw [setN]
    by_cases e : u = n
    · subst e
      unfold bit
      split
      · rename_i hf
        rw [Nat.add_div_right _ (Nat.two_pow_pos u), Nat.div_eq_of_lt hl]
      · rw [Nat.div_eq_of_lt hl]
    · have hu : u < n := by omega
      have hp : 2 ^ n = 2 ^ u * 2 ^ (n - u) := by rw [← Nat.pow_add]; congr 1; omega
      have hq : 2 ^ (n - u) = 2 * 2 ^ (n - u - 1) := by rw [← Nat.pow_succ']; congr 1; omega
      have e2 : bit (setN f n + 2 ^ n) u = bit (setN f n) u := by
        unfold bit
        rw [hp, Nat.add_mul_div_left _ _ (Nat.two_pow_pos u), hq]
        omega
      split
      · rw [e2]; exact ih u hu
      · exact ih u hu
/-- what is counted: set, what is common, who makes it -/
def cntS (s : Nat → Nat → Int32) (q : Pr) (S : Nat) (C : Int32) (Y : Nat → Nat → Int32) (i : Nat) : Nat → Nat → Int32 := fun r j =>
  if r = 5 then (if inQ q j = true then Y 5 j + nI (pop S) else Y 5 j)
  else if r = 4 then (if j < i ∧ bit S j = 1 then Y 4 j + nI 1 else Y 4 j)
  else if r = 7 then (if j < i ∧ bit S j = 1 then Y 7 j ||| (C &&& s 25 (73 + j)) else Y 7 j)
  else Y r j
theorem cntS_r {s Y : Nat → Nat → Int32} {q : Pr} {S i r : Nat} {C : Int32} (h5 : r ≠ 5) (h4 : r ≠ 4) (h7 : r ≠ 7) : cntS s q S C Y i r = Y r := by
  funext j
  unfold cntS
  rw [if_neg h5, if_neg h4, if_neg h7]
theorem cntS_f {s Y : Nat → Nat → Int32} {q : Pr} {S i : Nat} {C : Int32} (h : ¬ bit S i = 1) : cntS s q S C Y i = cntS s q S C Y (i + 1) := by
  have e : ∀ j, (j < i ∧ bit S j = 1) ↔ (j < i + 1 ∧ bit S j = 1) := by
    intro j
    constructor
    · intro k; exact ⟨by omega, k.2⟩
    · intro k
      have : j ≠ i := by intro e; subst e; exact h k.2
      exact ⟨by omega, k.2⟩
  funext r j
  unfold cntS
  simp only [e]
theorem cntS_t {s Y : Nat → Nat → Int32} {q : Pr} {S i : Nat} {C : Int32} (h : bit S i = 1) : st1 (st1 (cntS s q S C Y i) 4 i (Y 4 i + nI 1)) 7 i (Y 7 i ||| (C &&& s 25 (73 + i))) = cntS s q S C Y (i + 1) := by
  funext r j
  by_cases h7 : r = 7
  · subst h7
    by_cases e : j = i
    · subst e; rw [st1_eq]; unfold cntS; simp [h]
    · rw [st1_nj e, st1_ne (by decide)]
      unfold cntS
      simp only [show (7 : Nat) ≠ 5 by decide, show (7 : Nat) ≠ 4 by decide, if_false, if_true]
      by_cases k : j < i ∧ bit S j = 1
      · rw [if_pos k, if_pos ⟨by omega, k.2⟩]
      · rw [if_neg k, if_neg (fun z => k ⟨by omega, z.2⟩)]
  · rw [st1_ne h7]
    by_cases h4 : r = 4
    · subst h4
      by_cases e : j = i
      · subst e; rw [st1_eq]; unfold cntS; simp [h]
      · rw [st1_nj e]
        unfold cntS
        simp only [show (4 : Nat) ≠ 5 by decide, if_false, if_true]
        by_cases k : j < i ∧ bit S j = 1
        · rw [if_pos k, if_pos ⟨by omega, k.2⟩]
        · rw [if_neg k, if_neg (fun z => k ⟨by omega, z.2⟩)]
    · rw [st1_ne h4]
      unfold cntS
      simp only [h7, h4, if_false]
theorem cntS_0n {s Y : Nat → Nat → Int32} {k u v S : Nat} {C : Int32} (huv : u ≠ v) : st1 (st1 Y 5 u (Y 5 u + nI (pop S))) 5 v (Y 5 v + nI (pop S)) = cntS s (k, u, v, none) S C Y 0 := by
  funext r j
  by_cases h5 : r = 5
  · subst h5
    unfold cntS inQ
    by_cases e : j = v
    · subst e; rw [st1_eq]; simp
    · rw [st1_nj e]
      by_cases e2 : j = u
      · subst e2; rw [st1_eq]; simp
      · rw [st1_nj e2]
        have e3 : ¬ v = j := fun z => e z.symm
        have e4 : ¬ u = j := fun z => e2 z.symm
        simp [e3, e4]
  · rw [st1_ne h5, st1_ne h5]
    unfold cntS
    by_cases h4 : r = 4
    · subst h4; simp
    · by_cases h7 : r = 7
      · subst h7; simp
      · simp [h5, h4, h7]
theorem cntS_0s {s Y : Nat → Nat → Int32} {k u v w S : Nat} {C : Int32} (huv : u ≠ v) (huw : w ≠ u) (hvw : w ≠ v) : st1 (st1 (st1 Y 5 u (Y 5 u + nI (pop S))) 5 v (Y 5 v + nI (pop S))) 5 w (Y 5 w + nI (pop S)) = cntS s (k, u, v, some w) S C Y 0 := by
  funext r j
  by_cases h5 : r = 5
  · subst h5
    unfold cntS inQ
    by_cases e0 : j = w
    · subst e0; rw [st1_eq]; simp
    · rw [st1_nj e0]
      by_cases e : j = v
      · subst e; rw [st1_eq]; simp
      · rw [st1_nj e]
        by_cases e2 : j = u
        · subst e2; rw [st1_eq]; simp
        · rw [st1_nj e2]
          have e3 : ¬ v = j := fun z => e z.symm
          have e4 : ¬ u = j := fun z => e2 z.symm
          have e5 : ¬ w = j := fun z => e0 z.symm
          simp [e3, e4, e5]
  · rw [st1_ne h5, st1_ne h5, st1_ne h5]
    unfold cntS
    by_cases h4 : r = 4
    · subst h4; simp
    · by_cases h7 : r = 7
      · subst h7; simp
      · simp [h5, h4, h7]
