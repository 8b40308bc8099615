/-! AN AIR: all products; crowds -/
def AM (s : Nat → Nat → Int32) (n : Nat) (sg : Int32) (L : List Pr) (Y : Nat → Nat → Int32) : Prop := AL s n sg L Y ∧ ∀ r ∈ L, okP s r = true
theorem AM.no {s Y : Nat → Nat → Int32} {n : Nat} {sg : Int32} {L : List Pr} {q : Pr} (h : AM s n sg L Y) (ho : ¬ okP s q = true) : AM s n sg (L ++ okL s q) Y := by
  unfold okL
  rw [if_neg ho, List.append_nil]
  exact h
theorem AM.ok {s Y : Nat → Nat → Int32} {n : Nat} {sg : Int32} {L : List Pr} {q : Pr} (h : AM s n sg L Y) (hB : NB s n) (ho : okP s q = true) (hk : q.1 < 6) (hlen : (L ++ okL s q).length ≤ 9216) : AM s n sg (L ++ okL s q) (makS s n q sg Y) := by
  have e : okL s q = [q] := by unfold okL; rw [if_pos ho]
  rw [e] at hlen ⊢
  rw [len_app] at hlen
  refine ⟨h.1.add hB h.2 ho hk (by omega), fun r hr => ?_⟩
  rcases List.mem_append.mp hr with h1 | h1
  · exact h.2 r h1
  · rw [List.mem_singleton.mp h1]; exact ho
theorem nearW_lo {s Y : Nat → Nat → Int32} {q : Pr} (h : plF s q < 0) : ∀ o, nearW s q Y o = Y := by
  intro o
  induction o with
  | zero => rfl
  | succ o ih =>
    rw [nearW]
    split
    · exact ih
    · unfold nearU; rw [if_neg (may_lo h)]; exact ih
theorem nw_end1 {s Y : Nat → Nat → Int32} {q : Pr} {o n : Nat} (h : ¬ o < n) (h2 : o ≤ n) : setN (hitQ s q) o = hsQ s n q ∧ nearW s q Y o = nearW s q Y n := by
  obtain rfl : o = n := by omega
  exact ⟨rfl, rfl⟩
theorem nw_end2 {s Y : Nat → Nat → Int32} {q : Pr} {o n : Nat} (h : plF s q < 0) : setN (hitQ s q) o = hsQ s n q ∧ nearW s q Y o = nearW s q Y n := by
  have h0 : ∀ u, ¬ hitQ s q u = true := fun u k => may_lo h (hit_may k)
  exact ⟨(setN_none h0).trans (setN_none (i := n) h0).symm, (nearW_lo h o).trans (nearW_lo h n).symm⟩
theorem inQ_no2 {k u v o : Nat} (h1 : ¬ o = u) (h2 : ¬ o = v) : inQ (k, u, v, none) o = false := by
  have e1 : ¬ u = o := fun e => h1 e.symm
  have e2 : ¬ v = o := fun e => h2 e.symm
  simp [inQ, e1, e2]
theorem inQ_no3 {k u v w o : Nat} (h1 : ¬ o = u) (h2 : ¬ o = v) (h3 : ¬ o = w) : inQ (k, u, v, some w) o = false := by
  have e1 : ¬ u = o := fun e => h1 e.symm
  have e2 : ¬ v = o := fun e => h2 e.symm
  have e3 : ¬ w = o := fun e => h3 e.symm
  simp [inQ, e1, e2, e3]
theorem inQ_y1 {k u v o : Nat} {w : Option Nat} (h : o = u) : inQ (k, u, v, w) o = true := by simp [inQ, h]
theorem inQ_y2 {k u v o : Nat} {w : Option Nat} (h : o = v) : inQ (k, u, v, w) o = true := by simp [inQ, h]
theorem inQ_y3 {k u v w o : Nat} (h : o = w) : inQ (k, u, v, some w) o = true := by simp [inQ, h]
theorem nI_n1 {n : Nat} (h : n < 2 ^ 31) : ¬ nI n = -1 := by
  intro e
  have := nI_toInt h
  rw [e] at this
  have h2 : (-1 : Int32).toInt = -1 := by decide
  omega
theorem third_t : ∀ k, k < 6 → (third k = true ↔ ¬ tC k = 0) := by decide +kernel
theorem ord_t : ∀ k, k < 6 → (ordK k = true ↔ tA k = tB k) := by decide +kernel
theorem ord_bit : ∀ o, o < 8 → ∀ k, k < 6 → ((nI o >>> (nI (k / 2) &&& 31)) &&& nI 1 = nI 1 ↔ ¬ nI o &&& bO k = 0) := by decide +kernel
theorem fB_pre {s : Nat → Nat → Int32} {n at0 k u : Nat} (h : ordK k = true) : ∀ i, i ≤ u + 1 → catN (fB s n at0 k u) i = [] := by
  intro i
  induction i with
  | zero => intro _; rfl
  | succ i ih =>
    intro hi
    rw [catN, ih (by omega)]
    unfold fB
    rw [if_neg]
    · rfl
    · rcases Nat.lt_or_ge i u with c | c
      · simp [h, c]
      · have : u = i := by omega
        simp [this]
def vzF (k u : Nat) : Nat := if ordK k = true then u + 1 else 0
theorem fB_vz {s : Nat → Nat → Int32} {n at0 k u : Nat} : catN (fB s n at0 k u) (vzF k u) = [] := by
  unfold vzF
  split
  · rename_i h; exact fB_pre h _ (Nat.le_refl _)
  · rfl
theorem catN_nil {f : Nat → List Pr} : ∀ i, (∀ j, j < i → f j = []) → catN f i = [] := by
  intro i
  induction i with
  | zero => intro _; rfl
  | succ i ih => intro h; rw [catN, ih (fun j hj => h j (by omega)), h i (by omega)]; rfl
theorem fA_nil {s : Nat → Nat → Int32} {n at0 k u : Nat} (h : ¬ thB s u at0 = true) : fA s n at0 k u = [] := catN_nil _ fun j _ => by unfold fB; rw [if_neg]; simp [h]
theorem fB_un {s : Nat → Nat → Int32} {n at0 k u v : Nat} (h : v = u ∨ ¬ thB s v at0 = true) : fB s n at0 k u v = [] := by
  unfold fB
  rw [if_neg]
  rcases h with h | h
  · simp [h]
  · simp [h]
theorem fB_2 {s : Nat → Nat → Int32} {n at0 k u v : Nat} (hu : thB s u at0 = true) (hv : thB s v at0 = true) (hne : ¬ v = u) (hz : vzF k u ≤ v) (ht : ¬ third k = true) : fB s n at0 k u v = okL s (k, u, v, none) := by
  unfold fB
  have h1 : ¬ u = v := fun e => hne e.symm
  have h2 : ordK k = true → ¬ v < u := fun h => by unfold vzF at hz; rw [if_pos h] at hz; omega
  rw [if_pos, if_neg ht]
  by_cases o : ordK k = true
  · simp [hu, hv, h1, o]; exact Nat.not_lt.mp (h2 o)
  · simp [hu, hv, h1, o]
theorem fB_3 {s : Nat → Nat → Int32} {n at0 k u v : Nat} (hu : thB s u at0 = true) (hv : thB s v at0 = true) (hne : ¬ v = u) (hz : vzF k u ≤ v) (ht : third k = true) : fB s n at0 k u v = catN (fC s at0 k u v) n := by
  unfold fB
  have h1 : ¬ u = v := fun e => hne e.symm
  have h2 : ordK k = true → ¬ v < u := fun h => by unfold vzF at hz; rw [if_pos h] at hz; omega
  rw [if_pos, if_pos ht]
  by_cases o : ordK k = true
  · simp [hu, hv, h1, o]; exact Nat.not_lt.mp (h2 o)
  · simp [hu, hv, h1, o]
/-- crowds by pairs -/
theorem pop_2 : ∀ i, i < 8 → ∀ S, S < 2 ^ i → pop (S + 2 ^ i) = pop S + 1 := by decide +kernel
theorem pop_setN (f : Nat → Bool) : ∀ n, n ≤ 8 → pop (setN f n) = cntN f n := by
  intro n
  induction n with
  | zero => intro _; exact pop_0
  | succ n ih =>
    intro h
    rw [setN]
    by_cases e : f n = true
    · rw [if_pos e, cntN_t e, pop_2 n (by omega) _ (setN_lt f n), ih (by omega)]
    · rw [if_neg e, cntN_f e, ih (by omega)]
theorem crowd_sym (s : Nat → Nat → Int32) (h : ∀ a b : Nat, absI (s 25 a - s 25 b) = absI (s 25 b - s 25 a)) (a b : Nat) : crowdB s a b = crowdB s b a := by
  unfold crowdB
  rw [h a b, Int32.and_comm (s 25 (73 + a)), show decide (a = b) = decide (b = a) from decide_eq_decide.mpr eq_comm, show decide (s 6 a = s 6 b) = decide (s 6 b = s 6 a) from decide_eq_decide.mpr eq_comm]
  cases decide (b = a) <;> cases decide (s 6 b = s 6 a) <;> cases decide (0 < s 25 a) <;> cases decide (0 < s 25 b) <;> simp
def prN (f : Nat → Nat → Bool) (n : Nat) : Nat := sumN (fun u => cntN (f u) u) n
theorem prN_2 {f : Nat → Nat → Bool} {m : Nat} (hs : ∀ a b, a < m → b < m → f a b = f b a) (hr : ∀ a, f a a = false) : ∀ n, n ≤ m → sumN (fun u => cntN (f u) n) n = 2 * prN f n := by
  intro n
  induction n with
  | zero => intro _; rfl
  | succ n ih =>
    intro hn
    have h1 : sumN (fun u => cntN (f u) (n + 1)) n = sumN (fun u => cntN (f u) n + cntF (f n) u) n := sumN_congr fun u hu => by
      show sumN (cntF (f u)) (n + 1) = _
      rw [sumN]
      congr 1
      unfold cntF
      rw [hs u n (by omega) (by omega)]
    have h2 : cntN (f n) (n + 1) = cntN (f n) n := cntN_f (by rw [hr]; decide)
    rw [sumN, h1, sumN_add, ih (by omega), h2]
    unfold prN
    rw [sumN]
    show 2 * _ + cntN (f n) n + _ = _
    omega
theorem abs_61 : ∀ a, a < 61 → ∀ b, b < 61 → absI (nI a - nI b) = absI (nI b - nI a) := by decide +kernel
theorem crowdsT_p {s : Nat → Nat → Int32} {n : Nat} (hB : NB s n) (hn : n ≤ 8) : prN (crowdB s) n = crowdsT s n := by
  have hs : ∀ a b, a < n → b < n → crowdB s a b = crowdB s b a := by
    intro a b ha hb
    have e : absI (s 25 a - s 25 b) = absI (s 25 b - s 25 a) := by
      rw [(hB.1 a ha).1, (hB.1 b hb).1]
      exact abs_61 _ (hB.1 a ha).2 _ (hB.1 b hb).2
    unfold crowdB
    rw [e, Int32.and_comm (s 25 (73 + a)), show decide (a = b) = decide (b = a) from decide_eq_decide.mpr eq_comm, show decide (s 6 a = s 6 b) = decide (s 6 b = s 6 a) from decide_eq_decide.mpr eq_comm]
    cases decide (b = a) <;> cases decide (s 6 b = s 6 a) <;> cases decide (0 < s 25 a) <;> cases decide (0 < s 25 b) <;> simp
  have h := prN_2 (f := crowdB s) (m := n) hs (fun a => by unfold crowdB; simp) n (Nat.le_refl _)
  unfold crowdsT
  rw [show sumN (crowdF s n) n = sumN (fun u => cntN (crowdB s u) n) n from sumN_congr fun u _ => pop_setN _ _ hn, h]
  omega
theorem cntN_le (f : Nat → Bool) : ∀ i, cntN f i ≤ i := by
  intro i
  induction i with
  | zero => exact Nat.le_refl _
  | succ i ih =>
    by_cases e : f i = true
    · rw [cntN_t e]; omega
    · rw [cntN_f e]; omega
theorem prN_le (f : Nat → Nat → Bool) {n : Nat} (h : n ≤ 8) : prN f n ≤ 64 := by
  have := sumN_le (f := fun u => cntN (f u) u) (i := n) (k := 8) (fun u hu => Nat.le_trans (cntN_le _ u) (by omega))
  unfold prN
  omega
theorem AM.cr {s Y : Nat → Nat → Int32} {n : Nat} {sg v : Int32} {L : List Pr} (h : AM s n sg L Y) : AM s n sg L (st1 Y 0 17 v) := by
  obtain ⟨⟨hA, h18, h14, h15, h16, h9, h26, h8, hs, hp⟩, ho⟩ := h
  have e : ∀ j, j ≠ 17 → st1 Y 0 17 v 0 j = Y 0 j := fun j hj => st1_nj hj
  have r : ∀ r, r ≠ 0 → st1 Y 0 17 v r = Y r := fun r hr => st1_ne hr
  refine ⟨⟨hA.cg (fun k a b => e k (by omega)) (r 1 (by decide)) (r 2 (by decide)) (r 3 (by decide)) (r 6 (by decide)), ?_, ?_, ?_, ?_, ?_, ?_, ?_, ?_, ?_⟩, ho⟩
  · rw [e 18 (by decide)]; exact h18
  · rw [e 14 (by decide)]; exact h14
  · rw [e 15 (by decide)]; exact h15
  · rw [e 16 (by decide)]; exact h16
  · rw [r 9 (by decide)]; exact h9
  · rw [e 26 (by decide), e 27 (by decide)]; exact h26
  · rw [r 8 (by decide)]; exact h8
  · rw [r 4 (by decide), r 5 (by decide), r 7 (by decide)]; exact hs
  · intro p a b
    have := hp p a b
    unfold SK at this ⊢
    rw [e 19 (by decide), e 20 (by decide), e 21 (by decide), e 22 (by decide), e 23 (by decide), e 24 (by decide), e 25 (by decide)]
    exact this
/-- nothing counted yet -/
def AZ (sg : Int32) (n : Nat) (Y : Nat → Nat → Int32) : Nat → Nat → Int32 := fun r j =>
  if r = 0 then (if j = 18 then sg else if j = 14 ∨ j = 15 ∨ j = 16 then nI 0 else if j = 26 then -2 else Y 0 j)
  else if r = 9 then (if j < 18 then nI 0 else Y 9 j)
  else if r = 4 ∨ r = 5 ∨ r = 7 then (if j < n then nI 0 else Y r j)
  else if r = 8 then (if j < n then -2 else Y 8 j)
  else Y r j
theorem AM.zero {s Y : Nat → Nat → Int32} {n : Nat} {sg : Int32} (h : AI s Y n) : AM s n sg [] (AZ sg n Y) := by
  refine ⟨⟨h.cg (fun k a b => ?_) rfl rfl rfl rfl, rfl, rfl, rfl, rfl, ?_, ⟨rfl, fun k => absurd rfl k⟩, ?_, ?_, ?_⟩, fun r hr => absurd hr List.not_mem_nil⟩
  · unfold AZ
    rw [if_pos rfl, if_neg (by omega), if_neg (by omega), if_neg (by omega)]
  · intro k w hk hw
    unfold AZ
    rw [if_neg (by decide), if_pos rfl, if_pos (by omega)]
    rfl
  · intro u hu
    show (if u < n then (-2 : Int32) else Y 8 u) = -2
    rw [if_pos hu]
  · intro _ u hu
    refine ⟨?_, ?_, ?_⟩
    · show (if u < n then nI 0 else Y 4 u) = nI 0
      rw [if_pos hu]
    · show (if u < n then nI 0 else Y 5 u) = nI 0
      rw [if_pos hu]
    · show (if u < n then nI 0 else Y 7 u) = nI 0
      rw [if_pos hu]
  · intro p _ hp; exact absurd hp (Nat.not_lt_zero _)
/-- the first of it: the ints, the sorts below i, the users below u -/
def AZ1 (sg : Int32) (i u : Nat) (Y : Nat → Nat → Int32) : Nat → Nat → Int32 := fun r j =>
  if r = 0 then (if j = 18 then sg else if j = 14 ∨ j = 15 ∨ j = 16 then nI 0 else if j = 26 then -2 else Y 0 j)
  else if r = 9 then (if j < i then nI 0 else Y 9 j)
  else if r = 4 ∨ r = 5 ∨ r = 7 then (if j < u then nI 0 else Y r j)
  else if r = 8 then (if j < u then -2 else Y 8 j)
  else Y r j
theorem AZ1_0 {sg : Int32} {Y : Nat → Nat → Int32} : st1 (st1 (st1 (st1 (st1 Y 0 18 sg) 0 14 (nI 0)) 0 15 (nI 0)) 0 16 (nI 0)) 0 26 (-2) = AZ1 sg 0 0 Y := by
  funext r j
  by_cases h : r = 0
  · subst h
    unfold AZ1
    rw [if_pos rfl]
    by_cases a : j = 26
    · subst a; rw [st1_eq]; rfl
    · rw [st1_nj a]
      by_cases b : j = 16
      · subst b; rw [st1_eq]; rfl
      · rw [st1_nj b]
        by_cases c : j = 15
        · subst c; rw [st1_eq]; rfl
        · rw [st1_nj c]
          by_cases d : j = 14
          · subst d; rw [st1_eq]; rfl
          · rw [st1_nj d]
            by_cases e : j = 18
            · subst e; rw [st1_eq]; rfl
            · rw [st1_nj e, if_neg e, if_neg (by omega), if_neg a]
  · rw [st1_ne h, st1_ne h, st1_ne h, st1_ne h, st1_ne h]
    unfold AZ1
    rw [if_neg h]
    split
    · rename_i e; rw [e]; rfl
    · split
      · rfl
      · split
        · rename_i e; rw [e]; rfl
        · rfl
theorem AZ1_i {sg : Int32} {i : Nat} {Y : Nat → Nat → Int32} : st1 (AZ1 sg i 0 Y) 9 i (nI 0) = AZ1 sg (i + 1) 0 Y := by
  funext r j
  by_cases h : r = 9
  · subst h
    by_cases e : j = i
    · subst e; rw [st1_eq]; unfold AZ1; rw [if_neg (by decide), if_pos rfl, if_pos (by omega)]
    · rw [st1_nj e]
      show (if j < i then nI 0 else Y 9 j) = (if j < i + 1 then nI 0 else Y 9 j)
      by_cases k : j < i
      · rw [if_pos k, if_pos (by omega)]
      · rw [if_neg k, if_neg (by omega)]
  · rw [st1_ne h]
    unfold AZ1
    rw [if_neg h, if_neg h]
theorem AZ1_u {sg : Int32} {i u : Nat} {Y : Nat → Nat → Int32} : st1 (st1 (st1 (st1 (AZ1 sg i u Y) 4 u (nI 0)) 5 u (nI 0)) 7 u (nI 0)) 8 u (-2) = AZ1 sg i (u + 1) Y := by
  have key : ∀ (f : Nat → Int32) (v : Int32) (j : Nat), ¬ j = u → (if j < u then v else f j) = if j < u + 1 then v else f j := by
    intro f v j hj
    by_cases k : j < u
    · rw [if_pos k, if_pos (by omega)]
    · rw [if_neg k, if_neg (by omega)]
  funext r j
  by_cases h8 : r = 8
  · subst h8
    by_cases e : j = u
    · subst e; rw [st1_eq]; show _ = (if j < j + 1 then (-2 : Int32) else Y 8 j); rw [if_pos (by omega)]
    · rw [st1_nj e, st1_ne (by decide), st1_ne (by decide), st1_ne (by decide)]; exact key (Y 8) (-2) j e
  · rw [st1_ne h8]
    by_cases h7 : r = 7
    · subst h7
      by_cases e : j = u
      · subst e; rw [st1_eq]; show _ = (if j < j + 1 then nI 0 else Y 7 j); rw [if_pos (by omega)]
      · rw [st1_nj e, st1_ne (by decide), st1_ne (by decide)]; exact key (Y 7) (nI 0) j e
    · rw [st1_ne h7]
      by_cases h5 : r = 5
      · subst h5
        by_cases e : j = u
        · subst e; rw [st1_eq]; show _ = (if j < j + 1 then nI 0 else Y 5 j); rw [if_pos (by omega)]
        · rw [st1_nj e, st1_ne (by decide)]; exact key (Y 5) (nI 0) j e
      · rw [st1_ne h5]
        by_cases h4 : r = 4
        · subst h4
          by_cases e : j = u
          · subst e; rw [st1_eq]; show _ = (if j < j + 1 then nI 0 else Y 4 j); rw [if_pos (by omega)]
          · rw [st1_nj e]; exact key (Y 4) (nI 0) j e
        · rw [st1_ne h4]
          unfold AZ1
          simp [h4, h5, h7, h8]
