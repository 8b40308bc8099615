/-! THE SPEC, part 10: what is found, laid in; mending; by chance -/
set_option maxRecDepth 100000
theorem zF_ce {s0 s : Nat → Nat → Int32} (h : CE s0 s) (S k : Nat) : CE (zF s0 S k) (zF s S k) := by
  induction k with
  | zero => exact h
  | succ k ih =>
    rw [zF, zF]; split
    · exact ih.put
    · exact ih
theorem srF_ce {n S : Nat} (f : Nat) : ∀ (p : Nat) (s0 s : Nat → Nat → Int32) (k : Nat), CE s0 s → (srF n S f p s k).1 = (srF n S f p s0 k).1 ∧ (srF n S f p s k).2.2 = (srF n S f p s0 k).2.2 ∧ CE (srF n S f p s0 k).2.1 (srF n S f p s k).2.1 := by
  induction f with
  | zero => intro p s0 s k h; exact ⟨rfl, rfl, h⟩
  | succ f ih =>
    intro p s0 s k h
    rw [srF, srF, nfR_ce h]
    split
    · exact ⟨rfl, rfl, h⟩
    · split
      · exact ⟨rfl, rfl, h⟩
      · split
        · exact ⟨rfl, rfl, h⟩
        · split
          · exact ih _ _ _ _ h.put
          · exact ih _ _ _ _ h.put
theorem srR_ce {s0 s : Nat → Nat → Int32} (h : CE s0 s) (n S : Nat) : (srR s n S).1 = (srR s0 n S).1 ∧ (srR s n S).2.2 = (srR s0 n S).2.2 ∧ CE (srR s0 n S).2.1 (srR s n S).2.1 := srF_ce 5000 _ _ _ _ (zF_ce h S n)
theorem srV_ce {s0 s : Nat → Nat → Int32} (h : CE s0 s) (n S : Nat) : srV s n S = srV s0 n S := by
  unfold srV; rw [(srR_ce h n S).1, (srR_ce h n S).2.1, cleanB_ce h]
/-- the row that is found for a set -/
def foundP (s : Nat → Nat → Int32) (n S : Nat) : Nat → Int32 := if S = 0 then s 25 else (srR s n S).2.1 25
theorem foundP_ce {s0 s : Nat → Nat → Int32} (h : CE s0 s) (n S : Nat) : foundP s n S = foundP s0 n S := by
  unfold foundP; rw [h.1, (srR_ce h n S).2.2.1]
def HS (s0 s : Nat → Nat → Int32) (n S : Nat) : Prop := (∀ r, r ≠ 0 → r ≠ 25 → ¬ (34 ≤ r ∧ r ≤ 40) → s r = s0 r) ∧ (∀ j, j ≠ 41 → j ≠ 42 → s 0 j = s0 0 j) ∧ ∀ j, (n ≤ j ∨ bit S j = 0) → s 25 j = s0 25 j
theorem HS.of {s0 s2 s : Nat → Nat → Int32} {n S : Nat} {k : Int32} (h : HR (st1 s2 0 42 k) s) (p : PL s0 s2 n S) : HS s0 s n S := by
  refine ⟨fun r a b c => ?_, fun j a b => ?_, fun j hj => ?_⟩
  · rw [h.1 r c a, st1_ne a]; exact p.1 r b
  · rw [h.2 j a, st1_nj b, p.1 0 (by decide)]
  · rw [h.1 25 (by omega) (by omega), st1_ne (by decide)]; exact p.2 j hj
theorem srV_neg {s : Nat → Nat → Int32} {n S : Nat} (h0 : S ≠ 0) (h : ¬ srV s n S < 0) : (srR s n S).1 = 0 := by
  unfold srV at h
  rw [if_neg h0] at h
  split at h
  · assumption
  · split at h
    · exact absurd (by decide) h
    · exact absurd (by decide) h
theorem HS.found {s0 s2 s : Nat → Nat → Int32} {n S : Nat} {k : Int32} (h : HR (st1 s2 0 42 k) s) (p : PL s0 s2 n S) (hf : S ≠ 0 → (srR s0 n S).1 = 0 → s2 = (srR s0 n S).2.1) (hr : ¬ srV s0 n S < 0) : s 25 = foundP s0 n S := by
  rw [h.1 25 (by omega) (by omega), st1_ne (by decide)]
  unfold foundP
  split
  · rename_i e
    funext j
    exact p.2 j (Or.inr (by rw [e]; unfold bit; rw [Nat.zero_div]))
  · rename_i e
    rw [hf e (srV_neg e hr)]
theorem AW.hs {z w w2 : Nat → Nat → Int32} {n S : Nat} (h : AW z w) (hn : n ≤ 6) (k : HS w w2 n S) : AW z w2 := by
  obtain ⟨a, b, c, d⟩ := h
  refine ⟨fun j hj => ?_, fun j hj => ?_, fun r h0 h1 h2 h3 => ?_, fun j h0 h1 h2 => ?_⟩
  · rw [k.1 27 (by decide) (by decide) (by decide)]; exact a j hj
  · rw [k.2.2 j (Or.inl (by omega))]; exact b j hj
  · rw [k.1 r h0 h1 h3]; exact c r h0 h1 h2 h3
  · rw [k.2.1 j h1 h2]; exact d j h0 h1 h2
/-- the two rows change places -/
def swpF (s : Nat → Nat → Int32) (i : Nat) : Nat → Nat → Int32 := upR (upR s 25 (va_cpy (s 27) (s 25) 0 0 i)) 27 (va_cpy (s 25) (s 27) 0 0 i)
theorem swp_0 {s : Nat → Nat → Int32} : swpF s 0 = s := by
  unfold swpF; rw [cpy_0, cpy_0, upR_self rfl, upR_self]; rfl
theorem swp_s {s : Nat → Nat → Int32} {i : Nat} : st1 (st1 (swpF s i) 25 i (s 27 i)) 27 i (s 25 i) = swpF s (i + 1) := by
  unfold swpF
  funext r
  by_cases e : r = 27
  · subst e
    have h1 : (fun q => st1 (upR (upR s 25 (va_cpy (s 27) (s 25) 0 0 i)) 27 (va_cpy (s 25) (s 27) 0 0 i)) 25 i (s 27 i) 27 q) = va_cpy (s 25) (s 27) 0 0 i := rfl
    rw [upR_eq]
    have h2 := cpy_s (f := s 25) (g := s 27) (sp := 0) (dp := 0) (i := i)
    rw [Nat.zero_add] at h2
    rw [← h2]
    rfl
  · rw [st1_ne e, upR_ne e]
    by_cases e2 : r = 25
    · subst e2
      rw [upR_eq]
      have h2 := cpy_s (f := s 27) (g := s 25) (sp := 0) (dp := 0) (i := i)
      rw [Nat.zero_add] at h2
      rw [← h2]
      rfl
    · rw [st1_ne e2, upR_ne e2, upR_ne e, upR_ne e2]
/-- what was found is so, what was ahead of it can be undone -/
def doneF (s : Nat → Nat → Int32) (K : Nat) (P : Nat → Int32) : Nat → Nat → Int32 := upR (remF s K) 25 P
theorem layF_26 {s t : Nat → Nat → Int32} (h : ∀ j, j < 79 → t 25 j = s 25 j) (h26 : t 26 = s 26) (k : Nat) : layF t k 26 = layF s k 26 := by
  unfold layF
  rw [upR_eq, upR_eq, h26]
  funext j
  by_cases q : 79 * k ≤ j ∧ j < 79 * k + 79
  · rw [pk_cpy_in q.1 q.2, pk_cpy_in q.1 q.2]; exact h _ (by omega)
  · rw [pk_cpy_out (by omega), pk_cpy_out (by omega)]
theorem remF_r {s : Nat → Nat → Int32} {K r : Nat} (h0 : r ≠ 0) (h26 : r ≠ 26) : remF s K r = s r := by
  unfold remF
  split
  · rw [st1_ne h0]; unfold layF shiftF; rw [upR_ne h26, st1_ne h0, upR_ne h26]
  · rw [st1_ne h0]; unfold layF; rw [upR_ne h26]
theorem remF_f {s : Nat → Nat → Int32} {K j : Nat} (h : j ≠ 28) : remF s K 0 j = s 0 j := by
  unfold remF
  split
  · rw [st1_nj h]; unfold layF shiftF; rw [upR_ne (by decide), st1_nj h, upR_ne (by decide)]
  · rw [st1_nj h]; unfold layF; rw [upR_ne (by decide)]
theorem remF_28 {s t : Nat → Nat → Int32} {K : Nat} : remF t K 0 28 = remF s K 0 28 := by
  unfold remF
  split
  · rw [st1_eq, st1_eq]
  · rw [st1_eq, st1_eq]
theorem remF_26 {s t : Nat → Nat → Int32} (h : ∀ j, j < 79 → t 25 j = s 25 j) (h26 : t 26 = s 26) (K : Nat) : remF t K 26 = remF s K 26 := by
  unfold remF
  split
  · rw [st1_ne (by decide), st1_ne (by decide)]
    refine layF_26 (fun j hj => ?_) ?_ _
    · unfold shiftF; rw [st1_ne (by decide), st1_ne (by decide), upR_ne (by decide), upR_ne (by decide)]; exact h j hj
    · unfold shiftF; rw [st1_ne (by decide), st1_ne (by decide), upR_eq, upR_eq, h26]
  · rw [st1_ne (by decide), st1_ne (by decide)]
    exact layF_26 h h26 _
theorem swp_25 {w : Nat → Nat → Int32} {j : Nat} (h : j < 79) : swpF w 79 25 j = w 27 j := by
  unfold swpF; rw [upR_ne (by decide), upR_eq, pk_cpy_in (by omega) (by omega), Nat.zero_add, Nat.sub_zero]
theorem swp_25b {w : Nat → Nat → Int32} {j : Nat} (h : 79 ≤ j) : swpF w 79 25 j = w 25 j := by
  unfold swpF; rw [upR_ne (by decide), upR_eq, pk_cpy_out (by omega)]
theorem swp_27 {w : Nat → Nat → Int32} {j : Nat} (h : j < 79) : swpF w 79 27 j = w 25 j := by
  unfold swpF; rw [upR_eq, pk_cpy_in (by omega) (by omega), Nat.zero_add, Nat.sub_zero]
theorem swp_r {w : Nat → Nat → Int32} {r : Nat} (h1 : r ≠ 25) (h2 : r ≠ 27) : swpF w 79 r = w r := by
  unfold swpF; rw [upR_ne h2, upR_ne h1]
theorem done_of {z w : Nat → Nat → Int32} {K : Nat} (h : AW z w) (ht : TO z) : HQ (doneF z K (w 25)) (comeF (remF (swpF w 79) K)) := by
  obtain ⟨a, b, c, d⟩ := h
  obtain ⟨t0, t1, t2, t3⟩ := ht
  have e3 : w 3 = z 3 := c 3 (by decide) (by decide) (by decide) (by decide)
  have e26 : w 26 = z 26 := c 26 (by decide) (by decide) (by decide) (by decide)
  have f3 : upR (remF (swpF w 79) K) 25 (va_cpy (remF (swpF w 79) K 27) (remF (swpF w 79) K 25) 0 0 79) 3 = z 3 := by
    rw [upR_ne (by decide), remF_r (by decide) (by decide), swp_r (by decide) (by decide), e3]
  refine ⟨fun r r0 r27 r43 r45 rp => ?_, fun j j0 j41 j42 j44 => ?_⟩
  · unfold comeF toldF doneF
    rw [st1_ne r0, st1_ne r0, st1_ne r0, st1_ne r0]
    by_cases e : r = 25
    · subst e
      rw [upR_eq, upR_eq]
      funext j
      rcases Nat.lt_or_ge j 79 with q | q
      · rw [pk_cpy_in (by omega) (by omega), remF_r (by decide) (by decide), Nat.zero_add, Nat.sub_zero, swp_27 q]
      · rw [pk_cpy_out (by omega), remF_r (by decide) (by decide), swp_25b q]
    · rw [upR_ne e, upR_ne e]
      by_cases e2 : r = 26
      · subst e2
        exact remF_26 (fun j hj => by rw [swp_25 hj]; exact a j hj) (by rw [swp_r (by decide) (by decide), e26]) K
      · rw [remF_r r0 e2, remF_r r0 e2, swp_r e r27]; exact c r r0 e r27 rp
  · unfold comeF toldF
    rw [f3]
    have g : ∀ j, j ≠ 28 → doneF z K (w 25) 0 j = z 0 j := fun j hj => by unfold doneF; rw [upR_ne (by decide), remF_f hj]
    by_cases e1 : j = 33
    · subst e1; rw [st1_eq, g 33 (by decide), t3]
    rw [st1_nj e1]
    by_cases e2 : j = 32
    · subst e2; rw [st1_eq, g 32 (by decide), t2]
    rw [st1_nj e2]
    by_cases e4 : j = 31
    · subst e4; rw [st1_eq, g 31 (by decide), t1]
    rw [st1_nj e4]
    by_cases e5 : j = 30
    · subst e5; rw [st1_eq, g 30 (by decide), t0]
    rw [st1_nj e5, upR_ne (by decide)]
    by_cases e6 : j = 28
    · subst e6; unfold doneF; rw [upR_ne (by decide)]; exact remF_28
    · rw [remF_f e6, g j e6]; exact d j (by omega) j41 j42
def FS (s : Nat → Nat → Int32) (n : Nat) : Nat := setN (freeF s) n
theorem FS_ce {s0 s : Nat → Nat → Int32} (h : CE s0 s) (n : Nat) : FS s n = FS s0 n := setN_congr fun u _ => by unfold freeF; rw [h.1]
theorem FS_sub (s : Nat → Nat → Int32) {n : Nat} (hn : n ≤ 6) : Sub (FS s n) n := ⟨setN_lt _ _, hn⟩
theorem CE.as {s : Nat → Nat → Int32} : CE s (asideF s) := ⟨rfl, rfl, rfl, rfl, rfl, rfl, rfl, rfl, rfl, rfl⟩
theorem have_int : ∀ n, n < 7 → ∀ S, S < 2 ^ n → (((nI 1 <<< (nI n &&& 31)) - nI 1) &&& (nI S ^^^ (-1))) = nI (2 ^ n - 1 - S) := by decide +kernel
def subB (S H : Nat) : Bool := decide (nI S &&& (nI H ^^^ (-1)) = 0)
def candB (s : Nat → Nat → Int32) (n H m S : Nat) : Bool := subB S H && decide (pop S = m) && !decide (srV s n S < 0)
def mdF (s : Nat → Nat → Int32) (n H : Nat) : Nat → Nat
  | 0 => 0
  | m + 1 => if mdF s n H m = 0 then firstN (candB s n H m) (H + 1) else mdF s n H m
def mdN (s : Nat → Nat → Int32) (n : Nat) : Nat := mdF s n (2 ^ n - 1 - FS s n) (n + 1)
theorem mdF_keep {s : Nat → Nat → Int32} {n H m k : Nat} (hm : m < k) (h : mdF s n H m = 0) (hf : firstN (candB s n H m) (H + 1) ≠ 0) : mdF s n H k = firstN (candB s n H m) (H + 1) := by
  induction k with
  | zero => omega
  | succ k ih =>
    rcases Nat.lt_or_ge m k with q | q
    · rw [mdF, ih q, if_neg hf]
    · have : m = k := by omega
      subst this
      rw [mdF, if_pos h]
theorem AW.ce {z w : Nat → Nat → Int32} (h : AW z w) (h25 : w 25 = z 25) (h30 : ∀ j, 30 ≤ j ∧ j ≤ 33 → w 0 j = z 0 j) : CE z w := by
  obtain ⟨a, b, c, d⟩ := h
  exact ⟨h25, c 6 (by decide) (by decide) (by decide) (by decide), c 3 (by decide) (by decide) (by decide) (by decide), c 12 (by decide) (by decide) (by decide) (by decide), c 8 (by decide) (by decide) (by decide) (by decide), c 9 (by decide) (by decide) (by decide) (by decide), h30 30 (by decide), h30 31 (by decide), h30 32 (by decide), h30 33 (by decide)⟩
theorem AW.come {z w : Nat → Nat → Int32} (h : AW z w) (ht : TO z) : AW z (comeF w) ∧ comeF w 25 = z 25 ∧ CE z (comeF w) := by
  have hq := h.back ht
  have h27 : comeF w 27 = w 27 := rfl
  refine ⟨⟨fun j hj => by rw [h27]; exact h.1 j hj, fun j _ => by rw [hq.ce.1], fun r a b c e => ?_, fun j hj h1 h2 => ?_⟩, hq.ce.1, hq.ce⟩
  · have : comeF w r = w r := by
      unfold comeF toldF; rw [st1_ne a, st1_ne a, st1_ne a, st1_ne a, upR_ne b]
    rw [this]; exact h.2.2.1 r a b c e
  · have : comeF w 0 j = w 0 j := by
      unfold comeF toldF; rw [st1_nj (by omega), st1_nj (by omega), st1_nj (by omega), st1_nj (by omega), upR_ne (by decide)]
    rw [this]; exact h.2.2.2 j hj h1 h2
theorem md_row {z w : Nat → Nat → Int32} {n : Nat} (hn6 : n ≤ 6) (h1 : mdN z n ≠ 0 → w 25 = foundP z n (mdN z n - 1)) (h2 : mdN z n = 0 → w 25 = z 25) (h : ¬ 0 < optI (mdN z n)) : w 25 = z 25 := by
  by_cases e : mdN z n = 0
  · exact h2 e
  · have e1 : mdN z n - 1 = 0 ∨ 2 ^ 31 ≤ mdN z n - 1 := by
      unfold optI at h
      rw [if_neg e] at h
      rcases Nat.lt_or_ge (mdN z n - 1) (2 ^ 31) with q | q
      · left
        rcases Nat.eq_zero_or_pos (mdN z n - 1) with q2 | q2
        · exact q2
        · exact absurd (show (0 : Int32) < nI (mdN z n - 1) from nI_lt (a := 0) q2 q) h
      · exact Or.inr q
    rcases e1 with e1 | e1
    · rw [h1 e, e1]; rfl
    · exfalso
      have h3 : ∀ k, mdF z n (2 ^ n - 1 - FS z n) k ≤ 2 ^ n - 1 - FS z n + 1 := by
        intro k
        induction k with
        | zero => exact Nat.zero_le _
        | succ k ih =>
          rw [mdF]; split
          · have : ∀ f q, firstN f q ≤ q := by
              intro f q
              induction q with
              | zero => exact Nat.le_refl _
              | succ q ih => rw [firstN]; split; split <;> omega; omega
            exact this _ _
          · exact ih
      have h2 : 2 ^ n ≤ 64 := Nat.pow_le_pow_right (n := 2) (by decide) (show n ≤ 6 from hn6)
      have h4 := h3 (n + 1)
      unfold mdN at e1
      omega
theorem met_mono {l : Launch} {y : MethodName} {ws : List Cond} {rm : Room} {Pc : Array Value → State → Prop} {Q1 Q2 : Array Value → State → Outcome → State → Prop} {mc ms : Nat} {free : Addr → Prop} (h : Met l y ws rm Pc Q1 mc ms free) (hq : ∀ a st o t, Q1 a st o t → Q2 a st o t) : Met l y ws rm Pc Q2 mc ms free := by
  intro p e ha hc hk s m args below hf happ hP hK
  obtain ⟨t, o, h1, h2, h3, h4, h5⟩ := h p e ha hc hk s m args below hf happ hP hK
  exact ⟨t, o, h1, h2, h3, hq _ _ _ _ h4, h5⟩
theorem CE.f {s0 s : Nat → Nat → Int32} (h : CE s0 s) : ∀ j, 30 ≤ j ∧ j ≤ 33 → s 0 j = s0 0 j := by
  intro j hj
  obtain ⟨-, -, -, -, -, -, a, b, c, d⟩ := h
  rcases (show j = 30 ∨ j = 31 ∨ j = 32 ∨ j = 33 by omega) with rfl | rfl | rfl | rfl <;> assumption
theorem AW.hq {z w : Nat → Nat → Int32} (h : AW z w) (h25 : w 25 = z 25) (hf : ∀ j, 30 ≤ j ∧ j ≤ 33 → w 0 j = z 0 j) : HQ z w := by
  obtain ⟨a, b, c, d⟩ := h
  refine ⟨fun r r0 r27 _ _ rp => ?_, fun j _ j41 j42 _ => ?_⟩
  · by_cases e : r = 25
    · subst e; exact h25
    · exact c r r0 e r27 rp
  · by_cases e : 30 ≤ j ∧ j ≤ 33
    · exact hf j e
    · exact d j (by omega) j41 j42
