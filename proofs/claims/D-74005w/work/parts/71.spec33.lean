/-! SCRATCH: air and trial alone have changed -/
def XS (σ σ2 : Nat → Nat → Int32) : Prop := ∀ r, r ≠ 3 → r ≠ 7 → ¬ (10 ≤ r ∧ r < 20) → σ2 r = σ r
theorem XS.rf (σ : Nat → Nat → Int32) : XS σ σ := fun _ _ _ _ => rfl
theorem XS.tr {a b c : Nat → Nat → Int32} (h : XS a b) (k : XS b c) : XS a c := fun r h3 h7 hr => (k r h3 h7 hr).trans (h r h3 h7 hr)
theorem XA.xs {a b : Nat → Nat → Int32} (h : XA a b) : XS a b := fun r _ _ hr => h r hr
theorem XS.lik {σ : Nat → Nat → Int32} {i : Nat} : XS σ (likS 2 i σ) := by
  intro r h3 h7 _
  unfold likS
  rw [upR_ne (by omega), upR_ne (by omega)]
theorem XS.st {σ : Nat → Nat → Int32} {N : Nat} {v : Int32} : XS σ (st1 σ 3 N v) := fun r h3 _ _ => st1_ne h3
theorem lik_3 {σ : Nat → Nat → Int32} {i : Nat} : likS 2 i σ 3 = σ (1 + i) := by
  unfold likS
  rw [upR_ne (by decide), upR_eq]
theorem st3 {σ : Nat → Nat → Int32} {N : Nat} {v : Int32} : st1 σ 3 N v 3 = upd (σ 3) N v := by unfold st1; rw [upR_eq]
theorem vw_upd {τ : Nat → Nat → Int32} {P : Nat → Int32} {j : Nat} {v : Int32} : vw τ (upd P j v) = st1 (vw τ P) 25 j v := by
  funext r
  by_cases h : r = 25
  · subst h; rw [vw_25]; unfold st1; rw [upR_eq, vw_25]
  · rw [st1_ne h]
    by_cases h0 : r = 0
    · subst h0; rfl
    · rw [vw_r h0 h, vw_r h0 h]
theorem PC.put {P : Nat → Int32} {n j : Nat} {v : Int32} (h : PC P n) (hv : In v 61) : PC (upd P j v) n := by
  intro u hu
  unfold upd
  split
  · exact hv
  · exact h u hu
theorem BB.put {P : Nat → Int32} {j : Nat} {v : Int32} (h : BB P) (hj : j < 12) : BB (upd P j v) := by
  intro c hc
  unfold upd
  rw [if_neg (by omega)]
  exact h c hc
theorem TA.cg {s t τ : Nat → Nat → Int32} {n : Nat} (h : TA s τ n) (h3 : t 3 = s 3) (h12 : t 12 = s 12) (h6 : t 6 = s 6) : TA t τ n := by
  unfold TA at *
  rw [h3, h12, h6]
  exact h
theorem NB.cg {s t : Nat → Nat → Int32} {n : Nat} (h : NB s n) (h25 : t 25 = s 25) (h30 : t 0 30 = s 0 30) : NB t n := by
  unfold NB at *
  rw [h25, h30]
  exact h
theorem AI.sp {s Y : Nat → Nat → Int32} {n : Nat} {x v : Int32} (h : AI (st1 s 0 32 x) Y n) : AI (st1 s 0 32 v) (st1 Y 0 12 v) n := by
  obtain ⟨a1, a2, a3, a4, a5, a6⟩ := h
  rw [st1_nj (by decide)] at a2 a3 a5
  rw [st1_ne (by decide), st1_ne (by decide)] at a6
  refine ⟨by rw [st1_nj (by decide)]; exact a1, by rw [st1_nj (by decide), st1_nj (by decide)]; exact a2, by rw [st1_nj (by decide), st1_nj (by decide)]; exact a3, by rw [st1_eq, st1_eq], by rw [st1_nj (by decide), st1_nj (by decide)]; exact a5, fun u hu => ?_⟩
  rw [st1_ne (by decide), st1_ne (by decide), st1_ne (by decide), st1_ne (by decide), st1_ne (by decide), st1_ne (by decide)]
  exact a6 u hu
theorem AI.gu {s Y : Nat → Nat → Int32} {n : Nat} {x v : Int32} (h : AI (st1 s 0 31 x) Y n) : AI (st1 s 0 31 v) (st1 Y 0 11 v) n := by
  obtain ⟨a1, a2, a3, a4, a5, a6⟩ := h
  rw [st1_nj (by decide)] at a2 a4 a5
  rw [st1_ne (by decide), st1_ne (by decide)] at a6
  refine ⟨by rw [st1_nj (by decide)]; exact a1, by rw [st1_nj (by decide), st1_nj (by decide)]; exact a2, by rw [st1_eq, st1_eq], by rw [st1_nj (by decide), st1_nj (by decide)]; exact a4, by rw [st1_nj (by decide), st1_nj (by decide)]; exact a5, fun u hu => ?_⟩
  rw [st1_ne (by decide), st1_ne (by decide), st1_ne (by decide), st1_ne (by decide), st1_ne (by decide), st1_ne (by decide)]
  exact a6 u hu
theorem XT.tv {τ : Nat → Nat → Int32} {n : Nat} {P : Nat → Int32} (h : XT τ n) : TA (vw τ P) τ n := by rw [← vwB_self]; exact h.ta
theorem XT.nv {τ : Nat → Nat → Int32} {n : Nat} {P : Nat → Int32} (h : XT τ n) (hP : PC P n) : NB (vw τ P) n := by rw [← vwB_self]; exact XT.nb hP h.2.2.2.2.1
theorem XT.ov {τ : Nat → Nat → Int32} {n : Nat} {P : Nat → Int32} (h : XT τ n) : In (vw τ P 0 33) 8 := by rw [← vwB_self]; exact h.od
theorem noise_le {s : Nat → Nat → Int32} {n : Nat} (hn : n ≤ 6) : noiseN s n ≤ 2500 := noiseN_le s hn
theorem XT.ch {τ : Nat → Nat → Int32} {n : Nat} (h : XT τ n) {c : Int32} (hc : isC τ c = true) : ∃ b, 1 ≤ b ∧ b ≤ tN (τ 3 0) ∧ c = nI b := ch_of (isC_iff.mp hc) h.2.2.2.2.1.1 (by have := h.2.2.2.2.1.2; omega)
theorem tdF_ce {n : Nat} : ∀ f {s t : Nat → Nat → Int32}, CE s t → (tdF n f t).1 = (tdF n f s).1 ∧ CE (tdF n f s).2 (tdF n f t).2 := by
  intro f
  induction f with
  | zero => intro s t h; exact ⟨rfl, h⟩
  | succ f ih =>
    intro s t h
    have hw := worstF_ce h n
    have h25 : t 25 = s 25 := h.1
    rw [tdF, tdF, hw, h25]
    by_cases c : worstF s n = -2 ∨ ¬ 0 < s 25 (6 + tN (worstF s n))
    · rw [if_pos c, if_pos c]; exact ⟨rfl, h⟩
    · rw [if_neg c, if_neg c]
      have hd : CE (downF s (tN (worstF s n))) (downF t (tN (worstF s n))) := by
        unfold downF
        rw [h25]
        exact CE.put h
      obtain ⟨a, b⟩ := ih hd
      exact ⟨congrArg (· + 1) a, b⟩
