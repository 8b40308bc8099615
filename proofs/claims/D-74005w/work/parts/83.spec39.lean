/-! BY CHANCE, in the class -/
set_option maxRecDepth 100000
theorem lN_mask (a : Nat) : lN a &&& 2147483647 = lN (a % 2147483648) := by
  apply Int64.toBitVec_inj.mp
  rw [Int64.toBitVec_and]
  show BitVec.ofNat 64 a &&& BitVec.ofNat 64 2147483647 = BitVec.ofNat 64 (a % 2147483648)
  apply BitVec.eq_of_toNat_eq
  rw [BitVec.toNat_and, BitVec.toNat_ofNat, BitVec.toNat_ofNat, BitVec.toNat_ofNat, show 2147483647 % 2 ^ 64 = 2 ^ 31 - 1 by decide, Nat.and_two_pow_sub_one_eq_mod]
  omega
theorem LH.vw {τ : Nat → Nat → Int32} {n : Nat} {P : Nat → Int32} (h : XT τ n) : LH (vw τ P) n := by rw [← vwB_self]; exact h.lh h.2.2.2.2.1
theorem PC.i25 {τ : Nat → Nat → Int32} {n : Nat} {P : Nat → Int32} (h : PC P n) : In25 (vw τ P) n := by intro v hv; rw [vw_25]; exact h v hv
theorem foundP_pl {s : Nat → Nat → Int32} {n S : Nat} (hS : Sub S n) (hl : LH s n) (hi : In25 s n) : (∀ j, (n ≤ j ∨ bit S j = 0) → foundP s n S j = s 25 j) ∧ ∀ v, v < n → In (foundP s n S v) 61 := by
  unfold foundP
  split
  · exact ⟨fun _ _ => rfl, hi⟩
  · have hx := nxF_p S 7 0 (by omega) (by omega)
    have h := srF_pl hS 5000 (nxF S 7 0 + 1) (zF s S n) 0 s (Nat.zero_le _) (by omega) (fun _ h7 => by rw [Nat.add_sub_cancel]; exact hx.2.2 (by omega)) (zF_pl s S n n (Nat.le_refl _)) hl (zF_in hi n)
    exact ⟨fun j hj => h.1.2 j hj, h.2⟩
theorem PC.found {τ : Nat → Nat → Int32} {n S : Nat} {P : Nat → Int32} (h : PC P n) (hX : XT τ n) (hS : Sub S n) : PC (foundP (vw τ P) n S) n := (foundP_pl hS (LH.vw hX) h.i25).2
theorem BB.found {τ : Nat → Nat → Int32} {n S : Nat} {P : Nat → Int32} (hb : BB P) (h : PC P n) (hX : XT τ n) (hS : Sub S n) : BB (foundP (vw τ P) n S) := by
  intro c hc
  rw [(foundP_pl hS (LH.vw hX) h.i25).1 _ (Or.inl (by have := hX.2.1; omega)), vw_25]
  exact hb c hc
theorem sub_one {u n : Nat} (hu : u < n) (hn : n ≤ 6) : Sub (2 ^ u) n := ⟨Nat.pow_lt_pow_right (by decide) hu, hn⟩
theorem zP_one {P : Nat → Int32} {u n : Nat} (hu : u < n) (hn : n ≤ 6) : zP (upd P u (nI 0)) (2 ^ u) n = zP P (2 ^ u) n := by
  funext j
  rw [zP_at, zP_at]
  by_cases q : j < n ∧ bit (2 ^ u) j = 1
  · rw [if_pos q, if_pos q]
  · rw [if_neg q, if_neg q]
    unfold upd
    rw [if_neg (fun e => q (by rw [e]; exact ⟨hu, by rw [one_bit u (by omega) u (by omega), if_pos rfl]⟩))]
theorem vw_upR {τ : Nat → Nat → Int32} {P Q : Nat → Int32} : upR (vw τ P) 25 Q = vw τ Q := by
  funext r
  by_cases h : r = 25
  · subst h; rw [upR_eq, vw_25]
  · rw [upR_ne h]
    by_cases h0 : r = 0
    · subst h0; rfl
    · rw [vw_r h0 h, vw_r h0 h]
theorem found_one {τ : Nat → Nat → Int32} {n u : Nat} {P : Nat → Int32} (hX : XT τ n) (hP : PC P n) (hu : u < n) : upd (upd P u (nI 0)) u (foundP (vw τ P) n (2 ^ u) u) = foundP (vw τ P) n (2 ^ u) := by
  have hn := hX.2.1
  have h := (foundP_pl (sub_one hu hn) (LH.vw hX) hP.i25).1
  rw [upd_2]
  funext j
  unfold upd
  by_cases e : j = u
  · rw [if_pos e, e]
  · rw [if_neg e, h j, vw_25]
    rcases Nat.lt_or_ge j n with k | k
    · exact Or.inr (by rw [one_bit u (by omega) j (by omega), if_neg e])
    · exact Or.inl k
theorem ch_no {τ : Nat → Nat → Int32} {n c u : Nat} {P : Nat → Int32} {x : (Nat → Nat → Int32) × Nat} (hv : vw τ P = (chU n c u x).1) (h : ¬ P u = nI c) : chU n c (u + 1) x = chU n c u x := by
  rw [chU, if_neg]
  rw [← hv, vw_25]; exact h
theorem ch_lost {τ : Nat → Nat → Int32} {n c u : Nat} {P : Nat → Int32} {x : (Nat → Nat → Int32) × Nat} (hv : vw τ P = (chU n c u x).1) (h : P u = nI c) (k : srV (vw τ P) n (2 ^ u) < 0) : vw τ (upd P u (nI 0)) = (chU n c (u + 1) x).1 ∧ (chU n c (u + 1) x).2 = (chU n c u x).2 + 1 := by
  rw [chU, if_pos (by rw [← hv, vw_25]; exact h)]
  refine ⟨?_, rfl⟩
  show _ = if _ then _ else _
  rw [← hv, if_pos k, vw_upd]
theorem ch_found {τ : Nat → Nat → Int32} {n c u : Nat} {P : Nat → Int32} {x : (Nat → Nat → Int32) × Nat} (hX : XT τ n) (hP : PC P n) (hu : u < n) (hv : vw τ P = (chU n c u x).1) (h : P u = nI c) (k : ¬ srV (vw τ P) n (2 ^ u) < 0) : vw τ (upd (upd P u (nI 0)) u (foundP (vw τ P) n (2 ^ u) u)) = (chU n c (u + 1) x).1 ∧ (chU n c (u + 1) x).2 = (chU n c u x).2 + 1 := by
  rw [chU, if_pos (by rw [← hv, vw_25]; exact h)]
  refine ⟨?_, rfl⟩
  show _ = if _ then _ else _
  rw [← hv, if_neg k, vw_upR, found_one hX hP hu]
/-- while chance is tried: the number drawn, the other plan, the trial and the air change -/
def XC (σ σ2 : Nat → Nat → Int32) : Prop := (∀ r, r ≠ 0 → r ≠ 3 → r ≠ 4 → r ≠ 7 → r ≠ 8 → ¬ (10 ≤ r ∧ r < 20) → σ2 r = σ r) ∧ ∀ j, j ≠ 13 → σ2 0 j = σ 0 j
theorem XC.rf (σ : Nat → Nat → Int32) : XC σ σ := ⟨fun _ _ _ _ _ _ _ => rfl, fun _ _ => rfl⟩
theorem XC.tr {a b c : Nat → Nat → Int32} (h : XC a b) (k : XC b c) : XC a c := ⟨fun r h0 h3 h4 h7 h8 hr => (k.1 r h0 h3 h4 h7 h8 hr).trans (h.1 r h0 h3 h4 h7 h8 hr), fun j hj => (k.2 j hj).trans (h.2 j hj)⟩
theorem XS.xc {a b : Nat → Nat → Int32} (h : XS a b) : XC a b := ⟨fun r _ h3 _ h7 _ hr => h r h3 h7 hr, fun j _ => by rw [h 0 (by decide) (by decide) (by decide)]⟩
theorem XC.dr {σ : Nat → Nat → Int32} {v : Int32} : XC σ (st1 σ 0 13 v) := ⟨fun r h _ _ _ _ _ => st1_ne h, fun j h => st1_nj h⟩
theorem XC.st {σ : Nat → Nat → Int32} {N : Nat} {v : Int32} : XC σ (st1 σ 4 N v) := ⟨fun r _ _ h _ _ _ => st1_ne h, fun j _ => by rw [st1_ne (by decide)]⟩
theorem XC.lik {σ : Nat → Nat → Int32} : XC σ (likS 3 0 σ) := by
  refine ⟨fun r _ _ h4 _ h8 _ => ?_, fun j _ => ?_⟩
  · unfold likS; rw [upR_ne h8, upR_ne h4]
  · unfold likS; rw [upR_ne (by decide), upR_ne (by decide)]
theorem st4 {σ : Nat → Nat → Int32} {N : Nat} {v : Int32} : st1 σ 4 N v 4 = upd (σ 4) N v := by unfold st1; rw [upR_eq]
theorem BB.bl {P : Nat → Int32} {j : Nat} (h : BB P) : BB (upd P j (nI 1)) := by
  intro c hc
  unfold upd
  split
  · exact Or.inr rfl
  · exact h c hc
theorem m1_lt {a : Int32} (h : ¬ a < -1) (k : a < 0) : a = -1 := by
  have h1 := Int32.not_lt.mp h
  rw [Int32.le_iff_toInt_le] at h1
  rw [Int32.lt_iff_toInt_lt] at k
  apply Int32.toInt_inj.mp
  have e1 : (-1 : Int32).toInt = -1 := by decide
  have e0 : (0 : Int32).toInt = 0 := by decide
  omega
theorem long_of {a : Int32} (h : ¬ a < 0) : a.toInt64 = lN (tN a) := by
  obtain ⟨j, hj, rfl⟩ := nI_of h
  rw [tN_nI hj]
  exact nI_l hj
