/-! ROWS THAT GROW: step by step -/
set_option maxRecDepth 100000
def GI (o near far : Int32) (c m : Nat) : Prop := (c = 1 ∧ m = 0) ∨ (1 ≤ m ∧ (∀ j, j < m → 1 ≤ gN o near far 7 j ∧ gN o near far 7 j ≤ 60) ∧ gN o near far 7 (m - 1) < c ∧ (m ≤ 7 → gN o near far 7 m = npF (gN o near far (m - 1)) o near far m (61 - c) c))
theorem gN_7 {o near far : Int32} {n j : Nat} (h : j ≤ n) (hn : n ≤ 7) : gN o near far n j = gN o near far 7 j := (gN_lo o near far n 7 j h hn).symm
theorem gN_s {o near far : Int32} {m : Nat} (hm : m + 1 ≤ 7) : gN o near far 7 (m + 1) = npF (gN o near far m) o near far (m + 1) (61 - (gN o near far 7 m + 1)) (gN o near far 7 m + 1) := by
  rw [← gN_7 (n := m + 1) (Nat.le_refl _) hm, gN]
  dsimp only
  rw [if_pos rfl, gN_7 (n := m) (Nat.le_refl _) (by omega)]
  rfl
theorem rc_one {o near far : Int32} {g : Nat → Int32} : rcB g o near far 1 = true := by
  unfold rcB
  rw [allB_all]
  intro a ha
  rw [allB_all]
  intro b hb
  unfold cB2
  rw [decide_eq_true (show a = b by omega)]
  rfl
theorem GI.t {o near far : Int32} {c m : Nat} (h : GI o near far c m) (hm : m < 8) (hc : c ≤ 60) (hr : rcB (fun j => nI (if j = m then c else gN o near far 7 j)) o near far (m + 1) = true) : GI o near far (c + 1) (m + 1) ∧ gN o near far 7 m = c := by
  have hcm : gN o near far 7 m = c ∧ 1 ≤ c ∧ ∀ j, j < m → 1 ≤ gN o near far 7 j ∧ gN o near far 7 j ≤ 60 := by
    rcases h with ⟨rfl, rfl⟩ | ⟨h1, h2, h3, h4⟩
    · exact ⟨by rw [← gN_7 (n := 0) (Nat.le_refl _) (by decide)]; rfl, Nat.le_refl _, fun j hj => absurd hj (Nat.not_lt_zero _)⟩
    · refine ⟨?_, by omega, h2⟩
      rw [h4 (by omega), show 61 - c = (60 - c) + 1 by omega, npF, if_pos]
      rw [← hr]
      refine rcB_cg fun j hj => ?_
      by_cases e : j = m
      · rw [if_pos e, if_pos e]
      · rw [if_neg e, if_neg e, gN_7 (by omega) (by omega)]
  refine ⟨Or.inr ⟨by omega, fun j hj => ?_, by rw [Nat.add_sub_cancel, hcm.1]; omega, fun h7 => ?_⟩, hcm.1⟩
  · by_cases e : j = m
    · subst e; rw [hcm.1]; exact ⟨hcm.2.1, hc⟩
    · exact hcm.2.2 j (by omega)
  · rw [gN_s h7, hcm.1, Nat.add_sub_cancel]
theorem GI.f {o near far : Int32} {c m : Nat} (h : GI o near far c m) (hm : m < 8) (hc : c ≤ 60) (hr : ¬ rcB (fun j => nI (if j = m then c else gN o near far 7 j)) o near far (m + 1) = true) : GI o near far (c + 1) m := by
  rcases h with ⟨rfl, rfl⟩ | ⟨h1, h2, h3, h4⟩
  · exact absurd rc_one hr
  · refine Or.inr ⟨h1, h2, by omega, fun h7 => ?_⟩
    rw [h4 h7, show 61 - c = (60 - c) + 1 by omega, npF, if_neg]
    · rw [show 61 - (c + 1) = 60 - c by omega]
    · intro z
      apply hr
      rw [← z]
      refine rcB_cg fun j hj => ?_
      by_cases e : j = m
      · rw [if_pos e, if_pos e]
      · rw [if_neg e, if_neg e]; exact congrArg nI (gN_7 (by omega) (by omega)).symm
theorem gOk_t {o near far : Int32} : ∀ k, k ≤ 7 → (∀ j, j ≤ k → gN o near far 7 j ≤ 60) → gOk o near far k = true
  | 0, _, _ => rfl
  | k + 1, hk, h => by
    rw [gOk, gOk_t k (by omega) (fun j hj => h j (by omega)), gN_7 (Nat.le_refl _) hk, decide_eq_true (h (k + 1) (Nat.le_refl _))]
    rfl
theorem GI.fin {o near far : Int32} {c m k : Nat} (h : GI o near far c m) (hm : m ≤ 8) (hk : k < 2 ^ 31) (he : c = 61 ∨ m = 8) : (if k < m then nI (gN o near far 7 k) else -2) = (if nI k < nI 8 then (if gOk o near far (tN (nI k)) = true then nI (gN o near far (tN (nI k)) (tN (nI k))) else -2) else (-2 : Int32)) := by
  rw [tN_nI hk]
  have hlt : (nI k < nI 8) ↔ k < 8 := nI_ltI hk (by decide)
  rcases h with ⟨rfl, rfl⟩ | ⟨h1, h2, h3, h4⟩
  · omega
  · by_cases q : k < m
    · rw [if_pos q, if_pos (hlt.mpr (by omega)), if_pos (gOk_t k (by omega) (fun j hj => (h2 j (by omega)).2)), gN_7 (Nat.le_refl _) (by omega)]
    · rw [if_neg q]
      by_cases z : k < 8
      · rw [if_pos (hlt.mpr z)]
        have hc : c = 61 := by omega
        have h61 : gN o near far 7 m = 61 := by
          rw [h4 (by omega), hc]
          rfl
        have hf : gOk o near far k = false := gOk_f (n := m - 1) (by omega) (by rw [show m - 1 + 1 = m by omega, gN_7 (Nat.le_refl _) (by omega), h61]; omega)
        rw [hf, if_neg (by decide)]
      · rw [if_neg (fun y => z (hlt.mp y))]
/-- the class's other air, row by row -/
def XG (σ σ2 : Nat → Nat → Int32) : Prop := ∀ r, ¬ (20 ≤ r ∧ r < 30) → σ2 r = σ r
theorem XG.rf (σ : Nat → Nat → Int32) : XG σ σ := fun _ _ => rfl
theorem XG.st {σ w : Nat → Nat → Int32} {r N : Nat} {v : Int32} (h : XG σ w) (hr : 20 ≤ r ∧ r < 30) : XG σ (st1 w r N v) := fun k hk => by rw [st1_ne (by omega)]; exact h k hk
theorem XG.up {σ w Y : Nat → Nat → Int32} (h : XG σ w) : XG σ (airU1 w Y) := fun k hk => by
  unfold airU1
  rw [if_neg hk]
  exact h k hk
def GW (o near far : Int32) (c m : Nat) (σ w : Nat → Nat → Int32) : Prop := XG σ w ∧ GI o near far c m ∧ m ≤ 8 ∧ 1 ≤ c ∧ c ≤ 61 ∧ w 20 9 = nI m ∧ w 20 10 = nI 60 ∧ w 20 11 = near ∧ w 20 12 = far ∧ w 20 13 = o ∧ ∀ u, u < m → w 21 u = nI 0 ∧ w 22 u = nI 999 ∧ w 23 u = nI (gN o near far 7 u) ∧ w 26 u = nI 255
/-- the row with one more -/
def g1 (w : Nat → Nat → Int32) (m c : Nat) : Nat → Int32 := fun j => if j = m then nI c else w 23 j
theorem GW.ai {τ σ w : Nat → Nat → Int32} {o near far : Int32} {c m : Nat} (h : GW o near far c m σ w) (hm : m < 8) : AIg (gwS τ o near far (g1 w m c)) (airS1 (st1 (st1 (st1 (st1 (st1 w 21 m (nI 0)) 22 m (nI 999)) 26 m (nI 255)) 23 m (nI c)) 20 9 (nI (m + 1)))) (m + 1) := by
  obtain ⟨h1, h2, h3, h4, h5, h6, h7, h8, h9, h10, h11⟩ := h
  unfold AIg airS1
  refine ⟨by rw [st1_eq], by rw [st1_nj (by decide), st1_ne (by decide), st1_ne (by decide), st1_ne (by decide), st1_ne (by decide), h7]; rfl, by rw [st1_nj (by decide), st1_ne (by decide), st1_ne (by decide), st1_ne (by decide), st1_ne (by decide), h8]; rfl, by rw [st1_nj (by decide), st1_ne (by decide), st1_ne (by decide), st1_ne (by decide), st1_ne (by decide), h9]; rfl, by rw [st1_nj (by decide), st1_ne (by decide), st1_ne (by decide), st1_ne (by decide), st1_ne (by decide), h10]; rfl, fun u hu => ?_⟩
  rw [gwS_25 (by omega), gwS_73]
  have e21 : st1 (st1 (st1 (st1 (st1 w 21 m (nI 0)) 22 m (nI 999)) 26 m (nI 255)) 23 m (nI c)) 20 9 (nI (m + 1)) 21 u = upd (w 21) m (nI 0) u := by rw [st1_ne (by decide), st1_ne (by decide), st1_ne (by decide), st1_ne (by decide), st1_row]
  have e22 : st1 (st1 (st1 (st1 (st1 w 21 m (nI 0)) 22 m (nI 999)) 26 m (nI 255)) 23 m (nI c)) 20 9 (nI (m + 1)) 22 u = upd (w 22) m (nI 999) u := by rw [st1_ne (by decide), st1_ne (by decide), st1_ne (by decide), st1_row, st1_ne (by decide)]
  have e26 : st1 (st1 (st1 (st1 (st1 w 21 m (nI 0)) 22 m (nI 999)) 26 m (nI 255)) 23 m (nI c)) 20 9 (nI (m + 1)) 26 u = upd (w 26) m (nI 255) u := by rw [st1_ne (by decide), st1_ne (by decide), st1_row, st1_ne (by decide), st1_ne (by decide)]
  have e23 : st1 (st1 (st1 (st1 (st1 w 21 m (nI 0)) 22 m (nI 999)) 26 m (nI 255)) 23 m (nI c)) 20 9 (nI (m + 1)) 23 u = upd (w 23) m (nI c) u := by rw [st1_ne (by decide), st1_row, st1_ne (by decide), st1_ne (by decide), st1_ne (by decide)]
  generalize st1 (st1 (st1 (st1 (st1 w 21 m (nI 0)) 22 m (nI 999)) 26 m (nI 255)) 23 m (nI c)) 20 9 (nI (m + 1)) = X at e21 e22 e26 e23 ⊢
  show X 21 u = _ ∧ X 22 u = _ ∧ X 23 u = _ ∧ X 26 u = _
  rw [e21, e22, e23, e26]
  unfold upd g1
  by_cases q : u = m
  · subst q
    rw [if_pos rfl, if_pos rfl, if_pos rfl, if_pos rfl]
    exact ⟨rfl, rfl, rfl, rfl⟩
  · obtain ⟨a, b, c, d⟩ := h11 u (by omega)
    rw [if_neg q, if_neg q, if_neg q, if_neg q]
    exact ⟨a, b, rfl, d⟩
theorem GW.pos {σ w : Nat → Nat → Int32} {o near far : Int32} {c m : Nat} (h : GW o near far c m σ w) (hc : c ≤ 60) : ∀ j, j < m + 1 → In (g1 w m c j) 61 ∧ 0 < g1 w m c j := by
  obtain ⟨h1, h2, h3, h4, h5, h6, h7, h8, h9, h10, h11⟩ := h
  have key : ∀ x, 1 ≤ x → x ≤ 60 → In (nI x) 61 ∧ 0 < nI x := fun x a b => ⟨In.of (by omega) (by decide), (nI_ltI (a := 0) (b := x) (by decide) (by omega)).mpr (by omega)⟩
  intro j hj
  unfold g1
  by_cases q : j = m
  · rw [if_pos q]; exact key c h4 hc
  · rw [if_neg q, (h11 j (by omega)).2.2.1]
    rcases h2 with ⟨_, rfl⟩ | ⟨_, z, _, _⟩
    · omega
    · exact key _ (z j (by omega)).1 (z j (by omega)).2
theorem GW.rc {σ w : Nat → Nat → Int32} {o near far : Int32} {c m : Nat} (h : GW o near far c m σ w) : rcB (g1 w m c) o near far (m + 1) = rcB (fun j => nI (if j = m then c else gN o near far 7 j)) o near far (m + 1) := by
  refine rcB_cg fun j hj => ?_
  unfold g1
  by_cases q : j = m
  · rw [if_pos q, if_pos q]
  · rw [if_neg q, if_neg q, (h.2.2.2.2.2.2.2.2.2.2 j (by omega)).2.2.1]
/-- behind the count -/
theorem GW.go {τ σ w w2 Y : Nat → Nat → Int32} {o near far : Int32} {c m : Nat} (h : GW o near far c m σ w) (hm : m < 8) (hc : c ≤ 60) (hx : XG σ w2) (hY : AIg (gwS τ o near far (g1 w m c)) Y (m + 1)) (b : Bool) (hb : b = rcB (g1 w m c) o near far (m + 1)) {k : Nat} (hk : k = if b = true then m + 1 else m) : GW o near far (c + 1) k σ (st1 (airU1 w2 Y) 20 9 (nI k)) := by
  have hrc := h.rc
  have e : ∀ r, 20 ≤ r → r < 30 → airU1 w2 Y r = Y (r - 20) := fun r a b => by unfold airU1; rw [if_pos ⟨a, b⟩]
  obtain ⟨y1, y2, y3, y4, y5, y6⟩ := hY
  have hk8 : k ≤ m + 1 := by rw [hk]; split <;> omega
  refine ⟨(hx.up).st (by decide), ?_, by omega, by omega, by omega, by rw [st1_eq], ?_, ?_, ?_, ?_, fun u hu => ?_⟩
  · cases b with
    | true => rw [hk, if_pos rfl]; exact (h.2.1.t hm hc (by rw [← hrc]; exact hb.symm)).1
    | false => rw [hk, if_neg (by decide)]; exact h.2.1.f hm hc (by rw [← hrc, ← hb]; decide)
  · rw [st1_nj (by decide), e 20 (by decide) (by decide), y2]; rfl
  · rw [st1_nj (by decide), e 20 (by decide) (by decide), y3]; rfl
  · rw [st1_nj (by decide), e 20 (by decide) (by decide), y4]; rfl
  · rw [st1_nj (by decide), e 20 (by decide) (by decide), y5]; rfl
  · obtain ⟨a1, a2, a3, a4⟩ := y6 u (by omega)
    rw [st1_ne (by decide), st1_ne (by decide), st1_ne (by decide), st1_ne (by decide), e 21 (by decide) (by decide), e 22 (by decide) (by decide), e 23 (by decide) (by decide), e 26 (by decide) (by decide)]
    rw [gwS_25 (by omega)] at a3
    rw [gwS_73] at a4
    refine ⟨a1, a2, a3.trans ?_, a4⟩
    unfold g1
    by_cases q : u = m
    · rw [if_pos q, q]
      cases b with
      | true => rw [(h.2.1.t hm hc (by rw [← hrc]; exact hb.symm)).2]
      | false => rw [hk, if_neg (by decide)] at hu; omega
    · rw [if_neg q]
      exact (h.2.2.2.2.2.2.2.2.2.2 u (by omega)).2.2.1
theorem gw_ta {τ : Nat → Nat → Int32} {n m : Nat} {o near far : Int32} {g : Nat → Int32} (hX : XT τ n) : TA (gwS τ o near far g) τ m := ⟨fun j _ => rfl, fun j _ => rfl, fun j hj => hX.2.2.2.2.2.2.2.2.1 j hj, fun u _ => In.of (n := 0) (by decide) (by decide)⟩
theorem trg_le {s : Nat → Nat → Int32} {n : Nat} (hn : n ≤ 8) : hitsTg s n (prods s n) + crowdsT s n < 2 ^ 31 := by
  have h1 : hitsTg s n (prods s n) ≤ (prods s n).length * 8 := sumN_le fun p _ => pop_le _
  have h2 := prods_len8 s hn
  have h3 : sumN (crowdF s n) n ≤ n * 8 := sumN_le fun p _ => pop_le _
  have h4 : crowdsT s n ≤ sumN (crowdF s n) n := Nat.div_le_self _ _
  omega
