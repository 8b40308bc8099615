/-! THE SPEC, part 2: the products as a list -/
set_option maxRecDepth 100000
abbrev Pr : Type := Nat × Nat × Nat × Option Nat
def cI (c : Option Nat) : Int32 := match c with
  | none => -2
  | some w => nI w
def qAt (L : List Pr) (p : Nat) : Pr := L.getD p (0, 0, 0, none)
def pvF (s : Nat → Nat → Int32) (q : Pr) : Int32 := match q.2.2.2 with
  | none => tA q.1 * s 25 q.2.1 + tB q.1 * s 25 q.2.2.1
  | some w => tA q.1 * s 25 q.2.1 + tB q.1 * s 25 q.2.2.1 + tC q.1 * s 25 w
def plF (s : Nat → Nat → Int32) (q : Pr) : Int32 := match q.2.2.2 with
  | none => tA q.1 * s 25 (6 + q.2.1) + absI (tB q.1) * s 25 (6 + q.2.2.1) - s 3 (4 + q.1 / 2)
  | some w => tA q.1 * s 25 (6 + q.2.1) + absI (tB q.1) * s 25 (6 + q.2.2.1) + absI (tC q.1) * s 25 (6 + w) - s 3 (4 + q.1 / 2)
def pcF (s : Nat → Nat → Int32) (q : Pr) : Int32 := s 25 (73 + q.2.1) &&& s 25 (73 + q.2.2.1) &&& (match q.2.2.2 with
  | none => nI 255
  | some w => s 25 (73 + w))
def okP (s : Nat → Nat → Int32) (q : Pr) : Bool := !decide (pvF s q < nI 1) && !decide (s 0 30 < pvF s q) && !decide (pcF s q = 0)
def okL (s : Nat → Nat → Int32) (q : Pr) : List Pr := if okP s q = true then [q] else []
/-- one list behind another, for what is below i -/
def catN (f : Nat → List Pr) : Nat → List Pr
  | 0 => []
  | i + 1 => catN f i ++ f i
def third (k : Nat) : Bool := decide (k = 3) || decide (k = 5)
def ordK (k : Nat) : Bool := decide (k = 0) || decide (k = 3)
def fC (s : Nat → Nat → Int32) (at0 k a b c : Nat) : List Pr := if (thB s c at0 && !decide (c = a) && !decide (c = b)) = true then okL s (k, a, b, some c) else []
def fB (s : Nat → Nat → Int32) (n at0 k a b : Nat) : List Pr := if (thB s a at0 && thB s b at0 && !decide (a = b) && !(ordK k && decide (b < a))) = true then (if third k = true then catN (fC s at0 k a b) n else okL s (k, a, b, none)) else []
def fA (s : Nat → Nat → Int32) (n at0 k a : Nat) : List Pr := catN (fB s n at0 k a) n
def fK (s : Nat → Nat → Int32) (n at0 k : Nat) : List Pr := if s 0 33 &&& bO k = 0 then [] else catN (fA s n at0 k) n
def fS (s : Nat → Nat → Int32) (n at0 : Nat) : List Pr := catN (fK s n at0) 6
def prods (s : Nat → Nat → Int32) (n : Nat) : List Pr := catN (fS s n) 3
theorem catN_len (f : Nat → List Pr) (i : Nat) : (catN f i).length = sumN (fun j => (f j).length) i := by
  induction i with
  | zero => rfl
  | succ i ih => rw [catN, List.length_append, sumN, ih]
theorem sumN_mono (f : Nat → Nat) {i j : Nat} (h : i ≤ j) : sumN f i ≤ sumN f j := by
  induction j with
  | zero => have : i = 0 := by omega
            subst this; exact Nat.le_refl _
  | succ j ih =>
    rcases Nat.lt_or_ge i (j + 1) with h1 | h1
    · have := ih (by omega)
      rw [sumN]; omega
    · have : i = j + 1 := by omega
      subst this; exact Nat.le_refl _
theorem catN_mono (f : Nat → List Pr) {i j : Nat} (h : i ≤ j) : (catN f i).length ≤ (catN f j).length := by
  rw [catN_len, catN_len]; exact sumN_mono _ h
theorem catN_mem {f : Nat → List Pr} {i : Nat} {q : Pr} (h : q ∈ catN f i) : ∃ j, j < i ∧ q ∈ f j := by
  induction i with
  | zero => cases h
  | succ i ih =>
    rcases List.mem_append.mp h with h1 | h1
    · obtain ⟨j, hj, hq⟩ := ih h1
      exact ⟨j, by omega, hq⟩
    · exact ⟨i, by omega, h1⟩
theorem okL_mem {s : Nat → Nat → Int32} {q r : Pr} (h : q ∈ okL s r) : q = r ∧ okP s r = true := by
  unfold okL at h
  split at h
  · exact ⟨List.mem_singleton.mp h, by assumption⟩
  · cases h
/-- a product of n users -/
def WfP (s : Nat → Nat → Int32) (n : Nat) (q : Pr) : Prop := q.1 < 6 ∧ q.2.1 < n ∧ q.2.2.1 < n ∧ q.2.1 ≠ q.2.2.1 ∧ (∀ w, q.2.2.2 = some w → w < n ∧ w ≠ q.2.1 ∧ w ≠ q.2.2.1) ∧ okP s q = true ∧ (third q.1 = true ↔ q.2.2.2 ≠ none)
theorem prods_wf {s : Nat → Nat → Int32} {n : Nat} {q : Pr} (h : q ∈ prods s n) : WfP s n q := by
  obtain ⟨at0, -, h⟩ := catN_mem h
  obtain ⟨k, hk, h⟩ := catN_mem h
  unfold fK at h
  split at h
  · cases h
  obtain ⟨a, ha, h⟩ := catN_mem h
  obtain ⟨b, hb, h⟩ := catN_mem h
  unfold fB at h
  split at h
  · rename_i hc
    simp only [Bool.and_eq_true, Bool.not_eq_true', decide_eq_false_iff_not] at hc
    split at h
    · rename_i h3
      obtain ⟨c, hc2, h⟩ := catN_mem h
      unfold fC at h
      split at h
      · rename_i hd
        simp only [Bool.and_eq_true, Bool.not_eq_true', decide_eq_false_iff_not] at hd
        obtain ⟨rfl, ho⟩ := okL_mem h
        exact ⟨hk, ha, hb, hc.1.2, fun w hw => by cases hw; exact ⟨hc2, hd.1.2, hd.2⟩, ho, by simp [h3]⟩
      · cases h
    · rename_i h3
      obtain ⟨rfl, ho⟩ := okL_mem h
      exact ⟨hk, ha, hb, hc.1.2, fun w hw => (by cases hw), ho, by simp [h3]⟩
  · cases h
/-- how many there can be -/
def cntC (n a b : Nat) : Nat := sumN (fun c => if (!decide (c = a) && !decide (c = b)) = true then 1 else 0) n
def cntB (k n a : Nat) : Nat := sumN (fun b => if (!decide (a = b) && !(ordK k && decide (b < a))) = true then (if third k = true then cntC n a b else 1) else 0) n
theorem cnt_all : ∀ n, n ≤ 6 → sumN (fun k => sumN (fun a => cntB k n a) n) 6 ≤ 285 := by decide +kernel
theorem sumN_le2 {f g : Nat → Nat} {i : Nat} (h : ∀ u, u < i → f u ≤ g u) : sumN f i ≤ sumN g i := by
  induction i with
  | zero => exact Nat.le_refl _
  | succ i ih =>
    have h1 := ih (fun u hu => h u (by omega))
    have h2 := h i (by omega)
    rw [sumN, sumN]; omega
theorem okL_len (s : Nat → Nat → Int32) (q : Pr) : (okL s q).length ≤ 1 := by
  unfold okL; split <;> simp
theorem fB_len (s : Nat → Nat → Int32) (n at0 k a : Nat) : (fA s n at0 k a).length ≤ if thB s a at0 = true then cntB k n a else 0 := by
  unfold fA
  rw [catN_len]
  split
  · rename_i ht
    unfold cntB
    refine sumN_le2 fun b _ => ?_
    unfold fB
    by_cases h2 : (!decide (a = b) && !(ordK k && decide (b < a))) = true
    · rw [if_pos h2]
      split
      · split
        · rw [catN_len]
          unfold cntC
          refine sumN_le2 fun c _ => ?_
          unfold fC
          by_cases h3 : (!decide (c = a) && !decide (c = b)) = true
          · rw [if_pos h3]
            split
            · exact okL_len _ _
            · exact Nat.zero_le _
          · rw [if_neg h3, if_neg]
            · exact Nat.le_refl _
            · intro h; apply h3
              simp only [Bool.and_eq_true] at h ⊢
              exact ⟨h.1.2, h.2⟩
        · exact okL_len _ _
      · exact Nat.zero_le _
    · rw [if_neg h2, if_neg]
      · exact Nat.le_refl _
      · intro h; apply h2
        simp only [Bool.and_eq_true] at h ⊢
        exact ⟨h.1.2, h.2⟩
  · rename_i ht
    have : sumN (fun j => (fB s n at0 k a j).length) n ≤ n * 0 := sumN_le fun b _ => by
      unfold fB
      rw [if_neg]
      · exact Nat.le_refl _
      · intro h; apply ht
        simp only [Bool.and_eq_true] at h
        exact h.1.1.1
    omega
theorem th_one (s : Nat → Nat → Int32) (a x : Nat) : (if thB s a 0 = true then x else 0) + (if thB s a 1 = true then x else 0) + (if thB s a 2 = true then x else 0) ≤ x := by
  unfold thB
  by_cases h0 : s 6 a = nI 0
  · rw [h0]; simp [show ¬ (nI 0 = nI 1) by decide, show ¬ (nI 0 = nI 2) by decide]; split <;> omega
  · by_cases h1 : s 6 a = nI 1
    · rw [h1]; simp [show ¬ (nI 1 = nI 0) by decide, show ¬ (nI 1 = nI 2) by decide]; split <;> omega
    · simp [h0, h1]; split <;> omega
theorem sumN_add (f g : Nat → Nat) (i : Nat) : sumN (fun u => f u + g u) i = sumN f i + sumN g i := by
  induction i with
  | zero => rfl
  | succ i ih => rw [sumN, sumN, sumN, ih]; omega
theorem fS_len (s : Nat → Nat → Int32) (n at0 : Nat) : (fS s n at0).length ≤ sumN (fun k => sumN (fun a => if thB s a at0 = true then cntB k n a else 0) n) 6 := by
  unfold fS
  rw [catN_len]
  refine sumN_le2 fun k _ => ?_
  unfold fK
  split
  · exact Nat.zero_le _
  · rw [catN_len]
    exact sumN_le2 fun a _ => fB_len s n at0 k a
theorem prods_len {s : Nat → Nat → Int32} {n : Nat} (hn : n ≤ 6) : (prods s n).length ≤ 285 := by
  have h0 := fS_len s n 0
  have h1 := fS_len s n 1
  have h2 := fS_len s n 2
  have e : (prods s n).length = 0 + (fS s n 0).length + (fS s n 1).length + (fS s n 2).length := by
    unfold prods; rw [catN_len]; rfl
  have hc := cnt_all n hn
  have hs : sumN (fun k => sumN (fun a => if thB s a 0 = true then cntB k n a else 0) n) 6 + sumN (fun k => sumN (fun a => if thB s a 1 = true then cntB k n a else 0) n) 6 + sumN (fun k => sumN (fun a => if thB s a 2 = true then cntB k n a else 0) n) 6 ≤ sumN (fun k => sumN (fun a => cntB k n a) n) 6 := by
    rw [← sumN_add, ← sumN_add]
    refine sumN_le2 fun k _ => ?_
    rw [← sumN_add, ← sumN_add]
    exact sumN_le2 fun a _ => th_one s a _
  omega
/-- the rest of the state stays -/
def HR (s0 s : Nat → Nat → Int32) : Prop := (∀ r, ¬ (34 ≤ r ∧ r ≤ 40) → r ≠ 0 → s r = s0 r) ∧ ∀ j, j ≠ 41 → s 0 j = s0 0 j
theorem HR.rf (s : Nat → Nat → Int32) : HR s s := ⟨fun _ _ _ => rfl, fun _ _ => rfl⟩
theorem HR.tr {s0 s1 s2 : Nat → Nat → Int32} (h : HR s0 s1) (k : HR s1 s2) : HR s0 s2 := ⟨fun r a b => (k.1 r a b).trans (h.1 r a b), fun j a => (k.2 j a).trans (h.2 j a)⟩
theorem st1_ne {s : Nat → Nat → Int32} {r N a : Nat} {v : Int32} (h : a ≠ r) : st1 s r N v a = s a := by simp [st1, upR, h]
theorem st1_eq {s : Nat → Nat → Int32} {r N : Nat} {v : Int32} : st1 s r N v r N = v := by simp [st1, upR, upd]
theorem st1_nj {s : Nat → Nat → Int32} {r N j : Nat} {v : Int32} (h : j ≠ N) : st1 s r N v r j = s r j := by simp [st1, upR, upd, h]
theorem HR.p {s : Nat → Nat → Int32} {N r : Nat} {v : Int32} (h : 34 ≤ r ∧ r ≤ 40) : HR s (st1 s r N v) := ⟨fun q a b => st1_ne (by omega), fun j _ => by rw [st1_ne (by omega)]⟩
theorem HR.c {s : Nat → Nat → Int32} {v : Int32} : HR s (st1 s 0 41 v) := ⟨fun q a b => st1_ne b, fun j a => st1_nj a⟩
/-- the rows of products hold the list -/
def HQr (s0 s : Nat → Nat → Int32) (i : Nat) (q : Pr) : Prop := s 34 i = nI q.1 ∧ s 35 i = nI q.2.1 ∧ s 36 i = nI q.2.2.1 ∧ s 37 i = cI q.2.2.2 ∧ s 38 i = pvF s0 q ∧ s 39 i = plF s0 q ∧ s 40 i = pcF s0 q
def HL (s0 s : Nat → Nat → Int32) (L : List Pr) : Prop := HR s0 s ∧ s 0 41 = nI L.length ∧ ∀ i q, L[i]? = some q → HQr s0 s i q
theorem HL.nil {s0 s : Nat → Nat → Int32} (h : HR s0 s) : HL s0 (st1 s 0 41 (nI 0)) [] := ⟨h.tr HR.c, st1_eq, fun i q h => by simp at h⟩
theorem pvF_cg {s0 s : Nat → Nat → Int32} (h : s 25 = s0 25) (q : Pr) : pvF s q = pvF s0 q := by unfold pvF; rw [h]
theorem plF_cg {s0 s : Nat → Nat → Int32} (h : s 25 = s0 25) (h3 : s 3 = s0 3) (q : Pr) : plF s q = plF s0 q := by unfold plF; rw [h, h3]
theorem pcF_cg {s0 s : Nat → Nat → Int32} (h : s 25 = s0 25) (q : Pr) : pcF s q = pcF s0 q := by unfold pcF; rw [h]
theorem okP_cg {s0 s : Nat → Nat → Int32} (h : HR s0 s) (q : Pr) : okP s q = okP s0 q := by
  unfold okP
  rw [pvF_cg (h.1 25 (by omega) (by omega)), pcF_cg (h.1 25 (by omega) (by omega)), h.2 30 (by omega)]
theorem thB_cg {s0 s : Nat → Nat → Int32} (h : HR s0 s) (u a : Nat) : thB s u a = thB s0 u a := by
  unfold thB
  rw [h.1 25 (by omega) (by omega), h.1 6 (by omega) (by omega)]
/-- the state when a product is laid at K -/
def addS (s : Nat → Nat → Int32) (q : Pr) (K : Nat) : Nat → Nat → Int32 := st1 (st1 (st1 (st1 (st1 (st1 (st1 (st1 s 40 K (pcF s q)) 34 K (nI q.1)) 35 K (nI q.2.1)) 36 K (nI q.2.2.1)) 37 K (cI q.2.2.2)) 38 K (pvF s q)) 39 K (plF s q)) 0 41 (nI (K + 1))
theorem HL.add {s0 s : Nat → Nat → Int32} {L : List Pr} {q : Pr} (h : HL s0 s L) : HL s0 (addS s q L.length) (L ++ [q]) := by
  obtain ⟨h1, h2, h3⟩ := h
  have hr : HR s0 (addS s q L.length) := h1.tr (((((((HR.p (by omega)).tr (HR.p (by omega))).tr (HR.p (by omega))).tr (HR.p (by omega))).tr (HR.p (by omega))).tr (HR.p (by omega))).tr (HR.p (by omega)) |>.tr HR.c)
  refine ⟨hr, ?_, fun i r hi => ?_⟩
  · rw [addS, st1_eq, List.length_append]; rfl
  · rcases Nat.lt_or_ge i L.length with hl | hl
    · rw [List.getElem?_append_left hl] at hi
      obtain ⟨a, b, c, d, e, f, g⟩ := h3 i r hi
      have hne : i ≠ L.length := by omega
      refine ⟨?_, ?_, ?_, ?_, ?_, ?_, ?_⟩ <;> simp [addS, st1, upR, upd, hne, *]
    · rw [List.getElem?_append_right hl] at hi
      have : i = L.length := by
        have := (List.getElem?_eq_some_iff.mp hi).1
        simp at this; omega
      subst this
      simp at hi
      subst hi
      refine ⟨?_, ?_, ?_, ?_, ?_, ?_, ?_⟩
      · simp [addS, st1, upR, upd]
      · simp [addS, st1, upR, upd]
      · simp [addS, st1, upR, upd]
      · simp [addS, st1, upR, upd]
      · simp [addS, st1, upR, upd, pvF_cg (h1.1 25 (by omega) (by omega))]
      · simp [addS, st1, upR, upd, plF_cg (h1.1 25 (by omega) (by omega)) (h1.1 3 (by omega) (by omega))]
      · simp [addS, st1, upR, upd, pcF_cg (h1.1 25 (by omega) (by omega))]
theorem HL.ok {s0 s : Nat → Nat → Int32} {L : List Pr} {q : Pr} (h : HL s0 s L) (ho : okP s q = true) : HL s0 (addS s q L.length) (L ++ okL s0 q) := by
  rw [okP_cg h.1] at ho
  rw [okL, if_pos ho]
  exact h.add
theorem HL.no {s0 s : Nat → Nat → Int32} {L : List Pr} {q : Pr} (h : HL s0 s L) (ho : ¬ okP s q = true) : HL s0 s (L ++ okL s0 q) := by
  rw [okP_cg h.1] at ho
  rw [okL, if_neg ho, List.append_nil]
  exact h
theorem okL_one {s0 s : Nat → Nat → Int32} {L : List Pr} {q : Pr} (h : HL s0 s L) (hl : (L ++ okL s0 q).length ≤ 300) (ho : okP s q = true) : L.length < 300 := by
  rw [okP_cg h.1] at ho
  rw [okL, if_pos ho, List.length_append] at hl
  simp at hl; omega
theorem nI_m2 {w : Nat} (h : w < 2 ^ 31) : ¬ nI w = -2 := by
  intro hq
  have := nI_toInt h
  rw [hq] at this
  have e : (-2 : Int32).toInt = -2 := by decide
  rw [e] at this
  omega
