/-! THE SPEC, part 3: what a product hits, what is clean; which parts of the state they look at -/
set_option maxRecDepth 100000
def inQ (q : Pr) (u : Nat) : Bool := decide (q.2.1 = u) || decide (q.2.2.1 = u) || decide (q.2.2.2 = some u)
def linkQ (s : Nat → Nat → Int32) (q : Pr) (u : Nat) : Int32 := s 12 (3 * tN (s 6 q.2.1) + tN (s 6 u))
def mayQ (s : Nat → Nat → Int32) (q : Pr) (u : Nat) : Bool := !decide (plF s q < 0) && !decide (s 25 u = 0) && !inQ q u && !decide (pcF s q &&& s 25 (73 + u) = 0) && (decide (s 6 u = s 6 q.2.1) || (!decide (linkQ s q u = -2) && !decide (plF s q < linkQ s q u)))
def hitQ (s : Nat → Nat → Int32) (q : Pr) (u : Nat) : Bool := mayQ s q u && !decide (s 0 31 < absI (s 25 u - pvF s q))
def hsQ (s : Nat → Nat → Int32) (n : Nat) (q : Pr) : Nat := setN (hitQ s q) n
theorem hsQ_64 (s : Nat → Nat → Int32) {n : Nat} (q : Pr) (h : n ≤ 6) : hsQ s n q < 64 := setN_64 _ h
def cleanF (s : Nat → Nat → Int32) (n : Nat) (L : List Pr) (p : Nat) : Bool := decide (hsQ s n (qAt L p) = 0)
def allB (f : Nat → Bool) : Nat → Bool
  | 0 => true
  | i + 1 => allB f i && f i
theorem allB_f {f : Nat → Bool} {i n : Nat} (hi : i < n) (h : ¬ f i = true) : ¬ allB f n = true := by
  induction n with
  | zero => omega
  | succ n ih =>
    rw [allB, Bool.and_eq_true]
    rintro ⟨h1, h2⟩
    rcases Nat.lt_or_ge i n with q | q
    · exact ih q h1
    · have : i = n := by omega
      subst this; exact h h2
theorem allB_s {f : Nat → Bool} {i : Nat} (h : allB f i = true) (k : f i = true) : allB f (i + 1) = true := by rw [allB, h, k]; rfl
theorem allB_iff {f : Nat → Bool} {n : Nat} : allB f n = true ↔ ∀ i, i < n → f i = true := by
  constructor
  · intro h i hi
    by_cases hf : f i = true
    · exact hf
    · exact absurd h (allB_f hi hf)
  · intro h
    induction n with
    | zero => rfl
    | succ n ih => exact allB_s (ih (fun i hi => h i (by omega))) (h n (by omega))
theorem allB_congr {f g : Nat → Bool} {i : Nat} (h : ∀ u, u < i → f u = g u) : allB f i = allB g i := by
  induction i with
  | zero => rfl
  | succ i ih => rw [allB, allB, ih (fun u hu => h u (by omega)), h i (by omega)]
def hitsF (s : Nat → Nat → Int32) (n : Nat) (L : List Pr) (p : Nat) : Nat := pop (hsQ s n (qAt L p))
def madeF (s : Nat → Nat → Int32) (n : Nat) (L : List Pr) (u p : Nat) : Nat := if inQ (qAt L p) u = true then pop (hsQ s n (qAt L p)) else 0
def heardF (s : Nat → Nat → Int32) (L : List Pr) (p : Nat) : Nat := if plF s (qAt L p) < 0 then 0 else 1
def crowdF (s : Nat → Nat → Int32) (n u : Nat) : Nat := pop (setN (crowdB s u) n)
def hitsT (s : Nat → Nat → Int32) (n : Nat) (L : List Pr) : Nat := sumN (hitsF s n L) L.length
def crowdsT (s : Nat → Nat → Int32) (n : Nat) : Nat := sumN (crowdF s n) n / 2
def madeN (s : Nat → Nat → Int32) (n : Nat) (L : List Pr) (u : Nat) : Nat := sumN (madeF s n L u) L.length
def heardN (s : Nat → Nat → Int32) (L : List Pr) : Nat := sumN (heardF s L) L.length
def calmB (s : Nat → Nat → Int32) (n u : Nat) : Bool := !decide (0 < s 25 u) || (rightB s u && decide (setN (crowdB s u) n = 0))
def cleanB (s : Nat → Nat → Int32) (n : Nat) : Bool := allB (calmB s n) n && allB (cleanF s n (prods s n)) (prods s n).length
def mostW (f : Nat → Nat) : Nat → Nat
  | 0 => 0
  | u + 1 => if mostW f u < f u then f u else mostW f u
def bestW (f : Nat → Nat) : Nat → Int32
  | 0 => -2
  | u + 1 => if mostW f u < f u then nI u else bestW f u
theorem mostW_le {f : Nat → Nat} {k : Nat} (h : ∀ u, f u ≤ k) (i : Nat) : mostW f i ≤ k := by
  induction i with
  | zero => exact Nat.zero_le _
  | succ i ih => rw [mostW]; split; exact h i; exact ih
theorem madeN_le (s : Nat → Nat → Int32) (n : Nat) {L : List Pr} (hl : L.length ≤ 300) (u : Nat) : madeN s n L u ≤ 2400 := by
  unfold madeN
  have := sumN_le (f := madeF s n L u) (i := L.length) (k := 8) (fun p _ => by unfold madeF; split <;> first | exact pop_le _ | exact Nat.zero_le _)
  omega
/-- the parts that the answers look at -/
def CE (s0 s : Nat → Nat → Int32) : Prop := s 25 = s0 25 ∧ s 6 = s0 6 ∧ s 3 = s0 3 ∧ s 12 = s0 12 ∧ s 8 = s0 8 ∧ s 9 = s0 9 ∧ s 0 30 = s0 0 30 ∧ s 0 31 = s0 0 31 ∧ s 0 32 = s0 0 32 ∧ s 0 33 = s0 0 33
theorem HR.ce {s0 s : Nat → Nat → Int32} (h : HR s0 s) : CE s0 s := ⟨h.1 25 (by omega) (by omega), h.1 6 (by omega) (by omega), h.1 3 (by omega) (by omega), h.1 12 (by omega) (by omega), h.1 8 (by omega) (by omega), h.1 9 (by omega) (by omega), h.2 30 (by omega), h.2 31 (by omega), h.2 32 (by omega), h.2 33 (by omega)⟩
theorem CE.sy {s0 s : Nat → Nat → Int32} (h : CE s0 s) : CE s s0 := by
  obtain ⟨a, b, c, d, e, f, g, i, j, k⟩ := h
  exact ⟨a.symm, b.symm, c.symm, d.symm, e.symm, f.symm, g.symm, i.symm, j.symm, k.symm⟩
theorem thB_ce {s0 s : Nat → Nat → Int32} (h : CE s0 s) : thB s = thB s0 := by
  obtain ⟨a, b, -⟩ := h
  funext u v; simp only [thB, a, b]
theorem pvF_ce {s0 s : Nat → Nat → Int32} (h : CE s0 s) : pvF s = pvF s0 := funext fun q => pvF_cg h.1 q
theorem plF_ce {s0 s : Nat → Nat → Int32} (h : CE s0 s) : plF s = plF s0 := funext fun q => plF_cg h.1 h.2.2.1 q
theorem pcF_ce {s0 s : Nat → Nat → Int32} (h : CE s0 s) : pcF s = pcF s0 := funext fun q => pcF_cg h.1 q
theorem okL_ce {s0 s : Nat → Nat → Int32} (h : CE s0 s) : okL s = okL s0 := by
  funext q
  unfold okL okP
  rw [pvF_ce h, pcF_ce h, h.2.2.2.2.2.2.1]
theorem prods_ce {s0 s : Nat → Nat → Int32} (h : CE s0 s) (n : Nat) : prods s n = prods s0 n := by
  have hC : fC s = fC s0 := by funext a b c d; unfold fC; rw [thB_ce h, okL_ce h]
  have hB : fB s = fB s0 := by funext a b c d e; unfold fB; rw [thB_ce h, okL_ce h, hC]
  have hA : fA s = fA s0 := by funext a b c d; unfold fA; rw [hB]
  have hK : fK s = fK s0 := by funext a b c; unfold fK; rw [hA, h.2.2.2.2.2.2.2.2.2]
  have hS : fS s = fS s0 := by funext a b; unfold fS; rw [hK]
  unfold prods; rw [hS]
theorem hitQ_ce {s0 s : Nat → Nat → Int32} (h : CE s0 s) : hitQ s = hitQ s0 := by
  funext q u
  unfold hitQ mayQ linkQ
  rw [pvF_ce h, pcF_ce h, plF_ce h, h.1, h.2.1, h.2.2.2.1, h.2.2.2.2.2.2.2.1]
theorem mayQ_ce {s0 s : Nat → Nat → Int32} (h : CE s0 s) : mayQ s = mayQ s0 := by
  funext q u
  unfold mayQ linkQ
  rw [pcF_ce h, plF_ce h, h.1, h.2.1, h.2.2.2.1]
theorem hsQ_ce {s0 s : Nat → Nat → Int32} (h : CE s0 s) : hsQ s = hsQ s0 := by
  funext n q; unfold hsQ; rw [hitQ_ce h]
theorem crowdB_ce {s0 s : Nat → Nat → Int32} (h : CE s0 s) : crowdB s = crowdB s0 := by
  funext a b; unfold crowdB; rw [h.1, h.2.1, h.2.2.2.2.2.2.2.2.1]
theorem rightB_ce {s0 s : Nat → Nat → Int32} (h : CE s0 s) : rightB s = rightB s0 := by
  funext u; unfold rightB highF; rw [h.1, h.2.2.2.2.1, h.2.2.2.2.2.1, h.2.2.2.2.2.2.1]
theorem calmB_ce {s0 s : Nat → Nat → Int32} (h : CE s0 s) : calmB s = calmB s0 := by
  funext n u; unfold calmB; rw [h.1, rightB_ce h, crowdB_ce h]
theorem cleanB_ce {s0 s : Nat → Nat → Int32} (h : CE s0 s) : cleanB s = cleanB s0 := by
  funext n; unfold cleanB; rw [calmB_ce h, prods_ce h, show cleanF s n = cleanF s0 n from funext fun L => funext fun p => by unfold cleanF; rw [hsQ_ce h]]
theorem crowdsT_ce {s0 s : Nat → Nat → Int32} (h : CE s0 s) : crowdsT s = crowdsT s0 := by
  funext n; unfold crowdsT; rw [show crowdF s n = crowdF s0 n from funext fun u => by unfold crowdF; rw [crowdB_ce h]]
theorem hitsT_ce {s0 s : Nat → Nat → Int32} (h : CE s0 s) : hitsT s = hitsT s0 := by
  funext n L; unfold hitsT; rw [show hitsF s n L = hitsF s0 n L from funext fun u => by unfold hitsF; rw [hsQ_ce h]]
theorem madeN_ce {s0 s : Nat → Nat → Int32} (h : CE s0 s) : madeN s = madeN s0 := by
  funext n L u; unfold madeN; rw [show madeF s n L u = madeF s0 n L u from funext fun p => by unfold madeF; rw [hsQ_ce h]]
/-- a state with its products laid, of n users -/
def HW (s0 s : Nat → Nat → Int32) (L : List Pr) (n : Nat) : Prop := HL s0 s L ∧ (∀ q ∈ L, WfP s0 n q) ∧ L.length ≤ 300 ∧ s0 3 7 = nI n ∧ n ≤ 6 ∧ ∀ v, v < n → In (s0 6 v) 3
theorem qAt_at {L : List Pr} {p : Nat} (h : p < L.length) : L[p]? = some (qAt L p) := by
  unfold qAt; rw [List.getD_eq_getElem?_getD, List.getElem?_eq_getElem h]; rfl
theorem qAt_mem {L : List Pr} {p : Nat} (h : p < L.length) : qAt L p ∈ L := List.mem_of_getElem? (qAt_at h)
theorem HW.row {s0 s : Nat → Nat → Int32} {L : List Pr} {n p : Nat} (h : HW s0 s L n) (hp : p < L.length) : HQr s0 s p (qAt L p) ∧ WfP s0 n (qAt L p) := ⟨h.1.2.2 p _ (qAt_at hp), h.2.1 _ (qAt_mem hp)⟩
theorem HW.users {s0 s : Nat → Nat → Int32} {L : List Pr} {n : Nat} (h : HW s0 s L n) : s 3 7 = nI n := by rw [h.1.1.1 3 (by omega) (by omega)]; exact h.2.2.2.1
theorem HW.pa {s0 s : Nat → Nat → Int32} {L : List Pr} {n p : Nat} (h : HW s0 s L n) (hp : p < L.length) : In (s 35 p) 12 := by
  obtain ⟨h1, h2⟩ := h.row hp
  rw [h1.2.1]
  exact In.of (by have := h2.2.1; have := h.2.2.2.2.1; omega) (by decide)
theorem HW.ps {s0 s : Nat → Nat → Int32} {L : List Pr} {n p : Nat} (h : HW s0 s L n) (hp : p < L.length) : In (s 6 (tN (s 35 p))) 3 := by
  obtain ⟨h1, h2⟩ := h.row hp
  have h3 := h2.2.1
  have h4 := h.2.2.2.2.1
  rw [h1.2.1, tN_nI (by omega), h.1.1.1 6 (by omega) (by omega)]
  exact h.2.2.2.2.2 _ h3
theorem HW.pt {s0 s : Nat → Nat → Int32} {L : List Pr} {n : Nat} (h : HW s0 s L n) : ∀ v, v < n → In (s 6 v) 3 := by
  rw [h.1.1.1 6 (by omega) (by omega)]; exact h.2.2.2.2.2
theorem isIn_q {s0 s : Nat → Nat → Int32} {q : Pr} {p n u : Nat} (h : HQr s0 s p q) (hw : WfP s0 n q) (hn : n ≤ 6) (hu : u < 6) : isInB s p u = inQ q u := by
  obtain ⟨-, h1, h2, h3, -⟩ := h
  obtain ⟨-, w1, w2, -, w3, -⟩ := hw
  unfold isInB inQ
  rw [h1, h2, h3]
  have e1 : decide (nI q.2.1 = nI u) = decide (q.2.1 = u) := by rw [decide_eq_decide]; exact nI_eq (by omega) (by omega)
  have e2 : decide (nI q.2.2.1 = nI u) = decide (q.2.2.1 = u) := by rw [decide_eq_decide]; exact nI_eq (by omega) (by omega)
  have e3 : decide (cI q.2.2.2 = nI u) = decide (q.2.2.2 = some u) := by
    rw [decide_eq_decide]
    cases hc : q.2.2.2 with
    | none => simp only [cI]; exact ⟨fun h => absurd h.symm (nI_m2 (by omega)), fun h => by cases h⟩
    | some w =>
      have := (w3 w hc).1
      simp only [cI, Option.some.injEq]
      exact nI_eq (by omega) (by omega)
  rw [e1, e2, e3]
theorem HW.isIn {s0 s : Nat → Nat → Int32} {L : List Pr} {n p u : Nat} (h : HW s0 s L n) (hp : p < L.length) (hu : u < 6) : isInB s p u = inQ (qAt L p) u := isIn_q (h.row hp).1 (h.row hp).2 h.2.2.2.2.1 hu
theorem HW.may {s0 s : Nat → Nat → Int32} {L : List Pr} {n p u : Nat} (h : HW s0 s L n) (hp : p < L.length) (hu : u < 6) : mayB s p u = mayQ s0 (qAt L p) u := by
  obtain ⟨h1, h2⟩ := h.row hp
  have ha := h2.2.1
  have hn := h.2.2.2.2.1
  have ce := h.1.1.ce
  unfold mayB mayQ linkF linkQ
  rw [h.isIn hp hu, h1.2.1, h1.2.2.2.2.2.1, h1.2.2.2.2.2.2, ce.1, ce.2.1, ce.2.2.2.1, tN_nI (by omega)]
theorem HW.hit {s0 s : Nat → Nat → Int32} {L : List Pr} {n p u : Nat} (h : HW s0 s L n) (hp : p < L.length) (hu : u < 6) : hitB s p u = hitQ s0 (qAt L p) u := by
  obtain ⟨h1, h2⟩ := h.row hp
  have ce := h.1.1.ce
  unfold hitB hitQ
  rw [h.may hp hu, h1.2.2.2.2.1, ce.1, ce.2.2.2.2.2.2.2.1]
theorem HW.hs {s0 s : Nat → Nat → Int32} {L : List Pr} {n p : Nat} (h : HW s0 s L n) (hp : p < L.length) : setN (hitB s p) n = hsQ s0 n (qAt L p) := setN_congr fun u hu => h.hit hp (by have := h.2.2.2.2.1; omega)
theorem HW.of {s0 s : Nat → Nat → Int32} {n : Nat} (h : HL s0 s (prods s0 n)) (hn : s0 3 7 = nI n) (hn6 : n ≤ 6) (hs : ∀ v, v < n → In (s0 6 v) 3) : HW s0 s (prods s0 n) n := ⟨h, fun q hq => prods_wf hq, by have := prods_len (s := s0) hn6; omega, hn, hn6, hs⟩
/-- the users' data are as they should be -/
def CM (s : Nat → Nat → Int32) (n : Nat) : Prop := s 3 7 = nI n ∧ n ≤ 6 ∧ (∀ v, v < n → In (s 6 v) 3) ∧ ∀ v, v < n → In (s 25 v) 61
theorem CM.hr {s0 s : Nat → Nat → Int32} {n : Nat} (h : CM s0 n) (k : HR s0 s) : CM s n := by
  obtain ⟨a, b, c, d⟩ := h
  refine ⟨?_, b, ?_, ?_⟩
  · rw [k.ce.2.2.1]; exact a
  · rw [k.ce.2.1]; exact c
  · rw [k.ce.1]; exact d
theorem CM.put {s : Nat → Nat → Int32} {n u : Nat} {v : Int32} (h : CM s n) (hv : In v 61) : CM (st1 s 25 u v) n := by
  obtain ⟨a, b, c, d⟩ := h
  refine ⟨by rw [st1_ne (by decide)]; exact a, b, by rw [st1_ne (by decide)]; exact c, fun w hw => ?_⟩
  by_cases e : w = u
  · subst e; rw [st1_eq]; exact hv
  · rw [st1_nj e]; exact d w hw
theorem upd_self {f : Nat → Int32} {k : Nat} {v w : Int32} (h : v = f k) : upd (upd f k w) k v = f := by
  funext j
  by_cases e : j = k
  · subst e; simp [upd, h]
  · simp [upd, e]
theorem HR.put {s0 s : Nat → Nat → Int32} {r u : Nat} {v : Int32} (hr : ¬ (34 ≤ r ∧ r ≤ 40)) (h0 : r ≠ 0) (h : HR s0 s) : HR (st1 s0 r u v) (st1 s r u v) := by
  refine ⟨fun q a b => ?_, fun j a => ?_⟩
  · by_cases e : q = r
    · subst e; simp only [st1, upR]; simp [h.1 q a b]
    · rw [st1_ne e, st1_ne e]; exact h.1 q a b
  · rw [st1_ne (by omega), st1_ne (by omega)]; exact h.2 j a
theorem HR.undo {s0 s : Nat → Nat → Int32} {r u : Nat} {v : Int32} (hr : ¬ (34 ≤ r ∧ r ≤ 40)) (h0 : r ≠ 0) (h : HR (st1 s0 r u v) s) : HR s0 (st1 s r u (s0 r u)) := by
  refine ⟨fun q a b => ?_, fun j a => ?_⟩
  · by_cases e : q = r
    · subst e
      have e1 := h.1 q a b
      simp only [st1, upR] at e1 ⊢
      simp only [if_true] at e1 ⊢
      rw [e1]; exact upd_self rfl
    · have e1 := h.1 q a b
      rw [st1_ne e] at e1 ⊢; exact e1
  · have e1 := h.2 j a
    rw [st1_ne (by omega)] at e1 ⊢; exact e1
