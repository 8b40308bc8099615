/-! A SEARCH: its cells behind the class's; its users by their places -/
def sce (ad : Nat → Nat) (sa fa : Nat) (ct : Nat → ClassId) (σ : Nat → Nat → Int32) : va_W := [(sa, .inr (8, [.ref (ad 17), .int (σ 40 2), .ref fa, .int (σ 40 0), .int (σ 40 1), .ref (ad 0)])), (fa, .inl (ct 0, 6, .inl (σ 41)))]
theorem sce_cg {ad : Nat → Nat} {sa fa : Nat} {ct : Nat → ClassId} {σ σ2 : Nat → Nat → Int32} (h : σ2 40 = σ 40) (h2 : σ2 41 = σ 41) : sce ad sa fa ct σ2 = sce ad sa fa ct σ := by unfold sce; rw [h, h2]
theorem iw_len {ad : Nat → Nat} {ct : Nat → ClassId} {n : Nat} {τ σ : Nat → Nat → Int32} {T X : va_W} {k : Nat} : (iw ad ct n τ σ (T ++ X))[47 + T.length + k]? = X[k]? := by
  have hl : (fw ad ct n τ σ).length = 47 := rfl
  unfold iw
  rw [← List.append_assoc, List.getElem?_append_right (by rw [List.length_append, hl]; omega)]
  congr 1
  rw [List.length_append, hl]; omega
theorem UT.app {ad : Nat → Nat} {n : Nat} {τ : Nat → Nat → Int32} {T X : va_W} (h : UT ad n τ T) : UT ad n τ (T ++ X) := by
  intro k hk
  have h1 := h k hk
  rw [List.getElem?_append_left (List.getElem?_eq_some_iff.mp h1).1]
  exact h1
theorem sw_set {ad : Nat → Nat} {ct : Nat → ClassId} {n : Nat} {τ σ : Nat → Nat → Int32} {T X : va_W} {k : Nat} {c : Nat × va_E} : (iw ad ct n τ σ (T ++ X)).set (47 + T.length + k) c = iw ad ct n τ σ (T ++ X.set k c) := by
  have hl : (fw ad ct n τ σ).length = 47 := rfl
  unfold iw
  rw [← List.append_assoc, List.set_append_right _ _ (by rw [List.length_append, hl]; omega), ← List.append_assoc, List.length_append, hl, show 47 + T.length + k - (47 + T.length) = k by omega]
section
variable {p : Program} {l : Launch} {e : Env} {R : Room} {s : State} {m : MethodId} {args : Array Value} {below : List Frame} {meth : Method} {c : Code} {Q : State → Prop} {A : Nat → Prop} {D : va_G} {nL cells slots : Nat} {ws : va_W} {pc : Nat} {L : List (Nat × Value)} {S : List Value}
/-- cells that are left lying -/
theorem s_drop {X : va_W} (K : Sm p l e R s m args below meth c Q A D nL cells slots ws pc L S) : Sm p l e R s m args below meth c Q A D nL cells slots (ws ++ X) pc L S := by
  intro H locs ls hP hD hS hl
  refine K H locs ls (fun k q hk => hP k q ?_) ⟨fun i j p q hi hj e => hD.1 i j p q ?_ ?_ e, fun k q hk => hD.2 k q ?_⟩ hS hl
  · rw [List.getElem?_append_left (List.getElem?_eq_some_iff.mp hk).1]; exact hk
  · rw [List.getElem?_append_left (List.getElem?_eq_some_iff.mp hi).1]; exact hi
  · rw [List.getElem?_append_left (List.getElem?_eq_some_iff.mp hj).1]; exact hj
  · rw [List.getElem?_append_left (List.getElem?_eq_some_iff.mp hk).1]; exact hk
theorem iw_drop {ad : Nat → Nat} {ct : Nat → ClassId} {n : Nat} {τ σ : Nat → Nat → Int32} {T X : va_W} (K : Sm p l e R s m args below meth c Q A D nL cells slots (iw ad ct n τ σ T) pc L S) : Sm p l e R s m args below meth c Q A D nL cells slots (iw ad ct n τ σ (T ++ X)) pc L S := by
  have h := s_drop (X := X) K
  unfold iw at h ⊢
  rwa [List.append_assoc] at h
end
def el (S : Nat) : List Nat := (List.range 6).filter (fun u => decide (bit S u = 1))
def posP (S a : Nat) : Nat := if a = 0 then 0 else if a - 1 < (el S).length then (el S).getD (a - 1) 0 + 1 else 7
theorem pos_f1 : ∀ S, S < 64 → nxF S 7 0 + 1 = posP S 1 ∧ (el S).length ≤ 6 := by decide +kernel
theorem pos_f0 : ∀ S, S < 64 → ((el S).length = 0 ↔ S = 0) := by decide +kernel
theorem pos_f2 : ∀ S, S < 64 → ∀ a, a < 6 → a < (el S).length → (nxF S 7 (posP S (a + 1)) + 1 = posP S (a + 2) ∧ avF S (posP S (a + 1) - 1) = posP S a) := by decide +kernel
theorem pos_f3 : ∀ S, S < 64 → ∀ a, a < 6 → a < (el S).length → (bit S (posP S (a + 1) - 1) = 1 ∧ 1 ≤ posP S (a + 1) ∧ posP S (a + 1) ≤ 6 ∧ (el S).getD a 0 = posP S (a + 1) - 1) := by decide +kernel
/-- how many of a set are below u -/
def elN (S u : Nat) : Nat := ((List.range u).filter (fun u => decide (bit S u = 1))).length
theorem el_n6 : ∀ S, S < 64 → elN S 6 = (el S).length := by decide +kernel
theorem el_nle : ∀ S, S < 64 → ∀ u, u < 7 → elN S u ≤ u := by decide +kernel
theorem el_n1 : ∀ S, S < 64 → ∀ u, u < 6 → bit S u = 1 → ((el S).getD (elN S u) 0 = u ∧ elN S (u + 1) = elN S u + 1) := by decide +kernel
theorem el_n0 : ∀ S, S < 64 → ∀ u, u < 6 → ¬ bit S u = 1 → elN S (u + 1) = elN S u := by decide +kernel
theorem vwB_upd {τ : Nat → Nat → Int32} {P : Nat → Int32} {j : Nat} {v b : Int32} : vwB τ (upd P j v) b = st1 (vwB τ P b) 25 j v := by
  unfold vwB
  rw [vw_upd, st1_cm (by decide)]
/-- while a search goes on: the trial, the air, its own ints have changed -/
def XR (σ σ2 : Nat → Nat → Int32) : Prop := ∀ r, r ≠ 3 → r ≠ 40 → ¬ (10 ≤ r ∧ r < 20) → σ2 r = σ r
theorem XR.rf (σ : Nat → Nat → Int32) : XR σ σ := fun _ _ _ _ => rfl
theorem XR.tr {a b c : Nat → Nat → Int32} (h : XR a b) (k : XR b c) : XR a c := fun r h3 h7 hr => (k r h3 h7 hr).trans (h r h3 h7 hr)
theorem XA.xr {a b : Nat → Nat → Int32} (h : XA a b) : XR a b := fun r _ _ hr => h r hr
theorem XR.st {σ : Nat → Nat → Int32} {N : Nat} {v : Int32} : XR σ (st1 σ 3 N v) := fun r h3 _ _ => st1_ne h3
theorem XR.so {σ : Nat → Nat → Int32} {N : Nat} {v : Int32} : XR σ (st1 σ 40 N v) := fun r _ h _ => st1_ne h
theorem RC.put {τ : Nat → Nat → Int32} {n u : Nat} {P : Nat → Int32} {b v : Int32} (h : RC τ P n b) (hv : ¬ b < v) : RC τ (upd P u v) n b := by
  intro w hw
  unfold upd
  split
  · exact Or.inl hv
  · exact h w hw
/-- what the next channel that fits is, of a plan in a band -/
def nxtR (τ : Nat → Nat → Int32) (P : Nat → Int32) (b : Int32) (n u k : Nat) : Nat × Nat × Nat := nfR (vwB τ P b) n u k
def tkV (R : Nat × Nat × Nat) : Int32 := if R.1 = 1 then 0 else if R.1 = 3 then -3 else -2
def upB (τ : Nat → Nat → Int32) (P : Nat → Int32) (b : Int32) (u : Nat) : Nat := tN (highF (vwB τ P b) u)
def loB (τ : Nat → Nat → Int32) (P : Nat → Int32) (u : Nat) : Nat := if P u = 0 then tN (τ 8 u) else tN (P u) + 1
theorem nxt_eq {τ : Nat → Nat → Int32} {P : Nat → Int32} {b : Int32} {n u k : Nat} : nxtR τ P b n u k = nfF (vwB τ P b) n u (upB τ P b u + 1 - loB τ P u) (loB τ P u) k := by
  unfold nxtR nfR fromF upB loB
  rw [vwB_25, vwB_r (by decide) (by decide)]
theorem hi_eq {τ : Nat → Nat → Int32} {P : Nat → Int32} {b : Int32} {u : Nat} : highF (vwB τ P b) u = if τ 9 u < b then τ 9 u else b := by
  unfold highF
  rw [vwB_30, vwB_r (by decide) (by decide)]
theorem hi_in {τ : Nat → Nat → Int32} {P : Nat → Int32} {b : Int32} {n u : Nat} (h : XT τ n) (hu : u < n) (hb : In b 61) : In (highF (vwB τ P b) u) 61 ∧ ¬ b < nI (upB τ P b u) := by
  have h9 := (h.2.2.2.1 u hu).2.1
  unfold upB
  rw [hi_eq]
  by_cases k : τ 9 u < b
  · rw [if_pos k, ← h9.1]
    exact ⟨h9, Int32.not_lt.mpr (Int32.le_of_lt k)⟩
  · rw [if_neg k, ← hb.1]
    exact ⟨hb, Int32.lt_irrefl⟩
theorem lo_eq {τ : Nat → Nat → Int32} {P : Nat → Int32} {n u : Nat} (h : XT τ n) (hu : u < n) (hP : PC P n) (hge : P u = 0 ∨ tN (τ 8 u) ≤ tN (P u)) : (if τ 8 u < P u + nI 1 then P u + nI 1 else τ 8 u) = nI (loB τ P u) ∧ loB τ P u ≤ 61 := by
  obtain ⟨h8, -, h81⟩ := h.2.2.2.1 u hu
  obtain ⟨p1, p2⟩ := hP u hu
  unfold loB
  by_cases e : P u = 0
  · rw [if_pos e, e]
    have e1 : (0 : Int32) + nI 1 = nI 1 := by decide
    rw [e1, h8.1, tN_nI (by have := h8.2; omega)]
    refine ⟨?_, by have := h8.2; omega⟩
    split
    · rename_i k
      have := (nI_ltI (by have := h8.2; omega) (by decide)).mp k
      have : tN (τ 8 u) = 0 := by omega
      omega
    · rfl
  · rw [if_neg e]
    have hge2 := hge.resolve_left e
    have e2 : P u + nI 1 = nI (tN (P u) + 1) := by rw [p1, tN_nI (by omega)]; exact nI_add _ 1
    rw [e2, h8.1]
    refine ⟨?_, by omega⟩
    rw [if_pos ((nI_ltI (by have := h8.2; omega) (by omega)).mpr (by omega))]
