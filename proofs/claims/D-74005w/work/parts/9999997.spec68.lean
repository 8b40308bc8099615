/-! WHAT A USER IS ASKED -/
set_option maxRecDepth 100000
def vAll (P : Cond → Prop) : List Cond → Prop
  | [] => True
  | w :: l => P w ∧ vAll P l
theorem vAll_mem {P : Cond → Prop} : ∀ {L : List Cond}, vAll P L → ∀ w ∈ L, P w
  | [], _, _, h => nomatch h
  | x :: l, h, w, hw => by
    rcases List.mem_cons.mp hw with rfl | hw
    · exact h.1
    · exact vAll_mem h.2 w hw
theorem hat_of {args : Array Value} {s : State} {own X : String} {ic : Nat} {names : List String} (h : vAll (fun w => vx_no w = true → w.before args s = true) (Bundle.ownAtoms0 own ic X names)) : ∀ w ∈ vx_at0 own ic X names, w.before args s = true := fun w hw => vAll_mem h w (List.mem_filter.mp hw).1 (List.mem_filter.mp hw).2
theorem us_right {τ : Nat → Nat → Int32} {P : Nat → Int32} {n j : Nat} (hX : XT τ n) (hP : PC P n) (hj : j < n) : ((decide (0 < P j) && rightB (vw τ P) j) = true) ↔ rgB τ P j = true := by
  have hlo := (hX.2.2.2.1 j hj)
  have hb := hX.2.2.2.2.2.2.1 j hj
  have h3 := hX.2.2.2.2.1
  have e : rightB (vw τ P) j = rgB τ P j := by
    rw [← vwB_self]
    refine rg_right (Or.inr ?_)
    rw [h3.1, hlo.2.1.1]
    intro h9
    have := (nI_ltI (by have := h3.2; omega) (by have := hlo.2.1.2; omega)).mp h9
    omega
  rw [e, Bool.and_eq_true]
  refine ⟨fun h => h.2, fun h => ⟨?_, h⟩⟩
  unfold rgB at h
  simp only [Bool.and_eq_true, Bool.not_eq_true', decide_eq_false_iff_not] at h
  rw [decide_eq_true_eq]
  have hp := hP j hj
  rw [hp.1, hlo.1.1] at h
  have h1 := h.1.1
  rw [nI_ltI (by have := hp.2; omega) (by have := hlo.1.2; omega)] at h1
  rw [hp.1]
  exact (nI_ltI (a := 0) (b := tN (P j)) (by decide) (by have := hp.2; omega)).mpr (by omega)
