/-! THE SPEC, part 15: for the scanner -/
section
variable {p : Program} {l : Launch} {e : Env} {R : Room} {s : State} {m : MethodId} {args : Array Value} {below : List Frame} {meth : Method} {c : Code} {Q : State → Prop} {A : Nat → Prop} {D : va_G} {nL cells slots : Nat} {ws : va_W} {pc : Nat} {L : List (Nat × Value)} {S : List Value}
variable {cc : ByteArray} {own : String} {tys : List (ClassId × FieldType)} {gt : Nat → Nat} {ret : Option FieldType}
theorem s_ldcS (E : En p s m args meth c A cc nL own ret D tys gt) {index q : Nat} {o tx : String} (hZ : vk_R o index tx q s) (ho : o = own) (d : decode cc pc = .ok (.ldc index, 2)) (K : Sm p l e R s m args below meth c Q A D nL cells slots ws (pc + 2) L (.ref q :: S)) : Sm p l e R s m args below meth c Q A D nL cells slots ws pc L S := by
  subst ho
  exact fun H locs ls hP hD hS hl => va_ldcS E.1 E.2.1 E.2.2.2.1 hZ d (K H locs ls hP hD hS hl)
end
theorem wSt_62 : ∀ w, w ≤ 11 → wSt w ≤ 62 ∧ (wSt w < 62 → w < 11) ∧ (w < 11 → wSt w < 62) := by decide +kernel
theorem match_f {t : Nat → Int32} {b e w i : Nat} (hst : ¬ (wSt w + i < wEn w ∧ b + i < e ∧ sameB t b e w i = true)) (h : ¬ (wSt w + i = wEn w ∧ b + i = e)) (hm : allB (sameB t b e w) i = true) (hi : wSt w + i ≤ wEn w) (hbi : b + i ≤ e) : ¬ matchB t b e w = true := by
  intro h9
  unfold matchB at h9
  simp only [Bool.and_eq_true, decide_eq_true_eq] at h9
  by_cases q : wSt w + i < wEn w
  · exact hst ⟨q, by omega, allB_iff.mp h9.2 i (by omega)⟩
  · exact h ⟨by omega, by omega⟩
theorem match_t {t : Nat → Int32} {b e w i : Nat} (h1 : wSt w + i = wEn w) (h2 : b + i = e) (hm : allB (sameB t b e w) i = true) (hi : wSt w + i ≤ wEn w) : matchB t b e w = true := by
  unfold matchB
  simp only [Bool.and_eq_true, decide_eq_true_eq]
  exact ⟨by omega, by rw [show e - b = i by omega]; exact hm⟩
theorem see_v {t : Nat → Int32} {n k m : Nat} (h : see t n k = nI m) (hm : m < 1000) : k < n ∧ t k = nI m := by
  unfold see at h
  by_cases q : k < n
  · rw [if_pos q] at h; exact ⟨q, h⟩
  · rw [if_neg q] at h
    have := nI_toInt (n := m) (by omega)
    rw [← h] at this
    have e9 : (-1 : Int32).toInt = -1 := by decide
    rw [e9] at this; omega
theorem see_lt {t : Nat → Int32} {n k : Nat} (h : ¬ see t n k = -1) : k < n ∧ see t n k = t k := by
  unfold see at h ⊢
  by_cases q : k < n
  · rw [if_pos q]; exact ⟨q, rfl⟩
  · rw [if_neg q] at h; exact absurd rfl h
theorem see_end {t : Nat → Int32} {n k : Nat} (hk : k ≤ n) (h : see t n k = -1) (hb : k < n → In (t k) 256) : k = n := by
  by_cases q : k < n
  · unfold see at h; rw [if_pos q] at h; exact absurd h ((hb q).m1 (by decide))
  · omega
theorem see_ws {t : Nat → Int32} {n k : Nat} (h1 : ¬ see t n k = nI 10) (h2 : ¬ see t n k = nI 32) : ¬ (k < n ∧ wsB (t k) = true) := by
  intro h
  unfold see at h1 h2
  rw [if_pos h.1] at h1 h2
  have := h.2
  simp [wsB, h1, h2] at this
theorem see_sm {t : Nat → Int32} {n k : Nat} : (¬ see t n k < nI 97 ∧ ¬ nI 122 < see t n k) ↔ (k < n ∧ smB (t k) = true) := by
  unfold see smB
  by_cases q : k < n
  · simp [q]
  · simp only [q, if_false, false_and, iff_false]; intro h; exact absurd h.1 (by decide)
theorem see_dg {t : Nat → Int32} {n k : Nat} : (¬ see t n k < nI 48 ∧ ¬ nI 57 < see t n k) ↔ (k < n ∧ dgB (t k) = true) := by
  unfold see dgB
  by_cases q : k < n
  · simp [q]
  · simp only [q, if_false, false_and, iff_false]; intro h; exact absurd h.1 (by decide)
theorem st1_self {s : Nat → Nat → Int32} {r N : Nat} {v : Int32} (h : s r N = v) : st1 s r N v = s := by rw [← h, st1_id]
theorem st1_cmj {s : Nat → Nat → Int32} {r i j : Nat} {v w : Int32} (h : i ≠ j) : st1 (st1 s r i v) r j w = st1 (st1 s r j w) r i v := by
  funext a
  by_cases e : a = r
  · subst e
    funext b
    by_cases e1 : b = j
    · subst e1; rw [st1_eq, st1_nj (fun q => h q.symm), st1_eq]
    · rw [st1_nj e1]
      by_cases e2 : b = i
      · subst e2; rw [st1_eq, st1_eq]
      · rw [st1_nj e2, st1_nj e2, st1_nj e1]
  · rw [st1_ne e, st1_ne e, st1_ne e, st1_ne e]
theorem st1_3 {s : Nat → Nat → Int32} {r i j : Nat} {u v w : Int32} (h : i ≠ j) : st1 (st1 (st1 s r i u) r j v) r i w = st1 (st1 s r i w) r j v := by rw [st1_cmj (fun q => h q.symm), st1_2]
