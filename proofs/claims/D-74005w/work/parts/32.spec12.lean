set_option maxRecDepth 100000
theorem m1_ge {a : Int32} (h : ¬ a < -1) (h1 : ¬ a = -1) : a = nI (tN a) := by
  have h2 : ¬ a < 0 := by
    intro h3
    rw [Int32.lt_iff_toInt_lt] at h h3
    have e : (-1 : Int32).toInt = -1 := by decide
    have e0 : (0 : Int32).toInt = 0 := by decide
    rw [e] at h; rw [e0] at h3
    apply h1
    apply Int32.toInt_inj.mp
    rw [e]; omega
  obtain ⟨j, hj, rfl⟩ := nI_of h2
  rw [tN_nI hj]
theorem tN_lt (a : Int32) : tN a < 2147483648 := by
  unfold tN
  have := Int32.toInt_lt a
  show a.toInt.toNat < _
  omega
theorem CW.cm {z s w : Nat → Nat → Int32} {n : Nat} (h : CW z s w n) (hC : CM z n) : CM w n := by
  obtain ⟨a, b, c, d, e, f⟩ := h
  refine ⟨?_, hC.2.1, ?_, f⟩
  · rw [d 3 (by decide) (by decide) (by decide) (by decide) (by decide)]; exact hC.1
  · rw [d 6 (by decide) (by decide) (by decide) (by decide) (by decide)]; exact hC.2.2.1
theorem CW.lh {z s w : Nat → Nat → Int32} {n : Nat} (h : CW z s w n) (hl : LH z n) : LH w n := by
  obtain ⟨a, b, c, d, e, f⟩ := h
  unfold LH at hl ⊢
  rw [d 8 (by decide) (by decide) (by decide) (by decide) (by decide), d 9 (by decide) (by decide) (by decide) (by decide) (by decide), e 30 (by decide) (by decide) (by decide) (by decide)]
  exact hl
theorem tunedN_ce {s0 s : Nat → Nat → Int32} (h : CE s0 s) (n : Nat) : tunedN s n = tunedN s0 n := sumN_congr fun u _ => by unfold tunedF; rw [h.1]
