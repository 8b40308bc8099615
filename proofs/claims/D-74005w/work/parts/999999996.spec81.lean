/-! THE LAW: entries of a plan; longs -/
set_option maxRecDepth 100000
section
variable {n B : Nat} {P : Nat → Int32}
theorem PG.chan {k : Nat} {v : Int32} (h : PG n B P) (hn : n ≤ 6) (hk : k < n) (hv : In v 61) : PG n B (upd P k v) := by
  obtain ⟨h1, h2, h3, h4⟩ := h
  exact ⟨h1.put hv, h2.put (by omega), fun c hc hz => by rw [upd_ne (by omega)]; exact h3 c hc hz, fun u hu => by rw [upd_ne (by omega)]; exact h4 u hu⟩
theorem PG.pow {k : Nat} {v : Int32} (h : PG n B P) (hn : n ≤ 6) (hk : k < n) (hv : In v 31) : PG n B (upd P (6 + k) v) := by
  obtain ⟨h1, h2, h3, h4⟩ := h
  refine ⟨h1.off (by omega), h2.put (by omega), fun c hc hz => by rw [upd_ne (by omega)]; exact h3 c hc hz, fun u hu => ?_⟩
  by_cases q : u = k
  · subst q; rw [upd_at]; exact hv
  · rw [upd_ne (by omega)]; exact h4 u hu
theorem PG.slot {k : Nat} {v : Int32} (h : PG n B P) (hn : n ≤ 6) : PG n B (upd P (73 + k) v) := by
  obtain ⟨h1, h2, h3, h4⟩ := h
  exact ⟨h1.off (by omega), fun c hc => by rw [upd_ne (by omega)]; exact h2 c hc, fun c hc hz => by rw [upd_ne (by omega)]; exact h3 c hc hz, fun u hu => by rw [upd_ne (by omega)]; exact h4 u hu⟩
theorem PG.blk {k : Nat} (h : PG n B P) (hn : n ≤ 6) (hk : 1 ≤ k ∧ k ≤ B) (hB : B < 61) : PG n B (upd P (12 + k) (nI 1 - P (12 + k))) := by
  obtain ⟨h1, h2, h3, h4⟩ := h
  refine ⟨h1.off (by omega), fun c hc => ?_, fun c hc hz => by rw [upd_ne (by omega)]; exact h3 c hc hz, fun u hu => by rw [upd_ne (by omega)]; exact h4 u hu⟩
  by_cases q : c = k
  · subst q
    rw [upd_at]
    rcases h2 c hc with z | z
    · rw [z]; right; rfl
    · rw [z]; left; rfl
  · rw [upd_ne (by omega)]; exact h2 c hc
end
section
variable {p : Program} {l : Launch} {e : Env} {R : Room} {s : State} {m : MethodId} {args : Array Value} {below : List Frame} {meth : Method} {c : Code} {Q : State → Prop} {A : Nat → Prop} {D : va_G} {nL cells slots : Nat} {ws : va_W} {pc : Nat} {L : List (Nat × Value)} {S : List Value}
variable {cc : ByteArray} {own : String} {ret : Option FieldType} {tys : List (ClassId × FieldType)} {gt : Nat → Nat}
theorem s_lcmp_eq (E : En p s m args meth c A cc nL own ret D tys gt) {x : Int64} (d : decode cc pc = .ok (.lcmp, 1)) (K : Sm p l e R s m args below meth c Q A D nL cells slots ws (pc + 1) L (.int 0 :: S)) : Sm p l e R s m args below meth c Q A D nL cells slots ws pc L (.long x :: .long x :: S) := by
  intro H locs ls hP hD hS hl T hT X
  obtain ⟨t, a, b⟩ := K H locs ls hP hD hS hl T hT X
  refine ⟨t, ?_, b⟩
  have hexec := E.1
  have hb := E.2.1
  by_cases h1 : x < x
  · exact absurd h1 Int64.lt_irrefl
  · jvm_step X.here [X.here.top, hexec, hb, d]
    exact a
end
