/-! TYPES of arrays out of the words alone -/
section
variable {p : Program} {s : State} {m : MethodId} {args : Array Value} {meth : Method} {c : Code} {A : Nat → Prop} {D : va_G} {nL : Nat} {cc : ByteArray} {own : String} {ret : Option FieldType} {tys : List (ClassId × FieldType)} {gt : Nat → Nat}
theorem ty_one {cA : ClassId} {ty : FieldType} {U : State} (h : ∀ c q, vwCl[c]? = some q → u_Kn U q.1 q.2.1 q.2.2 (D.1 c) (D.2 c)) (h1 : ArrOfT U cA ty) (h2 : va_RA U cA ty) : va_K D vwCl [(cA, ty)] U := by
  refine ⟨h, fun k q hk => ?_⟩
  have hz : k < 1 := (List.getElem?_eq_some_iff.mp hk).1
  rw [show k = 0 by omega] at hk
  cases hk
  exact ⟨h1, h2⟩
theorem ty_int (E : En p s m args meth c A cc nL own ret D tys gt) : ∃ cA, va_K D vwCl [(cA, .int)] s := by
  obtain ⟨cA, kA, comp, h1, h2, h3⟩ := Cond.arrayClass_spec (E.2.2.2.2.1 _ q225)
  exact ⟨cA, ty_one E.2.2.2.2.2.1.1 (fun n z => ⟨(fun k h => by cases h), kA, h2, comp, h3⟩) h1⟩
theorem ty_bool (E : En p s m args meth c A cc nL own ret D tys gt) : ∃ cA, va_K D vwCl [(cA, .boolean)] s := by
  obtain ⟨cA, kA, comp, h1, h2, h3⟩ := Cond.arrayClass_spec (E.2.2.2.2.1 _ q253)
  exact ⟨cA, ty_one E.2.2.2.2.2.1.1 (fun n z => ⟨(fun k h => by cases h), kA, h2, comp, h3⟩) h1⟩
theorem ty_byte (E : En p s m args meth c A cc nL own ret D tys gt) : ∃ cA, va_K D vwCl [(cA, .byte)] s := by
  obtain ⟨cA, kA, comp, h1, h2, h3⟩ := Cond.arrayClass_spec (E.2.2.2.2.1 _ q224)
  exact ⟨cA, ty_one E.2.2.2.2.2.1.1 (fun n z => ⟨(fun k h => by cases h), kA, h2, comp, h3⟩) h1⟩
theorem ty_long (E : En p s m args meth c A cc nL own ret D tys gt) : ∃ cA, va_K D vwCl [(cA, .long)] s := by
  obtain ⟨cA, kA, comp, h1, h2, h3⟩ := Cond.arrayClass_spec (E.2.2.2.2.1 _ q1861)
  exact ⟨cA, ty_one E.2.2.2.2.2.1.1 (fun n z => ⟨(fun k h => by cases h), kA, h2, comp, h3⟩) h1⟩
theorem ty_obj {C : String} {U : State} (h : ∀ c q, vwCl[c]? = some q → u_Kn U q.1 q.2.1 q.2.2 (D.1 c) (D.2 c)) (ho : va_AO C U) : ∃ cA, va_K D vwCl [(cA, .object C)] U := by
  obtain ⟨comp, cA, kA, h0, _, h2, h3, h1⟩ := Cond.arrayOver_spec (args := #[]) ho
  exact ⟨cA, ty_one h (fun n z => ⟨(fun k h => by cases h), kA, h2, comp, h3⟩) ⟨kA, comp, h2, h3, h0, h1⟩⟩
theorem ty_user (E : En p s m args meth c A cc nL own ret D tys gt) : ∃ cA, va_K D vwCl [(cA, .object RX8)] s := ty_obj E.2.2.2.2.2.1.1 E.2.2.2.2.2.2.1.2.2.2.2.1
theorem ty_plan (E : En p s m args meth c A cc nL own ret D tys gt) : ∃ cA, va_K D vwCl [(cA, .object RX3)] s := ty_obj E.2.2.2.2.2.1.1 E.2.2.2.2.2.2.1.2.2.2.2.2.1
end
section
variable {p : Program} {l : Launch} {e : Env} {R : Room} {s : State} {m : MethodId} {args : Array Value} {below : List Frame} {meth : Method} {c : Code} {Q : State → Prop} {A : Nat → Prop} {D : va_G} {nL cells slots : Nat} {ws : va_W} {pc : Nat} {L : List (Nat × Value)} {S : List Value}
variable {cc : ByteArray} {own : String} {ret : Option FieldType} {tys : List (ClassId × FieldType)} {gt : Nat → Nat}
theorem s_oinit (E : En p s m args meth c A cc nL own ret D tys gt) {index a : Nat} (hq : Cond.methodLink own index ⟨"java/lang/Object", "<init>", "()V"⟩ ∈ lw_all) (hcat : (S.map fun v => v.category).sum ≤ 8) (hfr : 1 ≤ R.frames) (hlo : 20 ≤ R.locals) (d : decode cc pc = .ok (.invokespecial index, 3)) (K : Sm p l e R s m args below meth c Q A D nL cells slots ws (pc + 3) L S) : Sm p l e R s m args below meth c Q A D nL cells slots ws pc L (.ref a :: S) := fun H locs ls hP hD hS hl => W.objInit E.1 E.2.1 E.2.2.2.1 (E.2.2.2.2.1 _ hq) (E.2.2.2.2.1 _ q142) (E.2.2.2.2.1 _ q143) rfl (by rw [E.2.2.1]; exact hl.1) rfl d hfr (by have := hcat; show 2 * 0 + _ + 12 ≤ R.locals; omega) (K H locs ls hP hD hS hl)
end
