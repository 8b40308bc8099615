/-! CALLS in the same world; statics over no world -/
set_option maxRecDepth 100000
theorem cutS (ws : va_W) (tys : List (ClassId × FieldType)) : Cut ws ws [] tys tys (List.range ws.length) [] (List.range tys.length) := by
  have h1 : ∀ {α : Type} (w : List α), (List.range w.length).map (fun i => w[i]?) = w.map some := by
    intro α w
    apply List.ext_getElem
    · simp
    · intro i h3 h4
      simp at h3 h4
      simp [h4]
  refine ⟨h1 ws, rfl, nd_of List.nodup_range, rfl, fun i h => absurd h List.not_mem_nil, fm_of (h1 tys)⟩
theorem cutZ (ws : va_W) (tys : List (ClassId × FieldType)) : Cut ws [] ws tys [] [] (List.range ws.length) [] := by
  have h1 : ∀ {α : Type} (w : List α), (List.range w.length).map (fun i => w[i]?) = w.map some := by
    intro α w
    apply List.ext_getElem
    · simp
    · intro i h3 h4
      simp at h3 h4
      simp [h4]
  exact ⟨rfl, h1 ws, rfl, nd_of List.nodup_range, fun i _ => List.not_mem_nil, rfl⟩
section
variable {p : Program} {l : Launch} {e : Env} {R : Room} {s : State} {m : MethodId} {args : Array Value} {below : List Frame} {meth : Method} {c : Code} {Q : State → Prop} {A : Nat → Prop} {D : va_G} {nL cells slots : Nat} {ws : va_W} {pc : Nat} {L : List (Nat × Value)} {S : List Value}
variable {cc : ByteArray} {own : String} {ret : Option FieldType} {tys tyc : List (ClassId × FieldType)} {gt : Nat → Nat}
theorem c_goi {S : Type} {mc ms : Nat} {S0 S1 Bs : List Value} {wsO : S → va_W} {post : Int32 → S → Prop} (E : En p s m args meth c A cc nL own ret D tys gt) (hr : Rn p l e R s m args below meth c A D nL cells slots mc ms ws ws pc L S1 S0 Bs (fun sz => va_Qi post (CB D wsO (fun _ => tys) (va_A ws sz)) (va_A ws sz)))
    (K : ∀ (r : Int32) (u : S), post r u → Sm p l e R s m args below meth c Q A D nL (cells + mc) (slots + ms) (wsO u) (pc + 3) L (.int r :: S0)) : Sm p l e R s m args below meth c Q A D nL cells slots ws pc L S1 :=
  p_goi (wr := []) (ws2 := wsO) E (cutS ws tys).2.2.2.2.2 (by rw [List.append_nil]) (by rw [List.append_nil]; exact hr) (fun u => List.Perm.refl _) (fun r u h _ => K r u h)
theorem c_gov {S : Type} {mc ms : Nat} {S0 S1 Bs : List Value} {wsO : S → va_W} {post : S → Prop} (E : En p s m args meth c A cc nL own ret D tys gt) (hr : Rn p l e R s m args below meth c A D nL cells slots mc ms ws ws pc L S1 S0 Bs (fun sz => va_Qv post (CB D wsO (fun _ => tys) (va_A ws sz)) (va_A ws sz)))
    (K : ∀ (u : S), post u → Sm p l e R s m args below meth c Q A D nL (cells + mc) (slots + ms) (wsO u) (pc + 3) L S0) : Sm p l e R s m args below meth c Q A D nL cells slots ws pc L S1 :=
  p_gov (wr := []) (ws2 := wsO) E (cutS ws tys).2.2.2.2.2 (by rw [List.append_nil]) (by rw [List.append_nil]; exact hr) (fun u => List.Perm.refl _) (fun u h _ => K u h)
theorem c_gor {S : Type} {mc ms : Nat} {S0 S1 Bs : List Value} {wsO : S → va_W} {post : S → Prop} {ra : S → Nat} (E : En p s m args meth c A cc nL own ret D tys gt) (hr : Rn p l e R s m args below meth c A D nL cells slots mc ms ws ws pc L S1 S0 Bs (fun sz => va_Qr post (fun u a t => a = ra u ∧ CB D wsO (fun _ => tys) (va_A ws sz) u t) (va_A ws sz)))
    (K : ∀ (u : S), post u → Sm p l e R s m args below meth c Q A D nL (cells + mc) (slots + ms) (wsO u) (pc + 3) L (.ref (ra u) :: S0)) : Sm p l e R s m args below meth c Q A D nL cells slots ws pc L S1 :=
  p_gor (wr := []) (ws2 := wsO) E (cutS ws tys).2.2.2.2.2 (by rw [List.append_nil]) (by rw [List.append_nil]; exact hr) (fun u => List.Perm.refl _) (fun u h _ => K u h)
theorem c_goi0 {S : Type} {S0 S1 Bs : List Value} {wsO : S → va_W} {post : Int32 → S → Prop} (E : En p s m args meth c A cc nL own ret D tys gt) (hr : Rn p l e R s m args below meth c A D nL cells slots 0 0 ws ws pc L S1 S0 Bs (fun sz => va_Qi post (CB D wsO (fun _ => tys) (va_A ws sz)) (va_A ws sz)))
    (K : ∀ (r : Int32) (u : S), post r u → Sm p l e R s m args below meth c Q A D nL cells slots (wsO u) (pc + 3) L (.int r :: S0)) : Sm p l e R s m args below meth c Q A D nL cells slots ws pc L S1 := c_goi E hr K
theorem c_gov0 {S : Type} {S0 S1 Bs : List Value} {wsO : S → va_W} {post : S → Prop} (E : En p s m args meth c A cc nL own ret D tys gt) (hr : Rn p l e R s m args below meth c A D nL cells slots 0 0 ws ws pc L S1 S0 Bs (fun sz => va_Qv post (CB D wsO (fun _ => tys) (va_A ws sz)) (va_A ws sz)))
    (K : ∀ (u : S), post u → Sm p l e R s m args below meth c Q A D nL cells slots (wsO u) (pc + 3) L S0) : Sm p l e R s m args below meth c Q A D nL cells slots ws pc L S1 := c_gov E hr K
theorem c_gor0 {S : Type} {S0 S1 Bs : List Value} {wsO : S → va_W} {post : S → Prop} {ra : S → Nat} (E : En p s m args meth c A cc nL own ret D tys gt) (hr : Rn p l e R s m args below meth c A D nL cells slots 0 0 ws ws pc L S1 S0 Bs (fun sz => va_Qr post (fun u a t => a = ra u ∧ CB D wsO (fun _ => tys) (va_A ws sz) u t) (va_A ws sz)))
    (K : ∀ (u : S), post u → Sm p l e R s m args below meth c Q A D nL cells slots (wsO u) (pc + 3) L (.ref (ra u) :: S0)) : Sm p l e R s m args below meth c Q A D nL cells slots ws pc L S1 := c_gor E hr K
/-- a static method over no cells -/
theorem c_gos {S0 S1 Bs : List Value} {post : Int32 → Unit → Prop} (E : En p s m args meth c A cc nL own ret D tys gt) (hr : Rn p l e R s m args below meth c A D nL cells slots 0 0 ws [] pc L S1 S0 Bs (fun sz => va_Qi post (CB D (fun _ : Unit => []) (fun _ => []) (va_A [] sz)) (va_A [] sz)))
    (K : ∀ (r : Int32), post r () → Sm p l e R s m args below meth c Q A D nL cells slots ws (pc + 3) L (.int r :: S0)) : Sm p l e R s m args below meth c Q A D nL cells slots ws pc L S1 :=
  p_goi (wc := []) (wr := ws) (ws2 := fun _ => ws) E (isT := []) rfl (List.Perm.refl _) hr (fun u => by rw [List.append_nil]) (fun r u h _ => K r h)
end
