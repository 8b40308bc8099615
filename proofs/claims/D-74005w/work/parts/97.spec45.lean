/-! A FAULT: made and thrown -/
set_option maxRecDepth 100000
section
variable {p : Program} {l : Launch} {e : Env} {R : Room} {s : State} {m : MethodId} {args : Array Value} {below : List Frame} {meth : Method} {c : Code} {Q : State → Prop} {A : Nat → Prop} {D : va_G} {nL cells slots : Nat} {ws : va_W} {pc : Nat} {L : List (Nat × Value)} {S : List Value}
variable {cc : ByteArray} {own : String} {ret : Option FieldType} {tys tyc : List (ClassId × FieldType)} {gt : Nat → Nat}
theorem cx_goi {S SX : Type} {mc ms : Nat} {S0 S1 Bs : List Value} {wsO : S → va_W} {post : Int32 → S → Prop} {px : SX → Prop} {wsX : SX → va_W} {tyX : SX → List (ClassId × FieldType)} {qX : SX → Nat} {EX : SX → String} (E : En p s m args meth c A cc nL own ret D tys gt) (hr : RnX p l e R s m args below meth c A D nL cells slots mc ms ws ws pc L S1 S0 Bs (fun sz => va_Qi post (CB D wsO (fun _ => tys) (va_A ws sz)) (va_A ws sz)) (XQ D ws px wsX tyX qX EX))
    (KX : ∀ u : SX, px u → SmX p l e R s m args below meth c Q A D nL (cells + mc) (slots + ms) (wsX u) pc L (EX u) (qX u)) (K : ∀ (r : Int32) (u : S), post r u → Sm p l e R s m args below meth c Q A D nL (cells + mc) (slots + ms) (wsO u) (pc + 3) L (.int r :: S0)) : Sm p l e R s m args below meth c Q A D nL cells slots ws pc L S1 :=
  xp_goi (wr := []) (ws2 := wsO) (ws3 := wsX) E (cutS ws tys).2.2.2.2.2 (by rw [List.append_nil]) (by rw [List.append_nil]; exact hr) (fun u => List.Perm.refl _) (fun u => List.Perm.refl _) (fun u h _ => KX u h) (fun r u h _ => K r u h)
theorem cx_gov {S SX : Type} {mc ms : Nat} {S0 S1 Bs : List Value} {wsO : S → va_W} {post : S → Prop} {px : SX → Prop} {wsX : SX → va_W} {tyX : SX → List (ClassId × FieldType)} {qX : SX → Nat} {EX : SX → String} (E : En p s m args meth c A cc nL own ret D tys gt) (hr : RnX p l e R s m args below meth c A D nL cells slots mc ms ws ws pc L S1 S0 Bs (fun sz => va_Qv post (CB D wsO (fun _ => tys) (va_A ws sz)) (va_A ws sz)) (XQ D ws px wsX tyX qX EX))
    (KX : ∀ u : SX, px u → SmX p l e R s m args below meth c Q A D nL (cells + mc) (slots + ms) (wsX u) pc L (EX u) (qX u)) (K : ∀ (u : S), post u → Sm p l e R s m args below meth c Q A D nL (cells + mc) (slots + ms) (wsO u) (pc + 3) L S0) : Sm p l e R s m args below meth c Q A D nL cells slots ws pc L S1 :=
  xp_gov (wr := []) (ws2 := wsO) (ws3 := wsX) E (cutS ws tys).2.2.2.2.2 (by rw [List.append_nil]) (by rw [List.append_nil]; exact hr) (fun u => List.Perm.refl _) (fun u => List.Perm.refl _) (fun u h _ => KX u h) (fun u h _ => K u h)
theorem s_aload_nN (E : En p s m args meth c A cc nL own ret D tys gt) {k : Fin 4} {i j : Nat} (d : decode cc pc = .ok (.aload_n k, 1)) (hi : (k : Nat) = i) (hk : L[j]? = some (i, .null)) (K : Sm p l e R s m args below meth c Q A D nL cells slots ws (pc + 1) L (.null :: S)) : Sm p l e R s m args below meth c Q A D nL cells slots ws pc L (S) := fun H locs ls hP hD hS hl => lv_aload_nN E.1 E.2.1 d hi (lv_at hl j hk) (K H locs ls hP hD hS hl)
theorem sx_drop {X : va_W} {E : String} {q : Nat} (K : SmX p l e R s m args below meth c Q A D nL cells slots ws pc L E q) : SmX p l e R s m args below meth c Q A D nL cells slots (ws ++ X) pc L E q := by
  intro H locs ls rest ce hP hD hS hl
  refine K H locs ls rest ce (fun k q hk => hP k q ?_) ⟨fun i j p q hi hj e => hD.1 i j p q ?_ ?_ e, fun k q hk => hD.2 k q ?_⟩ hS hl
  · rw [List.getElem?_append_left (List.getElem?_eq_some_iff.mp hk).1]; exact hk
  · rw [List.getElem?_append_left (List.getElem?_eq_some_iff.mp hi).1]; exact hi
  · rw [List.getElem?_append_left (List.getElem?_eq_some_iff.mp hj).1]; exact hj
  · rw [List.getElem?_append_left (List.getElem?_eq_some_iff.mp hk).1]; exact hk
theorem sx_widen {E : String} {q k n : Nat} (h1 : cells ≤ k) (h2 : slots ≤ n) (K : SmX p l e R s m args below meth c Q A D nL k n ws pc L E q) : SmX p l e R s m args below meth c Q A D nL cells slots ws pc L E q := fun H locs ls rest ce hP hD hS hl h3 h4 h5 => vx_widen h1 h2 (K H locs ls rest ce hP hD hS hl h3 h4 h5)
end
def faultC (q : Nat) (a b : Int32) : Nat × va_E := (q, .inr (6, [.null, .null, .null, .null, .null, .int 0, .int a, .int b]))
theorem zq_v {C n d : String} {A : Nat → Prop} {U : State} {H : Heap} (h : vx_Zq C n d A U H) : ∃ v : Value, va_Z C n d v A U H ∧ (v = .null ∨ ∃ t, v = .ref t) := by
  rcases h.1 with k | ⟨t, k⟩
  · exact ⟨_, k, Or.inl rfl⟩
  · exact ⟨_, k, Or.inr ⟨t, rfl⟩⟩
theorem df_X7 : ∀ j, j < 8 → defaultValue (tyX7 j) = vp_V [.null, .null, .null, .null, .null, .int 0, .int 0, .int 0] j := by
  intro j hj
  obtain rfl | rfl | rfl | rfl | rfl | rfl | rfl | rfl : j = 0 ∨ j = 1 ∨ j = 2 ∨ j = 3 ∨ j = 4 ∨ j = 5 ∨ j = 6 ∨ j = 7 := by omega
  all_goals rfl
