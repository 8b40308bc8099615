/-! ARRAYS OF ARRAYS made -/
set_option maxRecDepth 100000
theorem outer_arr (c : ClassId) (N h0 : Nat) : ∀ i, Free.Multi.outerC c N h0 i = arrV c N (fun j => va_rf (if j < i then some (h0 + 1 + j) else none))
  | 0 => by
    have e : (fun j => va_rf (if j < 0 then some (h0 + 1 + j) else none)) = (fun _ => Value.null) := by
      funext j
      rw [if_neg (Nat.not_lt_zero j)]
      rfl
    rw [e]
    exact arrV_new c N .null
  | i + 1 => by
    show (Free.Multi.outerC c N h0 i).setSlot i (.ref (h0 + 1 + i)) = _
    rw [outer_arr c N h0 i, arrV_store]
    congr 1
    funext j
    unfold updV
    by_cases q : j = i
    · subst q; rw [if_pos rfl, if_pos (by omega)]; rfl
    · rw [if_neg q]
      dsimp only
      by_cases z : j < i
      · rw [if_pos z, if_pos (by omega)]
      · rw [if_neg z, if_neg (by omega)]
def mnL (ct : Nat → ClassId) (q N M : Nat) : va_W := (q, .inl (ct 5, N, .inr (.inr (.inr (.inr (fun j => if j < N then some (q + 1 + j) else none)))))) :: (List.range N).map (fun j => (q + 1 + j, .inl (ct 0, M, .inl (fun _ => 0))))
theorem mnL_at {ct : Nat → ClassId} {q N M k : Nat} {x : Nat × va_E} (h : (mnL ct q N M)[k]? = some x) : k < N + 1 ∧ x.1 = q + k := by
  unfold mnL at h
  cases k with
  | zero => cases h; exact ⟨by omega, rfl⟩
  | succ k =>
    rw [List.getElem?_cons_succ, List.getElem?_map] at h
    have hk : k < N := by
      rcases Nat.lt_or_ge k N with z | z
      · exact z
      · rw [List.getElem?_eq_none (by rw [List.length_range]; exact z)] at h; cases h
    rw [List.getElem?_range hk] at h
    cases h
    exact ⟨by omega, by show q + 1 + k = _; omega⟩
theorem va_D_new {A : Nat → Prop} {ws wn : va_W} {D : va_G} {H : Heap} {n : Nat} (hD : va_D A ws) (hP : va_P D vwCl ws H) (hA : ∀ q, H.size ≤ q → A q) (hn : ∀ k x, wn[k]? = some x → k < n ∧ x.1 = H.size + k) : va_D A (ws ++ wn) := by
  have key : ∀ (k : Nat) (q : Nat × va_E), (ws ++ wn)[k]? = some q → (ws[k]? = some q ∧ q.1 < H.size) ∨ (ws.length ≤ k ∧ q.1 = H.size + (k - ws.length)) := by
    intro k q hk
    by_cases hl : k < ws.length
    · rw [List.getElem?_append_left hl] at hk
      exact Or.inl ⟨hk, (hP k q hk).lt⟩
    · rw [List.getElem?_append_right (by omega)] at hk
      exact Or.inr ⟨by omega, (hn _ _ hk).2⟩
  refine ⟨fun i j p q hi hj e => ?_, fun k q hk => ?_⟩
  · rcases key i p hi with ⟨a1, a2⟩ | ⟨a1, a2⟩ <;> rcases key j q hj with ⟨b1, b2⟩ | ⟨b1, b2⟩
    · exact hD.1 i j p q a1 b1 e
    · omega
    · omega
    · omega
  · rcases key k q hk with ⟨a1, a2⟩ | ⟨a1, a2⟩
    · exact hD.2 k q a1
    · exact hA _ (by omega)
section
variable {p : Program} {l : Launch} {e : Env} {R : Room} {s : State} {m : MethodId} {args : Array Value} {below : List Frame} {meth : Method} {c : Code} {Q : State → Prop} {A : Nat → Prop} {D : va_G} {nL cells slots : Nat} {ws : va_W} {pc : Nat} {L : List (Nat × Value)} {S : List Value}
variable {cc : ByteArray} {own : String} {ret : Option FieldType} {gt : Nat → Nat} {ct : Nat → ClassId}
theorem s_mnew (E : En p s m args meth c A cc nL own ret D (tysA ct) gt) {index : Nat} (hq : Cond.classLink own index "[[I" ∈ lw_all) {N M : Nat} (hN : N ≤ 100) (hM : M ≤ 100) (hcells : cells + (1 + N) ≤ R.cells) (hslots : slots + (N + N * M) ≤ R.slots) (d : decode cc pc = .ok (.multianewarray index 2, 4))
    (K : ∀ q : Nat, Sm p l e R s m args below meth c Q A D nL (cells + 1 + N) (slots + N + N * M) (ws ++ mnL ct q N M) (pc + 4) L (.ref q :: S)) : Sm p l e R s m args below meth c Q A D nL cells slots ws pc L (.int (nI M) :: .int (nI N) :: S) := by
  intro H locs ls hP hD hS hl T hT X
  have cN : (nI N).toNatClampNeg = N := nI_clamp (by omega)
  have cM : (nI M).toNatClampNeg = M := nI_clamp (by omega)
  have e1 : "[" ++ (FieldType.array .int).toString = "[[I" := rfl
  obtain ⟨vm₁, cA, comp, hW, hfA, hfC, -, -, X1, step⟩ := X.multianewarray2F E.1 (own := own) (index := index) (ty := .int) E.2.2.2.1 (by rw [e1]; exact E.2.2.2.2.1 _ hq) E.2.2.2.2.2.2.1.2.2.2.2.2.2 (E.2.2.2.2.1 _ q225) (g := F0 m pc ls (.int (nI M) :: .int (nI N) :: S)) rfl (by rw [E.2.1]; exact d) (n := nI N) (k := nI M) (rest := S) rfl (nI_pos (by omega)) (nI_pos (by omega)) (by rw [cN]; omega) (by rw [cM]; show M * 4 ≤ _; omega) (by rw [cM]; omega) rfl rfl (by rw [cN]; exact hcells) (by rw [cN, cM]; exact hslots)
  rw [cN, cM] at X1 step
  have hA5 : s.vm.findClass ("[" ++ (FieldType.array .int).toString) = some (ct 5) := (E.2.2.2.2.2.1.2 5 (ct 5, .array .int) rfl).2
  have hA0 : s.vm.findClass (FieldType.array .int).toString = some (ct 0) := (E.2.2.2.2.2.1.2 0 (ct 0, .int) rfl).2
  cases Option.some.inj (hfA.symm.trans hA5)
  cases Option.some.inj (hfC.symm.trans hA0)
  obtain ⟨f1, f2, f3, f4⟩ := Free.Multi.fill_facts (T.setVm vm₁) (ct 5) (ct 0) N M (defaultValue .int) N
  have hTs : (T.setVm vm₁).heap = H := hT
  have old : ∀ x, x < H.size → (Free.Multi.fill (T.setVm vm₁) (ct 5) (ct 0) N M (defaultValue .int) N).heap[x]? = H[x]? := fun x hx => by
    rw [Free.Multi.fill_old (T.setVm vm₁) (ct 5) (ct 0) N M (defaultValue .int) (a := x) (by rw [hTs]; exact hx) N, hTs]
  have inn : ∀ j, j < N → (Free.Multi.fill (T.setVm vm₁) (ct 5) (ct 0) N M (defaultValue .int) N).heap[H.size + 1 + j]? = some (Free.Multi.innerC (ct 0) M (defaultValue .int)) := fun j hj => by
    have := Free.Multi.fill_inner (T.setVm vm₁) (ct 5) (ct 0) N M (defaultValue .int) N j hj
    rw [hTs] at this
    exact this
  rw [hTs] at f1 f2
  rw [hT] at step
  have hP1 : va_P D vwCl (ws ++ mnL ct H.size N M) (Free.Multi.fill (T.setVm vm₁) (ct 5) (ct 0) N M (defaultValue .int) N).heap := by
    refine (hP.kept (fun k x hx => old x.1 ((hP k x hx).lt))).app (fun k x hx => ?_)
    have hk := (mnL_at hx).1
    unfold mnL at hx
    cases k with
    | zero =>
      cases hx
      show (Free.Multi.fill (T.setVm vm₁) (ct 5) (ct 0) N M (defaultValue .int) N).heap[H.size]? = some (vp_cell _ _)
      rw [f2, vp_cell_q, outer_arr]
    | succ k =>
      rw [List.getElem?_cons_succ, List.getElem?_map, List.getElem?_range (by omega)] at hx
      cases hx
      show (Free.Multi.fill (T.setVm vm₁) (ct 5) (ct 0) N M (defaultValue .int) N).heap[H.size + 1 + k]? = some (vp_cell _ _)
      rw [inn k (by omega), vp_cell_i]
      exact congrArg some (arrV_new (ct 0) M (.int 0))
  have hD1 : va_D A (ws ++ mnL ct H.size N M) := va_D_new hD hP (fun q hq => E.2.2.2.2.2.2.2.2.2 q (Nat.le_trans hS.1 hq)) (fun k x hx => mnL_at hx)
  obtain ⟨t, a1, b1⟩ := K H.size _ locs ls hP1 hD1 ⟨Nat.le_trans hS.1 (by rw [f1]; omega), fun x h1 h2 => (old x (Nat.lt_of_lt_of_le h1 hS.1)).trans (hS.2.1 x h1 h2), hS.2.2⟩ hl _ rfl X1
  exact ⟨t, step _ a1, b1⟩
/-- an array of ints out of an array of arrays -/
theorem s_aaldA (E : En p s m args meth c A cc nL own ret D (tysA ct) gt) {a n : Nat} {f : Nat → Option Nat} (q0 : Nat) (ha : ws[q0]? = some (a, .inl (ct 5, n, .inr (.inr (.inr (.inr f)))))) {i : Int32} {v : Value} (N : Nat) (hi : i = nI N) (hN : N < n) (h31 : n < 2 ^ 31) (hv : va_rf (f N) = v) (d : decode cc pc = .ok (.aaload, 1)) (K : Sm p l e R s m args below meth c Q A D nL cells slots ws (pc + 1) L (v :: S)) : Sm p l e R s m args below meth c Q A D nL cells slots ws pc L (.int i :: .ref a :: S) := by
  intro H locs ls hP hD hS hl
  have hin : vp_in i n := by rw [hi]; exact vp_in_nI hN h31
  have hlt : i.toNatClampNeg < n := Nat.not_le.mp fun q => hin (Or.inr q)
  refine W.aald (v := va_rf (f i.toNatClampNeg)) (ty := .array .int) E.1 E.2.1 (hP q0 _ ha) ((E.2.2.2.2.2.1.2 5 (ct 5, .array .int) rfl).1 n (fun j => va_rf (f j))) rfl (fun q => by cases q) (by show ¬ (i < 0 ∨ (arrV _ _ _).slots.size ≤ _); rw [arrV_size]; exact hin) (by show (arrV _ _ _).slots[_]? = _; rw [arrV_read _ _ hlt]) rfl rfl d ?_
  rw [hi, nI_clamp (Nat.lt_trans hN h31), hv]
  exact K H locs ls hP hD hS hl
end
