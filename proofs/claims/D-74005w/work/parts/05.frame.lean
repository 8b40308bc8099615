/-! THE FRAME: the judgement Sm (a method's body at a pc, over a world of cells, with its known locals and its operands), its rows, contracts (Ct: int, Cv: void, Cr: a reference) and calls by cutting a world. -/
set_option maxRecDepth 100000
abbrev vwCl : List vw_C := [(RX1, TX1, 15), (RX2, TX2, 13), (RX3, TX3, 4), (RX4, TX4, 29), (RX5, TX5, 46), (RX6, TX6, 8), (RX7, TX7, 8), (RX8, TX8, 7), (RX9, TX9, 6)]
/-- the classes of arrays: by their numbers -/
abbrev tysA (ct : Nat → ClassId) : List (ClassId × FieldType) := [(ct 0, .int), (ct 1, .boolean), (ct 2, .byte), (ct 3, .object RX8), (ct 4, .object RX3), (ct 5, .array .int), (ct 6, .long)]
/-- words of the tables that don't ride in the lists -/
def nWord : Cond → Bool := fun w => match w with
  | .fieldLinkNest .. => true
  | .methodLinkNest .. => true
  | .castable .. => true
  | .declares .. => true
  | _ => false
def NW (U : State) : Prop := ∀ w ∈ lw_tbl, nWord w = true → va_Nw w U
theorem NW.warm {s U : State} (hW : s.WarmedH U.vm) (h : NW s) : NW U := by
  intro w hw hn
  have h1 := h w hw hn
  cases w with
  | fieldLinkNest a i b n d hh => exact va_Nw.warmF hW h1
  | methodLinkNest a i x hh => exact va_Nw.warmM hW h1
  | castable C T => exact va_Nw.warmC hW h1
  | declares x => exact va_Nw.warmD hW h1
  | _ => cases hn
theorem NW.same {u U : State} (hv : u.vm = U.vm) (h : NW u) : NW U := by
  intro w hw hn
  have h1 := h w hw hn
  cases w with
  | fieldLinkNest a i b n d hh => exact va_Nw.same rfl hv h1
  | methodLinkNest a i x hh => exact va_Nw.same rfl hv h1
  | castable C T => exact va_Nw.same rfl hv h1
  | declares x => exact va_Nw.same rfl hv h1
  | _ => cases hn
def timesF : Nat → Int32 := fun j => ([1, 1, 0, 1, -1, 0, 2, -1, 0, 1, 1, -1, 3, -2, 0, 2, 1, -2] : List Int32).getD j 0
def orderF : Nat → Int32 := fun j => ([0, 0, 1, 1, 2, 2] : List Int32).getD j 0
def keyT : String := "band guard space orders loss seed user fixed block link slots"
def wordT : String := "band guard space orders loss user fixed block link slots seed "
def keyB : List Int32 := [98, 97, 110, 100, 32, 103, 117, 97, 114, 100, 32, 115, 112, 97, 99, 101, 32, 111, 114, 100, 101, 114, 115, 32, 108, 111, 115, 115, 32, 115, 101, 101, 100, 32, 117, 115, 101, 114, 32, 102, 105, 120, 101, 100, 32, 98, 108, 111, 99, 107, 32, 108, 105, 110, 107, 32, 115, 108, 111, 116, 115]
def wordB : List Int32 := [98, 97, 110, 100, 32, 103, 117, 97, 114, 100, 32, 115, 112, 97, 99, 101, 32, 111, 114, 100, 101, 114, 115, 32, 108, 111, 115, 115, 32, 117, 115, 101, 114, 32, 102, 105, 120, 101, 100, 32, 98, 108, 111, 99, 107, 32, 108, 105, 110, 107, 32, 115, 108, 111, 116, 115, 32, 115, 101, 101, 100, 32]
/-- what holds all through a run: the statics, the texts, at addresses gt that nothing writes -/
def GS (gt : Nat → Nat) (A : Nat → Prop) (U : State) (H : Heap) : Prop :=
  va_Z RX1 "TIMES" "[I" (.ref (gt 0)) A U H ∧ va_T .int (gt 0) 18 (fun j => .int (timesF j)) A U H ∧
  va_Z RX1 "ORDER" "[I" (.ref (gt 1)) A U H ∧ va_T .int (gt 1) 6 (fun j => .int (orderF j)) A U H ∧
  vk_S 2 [61, 62] [keyB, wordB] (fun i => gt (2 + i)) (fun i => gt (4 + i)) A U H ∧
  va_Z "java/lang/String" "COMPACT_STRINGS" "Z" (.int 1) A U H ∧
  va_Zq "jdk/internal/util/Preconditions" "SIOOBE_FORMATTER" "Ljava/util/function/BiFunction;" A U H ∧
  vx_Zq Bundle.tN "UNASSIGNED_STACK" Bundle.steD A U H ∧ vx_Zq Bundle.tN "SUPPRESSED_SENTINEL" Bundle.listD A U H
def va_AA (U : State) : Prop := (Cond.arrayOver (.array .int)).before #[] U = true
theorem va_AA.moved {u U : State} (hvm : u.vm.Alike U.vm) (h : va_AA u) : va_AA U := by
  have h1 : (Cond.arrayOver (.array .int)).before #[] (u.setVm U.vm) = true := by rw [Cond.arrayOver_setVmC hvm]; exact h
  exact h1
def GV (gt : Nat → Nat) (U : State) : Prop := vk_R RX6 77 keyT (gt 2) U ∧ vk_R RX5 135 wordT (gt 3) U ∧ NW U ∧ va_AO RX8 U ∧ va_AO RX3 U ∧ va_AA U
def GN (gt : Nat → Nat) (A : Nat → Prop) (U : State) (H : Heap) : Prop := GS gt A U H ∧ GV gt U
theorem GS.moved {gt : Nat → Nat} {A : Nat → Prop} {u U : State} {H : Heap} (hv : u.vm.Alike U.vm) (h : GS gt A u H) : GS gt A U H := by
  obtain ⟨a, b, c, d, e, f, g, i, j⟩ := h
  exact ⟨a.moved hv, b.moved hv, c.moved hv, d.moved hv, e.moved hv, f.moved hv, g.moved hv, i.moved hv, j.moved hv⟩
theorem GS.kept {gt : Nat → Nat} {A : Nat → Prop} {U : State} {H H1 : Heap} (h : GS gt A U H) (hq : ∀ a : Nat, a < H.size → ¬ A a → H1[a]? = H[a]?) : GS gt A U H1 := by
  obtain ⟨a, b, c, d, e, f, g, i, j⟩ := h
  exact ⟨a.kept hq, b.kept hq, c.kept hq, d.kept hq, e.kept hq, f.kept hq, g.kept hq, i.kept hq, j.kept hq⟩
theorem GS.narrow {gt : Nat → Nat} {A B : Nat → Prop} {U : State} {H : Heap} (h : GS gt A U H) (hAB : ∀ q, B q → A q) : GS gt B U H := by
  obtain ⟨a, b, c, d, e, f, g, i, j⟩ := h
  exact ⟨a.narrow hAB, b.narrow hAB, c.narrow hAB, d.narrow hAB, e.narrow hAB, f.narrow hAB, g.narrow hAB, i.narrow hAB, j.narrow hAB⟩
theorem GV.warm {gt : Nat → Nat} {s U : State} (hW : s.WarmedH U.vm) (h : GV gt s) : GV gt U := by
  obtain ⟨a, b, c, d, e, f⟩ := h
  exact ⟨a.warm hW, b.warm hW, c.warm hW, d.moved hW.alike, e.moved hW.alike, f.moved hW.alike⟩
theorem GV.same {gt : Nat → Nat} {u U : State} (hv : U.vm = u.vm) (h : GV gt u) : GV gt U := by
  obtain ⟨a, b, c, d, e, f⟩ := h
  exact ⟨a.same hv, b.same hv, c.same hv.symm, d.moved (by rw [hv]; exact Vm.Alike.refl _), e.moved (by rw [hv]; exact Vm.Alike.refl _), f.moved (by rw [hv]; exact Vm.Alike.refl _)⟩

/-- what a method's body stands on -/
def En (p : Program) (s : State) (m : MethodId) (args : Array Value) (meth : Method) (c : Code) (A : Nat → Prop) (cc : ByteArray) (nL : Nat) (own : String) (ret : Option FieldType) (D : va_G) (tys : List (ClassId × FieldType)) (gt : Nat → Nat) : Prop :=
  p.tables.exec = Jvm.exec ∧ c.code = cc ∧ c.maxLocals = nL ∧ s.vm.findClass own = some m.cls ∧ (∀ w ∈ lw_all, w.before args s = true) ∧ va_K D vwCl tys s ∧ GN gt A s s.heap ∧ meth.locks = false ∧ meth.sig.returnType = ret ∧ (∀ q : Nat, s.heap.size ≤ q → A q)
def Sm (p : Program) (l : Launch) (e : Env) (R : Room) (s : State) (m : MethodId) (args : Array Value) (below : List Frame) (meth : Method) (c : Code) (Q : State → Prop) (A : Nat → Prop) (D : va_G) (nL cells slots : Nat) (ws : va_W) (pc : Nat) (L : List (Nat × Value)) (S : List Value) : Prop :=
  ∀ (H : Heap) (locs : List Loc) (ls : Array Slot), va_P D vwCl ws H → va_D A ws → va_S A s.heap H locs → lv_has ls nL L → W p l e R s m args below meth c H locs cells slots Q (F0 m pc ls S)
section SmRows
variable {p : Program} {l : Launch} {e : Env} {R : Room} {s : State} {m : MethodId} {args : Array Value} {below : List Frame} {meth : Method} {c : Code} {Q : State → Prop} {A : Nat → Prop} {D : va_G} {nL cells slots : Nat} {ws : va_W} {pc : Nat} {L : List (Nat × Value)} {S : List Value}
variable {cc : ByteArray} {own : String} {ret : Option FieldType} {tys : List (ClassId × FieldType)} {gt : Nat → Nat}

theorem s_iconst (E : En p s m args meth c A cc nL own ret D tys gt) {n : Int} {v : Int32} (d : decode cc pc = .ok (.iconst n, 1)) (hv : Int32.ofInt n = v) (K : Sm p l e R s m args below meth c Q A D nL cells slots ws (pc + 1) L (.int v :: S)) : Sm p l e R s m args below meth c Q A D nL cells slots ws pc L (S) := fun H locs ls hP hD hS hl => lv_iconst E.1 E.2.1 d hv (K H locs ls hP hD hS hl)
theorem s_bipush (E : En p s m args meth c A cc nL own ret D tys gt) {n : Int} {v : Int32} (d : decode cc pc = .ok (.bipush n, 2)) (hv : (Int8.ofInt n).toInt32 = v) (K : Sm p l e R s m args below meth c Q A D nL cells slots ws (pc + 2) L (.int v :: S)) : Sm p l e R s m args below meth c Q A D nL cells slots ws pc L (S) := fun H locs ls hP hD hS hl => lv_bipush E.1 E.2.1 d hv (K H locs ls hP hD hS hl)
theorem s_sipush (E : En p s m args meth c A cc nL own ret D tys gt) {n : Int} {v : Int32} (d : decode cc pc = .ok (.sipush n, 3)) (hv : (Int16.ofInt n).toInt32 = v) (K : Sm p l e R s m args below meth c Q A D nL cells slots ws (pc + 3) L (.int v :: S)) : Sm p l e R s m args below meth c Q A D nL cells slots ws pc L (S) := fun H locs ls hP hD hS hl => lv_sipush E.1 E.2.1 d hv (K H locs ls hP hD hS hl)
theorem s_iload_n (E : En p s m args meth c A cc nL own ret D tys gt) {k : Fin 4} {i j : Nat} {x : Int32} (d : decode cc pc = .ok (.iload_n k, 1)) (hi : (k : Nat) = i) (hk : L[j]? = some (i, .int x)) (K : Sm p l e R s m args below meth c Q A D nL cells slots ws (pc + 1) L (.int x :: S)) : Sm p l e R s m args below meth c Q A D nL cells slots ws pc L (S) := fun H locs ls hP hD hS hl => lv_iload_n E.1 E.2.1 d hi (lv_at hl j hk) (K H locs ls hP hD hS hl)
theorem s_iload (E : En p s m args meth c A cc nL own ret D tys gt) {i j : Nat} {x : Int32} (d : decode cc pc = .ok (.iload i, 2)) (hk : L[j]? = some (i, .int x)) (K : Sm p l e R s m args below meth c Q A D nL cells slots ws (pc + 2) L (.int x :: S)) : Sm p l e R s m args below meth c Q A D nL cells slots ws pc L (S) := fun H locs ls hP hD hS hl => lv_iload E.1 E.2.1 d (lv_at hl j hk) (K H locs ls hP hD hS hl)
theorem s_aload_n (E : En p s m args meth c A cc nL own ret D tys gt) {k : Fin 4} {i j : Nat} {x : Nat} (d : decode cc pc = .ok (.aload_n k, 1)) (hi : (k : Nat) = i) (hk : L[j]? = some (i, .ref x)) (K : Sm p l e R s m args below meth c Q A D nL cells slots ws (pc + 1) L (.ref x :: S)) : Sm p l e R s m args below meth c Q A D nL cells slots ws pc L (S) := fun H locs ls hP hD hS hl => lv_aload_n E.1 E.2.1 d hi (lv_at hl j hk) (K H locs ls hP hD hS hl)
theorem s_aload (E : En p s m args meth c A cc nL own ret D tys gt) {i j : Nat} {x : Nat} (d : decode cc pc = .ok (.aload i, 2)) (hk : L[j]? = some (i, .ref x)) (K : Sm p l e R s m args below meth c Q A D nL cells slots ws (pc + 2) L (.ref x :: S)) : Sm p l e R s m args below meth c Q A D nL cells slots ws pc L (S) := fun H locs ls hP hD hS hl => lv_aload E.1 E.2.1 d (lv_at hl j hk) (K H locs ls hP hD hS hl)
theorem s_istore_n (E : En p s m args meth c A cc nL own ret D tys gt) {k : Fin 4} {i : Nat} {x : Int32} {L2 : List (Nat × Value)} (d : decode cc pc = .ok (.istore_n k, 1)) (hi : (k : Nat) = i) (hn : i < nL) (hL : (i, Value.int x) :: L.filter (fun q => !(q.1 == i) && !(q.1 + 1 == i && q.2.category == 2)) = L2) (K : Sm p l e R s m args below meth c Q A D nL cells slots ws (pc + 1) L2 S) : Sm p l e R s m args below meth c Q A D nL cells slots ws pc L (.int x :: S) := fun H locs ls hP hD hS hl => lv_istore_n E.1 E.2.1 d hi hl hn hL (fun ls hl => K H locs ls hP hD hS hl)
theorem s_istore (E : En p s m args meth c A cc nL own ret D tys gt) {i : Nat} {x : Int32} {L2 : List (Nat × Value)} (d : decode cc pc = .ok (.istore i, 2)) (hn : i < nL) (hL : (i, Value.int x) :: L.filter (fun q => !(q.1 == i) && !(q.1 + 1 == i && q.2.category == 2)) = L2) (K : Sm p l e R s m args below meth c Q A D nL cells slots ws (pc + 2) L2 S) : Sm p l e R s m args below meth c Q A D nL cells slots ws pc L (.int x :: S) := fun H locs ls hP hD hS hl => lv_istore E.1 E.2.1 d hl hn hL (fun ls hl => K H locs ls hP hD hS hl)
theorem s_astore_n (E : En p s m args meth c A cc nL own ret D tys gt) {k : Fin 4} {i : Nat} {x : Nat} {L2 : List (Nat × Value)} (d : decode cc pc = .ok (.astore_n k, 1)) (hi : (k : Nat) = i) (hn : i < nL) (hL : (i, Value.ref x) :: L.filter (fun q => !(q.1 == i) && !(q.1 + 1 == i && q.2.category == 2)) = L2) (K : Sm p l e R s m args below meth c Q A D nL cells slots ws (pc + 1) L2 S) : Sm p l e R s m args below meth c Q A D nL cells slots ws pc L (.ref x :: S) := fun H locs ls hP hD hS hl => lv_astore_n E.1 E.2.1 d hi hl hn hL (fun ls hl => K H locs ls hP hD hS hl)
theorem s_astore (E : En p s m args meth c A cc nL own ret D tys gt) {i : Nat} {x : Nat} {L2 : List (Nat × Value)} (d : decode cc pc = .ok (.astore i, 2)) (hn : i < nL) (hL : (i, Value.ref x) :: L.filter (fun q => !(q.1 == i) && !(q.1 + 1 == i && q.2.category == 2)) = L2) (K : Sm p l e R s m args below meth c Q A D nL cells slots ws (pc + 2) L2 S) : Sm p l e R s m args below meth c Q A D nL cells slots ws pc L (.ref x :: S) := fun H locs ls hP hD hS hl => lv_astore E.1 E.2.1 d hl hn hL (fun ls hl => K H locs ls hP hD hS hl)
theorem s_iinc (E : En p s m args meth c A cc nL own ret D tys gt) {i k : Nat} {n : Int} {x v : Int32} {L2 : List (Nat × Value)} (d : decode cc pc = .ok (.iinc i n, 3)) (hk : L[k]? = some (i, .int x)) (hv : x + Int32.ofInt n = v) (hn : i < nL) (hL : (i, Value.int v) :: L.filter (fun q => !(q.1 == i) && !(q.1 + 1 == i && q.2.category == 2)) = L2) (K : Sm p l e R s m args below meth c Q A D nL cells slots ws (pc + 3) L2 S) : Sm p l e R s m args below meth c Q A D nL cells slots ws pc L S := fun H locs ls hP hD hS hl => lv_iinc E.1 E.2.1 d hl hk hv hn hL (fun ls hl => K H locs ls hP hD hS hl)
theorem s_iadd (E : En p s m args meth c A cc nL own ret D tys gt) {x y : Int32} (d : decode cc pc = .ok (.iadd, 1))  (K : Sm p l e R s m args below meth c Q A D nL cells slots ws (pc + 1) L (.int (x + y) :: S)) : Sm p l e R s m args below meth c Q A D nL cells slots ws pc L (.int y :: .int x :: S) := fun H locs ls hP hD hS hl => lv_iadd E.1 E.2.1 d (K H locs ls hP hD hS hl)
theorem s_iadd_ (E : En p s m args meth c A cc nL own ret D tys gt) {x y v : Int32} (d : decode cc pc = .ok (.iadd, 1)) (hv : x + y = v) (K : Sm p l e R s m args below meth c Q A D nL cells slots ws (pc + 1) L (.int v :: S)) : Sm p l e R s m args below meth c Q A D nL cells slots ws pc L (.int y :: .int x :: S) := fun H locs ls hP hD hS hl => lv_iadd E.1 E.2.1 d (by rw [hv]; exact (K H locs ls hP hD hS hl))
theorem s_isub (E : En p s m args meth c A cc nL own ret D tys gt) {x y : Int32} (d : decode cc pc = .ok (.isub, 1))  (K : Sm p l e R s m args below meth c Q A D nL cells slots ws (pc + 1) L (.int (x - y) :: S)) : Sm p l e R s m args below meth c Q A D nL cells slots ws pc L (.int y :: .int x :: S) := fun H locs ls hP hD hS hl => lv_isub E.1 E.2.1 d (K H locs ls hP hD hS hl)
theorem s_isub_ (E : En p s m args meth c A cc nL own ret D tys gt) {x y v : Int32} (d : decode cc pc = .ok (.isub, 1)) (hv : x - y = v) (K : Sm p l e R s m args below meth c Q A D nL cells slots ws (pc + 1) L (.int v :: S)) : Sm p l e R s m args below meth c Q A D nL cells slots ws pc L (.int y :: .int x :: S) := fun H locs ls hP hD hS hl => lv_isub E.1 E.2.1 d (by rw [hv]; exact (K H locs ls hP hD hS hl))
theorem s_imul (E : En p s m args meth c A cc nL own ret D tys gt) {x y : Int32} (d : decode cc pc = .ok (.imul, 1))  (K : Sm p l e R s m args below meth c Q A D nL cells slots ws (pc + 1) L (.int (x * y) :: S)) : Sm p l e R s m args below meth c Q A D nL cells slots ws pc L (.int y :: .int x :: S) := fun H locs ls hP hD hS hl => lv_imul E.1 E.2.1 d (K H locs ls hP hD hS hl)
theorem s_imul_ (E : En p s m args meth c A cc nL own ret D tys gt) {x y v : Int32} (d : decode cc pc = .ok (.imul, 1)) (hv : x * y = v) (K : Sm p l e R s m args below meth c Q A D nL cells slots ws (pc + 1) L (.int v :: S)) : Sm p l e R s m args below meth c Q A D nL cells slots ws pc L (.int y :: .int x :: S) := fun H locs ls hP hD hS hl => lv_imul E.1 E.2.1 d (by rw [hv]; exact (K H locs ls hP hD hS hl))
theorem s_iand (E : En p s m args meth c A cc nL own ret D tys gt) {x y : Int32} (d : decode cc pc = .ok (.iand, 1))  (K : Sm p l e R s m args below meth c Q A D nL cells slots ws (pc + 1) L (.int (x &&& y) :: S)) : Sm p l e R s m args below meth c Q A D nL cells slots ws pc L (.int y :: .int x :: S) := fun H locs ls hP hD hS hl => lv_iand E.1 E.2.1 d (K H locs ls hP hD hS hl)
theorem s_iand_ (E : En p s m args meth c A cc nL own ret D tys gt) {x y v : Int32} (d : decode cc pc = .ok (.iand, 1)) (hv : x &&& y = v) (K : Sm p l e R s m args below meth c Q A D nL cells slots ws (pc + 1) L (.int v :: S)) : Sm p l e R s m args below meth c Q A D nL cells slots ws pc L (.int y :: .int x :: S) := fun H locs ls hP hD hS hl => lv_iand E.1 E.2.1 d (by rw [hv]; exact (K H locs ls hP hD hS hl))
theorem s_ior (E : En p s m args meth c A cc nL own ret D tys gt) {x y : Int32} (d : decode cc pc = .ok (.ior, 1))  (K : Sm p l e R s m args below meth c Q A D nL cells slots ws (pc + 1) L (.int (x ||| y) :: S)) : Sm p l e R s m args below meth c Q A D nL cells slots ws pc L (.int y :: .int x :: S) := fun H locs ls hP hD hS hl => lv_ior E.1 E.2.1 d (K H locs ls hP hD hS hl)
theorem s_ior_ (E : En p s m args meth c A cc nL own ret D tys gt) {x y v : Int32} (d : decode cc pc = .ok (.ior, 1)) (hv : x ||| y = v) (K : Sm p l e R s m args below meth c Q A D nL cells slots ws (pc + 1) L (.int v :: S)) : Sm p l e R s m args below meth c Q A D nL cells slots ws pc L (.int y :: .int x :: S) := fun H locs ls hP hD hS hl => lv_ior E.1 E.2.1 d (by rw [hv]; exact (K H locs ls hP hD hS hl))
theorem s_ixor (E : En p s m args meth c A cc nL own ret D tys gt) {x y : Int32} (d : decode cc pc = .ok (.ixor, 1))  (K : Sm p l e R s m args below meth c Q A D nL cells slots ws (pc + 1) L (.int (x ^^^ y) :: S)) : Sm p l e R s m args below meth c Q A D nL cells slots ws pc L (.int y :: .int x :: S) := fun H locs ls hP hD hS hl => lv_ixor E.1 E.2.1 d (K H locs ls hP hD hS hl)
theorem s_ixor_ (E : En p s m args meth c A cc nL own ret D tys gt) {x y v : Int32} (d : decode cc pc = .ok (.ixor, 1)) (hv : x ^^^ y = v) (K : Sm p l e R s m args below meth c Q A D nL cells slots ws (pc + 1) L (.int v :: S)) : Sm p l e R s m args below meth c Q A D nL cells slots ws pc L (.int y :: .int x :: S) := fun H locs ls hP hD hS hl => lv_ixor E.1 E.2.1 d (by rw [hv]; exact (K H locs ls hP hD hS hl))
theorem s_ishl (E : En p s m args meth c A cc nL own ret D tys gt) {x y : Int32} (d : decode cc pc = .ok (.ishl, 1))  (K : Sm p l e R s m args below meth c Q A D nL cells slots ws (pc + 1) L (.int (x <<< (y &&& 31)) :: S)) : Sm p l e R s m args below meth c Q A D nL cells slots ws pc L (.int y :: .int x :: S) := fun H locs ls hP hD hS hl => lv_ishl E.1 E.2.1 d (K H locs ls hP hD hS hl)
theorem s_ishl_ (E : En p s m args meth c A cc nL own ret D tys gt) {x y v : Int32} (d : decode cc pc = .ok (.ishl, 1)) (hv : x <<< (y &&& 31) = v) (K : Sm p l e R s m args below meth c Q A D nL cells slots ws (pc + 1) L (.int v :: S)) : Sm p l e R s m args below meth c Q A D nL cells slots ws pc L (.int y :: .int x :: S) := fun H locs ls hP hD hS hl => lv_ishl E.1 E.2.1 d (by rw [hv]; exact (K H locs ls hP hD hS hl))
theorem s_ishr (E : En p s m args meth c A cc nL own ret D tys gt) {x y : Int32} (d : decode cc pc = .ok (.ishr, 1))  (K : Sm p l e R s m args below meth c Q A D nL cells slots ws (pc + 1) L (.int (x >>> (y &&& 31)) :: S)) : Sm p l e R s m args below meth c Q A D nL cells slots ws pc L (.int y :: .int x :: S) := fun H locs ls hP hD hS hl => lv_ishr E.1 E.2.1 d (K H locs ls hP hD hS hl)
theorem s_ishr_ (E : En p s m args meth c A cc nL own ret D tys gt) {x y v : Int32} (d : decode cc pc = .ok (.ishr, 1)) (hv : x >>> (y &&& 31) = v) (K : Sm p l e R s m args below meth c Q A D nL cells slots ws (pc + 1) L (.int v :: S)) : Sm p l e R s m args below meth c Q A D nL cells slots ws pc L (.int y :: .int x :: S) := fun H locs ls hP hD hS hl => lv_ishr E.1 E.2.1 d (by rw [hv]; exact (K H locs ls hP hD hS hl))
theorem s_idiv_ (E : En p s m args meth c A cc nL own ret D tys gt) {x y v : Int32} (d : decode cc pc = .ok (.idiv, 1)) (hne : ¬ y = 0) (hv : x / y = v) (K : Sm p l e R s m args below meth c Q A D nL cells slots ws (pc + 1) L (.int v :: S)) : Sm p l e R s m args below meth c Q A D nL cells slots ws pc L (.int y :: .int x :: S) := fun H locs ls hP hD hS hl => lv_idiv E.1 E.2.1 d hne (by rw [hv]; exact (K H locs ls hP hD hS hl))
theorem s_irem_ (E : En p s m args meth c A cc nL own ret D tys gt) {x y v : Int32} (d : decode cc pc = .ok (.irem, 1)) (hne : ¬ y = 0) (hv : x - x / y * y = v) (K : Sm p l e R s m args below meth c Q A D nL cells slots ws (pc + 1) L (.int v :: S)) : Sm p l e R s m args below meth c Q A D nL cells slots ws pc L (.int y :: .int x :: S) := fun H locs ls hP hD hS hl => lv_irem E.1 E.2.1 d hne (by rw [hv]; exact (K H locs ls hP hD hS hl))
theorem s_ineg (E : En p s m args meth c A cc nL own ret D tys gt) {x : Int32} (d : decode cc pc = .ok (.ineg, 1))  (K : Sm p l e R s m args below meth c Q A D nL cells slots ws (pc + 1) L (.int (-x) :: S)) : Sm p l e R s m args below meth c Q A D nL cells slots ws pc L (.int x :: S) := fun H locs ls hP hD hS hl => lv_ineg E.1 E.2.1 d (K H locs ls hP hD hS hl)
theorem s_i2b (E : En p s m args meth c A cc nL own ret D tys gt) {x v : Int32} (d : decode cc pc = .ok (.i2b, 1)) (hv : x.toInt8.toInt32 = v) (K : Sm p l e R s m args below meth c Q A D nL cells slots ws (pc + 1) L (.int v :: S)) : Sm p l e R s m args below meth c Q A D nL cells slots ws pc L (.int x :: S) := fun H locs ls hP hD hS hl => lv_i2b E.1 E.2.1 d hv (K H locs ls hP hD hS hl)
theorem s_dup (E : En p s m args meth c A cc nL own ret D tys gt) {va : Value} (d : decode cc pc = .ok (.dup, 1)) (hva : va.category = 1) (K : Sm p l e R s m args below meth c Q A D nL cells slots ws (pc + 1) L (va :: va :: S)) : Sm p l e R s m args below meth c Q A D nL cells slots ws pc L (va :: S) := fun H locs ls hP hD hS hl => lv_dup E.1 E.2.1 d hva (K H locs ls hP hD hS hl)
theorem s_pop (E : En p s m args meth c A cc nL own ret D tys gt) {va : Value} (d : decode cc pc = .ok (.pop, 1)) (hva : va.category = 1) (K : Sm p l e R s m args below meth c Q A D nL cells slots ws (pc + 1) L (S)) : Sm p l e R s m args below meth c Q A D nL cells slots ws pc L (va :: S) := fun H locs ls hP hD hS hl => lv_pop E.1 E.2.1 d hva (K H locs ls hP hD hS hl)
theorem s_dup2 (E : En p s m args meth c A cc nL own ret D tys gt) {va vb : Value} (d : decode cc pc = .ok (.dup2, 1)) (hva : va.category = 1) (hvb : vb.category = 1) (K : Sm p l e R s m args below meth c Q A D nL cells slots ws (pc + 1) L (va :: vb :: va :: vb :: S)) : Sm p l e R s m args below meth c Q A D nL cells slots ws pc L (va :: vb :: S) := fun H locs ls hP hD hS hl => lv_dup2_11 E.1 E.2.1 d hva hvb (K H locs ls hP hD hS hl)
theorem s_null (E : En p s m args meth c A cc nL own ret D tys gt)  (d : decode cc pc = .ok (.aconst_null, 1))  (K : Sm p l e R s m args below meth c Q A D nL cells slots ws (pc + 1) L (.null :: S)) : Sm p l e R s m args below meth c Q A D nL cells slots ws pc L (S) := fun H locs ls hP hD hS hl => lv_null E.1 E.2.1 d (K H locs ls hP hD hS hl)
theorem s_ldc (E : En p s m args meth c A cc nL own ret D tys gt) {index : Nat} {v : Int32} (d : decode cc pc = .ok (.ldc index, 2)) (hq : Jvm.Cond.constant own index v ∈ lw_all) (K : Sm p l e R s m args below meth c Q A D nL cells slots ws (pc + 2) L (.int v :: S)) : Sm p l e R s m args below meth c Q A D nL cells slots ws pc L (S) := fun H locs ls hP hD hS hl => lv_ldc E.1 E.2.1 E.2.2.2.1 (E.2.2.2.2.1 _ hq) d (K H locs ls hP hD hS hl)
theorem s_if_eq (E : En p s m args meth c A cc nL own ret D tys gt) {x : Int32} {off : Int} {tgt : Nat} (d : decode cc pc = .ok (.ifCond .eq off, 3)) (ht : (pc : Int) + off = (tgt : Int)) (kt : x = 0 → Sm p l e R s m args below meth c Q A D nL cells slots ws tgt L S) (kf : ¬ (x = 0) → Sm p l e R s m args below meth c Q A D nL cells slots ws (pc + 3) L S) : Sm p l e R s m args below meth c Q A D nL cells slots ws pc L (.int x :: S) := fun H locs ls hP hD hS hl => lv_if_eq E.1 E.2.1 d ht (fun h => kt h H locs ls hP hD hS hl) (fun h => kf h H locs ls hP hD hS hl)
theorem s_if_ne (E : En p s m args meth c A cc nL own ret D tys gt) {x : Int32} {off : Int} {tgt : Nat} (d : decode cc pc = .ok (.ifCond .ne off, 3)) (ht : (pc : Int) + off = (tgt : Int)) (kt : ¬ x = 0 → Sm p l e R s m args below meth c Q A D nL cells slots ws tgt L S) (kf : x = 0 → Sm p l e R s m args below meth c Q A D nL cells slots ws (pc + 3) L S) : Sm p l e R s m args below meth c Q A D nL cells slots ws pc L (.int x :: S) := fun H locs ls hP hD hS hl => lv_if_ne E.1 E.2.1 d ht (fun h => kt h H locs ls hP hD hS hl) (fun h => kf h H locs ls hP hD hS hl)
theorem s_if_lt (E : En p s m args meth c A cc nL own ret D tys gt) {x : Int32} {off : Int} {tgt : Nat} (d : decode cc pc = .ok (.ifCond .lt off, 3)) (ht : (pc : Int) + off = (tgt : Int)) (kt : x < 0 → Sm p l e R s m args below meth c Q A D nL cells slots ws tgt L S) (kf : ¬ (x < 0) → Sm p l e R s m args below meth c Q A D nL cells slots ws (pc + 3) L S) : Sm p l e R s m args below meth c Q A D nL cells slots ws pc L (.int x :: S) := fun H locs ls hP hD hS hl => lv_if_lt E.1 E.2.1 d ht (fun h => kt h H locs ls hP hD hS hl) (fun h => kf h H locs ls hP hD hS hl)
theorem s_if_ge (E : En p s m args meth c A cc nL own ret D tys gt) {x : Int32} {off : Int} {tgt : Nat} (d : decode cc pc = .ok (.ifCond .ge off, 3)) (ht : (pc : Int) + off = (tgt : Int)) (kt : 0 ≤ x → Sm p l e R s m args below meth c Q A D nL cells slots ws tgt L S) (kf : ¬ (0 ≤ x) → Sm p l e R s m args below meth c Q A D nL cells slots ws (pc + 3) L S) : Sm p l e R s m args below meth c Q A D nL cells slots ws pc L (.int x :: S) := fun H locs ls hP hD hS hl => lv_if_ge E.1 E.2.1 d ht (fun h => kt h H locs ls hP hD hS hl) (fun h => kf h H locs ls hP hD hS hl)
theorem s_if_gt (E : En p s m args meth c A cc nL own ret D tys gt) {x : Int32} {off : Int} {tgt : Nat} (d : decode cc pc = .ok (.ifCond .gt off, 3)) (ht : (pc : Int) + off = (tgt : Int)) (kt : 0 < x → Sm p l e R s m args below meth c Q A D nL cells slots ws tgt L S) (kf : ¬ (0 < x) → Sm p l e R s m args below meth c Q A D nL cells slots ws (pc + 3) L S) : Sm p l e R s m args below meth c Q A D nL cells slots ws pc L (.int x :: S) := fun H locs ls hP hD hS hl => lv_if_gt E.1 E.2.1 d ht (fun h => kt h H locs ls hP hD hS hl) (fun h => kf h H locs ls hP hD hS hl)
theorem s_if_le (E : En p s m args meth c A cc nL own ret D tys gt) {x : Int32} {off : Int} {tgt : Nat} (d : decode cc pc = .ok (.ifCond .le off, 3)) (ht : (pc : Int) + off = (tgt : Int)) (kt : x ≤ 0 → Sm p l e R s m args below meth c Q A D nL cells slots ws tgt L S) (kf : ¬ (x ≤ 0) → Sm p l e R s m args below meth c Q A D nL cells slots ws (pc + 3) L S) : Sm p l e R s m args below meth c Q A D nL cells slots ws pc L (.int x :: S) := fun H locs ls hP hD hS hl => lv_if_le E.1 E.2.1 d ht (fun h => kt h H locs ls hP hD hS hl) (fun h => kf h H locs ls hP hD hS hl)
theorem s_icmp_eq (E : En p s m args meth c A cc nL own ret D tys gt) {x y : Int32} {off : Int} {tgt : Nat} (d : decode cc pc = .ok (.if_icmp .eq off, 3)) (ht : (pc : Int) + off = (tgt : Int)) (kt : x = y → Sm p l e R s m args below meth c Q A D nL cells slots ws tgt L S) (kf : ¬ (x = y) → Sm p l e R s m args below meth c Q A D nL cells slots ws (pc + 3) L S) : Sm p l e R s m args below meth c Q A D nL cells slots ws pc L (.int y :: .int x :: S) := fun H locs ls hP hD hS hl => lv_icmp_eq E.1 E.2.1 d ht (fun h => kt h H locs ls hP hD hS hl) (fun h => kf h H locs ls hP hD hS hl)
theorem s_icmp_ne (E : En p s m args meth c A cc nL own ret D tys gt) {x y : Int32} {off : Int} {tgt : Nat} (d : decode cc pc = .ok (.if_icmp .ne off, 3)) (ht : (pc : Int) + off = (tgt : Int)) (kt : ¬ x = y → Sm p l e R s m args below meth c Q A D nL cells slots ws tgt L S) (kf : x = y → Sm p l e R s m args below meth c Q A D nL cells slots ws (pc + 3) L S) : Sm p l e R s m args below meth c Q A D nL cells slots ws pc L (.int y :: .int x :: S) := fun H locs ls hP hD hS hl => lv_icmp_ne E.1 E.2.1 d ht (fun h => kt h H locs ls hP hD hS hl) (fun h => kf h H locs ls hP hD hS hl)
theorem s_icmp_lt (E : En p s m args meth c A cc nL own ret D tys gt) {x y : Int32} {off : Int} {tgt : Nat} (d : decode cc pc = .ok (.if_icmp .lt off, 3)) (ht : (pc : Int) + off = (tgt : Int)) (kt : x < y → Sm p l e R s m args below meth c Q A D nL cells slots ws tgt L S) (kf : ¬ (x < y) → Sm p l e R s m args below meth c Q A D nL cells slots ws (pc + 3) L S) : Sm p l e R s m args below meth c Q A D nL cells slots ws pc L (.int y :: .int x :: S) := fun H locs ls hP hD hS hl => lv_icmp_lt E.1 E.2.1 d ht (fun h => kt h H locs ls hP hD hS hl) (fun h => kf h H locs ls hP hD hS hl)
theorem s_icmp_ge (E : En p s m args meth c A cc nL own ret D tys gt) {x y : Int32} {off : Int} {tgt : Nat} (d : decode cc pc = .ok (.if_icmp .ge off, 3)) (ht : (pc : Int) + off = (tgt : Int)) (kt : y ≤ x → Sm p l e R s m args below meth c Q A D nL cells slots ws tgt L S) (kf : ¬ (y ≤ x) → Sm p l e R s m args below meth c Q A D nL cells slots ws (pc + 3) L S) : Sm p l e R s m args below meth c Q A D nL cells slots ws pc L (.int y :: .int x :: S) := fun H locs ls hP hD hS hl => lv_icmp_ge E.1 E.2.1 d ht (fun h => kt h H locs ls hP hD hS hl) (fun h => kf h H locs ls hP hD hS hl)
theorem s_icmp_gt (E : En p s m args meth c A cc nL own ret D tys gt) {x y : Int32} {off : Int} {tgt : Nat} (d : decode cc pc = .ok (.if_icmp .gt off, 3)) (ht : (pc : Int) + off = (tgt : Int)) (kt : y < x → Sm p l e R s m args below meth c Q A D nL cells slots ws tgt L S) (kf : ¬ (y < x) → Sm p l e R s m args below meth c Q A D nL cells slots ws (pc + 3) L S) : Sm p l e R s m args below meth c Q A D nL cells slots ws pc L (.int y :: .int x :: S) := fun H locs ls hP hD hS hl => lv_icmp_gt E.1 E.2.1 d ht (fun h => kt h H locs ls hP hD hS hl) (fun h => kf h H locs ls hP hD hS hl)
theorem s_icmp_le (E : En p s m args meth c A cc nL own ret D tys gt) {x y : Int32} {off : Int} {tgt : Nat} (d : decode cc pc = .ok (.if_icmp .le off, 3)) (ht : (pc : Int) + off = (tgt : Int)) (kt : x ≤ y → Sm p l e R s m args below meth c Q A D nL cells slots ws tgt L S) (kf : ¬ (x ≤ y) → Sm p l e R s m args below meth c Q A D nL cells slots ws (pc + 3) L S) : Sm p l e R s m args below meth c Q A D nL cells slots ws pc L (.int y :: .int x :: S) := fun H locs ls hP hD hS hl => lv_icmp_le E.1 E.2.1 d ht (fun h => kt h H locs ls hP hD hS hl) (fun h => kf h H locs ls hP hD hS hl)
theorem s_goto (E : En p s m args meth c A cc nL own ret D tys gt) {off : Int} {tgt : Nat} (d : decode cc pc = .ok (.goto off, 3)) (ht : (pc : Int) + off = (tgt : Int)) (K : Sm p l e R s m args below meth c Q A D nL cells slots ws tgt L S) : Sm p l e R s m args below meth c Q A D nL cells slots ws pc L S := fun H locs ls hP hD hS hl => lv_goto E.1 E.2.1 d ht (K H locs ls hP hD hS hl)
theorem s_nonnull (E : En p s m args meth c A cc nL own ret D tys gt) {x : Nat} {off : Int} {tgt : Nat} (d : decode cc pc = .ok (.ifnonnull off, 3)) (ht : (pc : Int) + off = (tgt : Int)) (K : Sm p l e R s m args below meth c Q A D nL cells slots ws tgt L S) : Sm p l e R s m args below meth c Q A D nL cells slots ws pc L (.ref x :: S) := fun H locs ls hP hD hS hl => lv_ifnonnull E.1 E.2.1 d ht (K H locs ls hP hD hS hl)
theorem s_nonnullN (E : En p s m args meth c A cc nL own ret D tys gt) {off : Int} (d : decode cc pc = .ok (.ifnonnull off, 3)) (K : Sm p l e R s m args below meth c Q A D nL cells slots ws (pc + 3) L S) : Sm p l e R s m args below meth c Q A D nL cells slots ws pc L (.null :: S) := fun H locs ls hP hD hS hl => lv_ifnonnullN E.1 E.2.1 d (K H locs ls hP hD hS hl)
theorem s_tableIn (E : En p s m args meth c A cc nL own ret D tys gt) {dflt lo hi : Int} {offs : Array Int} {len : Nat} {x : Int32} {off : Int} {tgt : Nat} (d : decode cc pc = .ok (.tableswitch dflt lo hi offs, len)) (h1 : ¬ x.toInt < lo) (h2 : ¬ hi < x.toInt) (ho : offs[(x.toInt - lo).toNat]? = some off) (ht : (pc : Int) + off = (tgt : Int)) (K : Sm p l e R s m args below meth c Q A D nL cells slots ws tgt L S) : Sm p l e R s m args below meth c Q A D nL cells slots ws pc L (.int x :: S) := fun H locs ls hP hD hS hl => lv_tableIn E.1 E.2.1 d h1 h2 ho ht (K H locs ls hP hD hS hl)
theorem s_tableOut (E : En p s m args meth c A cc nL own ret D tys gt) {dflt lo hi : Int} {offs : Array Int} {len : Nat} {x : Int32} {tgt : Nat} (d : decode cc pc = .ok (.tableswitch dflt lo hi offs, len)) (h : x.toInt < lo ∨ hi < x.toInt) (ht : (pc : Int) + dflt = (tgt : Int)) (K : Sm p l e R s m args below meth c Q A D nL cells slots ws tgt L S) : Sm p l e R s m args below meth c Q A D nL cells slots ws pc L (.int x :: S) := fun H locs ls hP hD hS hl => lv_tableOut E.1 E.2.1 d h ht (K H locs ls hP hD hS hl)
theorem s_loc {L2 : List (Nat × Value)} (ks : List Nat) (h : lv_pick L ks = L2) (K : Sm p l e R s m args below meth c Q A D nL cells slots ws pc L2 S) : Sm p l e R s m args below meth c Q A D nL cells slots ws pc L S := fun H locs ls hP hD hS hl => K H locs ls hP hD hS (lv_sub hl ks h)
theorem s_top {v v2 : Int32} (h : v = v2) (K : Sm p l e R s m args below meth c Q A D nL cells slots ws pc L (.int v2 :: S)) : Sm p l e R s m args below meth c Q A D nL cells slots ws pc L (.int v :: S) := h ▸ K
theorem s_L {L2 : List (Nat × Value)} (h : L = L2) (K : Sm p l e R s m args below meth c Q A D nL cells slots ws pc L2 S) : Sm p l e R s m args below meth c Q A D nL cells slots ws pc L S := h ▸ K
theorem s_ws {ws2 : va_W} (h : ws = ws2) (K : Sm p l e R s m args below meth c Q A D nL cells slots ws2 pc L S) : Sm p l e R s m args below meth c Q A D nL cells slots ws pc L S := h ▸ K
theorem s_by {ws2 : va_W} (is : List Nat) (hn : va_nd is = true) (hs : is.map (fun i => ws[i]?) = ws2.map some) (K : Sm p l e R s m args below meth c Q A D nL cells slots ws2 pc L S) : Sm p l e R s m args below meth c Q A D nL cells slots ws pc L S := fun H locs ls hP hD hS hl => K H locs ls (hP.sub is (by have h := congrArg (fun z => z.filterMap id) hs; simpa [List.filterMap_map, Function.comp_def] using h)) (hD.sub is hn hs) hS hl
theorem s_widen {k n : Nat} (h1 : cells ≤ k) (h2 : slots ≤ n) (K : Sm p l e R s m args below meth c Q A D nL k n ws pc L S) : Sm p l e R s m args below meth c Q A D nL cells slots ws pc L S := fun H locs ls hP hD hS hl => W.widen h1 h2 (K H locs ls hP hD hS hl)
theorem s_get (E : En p s m args meth c A cc nL own ret D tys gt) {C ref : String} {T : u_T} {N ci index a : Nat} {fs : List Value} {v : Value} (hin : ∀ w ∈ u_ws C T N, w ∈ lw_all) (q0 : Nat) (he : ws[q0]? = some (a, .inr (ci, fs))) (hc : vwCl[ci]? = some (C, T, N)) (k : Nat) (hk : k < N) (hq : Cond.fieldLink own index ref (T k).2.1 (T k).2.2.1 ∈ lw_all) (hv : fs[k]? = some v) (hs : (T k).1 = ref) (d : decode cc pc = .ok (.getfield index, 3)) (K : Sm p l e R s m args below meth c Q A D nL cells slots ws (pc + 3) L (v :: S)) : Sm p l e R s m args below meth c Q A D nL cells slots ws pc L (.ref a :: S) := fun H locs ls hP hD hS hl => va_get E.1 E.2.1 E.2.2.2.2.1 hin E.2.2.2.1 E.2.2.2.2.2.1 hP q0 he hc k hk (E.2.2.2.2.1 _ hq) (fun x h => by rw [← hs]; exact h) hv d (K H locs ls hP hD hS hl)
theorem s_getN (E : En p s m args meth c A cc nL own ret D tys gt) {C ref : String} {T : u_T} {N ci index a : Nat} {fs : List Value} {v : Value} {host : String} (hin : ∀ w ∈ u_ws C T N, w ∈ lw_all) (q0 : Nat) (he : ws[q0]? = some (a, .inr (ci, fs))) (hc : vwCl[ci]? = some (C, T, N)) (k : Nat) (hk : k < N) (hq : Cond.fieldLinkNest own index ref (T k).2.1 (T k).2.2.1 host ∈ lw_tbl) (hv : fs[k]? = some v) (hs : (T k).1 = ref) (d : decode cc pc = .ok (.getfield index, 3)) (K : Sm p l e R s m args below meth c Q A D nL cells slots ws (pc + 3) L (v :: S)) : Sm p l e R s m args below meth c Q A D nL cells slots ws pc L (.ref a :: S) := fun H locs ls hP hD hS hl => va_getN E.1 E.2.1 E.2.2.2.2.1 hin E.2.2.2.1 E.2.2.2.2.2.1 hP q0 he hc k hk (va_Nw.use rfl (E.2.2.2.2.2.2.1.2.2.2.1 _ hq rfl)) (fun x h => by rw [← hs]; exact h) hv d (K H locs ls hP hD hS hl)
theorem s_put (E : En p s m args meth c A cc nL own ret D tys gt) {C ref : String} {T : u_T} {N ci index a : Nat} {fs : List Value} {v : Value} {ws2 : va_W} (hin : ∀ w ∈ u_ws C T N, w ∈ lw_all) (ty0 : Nat → FieldType) (hty : ∀ k, k < N → parseFieldDescriptor (T k).2.2.1 = some (ty0 k)) (hnm : ∀ a, a < N → ∀ b, b < N → a ≠ b → (T a).2.1 ≠ (T b).2.1) (q0 : Nat) (he : ws[q0]? = some (a, .inr (ci, fs))) (hc : vwCl[ci]? = some (C, T, N)) (k : Nat) (hk : k < N) (hq : Cond.fieldLink own index ref (T k).2.1 (T k).2.2.1 ∈ lw_all) (hs : (T k).1 = ref) (hfin : (T k).2.2.2 = false) (hn : narrow (ty0 k) v = v) (hfit : fits (ty0 k) v = true) (hlen : k < fs.length) (hw : ws.set q0 (a, .inr (ci, fs.set k v)) = ws2) (d : decode cc pc = .ok (.putfield index, 3)) (K : Sm p l e R s m args below meth c Q A D nL cells slots ws2 (pc + 3) L S) : Sm p l e R s m args below meth c Q A D nL cells slots ws pc L (v :: .ref a :: S) := fun H locs ls hP hD hS hl => va_put E.1 E.2.1 E.2.2.2.2.1 hin ty0 hty hnm E.2.2.2.1 E.2.2.2.2.2.1 hP hD hS q0 he hc k hk (E.2.2.2.2.1 _ hq) (fun x h => by rw [← hs]; exact h) hfin (hty k hk) hn hfit hlen d (fun H locs hP hD hS => K H locs ls (hw ▸ hP) (hw ▸ hD) hS hl)
theorem s_iald (E : En p s m args meth c A cc nL own ret D tys gt) {a n : Nat} {cA : ClassId} {f : Nat → Int32} (q0 t0 : Nat) (ha : ws[q0]? = some (a, .inl (cA, n, .inl f))) (ht : tys[t0]? = some (cA, .int)) {i : Int32} {v : Int32} (N : Nat) (hi : i = nI N) (hN : N < n) (h31 : n < 2 ^ 31) (hv : f N = v) (d : decode cc pc = .ok (.iaload, 1)) (K : Sm p l e R s m args below meth c Q A D nL cells slots ws (pc + 1) L (.int v :: S)) : Sm p l e R s m args below meth c Q A D nL cells slots ws pc L (.int i :: .ref a :: S) := fun H locs ls hP hD hS hl => va_iald E.1 E.2.1 E.2.2.2.2.2.1 hP q0 t0 ha ht (by rw [hi]; exact vp_in_nI hN h31) d (by rw [hi, nI_clamp (Nat.lt_trans hN h31), hv]; exact (K H locs ls hP hD hS hl))
theorem s_zald (E : En p s m args meth c A cc nL own ret D tys gt) {a n : Nat} {cA : ClassId} {f : Nat → Int32} (q0 t0 : Nat) (ha : ws[q0]? = some (a, .inl (cA, n, .inl f))) (ht : tys[t0]? = some (cA, .boolean)) {i : Int32} {v : Int32} (N : Nat) (hi : i = nI N) (hN : N < n) (h31 : n < 2 ^ 31) (hv : f N = v) (d : decode cc pc = .ok (.baload, 1)) (K : Sm p l e R s m args below meth c Q A D nL cells slots ws (pc + 1) L (.int v :: S)) : Sm p l e R s m args below meth c Q A D nL cells slots ws pc L (.int i :: .ref a :: S) := fun H locs ls hP hD hS hl => va_zald E.1 E.2.1 E.2.2.2.2.2.1 hP q0 t0 ha ht (by rw [hi]; exact vp_in_nI hN h31) d (by rw [hi, nI_clamp (Nat.lt_trans hN h31), hv]; exact (K H locs ls hP hD hS hl))
theorem s_bald (E : En p s m args meth c A cc nL own ret D tys gt) {a n : Nat} {cA : ClassId} {f : Nat → Int32} (q0 t0 : Nat) (ha : ws[q0]? = some (a, .inl (cA, n, .inl f))) (ht : tys[t0]? = some (cA, .byte)) {i : Int32} {v : Int32} (N : Nat) (hi : i = nI N) (hN : N < n) (h31 : n < 2 ^ 31) (hv : f N = v) (d : decode cc pc = .ok (.baload, 1)) (K : Sm p l e R s m args below meth c Q A D nL cells slots ws (pc + 1) L (.int v :: S)) : Sm p l e R s m args below meth c Q A D nL cells slots ws pc L (.int i :: .ref a :: S) := fun H locs ls hP hD hS hl => va_bald E.1 E.2.1 E.2.2.2.2.2.1 hP q0 t0 ha ht (by rw [hi]; exact vp_in_nI hN h31) d (by rw [hi, nI_clamp (Nat.lt_trans hN h31), hv]; exact (K H locs ls hP hD hS hl))
theorem s_iast (E : En p s m args meth c A cc nL own ret D tys gt) {a n : Nat} {cA : ClassId} {f : Nat → Int32} {ws2 : va_W} (q0 t0 : Nat) (ha : ws[q0]? = some (a, .inl (cA, n, .inl f))) (ht : tys[t0]? = some (cA, .int)) {i x : Int32} (N : Nat) (hi : i = nI N) (hN : N < n) (h31 : n < 2 ^ 31) (hw : ws.set q0 (a, .inl (cA, n, .inl (upd f N x))) = ws2) (d : decode cc pc = .ok (.iastore, 1)) (K : Sm p l e R s m args below meth c Q A D nL cells slots ws2 (pc + 1) L S) : Sm p l e R s m args below meth c Q A D nL cells slots ws pc L (.int x :: .int i :: .ref a :: S) := fun H locs ls hP hD hS hl => va_iast E.1 E.2.1 E.2.2.2.2.2.1 hP hD hS q0 t0 ha ht (by rw [hi]; exact vp_in_nI hN h31) d (fun H locs hP hD hS => by rw [hi, nI_clamp (Nat.lt_trans hN h31), hw] at hP hD; exact K H locs ls hP hD hS hl)
theorem s_zast (E : En p s m args meth c A cc nL own ret D tys gt) {a n : Nat} {cA : ClassId} {f : Nat → Int32} {ws2 : va_W} (q0 t0 : Nat) (ha : ws[q0]? = some (a, .inl (cA, n, .inl f))) (ht : tys[t0]? = some (cA, .boolean)) {i x : Int32} {y : Int32} (hy : vp_nar .boolean x = y) (N : Nat) (hi : i = nI N) (hN : N < n) (h31 : n < 2 ^ 31) (hw : ws.set q0 (a, .inl (cA, n, .inl (upd f N y))) = ws2) (d : decode cc pc = .ok (.bastore, 1)) (K : Sm p l e R s m args below meth c Q A D nL cells slots ws2 (pc + 1) L S) : Sm p l e R s m args below meth c Q A D nL cells slots ws pc L (.int x :: .int i :: .ref a :: S) := fun H locs ls hP hD hS hl => va_zast E.1 E.2.1 E.2.2.2.2.2.1 hP hD hS q0 t0 ha ht (by rw [hi]; exact vp_in_nI hN h31) d (fun H locs hP hD hS => by rw [hi, nI_clamp (Nat.lt_trans hN h31), hy, hw] at hP hD; exact K H locs ls hP hD hS hl)
theorem s_bast (E : En p s m args meth c A cc nL own ret D tys gt) {a n : Nat} {cA : ClassId} {f : Nat → Int32} {ws2 : va_W} (q0 t0 : Nat) (ha : ws[q0]? = some (a, .inl (cA, n, .inl f))) (ht : tys[t0]? = some (cA, .byte)) {i x : Int32} {y : Int32} (hy : vp_nar .byte x = y) (N : Nat) (hi : i = nI N) (hN : N < n) (h31 : n < 2 ^ 31) (hw : ws.set q0 (a, .inl (cA, n, .inl (upd f N y))) = ws2) (d : decode cc pc = .ok (.bastore, 1)) (K : Sm p l e R s m args below meth c Q A D nL cells slots ws2 (pc + 1) L S) : Sm p l e R s m args below meth c Q A D nL cells slots ws pc L (.int x :: .int i :: .ref a :: S) := fun H locs ls hP hD hS hl => va_bast E.1 E.2.1 E.2.2.2.2.2.1 hP hD hS q0 t0 ha ht (by rw [hi]; exact vp_in_nI hN h31) d (fun H locs hP hD hS => by rw [hi, nI_clamp (Nat.lt_trans hN h31), hy, hw] at hP hD; exact K H locs ls hP hD hS hl)
theorem s_alen (E : En p s m args meth c A cc nL own ret D tys gt) {a : Nat} {cA : ClassId} {x : vp_A} (q0 t0 : Nat) (ha : ws[q0]? = some (a, .inl (cA, x))) {ty : FieldType} (ht : tys[t0]? = some (cA, ty)) {v : Int32} (hv : Int32.ofNat x.1 = v) (d : decode cc pc = .ok (.arraylength, 1)) (K : Sm p l e R s m args below meth c Q A D nL cells slots ws (pc + 1) L (.int v :: S)) : Sm p l e R s m args below meth c Q A D nL cells slots ws pc L (.ref a :: S) := fun H locs ls hP hD hS hl => va_alen E.1 E.2.1 E.2.2.2.2.2.1 hP q0 t0 ha ht hv d (K H locs ls hP hD hS hl)
theorem s_aald (E : En p s m args meth c A cc nL own ret D tys gt) {a n : Nat} {cA : ClassId} {C : String} {f : Nat → Option Nat} (q0 t0 : Nat) (ha : ws[q0]? = some (a, .inl (cA, n, .inr (.inr (.inr (.inr f)))))) (ht : tys[t0]? = some (cA, .object C)) {i : Int32} {v : Value} (N : Nat) (hi : i = nI N) (hN : N < n) (h31 : n < 2 ^ 31) (hv : va_rf (f N) = v) (d : decode cc pc = .ok (.aaload, 1)) (K : Sm p l e R s m args below meth c Q A D nL cells slots ws (pc + 1) L (v :: S)) : Sm p l e R s m args below meth c Q A D nL cells slots ws pc L (.int i :: .ref a :: S) := fun H locs ls hP hD hS hl => va_aldq E.1 E.2.1 E.2.2.2.2.2.1 hP q0 t0 ha ht (by rw [hi]; exact vp_in_nI hN h31) d (by rw [hi, nI_clamp (Nat.lt_trans hN h31), hv]; exact (K H locs ls hP hD hS hl))
theorem s_getsT (E : En p s m args meth c A cc nL own ret D tys gt) {index : Nat} {C n dd : String} {v : Value} (hZ : va_Z C n dd v A s s.heap) (hq : Cond.fieldLink own index C n dd ∈ lw_all) (d : decode cc pc = .ok (.getstatic index, 3)) (K : Sm p l e R s m args below meth c Q A D nL cells slots ws (pc + 3) L (v :: S)) : Sm p l e R s m args below meth c Q A D nL cells slots ws pc L S := fun H locs ls hP hD hS hl => va_gets E.1 E.2.1 hZ hS E.2.2.2.1 (E.2.2.2.2.1 _ hq) (fun x h => h) d (K H locs ls hP hD hS hl)
theorem s_tald (E : En p s m args meth c A cc nL own ret D tys gt) {t M : Nat} {f : Nat → Value} (hT : va_T .int t M f A s s.heap) {i : Int32} {v : Value} (N : Nat) (hi : i = nI N) (hN : N < M) (h31 : M < 2 ^ 31) (hv : f N = v) (d : decode cc pc = .ok (.iaload, 1)) (K : Sm p l e R s m args below meth c Q A D nL cells slots ws (pc + 1) L (v :: S)) : Sm p l e R s m args below meth c Q A D nL cells slots ws pc L (.int i :: .ref t :: S) := fun H locs ls hP hD hS hl => va_ti E.1 E.2.1 hT hS (by rw [hi]; exact vp_in_nI hN h31) (by rw [hi, nI_clamp (Nat.lt_trans hN h31), hv]) d (K H locs ls hP hD hS hl)
end SmRows
/-! CONTRACTS -/
def CPre (gt : Nat → Nat) (D : va_G) (wsI : va_W) (tys : List (ClassId × FieldType)) (sz : Nat) : State → Prop := fun U => U.heap.size = sz ∧ va_P D vwCl wsI U.heap ∧ va_K D vwCl tys U ∧ va_D (fun _ => True) wsI ∧ GN gt (va_A wsI sz) U U.heap
def CB {S : Type} (D : va_G) (wsO : S → va_W) (tyO : S → List (ClassId × FieldType)) (A : Nat → Prop) (u : S) (t : State) : Prop := va_P D vwCl (wsO u) t.heap ∧ va_K D vwCl (tyO u) t ∧ va_D A (wsO u)
/-- a contract: its end Qc by the heap's size at its start -/
def Cm (l : Launch) (D : va_G) (gt : Nat → Nat) (y : MethodName) (cc : ByteArray) (nl : Nat) (ret : Option FieldType) (fr lo mc ms : Nat) (As : List Value) (wsI : va_W) (tys : List (ClassId × FieldType)) (Qc : Nat → Array Value → State → Outcome → State → Prop) : Prop :=
  ∀ sz : Nat, Met l y (ws_ y cc nl ret) { frames := fr, cells := mc, slots := ms, locals := lo } (va_Pc As (CPre gt D wsI tys sz)) (Qc sz) mc ms (va_A wsI sz)
def Ct {S : Type} (l : Launch) (D : va_G) (gt : Nat → Nat) (y : MethodName) (cc : ByteArray) (nl : Nat) (ty : FieldType) (fr lo mc ms : Nat) (As : List Value) (wsI : va_W) (tys : List (ClassId × FieldType)) (post : Int32 → S → Prop) (wsO : S → va_W) (tyO : S → List (ClassId × FieldType)) : Prop :=
  Cm l D gt y cc nl (some ty) fr lo mc ms As wsI tys (fun sz => va_Qi post (CB D wsO tyO (va_A wsI sz)) (va_A wsI sz))
def Cv {S : Type} (l : Launch) (D : va_G) (gt : Nat → Nat) (y : MethodName) (cc : ByteArray) (nl : Nat) (fr lo mc ms : Nat) (As : List Value) (wsI : va_W) (tys : List (ClassId × FieldType)) (post : S → Prop) (wsO : S → va_W) (tyO : S → List (ClassId × FieldType)) : Prop :=
  Cm l D gt y cc nl none fr lo mc ms As wsI tys (fun sz => va_Qv post (CB D wsO tyO (va_A wsI sz)) (va_A wsI sz))
def Cr {S : Type} (l : Launch) (D : va_G) (gt : Nat → Nat) (y : MethodName) (cc : ByteArray) (nl : Nat) (ty : FieldType) (fr lo mc ms : Nat) (As : List Value) (wsI : va_W) (tys : List (ClassId × FieldType)) (post : S → Prop) (ra : S → Nat) (wsO : S → va_W) (tyO : S → List (ClassId × FieldType)) : Prop :=
  Cm l D gt y cc nl (some ty) fr lo mc ms As wsI tys (fun sz => va_Qr post (fun u a t => a = ra u ∧ CB D wsO tyO (va_A wsI sz) u t) (va_A wsI sz))
theorem fm_of {α : Type} {f : Nat → Option α} {is : List Nat} {w : List α} (h : is.map f = w.map some) : is.filterMap f = w := by
  induction is generalizing w with
  | nil => cases w with
    | nil => rfl
    | cons a b => simp at h
  | cons i is ih => cases w with
    | nil => simp at h
    | cons a b =>
      simp only [List.map_cons, List.cons.injEq] at h
      rw [List.filterMap_cons, h.1, ih h.2]
theorem CPre.blind {gt : Nat → Nat} {D : va_G} {wsI : va_W} {tys : List (ClassId × FieldType)} {sz : Nat} {As : List Value} : FrameBlind (va_Pc As (CPre gt D wsI tys sz)) := by
  intro a U g mk q
  obtain ⟨q0, q1, qP, qK, qD, qG, qV⟩ := q
  exact ⟨q0, q1, qP, va_K.moved (u := U) (U := U.calling g mk a) (Vm.Alike.refl U.vm) qK, qD, GS.moved (u := U) (U := U.calling g mk a) (Vm.Alike.refl U.vm) qG, GV.same (u := U) (U := U.calling g mk a) rfl qV⟩
section Starts
variable {l : Launch} {D : va_G} {gt : Nat → Nat} {y : MethodName} {cc : ByteArray} {nl : Nat} {fr lo mc ms : Nat} {As : List Value} {wsI : va_W} {tys : List (ClassId × FieldType)} {S : Type} {wsO : S → va_W} {tyO : S → List (ClassId × FieldType)} {L0 : List (Nat × Value)}

theorem Ct.start {ty : FieldType} {post : Int32 → S → Prop} (own : String) (hy : plainName y.cls = true) (hcls : y.cls = own) (hlen : (lg_sl As).length ≤ nl) (hL : lv_args 0 As = L0)
    (h : ∀ (p : Program) (e : Env) (s : State) (m : MethodId) (args : Array Value) (below : List Frame) (meth : Method) (c : Code) (Q : State → Prop) (A : Nat → Prop), En p s m args meth c A cc nl own (some ty) D tys gt →
      (∀ {pc : Nat} {L : List (Nat × Value)} {ws : va_W} {cells slots : Nat} (v : Int32) (u : S), decode cc pc = .ok (.ireturn, 1) → post v u → ws = wsO u → cells ≤ mc → slots ≤ ms → narrow ty (.int v) = .int v → va_K D vwCl (tyO u) s → Sm p l e { frames := fr, cells := mc, slots := ms, locals := lo } s m args below meth c Q A D nl cells slots ws pc L [.int v]) →
      Sm p l e { frames := fr, cells := mc, slots := ms, locals := lo } s m args below meth c Q A D nl 0 0 wsI 0 L0 []) : Ct l D gt y cc nl ty fr lo mc ms As wsI tys post wsO tyO := by
  intro sz
  refine Met.ofW (cc := cc) (maxL := nl) (ret := (some ty)) hy rfl ?_
  intro p e s m args below meth c s₁ B hml hv
  obtain ⟨rfl, hsz, hP, hK, hD0, hG⟩ := hv
  have hx := B.exec
  have hb := B.bytes
  have hr := B.returns
  have hts := atoms_spec (ws := ws_ y cc nl (some ty)) B.pre
  have hts : ∀ w ∈ lw_all, w.before _ s = true := fun w h => hts w (List.mem_cons_of_mem _ h)
  have hown : s.vm.findClass own = some m.cls := by rw [← hcls]; exact findClass_of_methodNamed B.named
  have hlocks := B.notSynchronized
  subst hsz
  have hD := hD0.self (sz := s.heap.size)
  have hS : va_S (va_A wsI s.heap.size) s.heap s.heap [] := va_S.rf
  have hl := lv_entry As (n := nl) hlen
  rw [lg_entry_eq]
  generalize (lg_sl As ++ List.replicate (nl - (lg_sl As).length) Slot.unset).toArray = ls at hl ⊢
  rw [hL] at hl
  refine h p e s m _ below meth c _ (va_A wsI s.heap.size) ⟨hx, hb, hml, hown, hts, hK, hG, hlocks, hr, fun q h => Or.inr h⟩ ?_ s.heap [] ls hP hD hS hl
  intro pc L ws cells slots v u d hp hw h1 h2 hn hK2 H locs ls hP hD hS hl
  subst hw
  exact W.widen h1 h2 (W.zret hx hb hr hn (fun t ht hW => ⟨⟨v, u, rfl, hp, by rw [ht]; exact hP, va_K.moved hW.alike hK2, hD⟩, hS.F ht⟩) hS.2.2 d hlocks)
theorem Cv.start {post : S → Prop} (own : String) (hy : plainName y.cls = true) (hcls : y.cls = own) (hlen : (lg_sl As).length ≤ nl) (hL : lv_args 0 As = L0)
    (h : ∀ (p : Program) (e : Env) (s : State) (m : MethodId) (args : Array Value) (below : List Frame) (meth : Method) (c : Code) (Q : State → Prop) (A : Nat → Prop), En p s m args meth c A cc nl own none D tys gt →
      (∀ {pc : Nat} {L : List (Nat × Value)} {ws : va_W} {cells slots : Nat} (u : S), decode cc pc = .ok (.return_, 1) → post u → ws = wsO u → cells ≤ mc → slots ≤ ms → va_K D vwCl (tyO u) s → Sm p l e { frames := fr, cells := mc, slots := ms, locals := lo } s m args below meth c Q A D nl cells slots ws pc L []) →
      Sm p l e { frames := fr, cells := mc, slots := ms, locals := lo } s m args below meth c Q A D nl 0 0 wsI 0 L0 []) : Cv l D gt y cc nl fr lo mc ms As wsI tys post wsO tyO := by
  intro sz
  refine Met.ofW (cc := cc) (maxL := nl) (ret := none) hy rfl ?_
  intro p e s m args below meth c s₁ B hml hv
  obtain ⟨rfl, hsz, hP, hK, hD0, hG⟩ := hv
  have hx := B.exec
  have hb := B.bytes
  have hr := B.returns
  have hts := atoms_spec (ws := ws_ y cc nl none) B.pre
  have hts : ∀ w ∈ lw_all, w.before _ s = true := fun w h => hts w (List.mem_cons_of_mem _ h)
  have hown : s.vm.findClass own = some m.cls := by rw [← hcls]; exact findClass_of_methodNamed B.named
  have hlocks := B.notSynchronized
  subst hsz
  have hD := hD0.self (sz := s.heap.size)
  have hS : va_S (va_A wsI s.heap.size) s.heap s.heap [] := va_S.rf
  have hl := lv_entry As (n := nl) hlen
  rw [lg_entry_eq]
  generalize (lg_sl As ++ List.replicate (nl - (lg_sl As).length) Slot.unset).toArray = ls at hl ⊢
  rw [hL] at hl
  refine h p e s m _ below meth c _ (va_A wsI s.heap.size) ⟨hx, hb, hml, hown, hts, hK, hG, hlocks, hr, fun q h => Or.inr h⟩ ?_ s.heap [] ls hP hD hS hl
  intro pc L ws cells slots u d hp hw h1 h2 hK2 H locs ls hP hD hS hl
  subst hw
  exact W.widen h1 h2 (W.vret hx hb hr (fun t ht hW => ⟨⟨u, rfl, hp, by rw [ht]; exact hP, va_K.moved hW.alike hK2, hD⟩, hS.F ht⟩) hS.2.2 d hlocks)
theorem Cr.start {ty : FieldType} {post : S → Prop} {ra : S → Nat} (hrt : (∃ n, ty = .object n) ∨ ∃ t, ty = .array t) (own : String) (hy : plainName y.cls = true) (hcls : y.cls = own) (hlen : (lg_sl As).length ≤ nl) (hL : lv_args 0 As = L0)
    (h : ∀ (p : Program) (e : Env) (s : State) (m : MethodId) (args : Array Value) (below : List Frame) (meth : Method) (c : Code) (Q : State → Prop) (A : Nat → Prop), En p s m args meth c A cc nl own (some ty) D tys gt →
      (∀ {pc : Nat} {L : List (Nat × Value)} {ws : va_W} {cells slots : Nat} (v : Nat) (u : S), decode cc pc = .ok (.areturn, 1) → post u → v = ra u → ws = wsO u → cells ≤ mc → slots ≤ ms → va_K D vwCl (tyO u) s → Sm p l e { frames := fr, cells := mc, slots := ms, locals := lo } s m args below meth c Q A D nl cells slots ws pc L [.ref v]) →
      Sm p l e { frames := fr, cells := mc, slots := ms, locals := lo } s m args below meth c Q A D nl 0 0 wsI 0 L0 []) : Cr l D gt y cc nl ty fr lo mc ms As wsI tys post ra wsO tyO := by
  intro sz
  refine Met.ofW (cc := cc) (maxL := nl) (ret := (some ty)) hy rfl ?_
  intro p e s m args below meth c s₁ B hml hv
  obtain ⟨rfl, hsz, hP, hK, hD0, hG⟩ := hv
  have hx := B.exec
  have hb := B.bytes
  have hr := B.returns
  have hts := atoms_spec (ws := ws_ y cc nl (some ty)) B.pre
  have hts : ∀ w ∈ lw_all, w.before _ s = true := fun w h => hts w (List.mem_cons_of_mem _ h)
  have hown : s.vm.findClass own = some m.cls := by rw [← hcls]; exact findClass_of_methodNamed B.named
  have hlocks := B.notSynchronized
  subst hsz
  have hD := hD0.self (sz := s.heap.size)
  have hS : va_S (va_A wsI s.heap.size) s.heap s.heap [] := va_S.rf
  have hl := lv_entry As (n := nl) hlen
  rw [lg_entry_eq]
  generalize (lg_sl As ++ List.replicate (nl - (lg_sl As).length) Slot.unset).toArray = ls at hl ⊢
  rw [hL] at hl
  refine h p e s m _ below meth c _ (va_A wsI s.heap.size) ⟨hx, hb, hml, hown, hts, hK, hG, hlocks, hr, fun q h => Or.inr h⟩ ?_ s.heap [] ls hP hD hS hl
  intro pc L ws cells slots v u d hp hv hw h1 h2 hK2 H locs ls hP hD hS hl
  subst hw
  exact W.widen h1 h2 (W.aret hx hb hr hrt (Or.inr ⟨v, rfl⟩) (fun t ht hW => ⟨⟨u, v, rfl, hp, hv, by rw [ht]; exact hP, va_K.moved hW.alike hK2, hD⟩, hS.F ht⟩) hS.2.2 d hlocks)
end Starts
/-! CALLS: what a call of an index stands on, said once; the cut; the run; what goes on -/
def KV (own : String) (idx : Nat) (C : String) (y : MethodName) (b : ByteArray) (nl : Nat) (r : Option FieldType) (n : Nat) : Prop := Cond.methodLink own idx y ∈ lw_all ∧ Cond.instanceMethod y ∈ lw_all ∧ Cond.selects C y y ∈ lw_all ∧ Cond.initialized C ∈ lw_all ∧ Cond.code y b nl r ∈ lw_all ∧ (y.cls = C ∧ y.cls ≠ "java/lang/invoke/MethodHandle" ∧ y.cls ≠ "java/lang/invoke/VarHandle" ∧ (parseMethodDescriptor y.desc).map (fun d => d.parameters.length) = some n)
def KS (own : String) (idx : Nat) (y : MethodName) (b : ByteArray) (nl : Nat) (r : Option FieldType) (n : Nat) : Prop := Cond.methodLink own idx y ∈ lw_all ∧ Cond.static y ∈ lw_all ∧ Cond.initialized y.cls ∈ lw_all ∧ Cond.code y b nl r ∈ lw_all ∧ (y.cls ≠ "java/lang/invoke/MethodHandle" ∧ y.cls ≠ "java/lang/invoke/VarHandle" ∧ (parseMethodDescriptor y.desc).map (fun d => d.parameters.length) = some n)
def KI (own : String) (idx : Nat) (y : MethodName) (b : ByteArray) (nl : Nat) (n : Nat) : Prop := Cond.methodLink own idx y ∈ lw_all ∧ Cond.instanceMethod y ∈ lw_all ∧ Cond.initialized y.cls ∈ lw_all ∧ Cond.code y b nl none ∈ lw_all ∧ y.name = "<init>" ∧ (y.cls ≠ "java/lang/invoke/MethodHandle" ∧ y.cls ≠ "java/lang/invoke/VarHandle" ∧ (parseMethodDescriptor y.desc).map (fun d => d.parameters.length) = some n)
/-- the cut: the callee's cells and types by their places, the rest -/
def Cut (ws wc wr : va_W) (tys tyc : List (ClassId × FieldType)) (isC isR isT : List Nat) : Prop := isC.map (fun i => ws[i]?) = wc.map some ∧ isR.map (fun i => ws[i]?) = wr.map some ∧ va_nd isC = true ∧ va_nd isR = true ∧ (∀ i ∈ isR, i ∉ isC) ∧ isT.filterMap (fun i => tys[i]?) = tyc
section Calls
variable {p : Program} {l : Launch} {e : Env} {R : Room} {s : State} {m : MethodId} {args : Array Value} {below : List Frame} {meth : Method} {c : Code} {Q : State → Prop} {A : Nat → Prop} {D : va_G} {nL cells slots : Nat} {ws : va_W} {pc : Nat} {L : List (Nat × Value)}
variable {cc : ByteArray} {own : String} {ret : Option FieldType} {tys tyc : List (ClassId × FieldType)} {gt : Nat → Nat}
variable {y : MethodName} {b : ByteArray} {nl fr lo mc ms n index : Nat} {r : Option FieldType} {As S0 S1 : List Value} {wc wr : va_W} {isC isR isT : List Nat} {Qc : Nat → Array Value → State → Outcome → State → Prop}
/-- the callee's start holds where the caller stands -/
theorem pre_of (E : En p s m args meth c A cc nL own ret D tys gt) (hcut : Cut ws wc wr tys tyc isC isR isT) {H : Heap} {locs : List Loc} (hP : va_P D vwCl ws H) (hD : va_D A ws) (hS : va_S A s.heap H locs) (Bs : List Value) : ∀ U : State, U.heap = H → s.WarmedH U.vm → (va_Pc Bs (CPre gt D wc tyc H.size)) Bs.toArray U := by
  obtain ⟨h1, h2, h3, h4, h5, h6⟩ := hcut
  intro U hU hW
  have hF : ∀ q, va_A wc H.size q → A q := va_free hD hS E.2.2.2.2.2.2.2.2.2 isC h1
  have hG := E.2.2.2.2.2.2.1
  refine ⟨rfl, by rw [hU], by rw [hU]; exact hP.sub isC (fm_of h1), va_K.moved hW.alike (E.2.2.2.2.2.1.sub isT h6), (hD.sub isC h3 h1).weaken (fun _ _ _ _ => trivial), ?_, hG.2.warm hW⟩
  rw [hU]
  exact ((hG.1.kept (fun q hq hn => hS.2.1 q hq hn)).narrow hF).moved hW.alike
def Rn (p : Program) (l : Launch) (e : Env) (R : Room) (s : State) (m : MethodId) (args : Array Value) (below : List Frame) (meth : Method) (c : Code) (A : Nat → Prop) (D : va_G) (nL cells slots mc ms : Nat) (ws wc : va_W) (pc : Nat) (L : List (Nat × Value)) (S1 S0 Bs : List Value) (Qc : Nat → Array Value → State → Outcome → State → Prop) : Prop :=
  ∀ (H : Heap) (locs : List Loc) (ls : Array Slot), va_P D vwCl ws H → va_D A ws → va_S A s.heap H locs → lv_has ls nL L → va_Run p l e R s m args below meth c H locs cells slots mc ms (F0 m pc ls S1) S0 (Qc H.size Bs.toArray) (va_A wc H.size)
theorem rV {bb : Nat} {C : String} (E : En p s m args meth c A cc nL own ret D tys gt) (hcut : Cut ws wc wr tys tyc isC isR isT) (hM : Cm l D gt y b nl r fr lo mc ms (.ref bb :: As) wc tyc Qc) (hK : KV own index C y b nl r n) (hfr : fr + 1 ≤ R.frames) (hlo : 8 + (nl + 11) + lo ≤ R.locals) (hmc : cells + mc ≤ R.cells) (hms : slots + ms ≤ R.slots)
    {ci N : Nat} {T : u_T} {fs : List Value} (qb : Nat) (hb : ws[qb]? = some (bb, .inr (ci, fs))) (hci : vwCl[ci]? = some (C, T, N)) (hn : As.length = n) (hst : S1 = As.reverse ++ .ref bb :: S0) (hcat : (S0.map fun v => v.category).sum ≤ 8) (d : decode cc pc = .ok (.invokevirtual index, 3)) :
    Rn p l e R s m args below meth c A D nL cells slots mc ms ws wc pc L S1 S0 (.ref bb :: As) Qc := by
  intro H locs ls hP hD hS hl
  obtain ⟨k1, k2, k3, k4, k5, k6⟩ := hK
  exact va_runV (As := As) (rest := S0) ⟨E.1, E.2.1, E.2.2.1, E.2.2.2.1, E.2.2.2.2.1⟩ (hM H.size) (cwV n E.2.2.2.2.1 (lw_V k1 k2 k3 k4 k5) rfl rfl rfl k6 ⟨hfr, hlo⟩) ⟨CPre.blind, va_recv E.2.2.2.2.2.1 hP hci hb, pre_of E hcut hP hD hS _⟩ rfl hn hl.1 hst (lv_room hcat) d ⟨hmc, hms⟩
theorem rS (E : En p s m args meth c A cc nL own ret D tys gt) (hcut : Cut ws wc wr tys tyc isC isR isT) (hM : Cm l D gt y b nl r fr lo mc ms As wc tyc Qc) (hK : KS own index y b nl r n) (hfr : fr + 1 ≤ R.frames) (hlo : 8 + (nl + 11) + lo ≤ R.locals) (hmc : cells + mc ≤ R.cells) (hms : slots + ms ≤ R.slots)
    (hn : As.length = n) (hst : S1 = As.reverse ++ S0) (hcat : (S0.map fun v => v.category).sum ≤ 8) (d : decode cc pc = .ok (.invokestatic index, 3)) :
    Rn p l e R s m args below meth c A D nL cells slots mc ms ws wc pc L S1 S0 As Qc := by
  intro H locs ls hP hD hS hl
  obtain ⟨k1, k2, k3, k4, k5⟩ := hK
  exact va_runS (As := As) (rest := S0) ⟨E.1, E.2.1, E.2.2.1, E.2.2.2.1, E.2.2.2.2.1⟩ (hM H.size) (va_cwS n E.2.2.2.2.1 (lw_S k1 k2 k3 k4) rfl rfl rfl k5 ⟨hfr, hlo⟩) ⟨CPre.blind, pre_of E hcut hP hD hS _⟩ rfl hn hl.1 hst (lv_room hcat) d ⟨hmc, hms⟩
theorem rI {bb : Nat} (E : En p s m args meth c A cc nL own ret D tys gt) (hcut : Cut ws wc wr tys tyc isC isR isT) (hM : Cm l D gt y b nl none fr lo mc ms (.ref bb :: As) wc tyc Qc) (hK : KI own index y b nl n) (hfr : fr + 1 ≤ R.frames) (hlo : 8 + (nl + 11) + lo ≤ R.locals) (hmc : cells + mc ≤ R.cells) (hms : slots + ms ≤ R.slots)
    (hn : As.length = n) (hst : S1 = As.reverse ++ .ref bb :: S0) (hcat : (S0.map fun v => v.category).sum ≤ 8) (d : decode cc pc = .ok (.invokespecial index, 3)) :
    Rn p l e R s m args below meth c A D nL cells slots mc ms ws wc pc L S1 S0 (.ref bb :: As) Qc := by
  intro H locs ls hP hD hS hl
  obtain ⟨k1, k2, k3, k4, k5, k6⟩ := hK
  exact va_runI (As := As) (rest := S0) ⟨E.1, E.2.1, E.2.2.1, E.2.2.2.1, E.2.2.2.2.1⟩ (hM H.size) (cwI n E.2.2.2.2.1 (lw_meth k4) rfl rfl rfl (E.2.2.2.2.1 _ k3) (E.2.2.2.2.1 _ k1) (E.2.2.2.2.1 _ k2) k5 k6 ⟨hfr, hlo⟩) ⟨CPre.blind, pre_of E hcut hP hD hS _⟩ rfl hn hl.1 hst (lv_room hcat) d ⟨hmc, hms⟩

theorem s_goi {S : Type} {wsO ws2 : S → va_W} {tyO : S → List (ClassId × FieldType)} {post : Int32 → S → Prop} {Bs : List Value} (E : En p s m args meth c A cc nL own ret D tys gt) (hcut : Cut ws wc wr tys tyc isC isR isT)
    (hr : Rn p l e R s m args below meth c A D nL cells slots mc ms ws wc pc L S1 S0 Bs (fun sz => va_Qi post (CB D wsO tyO (va_A wc sz)) (va_A wc sz))) (isB : List Nat) (hnB : va_nd isB = true) (hB : ∀ u : S, isB.map (fun i => (wr ++ wsO u)[i]?) = (ws2 u).map some)
    (K : ∀ (r : Int32) (u : S), post r u → va_K D vwCl (tyO u) s → Sm p l e R s m args below meth c Q A D nL (cells + mc) (slots + ms) (ws2 u) (pc + 3) L (.int r :: S0)) : Sm p l e R s m args below meth c Q A D nL cells slots ws pc L S1 := by
  intro H locs ls hP hD hS hl
  have hF : ∀ q, va_A wc H.size q → A q := va_free hD hS E.2.2.2.2.2.2.2.2.2 isC hcut.1
  refine va_calli (hr H locs ls hP hD hS hl) hS (fun q _ h => hF q h) hF (fun r u t H1 locs1 ht hvm hw hB1 hk1 hk hS => ?_)
  skip
  obtain ⟨hP1, hK1, hD1⟩ := hB1
  rw [ht] at hP1
  obtain ⟨hP2, hD2⟩ := va_join hP hD isC isR hcut.1 hcut.2.1 hcut.2.2.2.1 hcut.2.2.2.2.1 hk hF hP1 hD1
  exact K r u hw (va_K.moved hvm.symm hK1) H1 locs1 ls (hP2.sub isB (fm_of (hB u))) (hD2.sub isB hnB (hB u)) hS hl
theorem s_gov {S : Type} {wsO ws2 : S → va_W} {tyO : S → List (ClassId × FieldType)} {post : S → Prop} {Bs : List Value} (E : En p s m args meth c A cc nL own ret D tys gt) (hcut : Cut ws wc wr tys tyc isC isR isT)
    (hr : Rn p l e R s m args below meth c A D nL cells slots mc ms ws wc pc L S1 S0 Bs (fun sz => va_Qv post (CB D wsO tyO (va_A wc sz)) (va_A wc sz))) (isB : List Nat) (hnB : va_nd isB = true) (hB : ∀ u : S, isB.map (fun i => (wr ++ wsO u)[i]?) = (ws2 u).map some)
    (K : ∀ u : S, post u → va_K D vwCl (tyO u) s → Sm p l e R s m args below meth c Q A D nL (cells + mc) (slots + ms) (ws2 u) (pc + 3) L (S0)) : Sm p l e R s m args below meth c Q A D nL cells slots ws pc L S1 := by
  intro H locs ls hP hD hS hl
  have hF : ∀ q, va_A wc H.size q → A q := va_free hD hS E.2.2.2.2.2.2.2.2.2 isC hcut.1
  refine va_callv (hr H locs ls hP hD hS hl) hS (fun q _ h => hF q h) hF (fun u t H1 locs1 ht hvm hw hB1 hk1 hk hS => ?_)
  skip
  obtain ⟨hP1, hK1, hD1⟩ := hB1
  rw [ht] at hP1
  obtain ⟨hP2, hD2⟩ := va_join hP hD isC isR hcut.1 hcut.2.1 hcut.2.2.2.1 hcut.2.2.2.2.1 hk hF hP1 hD1
  exact K u hw (va_K.moved hvm.symm hK1) H1 locs1 ls (hP2.sub isB (fm_of (hB u))) (hD2.sub isB hnB (hB u)) hS hl
theorem s_gor {S : Type} {wsO ws2 : S → va_W} {tyO : S → List (ClassId × FieldType)} {post : S → Prop} {ra : S → Nat} {Bs : List Value} (E : En p s m args meth c A cc nL own ret D tys gt) (hcut : Cut ws wc wr tys tyc isC isR isT)
    (hr : Rn p l e R s m args below meth c A D nL cells slots mc ms ws wc pc L S1 S0 Bs (fun sz => va_Qr post (fun u a t => a = ra u ∧ CB D wsO tyO (va_A wc sz) u t) (va_A wc sz))) (isB : List Nat) (hnB : va_nd isB = true) (hB : ∀ u : S, isB.map (fun i => (wr ++ wsO u)[i]?) = (ws2 u).map some)
    (K : ∀ u : S, post u → va_K D vwCl (tyO u) s → Sm p l e R s m args below meth c Q A D nL (cells + mc) (slots + ms) (ws2 u) (pc + 3) L (.ref (ra u) :: S0)) : Sm p l e R s m args below meth c Q A D nL cells slots ws pc L S1 := by
  intro H locs ls hP hD hS hl
  have hF : ∀ q, va_A wc H.size q → A q := va_free hD hS E.2.2.2.2.2.2.2.2.2 isC hcut.1
  refine va_callr (hr H locs ls hP hD hS hl) hS (fun q _ h => hF q h) hF (fun u a t H1 locs1 ht hvm hw hB0 hk1 hk hS => ?_)
  obtain ⟨ha, hB1⟩ := hB0
  subst ha
  obtain ⟨hP1, hK1, hD1⟩ := hB1
  rw [ht] at hP1
  obtain ⟨hP2, hD2⟩ := va_join hP hD isC isR hcut.1 hcut.2.1 hcut.2.2.2.1 hcut.2.2.2.2.1 hk hF hP1 hD1
  exact K u hw (va_K.moved hvm.symm hK1) H1 locs1 ls (hP2.sub isB (fm_of (hB u))) (hD2.sub isB hnB (hB u)) hS hl
end Calls
