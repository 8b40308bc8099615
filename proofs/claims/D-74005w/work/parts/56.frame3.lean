/-! CALLS BY A CUT OF ANY ORDER; nest mates; references in arrays; arraycopy; longs; Math -/
set_option maxRecDepth 100000
theorem nd_of {l : List Nat} (h : l.Nodup) : va_nd l = true := by
  induction l with
  | nil => rfl
  | cons a l ih =>
    have h1 := List.nodup_cons.mp h
    simp [va_nd, h1.1, ih h1.2]
theorem va_P.perm {D : va_G} {cl : List vw_C} {ws ws2 : va_W} {H : Heap} (h : ws.Perm ws2) (hP : va_P D cl ws H) : va_P D cl ws2 H := by
  intro k q hk
  obtain ⟨i, hi⟩ := List.getElem?_of_mem (h.mem_iff.mpr (List.mem_of_getElem? hk))
  exact hP i q hi
theorem va_D.perm {A : Nat → Prop} {ws ws2 : va_W} (h : ws.Perm ws2) (hD : va_D A ws) : va_D A ws2 := by
  have key : ∀ w : va_W, (∀ (i j : Nat) (p q : Nat × va_E), w[i]? = some p → w[j]? = some q → p.1 = q.1 → i = j) ↔ w.Pairwise (fun p q => p.1 ≠ q.1) := by
    intro w
    rw [List.pairwise_iff_getElem]
    constructor
    · intro hh i j hi hj hij e
      have := hh i j _ _ (List.getElem?_eq_getElem hi) (List.getElem?_eq_getElem hj) e
      omega
    · intro hh i j p q hp hq e
      obtain ⟨hi, rfl⟩ := List.getElem?_eq_some_iff.mp hp
      obtain ⟨hj, rfl⟩ := List.getElem?_eq_some_iff.mp hq
      rcases Nat.lt_trichotomy i j with c | c | c
      · exact absurd e (hh i j hi hj c)
      · exact c
      · exact absurd e.symm (hh j i hj hi c)
  refine ⟨(key ws2).mpr ((List.Perm.pairwise_iff (fun h => Ne.symm h) h).mp ((key ws).mp hD.1)), fun k q hk => ?_⟩
  obtain ⟨i, hi⟩ := List.getElem?_of_mem (h.mem_iff.mpr (List.mem_of_getElem? hk))
  exact hD.2 i q hi
theorem permBy {F G : va_W} (N : Nat) (is : List Nat) (hp : is.Perm (List.range N)) (hN : F.length = N) (hs : is.map (fun i => F[i]?) = G.map some) : F.Perm G := by
  subst hN
  have h1 := hp.map (fun i => F[i]?)
  have h2 : (List.range F.length).map (fun i => F[i]?) = F.map some := by
    apply List.ext_getElem
    · simp
    · intro i h3 h4
      simp at h3 h4
      simp [h4]
  rw [hs, h2] at h1
  have e : ∀ l : va_W, (l.map some).filterMap id = l := fun l => by
    induction l with
    | nil => rfl
    | cons a l ih => simp
  have h3 := h1.filterMap id
  rw [e, e] at h3
  exact h3.symm
theorem cutP {wc wr : va_W} {tys tyc : List (ClassId × FieldType)} {isT : List Nat} (hT : isT.filterMap (fun i => tys[i]?) = tyc) : Cut (wc ++ wr) wc wr tys tyc (List.range wc.length) ((List.range wr.length).map (· + wc.length)) isT := by
  refine ⟨?_, ?_, nd_of List.nodup_range, nd_of ?_, ?_, hT⟩
  · apply List.ext_getElem
    · simp
    · intro i h1 h2
      simp at h1 h2
      simp [List.getElem?_append, h2]
  · apply List.ext_getElem
    · simp
    · intro i h1 h2
      simp at h1 h2
      simp [List.getElem?_append, h2]
  · exact List.pairwise_map.mpr (List.nodup_range.imp (fun h => by omega))
  · intro i hi h2
    obtain ⟨j, hj, rfl⟩ := List.mem_map.mp hi
    have := List.mem_range.mp h2
    omega
section
variable {p : Program} {l : Launch} {e : Env} {R : Room} {s : State} {m : MethodId} {args : Array Value} {below : List Frame} {meth : Method} {c : Code} {Q : State → Prop} {A : Nat → Prop} {D : va_G} {nL cells slots : Nat} {ws : va_W} {pc : Nat} {L : List (Nat × Value)} {S : List Value}
variable {cc : ByteArray} {own : String} {ret : Option FieldType} {tys tyc : List (ClassId × FieldType)} {gt : Nat → Nat}
theorem s_perm {ws2 : va_W} (h : ws.Perm ws2) (K : Sm p l e R s m args below meth c Q A D nL cells slots ws2 pc L S) : Sm p l e R s m args below meth c Q A D nL cells slots ws pc L S := fun H locs ls hP hD hS hl => K H locs ls (hP.perm h) (hD.perm h) hS hl
/-- cells that are the same, said otherwise -/
theorem s_same {ws2 : va_W} (h : ∀ H : Heap, va_P D vwCl ws H → va_P D vwCl ws2 H) (hd : ws.map Prod.fst = ws2.map Prod.fst) (K : Sm p l e R s m args below meth c Q A D nL cells slots ws2 pc L S) : Sm p l e R s m args below meth c Q A D nL cells slots ws pc L S := by
  intro H locs ls hP hD hS hl
  refine K H locs ls (h H hP) ?_ hS hl
  have key : ∀ (k : Nat) (q : Nat × va_E), ws2[k]? = some q → ∃ q', ws[k]? = some q' ∧ q'.1 = q.1 := by
    intro k q hk
    have h1 : (ws2.map Prod.fst)[k]? = some q.1 := by rw [List.getElem?_map, hk]; rfl
    rw [← hd, List.getElem?_map] at h1
    obtain ⟨q', h2, h3⟩ := Option.map_eq_some_iff.mp h1
    exact ⟨q', h2, h3⟩
  refine ⟨fun i j p q hp hq e => ?_, fun k q hk => ?_⟩
  · obtain ⟨p', h1, h2⟩ := key i p hp
    obtain ⟨q', h3, h4⟩ := key j q hq
    exact hD.1 i j p' q' h1 h3 (by rw [h2, h4, e])
  · obtain ⟨q', h1, h2⟩ := key k q hk
    rw [← h2]
    exact hD.2 k q' h1

theorem p_goi {S : Type} {mc ms : Nat} {S0 S1 : List Value} {wc wr : va_W} {isT : List Nat} {wsO ws2 : S → va_W} {tyO : S → List (ClassId × FieldType)} {post : Int32 → S → Prop} {Bs : List Value} (E : En p s m args meth c A cc nL own ret D tys gt) (hT : isT.filterMap (fun i => tys[i]?) = tyc) (hp : ws.Perm (wc ++ wr))
    (hr : Rn p l e R s m args below meth c A D nL cells slots mc ms (wc ++ wr) wc pc L S1 S0 Bs (fun sz => va_Qi post (CB D wsO tyO (va_A wc sz)) (va_A wc sz))) (hB : ∀ u : S, (wr ++ wsO u).Perm (ws2 u))
    (K : ∀ (r : Int32) (u : S), post r u → va_K D vwCl (tyO u) s → Sm p l e R s m args below meth c Q A D nL (cells + mc) (slots + ms) (ws2 u) (pc + 3) L (.int r :: S0)) : Sm p l e R s m args below meth c Q A D nL cells slots ws pc L S1 := by
  intro H locs ls hP hD hS hl
  have hP := hP.perm hp
  have hD := hD.perm hp
  have hcut : Cut (wc ++ wr) wc wr tys tyc (List.range wc.length) ((List.range wr.length).map (· + wc.length)) isT := cutP hT
  have hF : ∀ q, va_A wc H.size q → A q := va_free hD hS E.2.2.2.2.2.2.2.2.2 (List.range wc.length) hcut.1
  refine va_calli (hr H locs ls hP hD hS hl) hS (fun q _ h => hF q h) hF (fun r u t H1 locs1 ht hvm hw hB1 hk1 hk hS => ?_)
  skip
  obtain ⟨hP1, hK1, hD1⟩ := hB1
  rw [ht] at hP1
  obtain ⟨hP2, hD2⟩ := va_join hP hD (List.range wc.length) ((List.range wr.length).map (· + wc.length)) hcut.1 hcut.2.1 hcut.2.2.2.1 hcut.2.2.2.2.1 hk hF hP1 hD1
  exact K r u hw (va_K.moved hvm.symm hK1) H1 locs1 ls (hP2.perm (hB u)) (hD2.perm (hB u)) hS hl
theorem p_gov {S : Type} {mc ms : Nat} {S0 S1 : List Value} {wc wr : va_W} {isT : List Nat} {wsO ws2 : S → va_W} {tyO : S → List (ClassId × FieldType)} {post : S → Prop} {Bs : List Value} (E : En p s m args meth c A cc nL own ret D tys gt) (hT : isT.filterMap (fun i => tys[i]?) = tyc) (hp : ws.Perm (wc ++ wr))
    (hr : Rn p l e R s m args below meth c A D nL cells slots mc ms (wc ++ wr) wc pc L S1 S0 Bs (fun sz => va_Qv post (CB D wsO tyO (va_A wc sz)) (va_A wc sz))) (hB : ∀ u : S, (wr ++ wsO u).Perm (ws2 u))
    (K : ∀ u : S, post u → va_K D vwCl (tyO u) s → Sm p l e R s m args below meth c Q A D nL (cells + mc) (slots + ms) (ws2 u) (pc + 3) L (S0)) : Sm p l e R s m args below meth c Q A D nL cells slots ws pc L S1 := by
  intro H locs ls hP hD hS hl
  have hP := hP.perm hp
  have hD := hD.perm hp
  have hcut : Cut (wc ++ wr) wc wr tys tyc (List.range wc.length) ((List.range wr.length).map (· + wc.length)) isT := cutP hT
  have hF : ∀ q, va_A wc H.size q → A q := va_free hD hS E.2.2.2.2.2.2.2.2.2 (List.range wc.length) hcut.1
  refine va_callv (hr H locs ls hP hD hS hl) hS (fun q _ h => hF q h) hF (fun u t H1 locs1 ht hvm hw hB1 hk1 hk hS => ?_)
  skip
  obtain ⟨hP1, hK1, hD1⟩ := hB1
  rw [ht] at hP1
  obtain ⟨hP2, hD2⟩ := va_join hP hD (List.range wc.length) ((List.range wr.length).map (· + wc.length)) hcut.1 hcut.2.1 hcut.2.2.2.1 hcut.2.2.2.2.1 hk hF hP1 hD1
  exact K u hw (va_K.moved hvm.symm hK1) H1 locs1 ls (hP2.perm (hB u)) (hD2.perm (hB u)) hS hl
theorem p_gor {S : Type} {mc ms : Nat} {S0 S1 : List Value} {wc wr : va_W} {isT : List Nat} {wsO ws2 : S → va_W} {tyO : S → List (ClassId × FieldType)} {post : S → Prop} {ra : S → Nat} {Bs : List Value} (E : En p s m args meth c A cc nL own ret D tys gt) (hT : isT.filterMap (fun i => tys[i]?) = tyc) (hp : ws.Perm (wc ++ wr))
    (hr : Rn p l e R s m args below meth c A D nL cells slots mc ms (wc ++ wr) wc pc L S1 S0 Bs (fun sz => va_Qr post (fun u a t => a = ra u ∧ CB D wsO tyO (va_A wc sz) u t) (va_A wc sz))) (hB : ∀ u : S, (wr ++ wsO u).Perm (ws2 u))
    (K : ∀ u : S, post u → va_K D vwCl (tyO u) s → Sm p l e R s m args below meth c Q A D nL (cells + mc) (slots + ms) (ws2 u) (pc + 3) L (.ref (ra u) :: S0)) : Sm p l e R s m args below meth c Q A D nL cells slots ws pc L S1 := by
  intro H locs ls hP hD hS hl
  have hP := hP.perm hp
  have hD := hD.perm hp
  have hcut : Cut (wc ++ wr) wc wr tys tyc (List.range wc.length) ((List.range wr.length).map (· + wc.length)) isT := cutP hT
  have hF : ∀ q, va_A wc H.size q → A q := va_free hD hS E.2.2.2.2.2.2.2.2.2 (List.range wc.length) hcut.1
  refine va_callr (hr H locs ls hP hD hS hl) hS (fun q _ h => hF q h) hF (fun u a t H1 locs1 ht hvm hw hB0 hk1 hk hS => ?_)
  obtain ⟨ha, hB1⟩ := hB0
  subst ha
  obtain ⟨hP1, hK1, hD1⟩ := hB1
  rw [ht] at hP1
  obtain ⟨hP2, hD2⟩ := va_join hP hD (List.range wc.length) ((List.range wr.length).map (· + wc.length)) hcut.1 hcut.2.1 hcut.2.2.2.1 hcut.2.2.2.2.1 hk hF hP1 hD1
  exact K u hw (va_K.moved hvm.symm hK1) H1 locs1 ls (hP2.perm (hB u)) (hD2.perm (hB u)) hS hl
def KVN (own : String) (idx : Nat) (C : String) (y : MethodName) (host : String) (b : ByteArray) (nl : Nat) (r : Option FieldType) (n : Nat) : Prop := Cond.methodLinkNest own idx y host ∈ lw_tbl ∧ Cond.instanceMethod y ∈ lw_all ∧ Cond.selects C y y ∈ lw_all ∧ Cond.initialized y.cls ∈ lw_all ∧ Cond.code y b nl r ∈ lw_all ∧ (y.cls ≠ "java/lang/invoke/MethodHandle" ∧ y.cls ≠ "java/lang/invoke/VarHandle" ∧ (parseMethodDescriptor y.desc).map (fun d => d.parameters.length) = some n)
def KSN (own : String) (idx : Nat) (y : MethodName) (host : String) (b : ByteArray) (nl : Nat) (r : Option FieldType) (n : Nat) : Prop := Cond.methodLinkNest own idx y host ∈ lw_tbl ∧ Cond.static y ∈ lw_all ∧ Cond.initialized y.cls ∈ lw_all ∧ Cond.code y b nl r ∈ lw_all ∧ (y.cls ≠ "java/lang/invoke/MethodHandle" ∧ y.cls ≠ "java/lang/invoke/VarHandle" ∧ (parseMethodDescriptor y.desc).map (fun d => d.parameters.length) = some n)
def KIN (own : String) (idx : Nat) (y : MethodName) (host : String) (b : ByteArray) (nl : Nat) (n : Nat) : Prop := Cond.methodLinkNest own idx y host ∈ lw_tbl ∧ Cond.instanceMethod y ∈ lw_all ∧ Cond.initialized y.cls ∈ lw_all ∧ Cond.code y b nl none ∈ lw_all ∧ y.name = "<init>" ∧ (y.cls ≠ "java/lang/invoke/MethodHandle" ∧ y.cls ≠ "java/lang/invoke/VarHandle" ∧ (parseMethodDescriptor y.desc).map (fun d => d.parameters.length) = some n)
theorem En.nw (E : En p s m args meth c A cc nL own ret D tys gt) {w : Cond} (h : w ∈ lw_tbl) (h2 : nWord w = true) : va_Nw w s := E.2.2.2.2.2.2.1.2.2.2.1 w h h2
variable {y : MethodName} {b : ByteArray} {nl fr lo mc ms n index : Nat} {r : Option FieldType} {As S0 S1 : List Value} {wc wr : va_W} {isC isR isT : List Nat} {Qc : Nat → Array Value → State → Outcome → State → Prop}
theorem rVN {bb : Nat} {C host : String} (E : En p s m args meth c A cc nL own ret D tys gt) (hcut : Cut ws wc wr tys tyc isC isR isT) (hM : Cm l D gt y b nl r fr lo mc ms (.ref bb :: As) wc tyc Qc) (hK : KVN own index C y host b nl r n) (hfr : fr + 1 ≤ R.frames) (hlo : 8 + (nl + 11) + lo ≤ R.locals) (hmc : cells + mc ≤ R.cells) (hms : slots + ms ≤ R.slots)
    {ci N : Nat} {T : u_T} {fs : List Value} (qb : Nat) (hb : ws[qb]? = some (bb, .inr (ci, fs))) (hci : vwCl[ci]? = some (C, T, N)) (hn : As.length = n) (hst : S1 = As.reverse ++ .ref bb :: S0) (hcat : (S0.map fun v => v.category).sum ≤ 8) (d : decode cc pc = .ok (.invokevirtual index, 3)) :
    Rn p l e R s m args below meth c A D nL cells slots mc ms ws wc pc L S1 S0 (.ref bb :: As) Qc := by
  intro H locs ls hP hD hS hl
  obtain ⟨k1, k2, k3, k4, k5, k6⟩ := hK
  exact va_runVN (As := As) (rest := S0) ⟨E.1, E.2.1, E.2.2.1, E.2.2.2.1, E.2.2.2.2.1⟩ (hM H.size) ⟨va_cnB n E.2.2.2.2.1 (lw_meth k5) rfl rfl rfl (E.nw k1 rfl) (E.2.2.2.2.1 _ k4) k6 ⟨hfr, hlo⟩, E.2.2.2.2.1 _ k2, E.2.2.2.2.1 _ k3⟩ ⟨CPre.blind, va_recv E.2.2.2.2.2.1 hP hci hb, pre_of E hcut hP hD hS _⟩ rfl hn hl.1 hst (lv_room hcat) d ⟨hmc, hms⟩
theorem rSN {host : String} (E : En p s m args meth c A cc nL own ret D tys gt) (hcut : Cut ws wc wr tys tyc isC isR isT) (hM : Cm l D gt y b nl r fr lo mc ms As wc tyc Qc) (hK : KSN own index y host b nl r n) (hfr : fr + 1 ≤ R.frames) (hlo : 8 + (nl + 11) + lo ≤ R.locals) (hmc : cells + mc ≤ R.cells) (hms : slots + ms ≤ R.slots)
    (hn : As.length = n) (hst : S1 = As.reverse ++ S0) (hcat : (S0.map fun v => v.category).sum ≤ 8) (d : decode cc pc = .ok (.invokestatic index, 3)) :
    Rn p l e R s m args below meth c A D nL cells slots mc ms ws wc pc L S1 S0 As Qc := by
  intro H locs ls hP hD hS hl
  obtain ⟨k1, k2, k3, k4, k5⟩ := hK
  exact va_runSN (As := As) (rest := S0) ⟨E.1, E.2.1, E.2.2.1, E.2.2.2.1, E.2.2.2.2.1⟩ (hM H.size) ⟨va_cnB n E.2.2.2.2.1 (lw_meth k4) rfl rfl rfl (E.nw k1 rfl) (E.2.2.2.2.1 _ k3) k5 ⟨hfr, hlo⟩, E.2.2.2.2.1 _ k2, trivial⟩ ⟨CPre.blind, pre_of E hcut hP hD hS _⟩ rfl hn hl.1 hst (lv_room hcat) d ⟨hmc, hms⟩
theorem rIN {bb : Nat} {host : String} (E : En p s m args meth c A cc nL own ret D tys gt) (hcut : Cut ws wc wr tys tyc isC isR isT) (hM : Cm l D gt y b nl none fr lo mc ms (.ref bb :: As) wc tyc Qc) (hK : KIN own index y host b nl n) (hfr : fr + 1 ≤ R.frames) (hlo : 8 + (nl + 11) + lo ≤ R.locals) (hmc : cells + mc ≤ R.cells) (hms : slots + ms ≤ R.slots)
    (hn : As.length = n) (hst : S1 = As.reverse ++ .ref bb :: S0) (hcat : (S0.map fun v => v.category).sum ≤ 8) (d : decode cc pc = .ok (.invokespecial index, 3)) :
    Rn p l e R s m args below meth c A D nL cells slots mc ms ws wc pc L S1 S0 (.ref bb :: As) Qc := by
  intro H locs ls hP hD hS hl
  obtain ⟨k1, k2, k3, k4, k5, k6⟩ := hK
  exact va_runIN (As := As) (rest := S0) ⟨E.1, E.2.1, E.2.2.1, E.2.2.2.1, E.2.2.2.2.1⟩ (hM H.size) ⟨va_cnB n E.2.2.2.2.1 (lw_meth k4) rfl rfl rfl (E.nw k1 rfl) (E.2.2.2.2.1 _ k3) k6 ⟨hfr, hlo⟩, k5, E.2.2.2.2.1 _ k2⟩ ⟨CPre.blind, pre_of E hcut hP hD hS _⟩ rfl hn hl.1 hst (lv_room hcat) d ⟨hmc, hms⟩

theorem s_putN (E : En p s m args meth c A cc nL own ret D tys gt) {C ref : String} {T : u_T} {N ci index a : Nat} {fs : List Value} {v : Value} {ws2 : va_W} {host : String} (hin : ∀ w ∈ u_ws C T N, w ∈ lw_all) (ty0 : Nat → FieldType) (hty : ∀ k, k < N → parseFieldDescriptor (T k).2.2.1 = some (ty0 k)) (hnm : ∀ a, a < N → ∀ b, b < N → a ≠ b → (T a).2.1 ≠ (T b).2.1) (q0 : Nat) (he : ws[q0]? = some (a, .inr (ci, fs))) (hc : vwCl[ci]? = some (C, T, N)) (k : Nat) (hk : k < N) (hq : Cond.fieldLinkNest own index ref (T k).2.1 (T k).2.2.1 host ∈ lw_tbl) (hs : (T k).1 = ref) (hfin : (T k).2.2.2 = false) (hn : narrow (ty0 k) v = v) (hfit : fits (ty0 k) v = true) (hlen : k < fs.length) (hw : ws.set q0 (a, .inr (ci, fs.set k v)) = ws2) (d : decode cc pc = .ok (.putfield index, 3)) (K : Sm p l e R s m args below meth c Q A D nL cells slots ws2 (pc + 3) L S) : Sm p l e R s m args below meth c Q A D nL cells slots ws pc L (v :: .ref a :: S) := fun H locs ls hP hD hS hl => va_putN E.1 E.2.1 E.2.2.2.2.1 hin ty0 hty hnm E.2.2.2.1 E.2.2.2.2.2.1 hP hD hS q0 he hc k hk (va_Nw.use rfl (E.nw hq rfl)) (fun x h => by rw [← hs]; exact h) hfin (hty k hk) hn hfit hlen d (fun H locs hP hD hS => K H locs ls (hw ▸ hP) (hw ▸ hD) hS hl)
theorem s_getsN (E : En p s m args meth c A cc nL own ret D tys gt) {index : Nat} {C n dd host : String} {v : Value} (hZ : va_Z C n dd v A s s.heap) (hq : Cond.fieldLinkNest own index C n dd host ∈ lw_tbl) (d : decode cc pc = .ok (.getstatic index, 3)) (K : Sm p l e R s m args below meth c Q A D nL cells slots ws (pc + 3) L (v :: S)) : Sm p l e R s m args below meth c Q A D nL cells slots ws pc L S := fun H locs ls hP hD hS hl => va_getsN E.1 E.2.1 hZ hS E.2.2.2.1 (va_Nw.use rfl (E.nw hq rfl)) (fun x h => h) d (K H locs ls hP hD hS hl)
theorem s_aast (E : En p s m args meth c A cc nL own ret D tys gt) {a n v ci : Nat} {cA : ClassId} {r : vw_C} {vs : List Value} {f : Nat → Option Nat} {ws2 : va_W} (q0 t0 qk : Nat) (ha : ws[q0]? = some (a, .inl (cA, n, .inr (.inr (.inr (.inr f)))))) (ht : tys[t0]? = some (cA, .object r.1)) (hv : ws[qk]? = some (v, .inr (ci, vs))) (hc : vwCl[ci]? = some r) {i : Int32} (N : Nat) (hi : i = nI N) (hN : N < n) (h31 : n < 2 ^ 31) (hw : ws.set q0 (a, .inl (cA, n, .inr (.inr (.inr (.inr (va_up f N (some v))))))) = ws2) (d : decode cc pc = .ok (.aastore, 1)) (K : Sm p l e R s m args below meth c Q A D nL cells slots ws2 (pc + 1) L S) : Sm p l e R s m args below meth c Q A D nL cells slots ws pc L (.ref v :: .int i :: .ref a :: S) := fun H locs ls hP hD hS hl => va_astq E.1 E.2.1 E.2.2.2.2.2.1 hP hD hS q0 t0 qk ci ha ht hv hc (by rw [hi]; exact vp_in_nI hN h31) d (fun H locs hP hD hS => K H locs ls (by rw [hi, nI_clamp (Nat.lt_trans hN h31)] at hP; exact hw ▸ hP) (by rw [hi, nI_clamp (Nat.lt_trans hN h31)] at hD; exact hw ▸ hD) hS hl)
theorem s_copy (E : En p s m args meth c A cc nL own ret D tys gt) {a0 a1 : Nat} {c0 c1 : ClassId} {n0 n1 : Nat} {f g : Nat → Int32} {ty : FieldType} {ws2 : va_W} (q0 q1 t0 t1 : Nat) (ha0 : ws[q0]? = some (a0, .inl (c0, n0, .inl f))) (ha1 : ws[q1]? = some (a1, .inl (c1, n1, .inl g))) (ht0 : tys[t0]? = some (c0, ty)) (ht1 : tys[t1]? = some (c1, ty)) (hprim : refKind ty = false) (sp dp n : Nat) (h4 : sp + n ≤ n0) (h5 : dp + n ≤ n1) (hs0 : sp < 2 ^ 31) (hs1 : dp < 2 ^ 31) (hs2 : n < 2 ^ 31) (hfit : ∀ i, i < n → fits ty (.int (f (sp + i))) = true) (hfr : 1 ≤ R.frames) (hlo : (S.map fun v => v.category).sum + (nativeFrameWords "java/lang/System" "arraycopy" 5 + 11) ≤ R.locals) (hq : Cond.methodLink own index arraycopyName ∈ lw_all) (hqn : Cond.native arraycopyName ∈ lw_all) (hqs : Cond.static arraycopyName ∈ lw_all) (hqi : Cond.initialized "java/lang/System" ∈ lw_all) (hw : ws.set q1 (a1, .inl (c1, n1, .inl (va_cpy f g sp dp n))) = ws2) (d : decode cc pc = .ok (.invokestatic index, 3)) (K : Sm p l e R s m args below meth c Q A D nL cells slots ws2 (pc + 3) L S) : Sm p l e R s m args below meth c Q A D nL cells slots ws pc L (.int (nI n) :: .int (nI dp) :: .ref a1 :: .int (nI sp) :: .ref a0 :: S) := fun H locs ls hP hD hS hl => va_copyi E.1 E.2.1 (E.2.2.1.trans hl.1.symm) E.2.2.2.1 (E.2.2.2.2.1 _ hq) (E.2.2.2.2.1 _ hqn) (E.2.2.2.2.1 _ hqs) (E.2.2.2.2.1 _ hqi) E.2.2.2.2.2.1 hP hD hS q0 q1 t0 t1 ha0 ha1 ht0 ht1 hprim (nI_pos hs0) (nI_pos hs1) (nI_pos hs2) (by rw [nI_clamp hs0, nI_clamp hs2]; exact h4) (by rw [nI_clamp hs1, nI_clamp hs2]; exact h5) (fun i hi => by rw [nI_clamp hs0]; rw [nI_clamp hs2] at hi; exact hfit i hi) hfr hlo d (fun H locs hP hD hS => K H locs ls (by rw [nI_clamp hs0, nI_clamp hs1, nI_clamp hs2] at hP; exact hw ▸ hP) (by rw [nI_clamp hs0, nI_clamp hs1, nI_clamp hs2] at hD; exact hw ▸ hD) hS hl)
theorem s_copyq (E : En p s m args meth c A cc nL own ret D tys gt) {a0 a1 : Nat} {c0 c1 : ClassId} {n0 n1 : Nat} {f g : Nat → Option Nat} {E0 E1 C : String} {ws2 : va_W} (q0 q1 t0 t1 : Nat) (ha0 : ws[q0]? = some (a0, .inl (c0, n0, .inr (.inr (.inr (.inr f)))))) (ha1 : ws[q1]? = some (a1, .inl (c1, n1, .inr (.inr (.inr (.inr g)))))) (ht0 : tys[t0]? = some (c0, .object E0)) (ht1 : tys[t1]? = some (c1, .object E1)) (sp dp n : Nat) (h4 : sp + n ≤ n0) (h5 : dp + n ≤ n1) (hs0 : sp < 2 ^ 31) (hs1 : dp < 2 ^ 31) (hs2 : n < 2 ^ 31) {ci N : Nat} {T : u_T} (hel : ∀ i : Nat, i < n → ∀ y : Nat, f (sp + i) = some y → ∃ (k : Nat) (fs : List Value), ws[k]? = some (y, .inr (ci, fs))) (hci : vwCl[ci]? = some (C, T, N)) (hasg : ∀ comp c0 : ClassId, s.vm.findClass E1 = some comp → s.vm.findClass C = some c0 → s.vm.assignable c0 comp = true) (hfr : 1 ≤ R.frames) (hlo : (S.map fun v => v.category).sum + (nativeFrameWords "java/lang/System" "arraycopy" 5 + 11) ≤ R.locals) (hq : Cond.methodLink own index arraycopyName ∈ lw_all) (hqn : Cond.native arraycopyName ∈ lw_all) (hqs : Cond.static arraycopyName ∈ lw_all) (hqi : Cond.initialized "java/lang/System" ∈ lw_all) (hw : ws.set q1 (a1, .inl (c1, n1, .inr (.inr (.inr (.inr (va_cpy f g sp dp n)))))) = ws2) (d : decode cc pc = .ok (.invokestatic index, 3)) (K : Sm p l e R s m args below meth c Q A D nL cells slots ws2 (pc + 3) L S) : Sm p l e R s m args below meth c Q A D nL cells slots ws pc L (.int (nI n) :: .int (nI dp) :: .ref a1 :: .int (nI sp) :: .ref a0 :: S) := fun H locs ls hP hD hS hl => va_copyq (C := C) E.1 E.2.1 (E.2.2.1.trans hl.1.symm) E.2.2.2.1 (E.2.2.2.2.1 _ hq) (E.2.2.2.2.1 _ hqn) (E.2.2.2.2.1 _ hqs) (E.2.2.2.2.1 _ hqi) E.2.2.2.2.2.1 hP hD hS q0 q1 t0 t1 ha0 ha1 ht0 ht1 (nI_pos hs0) (nI_pos hs1) (nI_pos hs2) (by rw [nI_clamp hs0, nI_clamp hs2]; exact h4) (by rw [nI_clamp hs1, nI_clamp hs2]; exact h5) (fun i hi y hy => by rw [nI_clamp hs0] at hy; rw [nI_clamp hs2] at hi; obtain ⟨k, fs, hk⟩ := hel i hi y hy; exact va_recv E.2.2.2.2.2.1 hP hci hk) hasg hfr hlo d (fun H locs hP hD hS => K H locs ls (by rw [nI_clamp hs0, nI_clamp hs1, nI_clamp hs2] at hP; exact hw ▸ hP) (by rw [nI_clamp hs0, nI_clamp hs1, nI_clamp hs2] at hD; exact hw ▸ hD) hS hl)
theorem s_ladd (E : En p s m args meth c A cc nL own ret D tys gt) {x y v : Int64} (d : decode cc pc = .ok (.ladd, 1)) (hv : x + y = v) (K : Sm p l e R s m args below meth c Q A D nL cells slots ws (pc + 1) L (.long v :: S)) : Sm p l e R s m args below meth c Q A D nL cells slots ws pc L (.long y :: .long x :: S) := fun H locs ls hP hD hS hl => lv_ladd E.1 E.2.1 d (by rw [hv]; exact K H locs ls hP hD hS hl)
theorem s_lmul (E : En p s m args meth c A cc nL own ret D tys gt) {x y v : Int64} (d : decode cc pc = .ok (.lmul, 1)) (hv : x * y = v) (K : Sm p l e R s m args below meth c Q A D nL cells slots ws (pc + 1) L (.long v :: S)) : Sm p l e R s m args below meth c Q A D nL cells slots ws pc L (.long y :: .long x :: S) := fun H locs ls hP hD hS hl => lv_lmul E.1 E.2.1 d (by rw [hv]; exact K H locs ls hP hD hS hl)
theorem s_land (E : En p s m args meth c A cc nL own ret D tys gt) {x y v : Int64} (d : decode cc pc = .ok (.land, 1)) (hv : x &&& y = v) (K : Sm p l e R s m args below meth c Q A D nL cells slots ws (pc + 1) L (.long v :: S)) : Sm p l e R s m args below meth c Q A D nL cells slots ws pc L (.long y :: .long x :: S) := fun H locs ls hP hD hS hl => lv_land E.1 E.2.1 d (by rw [hv]; exact K H locs ls hP hD hS hl)
theorem s_ldiv (E : En p s m args meth c A cc nL own ret D tys gt) {x y v : Int64} (d : decode cc pc = .ok (.ldiv, 1)) (hne : ¬ y = 0) (hv : x / y = v) (K : Sm p l e R s m args below meth c Q A D nL cells slots ws (pc + 1) L (.long v :: S)) : Sm p l e R s m args below meth c Q A D nL cells slots ws pc L (.long y :: .long x :: S) := fun H locs ls hP hD hS hl => lv_ldiv E.1 E.2.1 d hne (by rw [hv]; exact K H locs ls hP hD hS hl)
theorem s_lrem (E : En p s m args meth c A cc nL own ret D tys gt) {x y v : Int64} (d : decode cc pc = .ok (.lrem, 1)) (hne : ¬ y = 0) (hv : x - x / y * y = v) (K : Sm p l e R s m args below meth c Q A D nL cells slots ws (pc + 1) L (.long v :: S)) : Sm p l e R s m args below meth c Q A D nL cells slots ws pc L (.long y :: .long x :: S) := fun H locs ls hP hD hS hl => lv_lrem E.1 E.2.1 d hne (by rw [hv]; exact K H locs ls hP hD hS hl)
theorem s_i2l (E : En p s m args meth c A cc nL own ret D tys gt) {x : Int32} {v : Int64} (d : decode cc pc = .ok (.i2l, 1)) (hv : x.toInt64 = v) (K : Sm p l e R s m args below meth c Q A D nL cells slots ws (pc + 1) L (.long v :: S)) : Sm p l e R s m args below meth c Q A D nL cells slots ws pc L (.int x :: S) := fun H locs ls hP hD hS hl => lv_i2l E.1 E.2.1 d hv (K H locs ls hP hD hS hl)
theorem s_l2i (E : En p s m args meth c A cc nL own ret D tys gt) {x : Int64} {v : Int32} (d : decode cc pc = .ok (.l2i, 1)) (hv : x.toInt32 = v) (K : Sm p l e R s m args below meth c Q A D nL cells slots ws (pc + 1) L (.int v :: S)) : Sm p l e R s m args below meth c Q A D nL cells slots ws pc L (.long x :: S) := fun H locs ls hP hD hS hl => lv_l2i E.1 E.2.1 d hv (K H locs ls hP hD hS hl)
theorem s_ldc2 (E : En p s m args meth c A cc nL own ret D tys gt) {index : Nat} {v : Int64} (d : decode cc pc = .ok (.ldc2_w index, 3)) (hq : Jvm.Cond.constantLong own index v ∈ lw_all) (K : Sm p l e R s m args below meth c Q A D nL cells slots ws (pc + 3) L (.long v :: S)) : Sm p l e R s m args below meth c Q A D nL cells slots ws pc L S := fun H locs ls hP hD hS hl => lv_ldc2 E.1 E.2.1 E.2.2.2.1 (E.2.2.2.2.1 _ hq) d (K H locs ls hP hD hS hl)
theorem s_iushr (E : En p s m args meth c A cc nL own ret D tys gt) {x y v : Int32} (d : decode cc pc = .ok (.iushr, 1)) (hv : (x.toUInt32 >>> (y.toUInt32 &&& Int32.toUInt32 31)).toInt32 = v) (K : Sm p l e R s m args below meth c Q A D nL cells slots ws (pc + 1) L (.int v :: S)) : Sm p l e R s m args below meth c Q A D nL cells slots ws pc L (.int y :: .int x :: S) := fun H locs ls hP hD hS hl => lv_iushr E.1 E.2.1 d hv (K H locs ls hP hD hS hl)
theorem s_mmax (E : En p s m args meth c A cc nL own ret D tys gt) {index : Nat} {x y v : Int32} (hv : (if x < y then y else x) = v) (hq : Cond.methodLink own index Lib.Math.max.name ∈ lw_all) (hqs : Cond.static Lib.Math.max.name ∈ lw_all) (hqi : Cond.initialized "java/lang/Math" ∈ lw_all) (hqc : Cond.code Lib.Math.max.name Lib.Math.max.code 2 (some .int) ∈ lw_all) (hfr : 1 ≤ R.frames) (hlo : (S.map fun v => v.category).sum + 13 ≤ R.locals) (hcc : cells ≤ R.cells) (hss : slots ≤ R.slots) (d : decode cc pc = .ok (.invokestatic index, 3)) (K : Sm p l e R s m args below meth c Q A D nL cells slots ws (pc + 3) L (.int v :: S)) : Sm p l e R s m args below meth c Q A D nL cells slots ws pc L (.int y :: .int x :: S) := fun H locs ls hP hD hS hl => va_mmax E.1 E.2.1 (E.2.2.1.trans hl.1.symm) E.2.2.2.1 (E.2.2.2.2.1 _ hq) (E.2.2.2.2.1 _ hqs) (E.2.2.2.2.1 _ hqi) (E.2.2.2.2.1 _ hqc) hfr hlo hcc hss d (by rw [hv]; exact K H locs ls hP hD hS hl)
theorem s_mmin (E : En p s m args meth c A cc nL own ret D tys gt) {index : Nat} {x y v : Int32} (hv : (if y < x then y else x) = v) (hq : Cond.methodLink own index Lib.Math.min.name ∈ lw_all) (hqs : Cond.static Lib.Math.min.name ∈ lw_all) (hqi : Cond.initialized "java/lang/Math" ∈ lw_all) (hqc : Cond.code Lib.Math.min.name Lib.Math.min.code 2 (some .int) ∈ lw_all) (hfr : 1 ≤ R.frames) (hlo : (S.map fun v => v.category).sum + 13 ≤ R.locals) (hcc : cells ≤ R.cells) (hss : slots ≤ R.slots) (d : decode cc pc = .ok (.invokestatic index, 3)) (K : Sm p l e R s m args below meth c Q A D nL cells slots ws (pc + 3) L (.int v :: S)) : Sm p l e R s m args below meth c Q A D nL cells slots ws pc L (.int y :: .int x :: S) := fun H locs ls hP hD hS hl => va_mmin E.1 E.2.1 (E.2.2.1.trans hl.1.symm) E.2.2.2.1 (E.2.2.2.2.1 _ hq) (E.2.2.2.2.1 _ hqs) (E.2.2.2.2.1 _ hqi) (E.2.2.2.2.1 _ hqc) hfr hlo hcc hss d (by rw [hv]; exact K H locs ls hP hD hS hl)
theorem s_mabs (E : En p s m args meth c A cc nL own ret D tys gt) {index : Nat} {x v : Int32} (hv : (if 0 ≤ x then x else 0 - x) = v) (hq : Cond.methodLink own index Lib.Math.abs.name ∈ lw_all) (hqs : Cond.static Lib.Math.abs.name ∈ lw_all) (hqi : Cond.initialized "java/lang/Math" ∈ lw_all) (hqc : Cond.code Lib.Math.abs.name Lib.Math.abs.code 1 (some .int) ∈ lw_all) (hfr : 1 ≤ R.frames) (hlo : (S.map fun v => v.category).sum + 13 ≤ R.locals) (hcc : cells ≤ R.cells) (hss : slots ≤ R.slots) (d : decode cc pc = .ok (.invokestatic index, 3)) (K : Sm p l e R s m args below meth c Q A D nL cells slots ws (pc + 3) L (.int v :: S)) : Sm p l e R s m args below meth c Q A D nL cells slots ws pc L (.int x :: S) := fun H locs ls hP hD hS hl => va_mabs E.1 E.2.1 (E.2.2.1.trans hl.1.symm) E.2.2.2.1 (E.2.2.2.2.1 _ hq) (E.2.2.2.2.1 _ hqs) (E.2.2.2.2.1 _ hqi) (E.2.2.2.2.1 _ hqc) hfr hlo hcc hss d (by rw [hv]; exact K H locs ls hP hD hS hl)
end
