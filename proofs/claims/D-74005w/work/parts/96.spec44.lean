/-! CALLS of methods that return or throw -/
set_option maxRecDepth 100000
section
variable {p : Program} {l : Launch} {e : Env} {R : Room} {s : State} {m : MethodId} {args : Array Value} {below : List Frame} {meth : Method} {c : Code} {Q : State → Prop} {A : Nat → Prop} {D : va_G} {nL cells slots : Nat} {ws : va_W} {pc : Nat} {L : List (Nat × Value)}
variable {cc : ByteArray} {own : String} {ret : Option FieldType} {tys tyc : List (ClassId × FieldType)} {gt : Nat → Nat}
variable {y : MethodName} {b : ByteArray} {nl fr lo mc ms n index : Nat} {r : Option FieldType} {As S0 S1 : List Value} {wc wr : va_W} {isC isR isT : List Nat} {Qc : Nat → Array Value → State → Outcome → State → Prop}
variable {XC : Nat → Addr → String → State → State → Prop}
def RnX (p : Program) (l : Launch) (e : Env) (R : Room) (s : State) (m : MethodId) (args : Array Value) (below : List Frame) (meth : Method) (c : Code) (A : Nat → Prop) (D : va_G) (nL cells slots mc ms : Nat) (ws wc : va_W) (pc : Nat) (L : List (Nat × Value)) (S1 S0 Bs : List Value) (Qc : Nat → Array Value → State → Outcome → State → Prop) (XC : Nat → Addr → String → State → State → Prop) : Prop :=
  ∀ (H : Heap) (locs : List Loc) (ls : Array Slot), va_P D vwCl ws H → va_D A ws → va_S A s.heap H locs → lv_has ls nL L → vy_Run p l e R s m args below meth c H locs cells slots mc ms (F0 m pc ls S1) S0 (Qc H.size Bs.toArray) (XC H.size) (va_A wc H.size)
theorem rVX {bb : Nat} {C : String} (E : En p s m args meth c A cc nL own ret D tys gt) (hcut : Cut ws wc wr tys tyc isC isR isT) (hM : Cmx l D gt y b nl r fr lo mc ms (.ref bb :: As) wc tyc Qc XC) (hK : KV own index C y b nl r n) (hfr : fr + 1 ≤ R.frames) (hlo : 8 + (nl + 11) + lo ≤ R.locals) (hmc : cells + mc ≤ R.cells) (hms : slots + ms ≤ R.slots)
    {ci N : Nat} {T : u_T} {fs : List Value} (qb : Nat) (hb : ws[qb]? = some (bb, .inr (ci, fs))) (hci : vwCl[ci]? = some (C, T, N)) (hn : As.length = n) (hst : S1 = As.reverse ++ .ref bb :: S0) (hcat : (S0.map fun v => v.category).sum ≤ 8) (d : decode cc pc = .ok (.invokevirtual index, 3)) :
    RnX p l e R s m args below meth c A D nL cells slots mc ms ws wc pc L S1 S0 (.ref bb :: As) Qc XC := by
  intro H locs ls hP hD hS hl
  obtain ⟨k1, k2, k3, k4, k5, k6⟩ := hK
  exact vy_runV (As := As) (rest := S0) ⟨E.1, E.2.1, E.2.2.1, E.2.2.2.1, E.2.2.2.2.1⟩ (hM H.size) (cwV n E.2.2.2.2.1 (lw_V k1 k2 k3 k4 k5) rfl rfl rfl k6 ⟨hfr, hlo⟩) ⟨CPre.blind, va_recv E.2.2.2.2.2.1 hP hci hb, pre_of E hcut hP hD hS _⟩ rfl hn hl.1 hst (lv_room hcat) d ⟨hmc, hms⟩
end
section
variable {p : Program} {l : Launch} {e : Env} {R : Room} {s : State} {m : MethodId} {args : Array Value} {below : List Frame} {meth : Method} {c : Code} {Q : State → Prop} {A : Nat → Prop} {D : va_G} {nL cells slots : Nat} {ws : va_W} {pc : Nat} {L : List (Nat × Value)} {S : List Value}
variable {cc : ByteArray} {own : String} {ret : Option FieldType} {tys tyc : List (ClassId × FieldType)} {gt : Nat → Nat}
theorem xp_goi {S SX : Type} {px : SX → Prop} {wsX ws3 : SX → va_W} {tyX : SX → List (ClassId × FieldType)} {qX : SX → Nat} {EX : SX → String} {mc ms : Nat} {S0 S1 : List Value} {wc wr : va_W} {isT : List Nat} {wsO ws2 : S → va_W} {tyO : S → List (ClassId × FieldType)} {post : Int32 → S → Prop} {Bs : List Value} (E : En p s m args meth c A cc nL own ret D tys gt) (hT : isT.filterMap (fun i => tys[i]?) = tyc) (hp : ws.Perm (wc ++ wr))
    (hr : RnX p l e R s m args below meth c A D nL cells slots mc ms (wc ++ wr) wc pc L S1 S0 Bs (fun sz => va_Qi post (CB D wsO tyO (va_A wc sz)) (va_A wc sz)) (XQ D wc px wsX tyX qX EX)) (hB : ∀ u : S, (wr ++ wsO u).Perm (ws2 u)) (hBX : ∀ u : SX, (wr ++ wsX u).Perm (ws3 u))
    (KX : ∀ u : SX, px u → va_K D vwCl (tyX u) s → SmX p l e R s m args below meth c Q A D nL (cells + mc) (slots + ms) (ws3 u) pc L (EX u) (qX u))
    (K : ∀ (r : Int32) (u : S), post r u → va_K D vwCl (tyO u) s → Sm p l e R s m args below meth c Q A D nL (cells + mc) (slots + ms) (ws2 u) (pc + 3) L (.int r :: S0)) : Sm p l e R s m args below meth c Q A D nL cells slots ws pc L S1 := by
  intro H locs ls hP hD hS hl
  have hP := hP.perm hp
  have hD := hD.perm hp
  have hcut : Cut (wc ++ wr) wc wr tys tyc (List.range wc.length) ((List.range wr.length).map (· + wc.length)) isT := cutP hT
  have hF : ∀ q, va_A wc H.size q → A q := va_free hD hS E.2.2.2.2.2.2.2.2.2 (List.range wc.length) hcut.1
  refine vy_calli (hr H locs ls hP hD hS hl) hS (fun q _ h => hF q h) hF (fun q _ h => hF q h) (fun E ce q9 u t H1 locs1 ht hvm hw hB0 hk1 hk hS hce hcv hcl => ?_) (fun r u t H1 locs1 ht hvm hw hB1 hk1 hk hS => ?_)
  · obtain ⟨hq, hE, hP1, hK1, hD1⟩ := hB0
    subst hq
    subst hE
    rw [ht] at hP1
    obtain ⟨hP2, hD2⟩ := va_join hP hD (List.range wc.length) ((List.range wr.length).map (· + wc.length)) hcut.1 hcut.2.1 hcut.2.2.2.1 hcut.2.2.2.2.1 hk hF hP1 hD1
    exact KX u hw (va_K.moved hvm.symm hK1) H1 locs1 ls _ ce (hP2.perm (hBX u)) (hD2.perm (hBX u)) hS hl hce hcv hcl
  · obtain ⟨hP1, hK1, hD1⟩ := hB1
    rw [ht] at hP1
    obtain ⟨hP2, hD2⟩ := va_join hP hD (List.range wc.length) ((List.range wr.length).map (· + wc.length)) hcut.1 hcut.2.1 hcut.2.2.2.1 hcut.2.2.2.2.1 hk hF hP1 hD1
    exact K r u hw (va_K.moved hvm.symm hK1) H1 locs1 ls (hP2.perm (hB u)) (hD2.perm (hB u)) hS hl
theorem xp_gov {S SX : Type} {px : SX → Prop} {wsX ws3 : SX → va_W} {tyX : SX → List (ClassId × FieldType)} {qX : SX → Nat} {EX : SX → String} {mc ms : Nat} {S0 S1 : List Value} {wc wr : va_W} {isT : List Nat} {wsO ws2 : S → va_W} {tyO : S → List (ClassId × FieldType)} {post : S → Prop} {Bs : List Value} (E : En p s m args meth c A cc nL own ret D tys gt) (hT : isT.filterMap (fun i => tys[i]?) = tyc) (hp : ws.Perm (wc ++ wr))
    (hr : RnX p l e R s m args below meth c A D nL cells slots mc ms (wc ++ wr) wc pc L S1 S0 Bs (fun sz => va_Qv post (CB D wsO tyO (va_A wc sz)) (va_A wc sz)) (XQ D wc px wsX tyX qX EX)) (hB : ∀ u : S, (wr ++ wsO u).Perm (ws2 u)) (hBX : ∀ u : SX, (wr ++ wsX u).Perm (ws3 u))
    (KX : ∀ u : SX, px u → va_K D vwCl (tyX u) s → SmX p l e R s m args below meth c Q A D nL (cells + mc) (slots + ms) (ws3 u) pc L (EX u) (qX u))
    (K : ∀ u : S, post u → va_K D vwCl (tyO u) s → Sm p l e R s m args below meth c Q A D nL (cells + mc) (slots + ms) (ws2 u) (pc + 3) L (S0)) : Sm p l e R s m args below meth c Q A D nL cells slots ws pc L S1 := by
  intro H locs ls hP hD hS hl
  have hP := hP.perm hp
  have hD := hD.perm hp
  have hcut : Cut (wc ++ wr) wc wr tys tyc (List.range wc.length) ((List.range wr.length).map (· + wc.length)) isT := cutP hT
  have hF : ∀ q, va_A wc H.size q → A q := va_free hD hS E.2.2.2.2.2.2.2.2.2 (List.range wc.length) hcut.1
  refine vy_callv (hr H locs ls hP hD hS hl) hS (fun q _ h => hF q h) hF (fun q _ h => hF q h) (fun E ce q9 u t H1 locs1 ht hvm hw hB0 hk1 hk hS hce hcv hcl => ?_) (fun u t H1 locs1 ht hvm hw hB1 hk1 hk hS => ?_)
  · obtain ⟨hq, hE, hP1, hK1, hD1⟩ := hB0
    subst hq
    subst hE
    rw [ht] at hP1
    obtain ⟨hP2, hD2⟩ := va_join hP hD (List.range wc.length) ((List.range wr.length).map (· + wc.length)) hcut.1 hcut.2.1 hcut.2.2.2.1 hcut.2.2.2.2.1 hk hF hP1 hD1
    exact KX u hw (va_K.moved hvm.symm hK1) H1 locs1 ls _ ce (hP2.perm (hBX u)) (hD2.perm (hBX u)) hS hl hce hcv hcl
  · obtain ⟨hP1, hK1, hD1⟩ := hB1
    rw [ht] at hP1
    obtain ⟨hP2, hD2⟩ := va_join hP hD (List.range wc.length) ((List.range wr.length).map (· + wc.length)) hcut.1 hcut.2.1 hcut.2.2.2.1 hcut.2.2.2.2.1 hk hF hP1 hD1
    exact K u hw (va_K.moved hvm.symm hK1) H1 locs1 ls (hP2.perm (hB u)) (hD2.perm (hB u)) hS hl
theorem xp_gor {S SX : Type} {px : SX → Prop} {wsX ws3 : SX → va_W} {tyX : SX → List (ClassId × FieldType)} {qX : SX → Nat} {EX : SX → String} {mc ms : Nat} {S0 S1 : List Value} {wc wr : va_W} {isT : List Nat} {wsO ws2 : S → va_W} {tyO : S → List (ClassId × FieldType)} {post : S → Prop} {ra : S → Nat} {Bs : List Value} (E : En p s m args meth c A cc nL own ret D tys gt) (hT : isT.filterMap (fun i => tys[i]?) = tyc) (hp : ws.Perm (wc ++ wr))
    (hr : RnX p l e R s m args below meth c A D nL cells slots mc ms (wc ++ wr) wc pc L S1 S0 Bs (fun sz => va_Qr post (fun u a t => a = ra u ∧ CB D wsO tyO (va_A wc sz) u t) (va_A wc sz)) (XQ D wc px wsX tyX qX EX)) (hB : ∀ u : S, (wr ++ wsO u).Perm (ws2 u)) (hBX : ∀ u : SX, (wr ++ wsX u).Perm (ws3 u))
    (KX : ∀ u : SX, px u → va_K D vwCl (tyX u) s → SmX p l e R s m args below meth c Q A D nL (cells + mc) (slots + ms) (ws3 u) pc L (EX u) (qX u))
    (K : ∀ u : S, post u → va_K D vwCl (tyO u) s → Sm p l e R s m args below meth c Q A D nL (cells + mc) (slots + ms) (ws2 u) (pc + 3) L (.ref (ra u) :: S0)) : Sm p l e R s m args below meth c Q A D nL cells slots ws pc L S1 := by
  intro H locs ls hP hD hS hl
  have hP := hP.perm hp
  have hD := hD.perm hp
  have hcut : Cut (wc ++ wr) wc wr tys tyc (List.range wc.length) ((List.range wr.length).map (· + wc.length)) isT := cutP hT
  have hF : ∀ q, va_A wc H.size q → A q := va_free hD hS E.2.2.2.2.2.2.2.2.2 (List.range wc.length) hcut.1
  refine vy_callr (hr H locs ls hP hD hS hl) hS (fun q _ h => hF q h) hF (fun q _ h => hF q h) (fun E ce q9 u t H1 locs1 ht hvm hw hB0 hk1 hk hS hce hcv hcl => ?_) (fun u a t H1 locs1 ht hvm hw hB0 hk1 hk hS => ?_)
  · obtain ⟨hq, hE, hP1, hK1, hD1⟩ := hB0
    subst hq
    subst hE
    rw [ht] at hP1
    obtain ⟨hP2, hD2⟩ := va_join hP hD (List.range wc.length) ((List.range wr.length).map (· + wc.length)) hcut.1 hcut.2.1 hcut.2.2.2.1 hcut.2.2.2.2.1 hk hF hP1 hD1
    exact KX u hw (va_K.moved hvm.symm hK1) H1 locs1 ls _ ce (hP2.perm (hBX u)) (hD2.perm (hBX u)) hS hl hce hcv hcl
  · obtain ⟨ha, hB1⟩ := hB0
    subst ha
    obtain ⟨hP1, hK1, hD1⟩ := hB1
    rw [ht] at hP1
    obtain ⟨hP2, hD2⟩ := va_join hP hD (List.range wc.length) ((List.range wr.length).map (· + wc.length)) hcut.1 hcut.2.1 hcut.2.2.2.1 hcut.2.2.2.2.1 hk hF hP1 hD1
    exact K u hw (va_K.moved hvm.symm hK1) H1 locs1 ls (hP2.perm (hB u)) (hD2.perm (hB u)) hS hl
theorem s_athrow (E : En p s m args meth c A cc nL own ret D tys gt) {q q0 ci N : Nat} {T : u_T} {C : String} {fs : List Value} {S : List Value} (he : ws[q0]? = some (q, .inr (ci, fs))) (hc : vwCl[ci]? = some (C, T, N)) (d : decode cc pc = .ok (.athrow, 1)) (K : SmX p l e R s m args below meth c Q A D nL cells slots ws pc L C q) : Sm p l e R s m args below meth c Q A D nL cells slots ws pc L (.ref q :: S) := by
  intro H locs ls hP hD hS hl
  obtain ⟨ce, h1, h2, h3⟩ := va_recvX E.2.2.2.2.2.1 hP hc he
  exact vx_athrow E.1 E.2.1 d (K H locs ls _ ce hP hD hS hl h1 h2 h3)
theorem sx_ws {ws2 : va_W} {E : String} {q : Nat} (h : ws = ws2) (K : SmX p l e R s m args below meth c Q A D nL cells slots ws2 pc L E q) : SmX p l e R s m args below meth c Q A D nL cells slots ws pc L E q := by rw [h]; exact K
theorem sx_perm {ws2 : va_W} {E : String} {q : Nat} (h : ws.Perm ws2) (K : SmX p l e R s m args below meth c Q A D nL cells slots ws2 pc L E q) : SmX p l e R s m args below meth c Q A D nL cells slots ws pc L E q := fun H locs ls rest ce hP hD hS hl => K H locs ls rest ce (hP.perm h) (hD.perm h) hS hl
end
