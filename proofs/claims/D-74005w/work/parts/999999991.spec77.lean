/-! THE LAW'S ROWS -/
set_option maxRecDepth 100000
def LW (ct : Nat → ClassId) (ad am : Nat → Nat) (o n : Nat) (τ σ μ : Nat → Nat → Int32) (pl : List KP) (f : Nat → Int64) : va_W := iw ad ct n τ σ (usW ad n τ ++ kpW (ad 47) ct n pl) ++ (wm am ct μ ++ outW ct o f)
def LL (b x y o : Nat) (i : Int32) : List (Nat × Value) := [(0, .ref b), (1, .ref x), (2, .ref y), (3, .ref o), (4, .int i)]
section
variable {p : Program} {l : Launch} {e : Env} {R : Room} {s : State} {m : MethodId} {args : Array Value} {below : List Frame} {meth : Method} {c : Code} {Q : State → Prop} {A : Nat → Prop} {D : va_G} {nL cells slots : Nat} {ws : va_W} {pc : Nat} {L : List (Nat × Value)} {S : List Value}
variable {cc : ByteArray} {ret : Option FieldType} {ct : Nat → ClassId} {gt : Nat → Nat}
variable {y : MethodName} {bb : ByteArray} {nl fr lo mc ms N index : Nat} {ty : FieldType} {As S0 S1 : List Value}
theorem s_sld {own : String} {tys : List (ClassId × FieldType)} (E : En p s m args meth c A cc nL own ret D tys gt) {b L0 : Nat} {xs : Nat → Int32} (hX : va_X b L0 xs s s.heap) (hbl : b < s.heap.size) (hbA : ¬ A b) {i : Int32} (hin : vp_in i L0) (d : decode cc pc = .ok (.iaload, 1)) (K : Sm p l e R s m args below meth c Q A D nL cells slots ws (pc + 1) L (.int (xs i.toNatClampNeg) :: S)) : Sm p l e R s m args below meth c Q A D nL cells slots ws pc L (.int i :: .ref b :: S) := fun H locs ls hP hD hS hl => va_sld E.1 E.2.1 hX hbl hbA hS hin d (K H locs ls hP hD hS hl)
theorem s_slen {own : String} {tys : List (ClassId × FieldType)} (E : En p s m args meth c A cc nL own ret D tys gt) {b L0 : Nat} {xs : Nat → Int32} (hX : va_X b L0 xs s s.heap) (hbl : b < s.heap.size) (hbA : ¬ A b) (d : decode cc pc = .ok (.arraylength, 1)) (K : Sm p l e R s m args below meth c Q A D nL cells slots ws (pc + 1) L (.int (Int32.ofNat L0) :: S)) : Sm p l e R s m args below meth c Q A D nL cells slots ws pc L (.ref b :: S) := fun H locs ls hP hD hS hl => va_slen E.1 E.2.1 hX hbl hbA hS d (K H locs ls hP hD hS hl)
/-- the script's int at 6 j + k -/
theorem l_arg {own : String} {tys : List (ClassId × FieldType)} (E : En p s m args meth c A cc nL own ret D tys gt) {b L0 : Nat} {xs : Nat → Int32} (hX : va_X b L0 xs s s.heap) (hbl : b < s.heap.size) (hbA : ¬ A b) (hL : L0 ≤ 384) {j k x y o : Nat} {kk : Int} (hk : 6 * j + k < L0) (d0 : decode cc pc = .ok (.aload_n 0, 1)) (d1 : decode cc (pc + 1) = .ok (.iload 4, 2)) (d2 : decode cc (pc + 1 + 2) = .ok (.iconst kk, 1)) (hv : Int32.ofInt kk = nI k) (d3 : decode cc (pc + 1 + 2 + 1) = .ok (.iadd, 1)) (d4 : decode cc (pc + 1 + 2 + 1 + 1) = .ok (.iaload, 1))
    (K : Sm p l e R s m args below meth c Q A D nL cells slots ws (pc + 1 + 2 + 1 + 1 + 1) (LL b x y o (nI (6 * j))) (.int (xs (6 * j + k)) :: S)) : Sm p l e R s m args below meth c Q A D nL cells slots ws pc (LL b x y o (nI (6 * j))) S := by
  have e : nI (6 * j) + nI k = nI (6 * j + k) := nI_add _ _
  refine s_aload_n E d0 (i := 0) (j := 0) rfl rfl (s_iload E d1 (j := 4) rfl (s_iconst E d2 hv (s_iadd_ E d3 e ?_)))
  refine s_sld E hX hbl hbA (vp_in_nI hk (by omega)) d4 ?_
  rw [nI_clamp (by omega)]
  exact K
/-- a call of the class -/
theorem l_x {T : Type} {post : Int32 → T → Prop} {wsO : T → va_W} {wr : va_W} {ad : Nat → Nat} {n : Nat} {τ σ : Nat → Nat → Int32} {U : va_W} (E : En p s m args meth c A cc nL RX0 ret D (tysA ct) gt) (hM : Ct l D gt y bb nl ty fr lo mc ms (.ref (ad 0) :: As) (iw ad ct n τ σ U) (tysA ct) post wsO (fun _ => tysA ct)) (hK : KV RX0 index RX1 y bb nl (some ty) N) (hfr : fr + 1 ≤ R.frames) (hlo : 8 + (nl + 11) + lo ≤ R.locals) (hmc : cells + mc ≤ R.cells) (hms : slots + ms ≤ R.slots)
    (hn : As.length = N) (hst : S1 = As.reverse ++ .ref (ad 0) :: S0) (hcat : (S0.map fun v => v.category).sum ≤ 8) (d : decode cc pc = .ok (.invokevirtual index, 3))
    (K : ∀ (r : Int32) (u : T), post r u → Sm p l e R s m args below meth c Q A D nL (cells + mc) (slots + ms) (wsO u ++ wr) (pc + 3) L (.int r :: S0)) : Sm p l e R s m args below meth c Q A D nL cells slots (iw ad ct n τ σ U ++ wr) pc L S1 :=
  p_goi (wc := iw ad ct n τ σ U) (wr := wr) (ws2 := fun u => wsO u ++ wr) E (cutS [] (tysA ct)).2.2.2.2.2 (List.Perm.refl _) (rV E (cutP (cutS [] (tysA ct)).2.2.2.2.2) hM hK hfr hlo hmc hms 0 rfl (ci := 0) rfl hn hst hcat d) (fun u => List.perm_append_comm) (fun r u h _ => K r u h)
theorem l_xH {T : Type} {post : Int32 → T → Prop} {wsO : T → va_W} {wr : va_W} {ad : Nat → Nat} {n : Nat} {τ σ : Nat → Nat → Int32} {U : va_W} {hh : List (Nat × Nat × Nat × Nat)} (E : En p s m args meth c A cc nL RX0 ret D (tysA ct) gt) (hM : CtH l D gt y bb nl ty hh fr lo mc ms (.ref (ad 0) :: As) (iw ad ct n τ σ U) (tysA ct) post wsO (fun _ => tysA ct)) (hK : KVH RX0 index RX1 y bb nl (some ty) hh N) (hfr : fr + 1 ≤ R.frames) (hlo : 8 + (nl + 11) + lo ≤ R.locals) (hmc : cells + mc ≤ R.cells) (hms : slots + ms ≤ R.slots)
    (hn : As.length = N) (hst : S1 = As.reverse ++ .ref (ad 0) :: S0) (hcat : (S0.map fun v => v.category).sum ≤ 8) (d : decode cc pc = .ok (.invokevirtual index, 3))
    (K : ∀ (r : Int32) (u : T), post r u → Sm p l e R s m args below meth c Q A D nL (cells + mc) (slots + ms) (wsO u ++ wr) (pc + 3) L (.int r :: S0)) : Sm p l e R s m args below meth c Q A D nL cells slots (iw ad ct n τ σ U ++ wr) pc L S1 :=
  p_goi (wc := iw ad ct n τ σ U) (wr := wr) (ws2 := fun u => wsO u ++ wr) E (cutS [] (tysA ct)).2.2.2.2.2 (List.Perm.refl _) (rVH E (cutP (cutS [] (tysA ct)).2.2.2.2.2) hM hK hfr hlo hmc hms 0 rfl (ci := 0) rfl hn hst hcat d) (fun u => List.perm_append_comm) (fun r u h _ => K r u h)
theorem mid_p {X M O : va_W} : (X ++ (M ++ O)).Perm (M ++ (X ++ O)) := by
  refine perm_of ?_
  intro _ _ a
  simp only [List.count_append]
  omega
theorem mid_q {X M O : va_W} : ((X ++ O) ++ M).Perm (X ++ (M ++ O)) := by
  refine perm_of ?_
  intro _ _ a
  simp only [List.count_append]
  omega
/-- a call of the reference -/
theorem l_m {T : Type} {post : Int32 → T → Prop} {wsO : T → va_W} {X O : va_W} {am : Nat → Nat} {μ : Nat → Nat → Int32} (E : En p s m args meth c A cc nL RX0 ret D (tysA ct) gt) (hM : Ct l D gt y bb nl ty fr lo mc ms (.ref (am 0) :: As) (wm am ct μ) (tysA ct) post wsO (fun _ => tysA ct)) (hK : KV RX0 index RX5 y bb nl (some ty) N) (hfr : fr + 1 ≤ R.frames) (hlo : 8 + (nl + 11) + lo ≤ R.locals) (hmc : cells + mc ≤ R.cells) (hms : slots + ms ≤ R.slots)
    (hn : As.length = N) (hst : S1 = As.reverse ++ .ref (am 0) :: S0) (hcat : (S0.map fun v => v.category).sum ≤ 8) (d : decode cc pc = .ok (.invokevirtual index, 3))
    (K : ∀ (r : Int32) (u : T), post r u → Sm p l e R s m args below meth c Q A D nL (cells + mc) (slots + ms) (X ++ (wsO u ++ O)) (pc + 3) L (.int r :: S0)) : Sm p l e R s m args below meth c Q A D nL cells slots (X ++ (wm am ct μ ++ O)) pc L S1 :=
  p_goi (wc := wm am ct μ) (wr := X ++ O) (ws2 := fun u => X ++ (wsO u ++ O)) E (cutS [] (tysA ct)).2.2.2.2.2 mid_p (rV E (cutP (cutS [] (tysA ct)).2.2.2.2.2) hM hK hfr hlo hmc hms 0 rfl (ci := 4) rfl hn hst hcat d) (fun u => mid_q) (fun r u h _ => K r u h)
/-- from the end of a case on -/
def LN (p : Program) (l : Launch) (e : Env) (s : State) (m : MethodId) (args : Array Value) (below : List Frame) (meth : Method) (c : Code) (Q : State → Prop) (A : Nat → Prop) (D : va_G) (ct : Nat → ClassId) (am : Nat → Nat) (b x o j : Nat) : Prop :=
  ∀ (ad : Nat → Nat) (n K tp : Nat) (μ σ : Nat → Nat → Int32) (pl : List KP) (f : Nat → Int64), ad 0 = x → LI n K tp μ σ pl → Sm p l e room_1 s m args below meth c Q A D 7 (76 + 10521 * (j + 1)) (6340 + 83470 * (j + 1)) (LW ct ad am o n (zt μ) σ μ pl f) 1522 (LL b x (am 0) o (nI (6 * j))) []
theorem l_next {ad am : Nat → Nat} {b o j n K tp : Nat} {τ σ μ : Nat → Nat → Int32} {pl : List KP} {f : Nat → Int64} (next : LN p l e s m args below meth c Q A D ct am b (ad 0) o j) (h : LI n K tp μ σ pl ∧ TE τ μ) (hc : cells ≤ 76 + 10521 * (j + 1)) (hs : slots ≤ 6340 + 83470 * (j + 1)) : Sm p l e room_1 s m args below meth c Q A D 7 cells slots (iw ad ct n τ σ (usW ad n τ ++ kpW (ad 47) ct n pl) ++ (wm am ct μ ++ outW ct o f)) 1522 (LL b (ad 0) (am 0) o (nI (6 * j))) [] := by
  have ht : TE τ (zt μ) := h.2.tr (TE.of fun r hr => (zt_r (by omega)).symm)
  refine s_ws (ws2 := LW ct ad am o n (zt μ) σ μ pl f) ?_ (s_widen hc hs (next ad n K tp μ σ pl f rfl h.1))
  unfold LW
  rw [us_cg h.1.n6 ht, iw_cg ht (PE.rf n (σ 1)), upR_self rfl]
theorem l_nextP {ad am : Nat → Nat} {b o j n K tp : Nat} {τ σ μ : Nat → Nat → Int32} {pl : List KP} {f : Nat → Int64} (next : LN p l e s m args below meth c Q A D ct am b (ad 0) o j) (h : LI n K tp μ (upR σ 1 (μ 25)) pl ∧ TE τ μ) (hP : PE n (σ 1) (μ 25)) (hc : cells ≤ 76 + 10521 * (j + 1)) (hs : slots ≤ 6340 + 83470 * (j + 1)) : Sm p l e room_1 s m args below meth c Q A D 7 cells slots (iw ad ct n τ σ (usW ad n τ ++ kpW (ad 47) ct n pl) ++ (wm am ct μ ++ outW ct o f)) 1522 (LL b (ad 0) (am 0) o (nI (6 * j))) [] := by
  have ht : TE τ (zt μ) := h.2.tr (TE.of fun r hr => (zt_r (by omega)).symm)
  refine s_ws (ws2 := LW ct ad am o n (zt μ) (upR σ 1 (μ 25)) μ pl f) ?_ (s_widen hc hs (next ad n K tp μ _ pl f rfl h.1))
  unfold LW
  rw [us_cg h.1.n6 ht, iw_cg ht hP]
end
