/-! KEPT PLANS: an array of plans made one by one -/
set_option maxRecDepth 100000
abbrev KP := (Nat → Nat) × (Nat → Int32) × (Nat → Int32)
def plC (ct : Nat → ClassId) (n : Nat) (p : KP) : va_W := [(p.1 0, .inr (2, [.ref (p.1 1), .ref (p.1 2), .ref (p.1 3), .ref (p.1 4)])), (p.1 1, .inl (ct 0, 6, .inl (pch n 0 p.2.1 p.2.2))), (p.1 2, .inl (ct 0, 6, .inl (pch n 6 p.2.1 p.2.2))), (p.1 3, .inl (ct 0, 6, .inl (pch n 73 p.2.1 p.2.2))), (p.1 4, .inl (ct 1, 61, .inl (pbl p.2.1)))]
def ktF (pl : List KP) : Nat → Option Nat := fun k => (pl[k]?).map (fun p => p.1 0)
def kpG (a : Nat) (ct : Nat → ClassId) (n : Nat) (f : Nat → Option Nat) (pl : List KP) : va_W := (a, .inl (ct 4, 20, .inr (.inr (.inr (.inr f))))) :: pl.flatMap (plC ct n)
def kpW (a : Nat) (ct : Nat → ClassId) (n : Nat) (pl : List KP) : va_W := kpG a ct n (ktF pl) pl
theorem flat_at {ct : Nat → ClassId} {n : Nat} : ∀ (pl : List KP) (k : Nat) (p : KP), pl[k]? = some p → (pl.flatMap (plC ct n))[5 * k]? = some (p.1 0, .inr (2, [.ref (p.1 1), .ref (p.1 2), .ref (p.1 3), .ref (p.1 4)])) := by
  intro pl
  induction pl with
  | nil => intro k p h; cases h
  | cons q pl ih =>
    intro k p h
    cases k with
    | zero => cases h; rfl
    | succ k =>
      rw [List.flatMap_cons, show 5 * (k + 1) = (plC ct n q).length + 5 * k by show _ = 5 + 5 * k; omega, List.getElem?_append_right (Nat.le_add_right _ _), Nat.add_sub_cancel_left]
      exact ih k p h
theorem kp_at {ad : Nat → Nat} {ct : Nat → ClassId} {n a : Nat} {τ σ : Nat → Nat → Int32} {U : va_W} {f : Nat → Option Nat} {pl : List KP} {k : Nat} {p : KP} (h : pl[k]? = some p) : (iw ad ct n τ σ (U ++ kpG a ct n f pl))[47 + U.length + (1 + 5 * k)]? = some (p.1 0, .inr (2, [.ref (p.1 1), .ref (p.1 2), .ref (p.1 3), .ref (p.1 4)])) := by
  rw [iw_len]
  unfold kpG
  rw [show 1 + 5 * k = 5 * k + 1 by omega, List.getElem?_cons_succ]
  exact flat_at pl k p h
theorem ktF_at {pl : List KP} {k : Nat} {p : KP} (h : pl[k]? = some p) : ktF pl k = some (p.1 0) := by unfold ktF; rw [h]; rfl
theorem ktF_o {pl : List KP} {k : Nat} (h : pl.length ≤ k) : ktF pl k = none := by unfold ktF; rw [List.getElem?_eq_none h]; rfl
theorem ktF_snoc {pl : List KP} {p : KP} : va_up (ktF pl) pl.length (some (p.1 0)) = ktF (pl ++ [p]) := by
  funext j
  unfold va_up
  by_cases h : j = pl.length
  · subst h; rw [if_pos rfl]; unfold ktF; rw [List.getElem?_append_right (Nat.le_refl _), Nat.sub_self]; rfl
  · rw [if_neg h]
    unfold ktF
    by_cases k : j < pl.length
    · rw [List.getElem?_append_left k]
    · rw [List.getElem?_eq_none (by omega), List.getElem?_eq_none (by rw [List.length_append]; show pl.length + 1 ≤ j; omega)]
theorem ktF_rot {rest : List KP} {p : KP} (h : rest.length = 19) : va_up (va_cpy (ktF (p :: rest)) (ktF (p :: rest)) 1 0 19) 19 (some (p.1 0)) = ktF (rest ++ [p]) := by
  funext j
  unfold va_up va_cpy
  by_cases e : j = 19
  · subst e; rw [if_pos rfl]; unfold ktF; rw [List.getElem?_append_right (by omega), h]; rfl
  · rw [if_neg e]
    by_cases k : j < 19
    · rw [if_pos ⟨Nat.zero_le _, by omega⟩]
      unfold ktF
      rw [List.getElem?_append_left (by omega), show 1 + (j - 0) = j + 1 by omega, List.getElem?_cons_succ]
    · rw [if_neg (by omega)]
      unfold ktF
      rw [List.getElem?_eq_none (by rw [List.length_cons]; omega), List.getElem?_eq_none (by rw [List.length_append]; show rest.length + 1 ≤ j; omega)]
theorem ktF_put {l1 l2 : List KP} {p q : KP} (h : q.1 = p.1) : ktF (l1 ++ q :: l2) = ktF (l1 ++ p :: l2) := by
  funext j
  unfold ktF
  rw [List.getElem?_append, List.getElem?_append]
  split
  · rfl
  · rcases e : j - l1.length with _ | k
    · show some (q.1 0) = some (p.1 0); rw [h]
    · rfl
theorem mid_at {l1 l2 : List KP} {p : KP} {K : Nat} (h : l1.length = K) : (l1 ++ p :: l2)[K]? = some p := by
  subst h; rw [List.getElem?_append_right (Nat.le_refl _), Nat.sub_self]; rfl
theorem mid_of {pl : List KP} {K : Nat} (h : K < pl.length) : ∃ l1 p l2, pl = l1 ++ p :: l2 ∧ l1.length = K := by
  refine ⟨pl.take K, pl[K], pl.drop (K + 1), ?_, by rw [List.length_take]; omega⟩
  rw [List.getElem_cons_drop, List.take_append_drop]
/-- cells moved to the front -/
theorem perm_mid {U A B P : va_W} {k : Nat × va_E} : (U ++ k :: (A ++ (P ++ B))).Perm (P ++ (U ++ k :: (A ++ B))) := by
  have h1 : (k :: (A ++ (P ++ B))).Perm (P ++ k :: (A ++ B)) := (List.Perm.cons k (List.perm_append_comm_assoc A P B)).trans List.perm_middle.symm
  exact (List.Perm.append_left U h1).trans (List.perm_append_comm_assoc U P _)
theorem perm_kp {F N R U A B P : va_W} {k : Nat × va_E} (h : F.Perm (N ++ R)) : (F ++ (U ++ k :: (A ++ (P ++ B)))).Perm ((P ++ N) ++ (R ++ (U ++ k :: (A ++ B)))) := by
  refine (List.Perm.append_right _ h).trans ((List.Perm.append_left _ perm_mid).trans ((List.perm_append_comm_assoc _ P _).trans ?_))
  rw [List.append_assoc, List.append_assoc]
def nowC (ad : Nat → Nat) (ct : Nat → ClassId) (n : Nat) (σ : Nat → Nat → Int32) : va_W := plC ct n (fun k => ad (7 + k), σ 1, σ 5)
def nowR (ad : Nat → Nat) (ct : Nat → ClassId) (n : Nat) (τ σ : Nat → Nat → Int32) : va_W := [(ad 0, .inr (0, xfs ad σ)), (ad 1, .inl (ct 2, 700, .inl (σ 9))), (ad 2, .inr (1, tfs ad τ σ)), (ad 3, .inl (ct 3, 6, .inr (.inr (.inr (.inr (usF ad n)))))), (ad 4, .inl (ct 0, 12, .inl (σ 31))), (ad 5, .inl (ct 0, 3, .inl (losF τ))), (ad 6, .inl (ct 0, 9, .inl (lnkF τ))), (ad 12, .inr (2, [.ref (ad 13), .ref (ad 14), .ref (ad 15), .ref (ad 16)])), (ad 13, .inl (ct 0, 6, .inl (pch n 0 (σ 2) (σ 6)))), (ad 14, .inl (ct 0, 6, .inl (pch n 6 (σ 2) (σ 6)))), (ad 15, .inl (ct 0, 6, .inl (pch n 73 (σ 2) (σ 6)))), (ad 16, .inl (ct 1, 61, .inl (pbl (σ 2)))), (ad 17, .inr (2, [.ref (ad 18), .ref (ad 19), .ref (ad 20), .ref (ad 21)])), (ad 18, .inl (ct 0, 6, .inl (pch n 0 (σ 3) (σ 7)))), (ad 19, .inl (ct 0, 6, .inl (pch n 6 (σ 3) (σ 7)))), (ad 20, .inl (ct 0, 6, .inl (pch n 73 (σ 3) (σ 7)))), (ad 21, .inl (ct 1, 61, .inl (pbl (σ 3)))), (ad 22, .inr (2, [.ref (ad 23), .ref (ad 24), .ref (ad 25), .ref (ad 26)])), (ad 23, .inl (ct 0, 6, .inl (pch n 0 (σ 4) (σ 8)))), (ad 24, .inl (ct 0, 6, .inl (pch n 6 (σ 4) (σ 8)))), (ad 25, .inl (ct 0, 6, .inl (pch n 73 (σ 4) (σ 8)))), (ad 26, .inl (ct 1, 61, .inl (pbl (σ 4)))), (ad 27, .inr (3, [.ref (ad 28), .ref (ad 29), .ref (ad 30), .ref (ad 31), .ref (ad 32), .ref (ad 33), .ref (ad 34), .ref (ad 35), .ref (ad 36), .int (σ 10 9), .int (σ 10 10), .int (σ 10 11), .int (σ 10 12), .int (σ 10 13), .int (σ 10 14), .int (σ 10 15), .int (σ 10 16), .int (σ 10 17), .int (σ 10 18), .int (σ 10 19), .int (σ 10 20), .int (σ 10 21), .int (σ 10 22), .int (σ 10 23), .int (σ 10 24), .int (σ 10 25), .int (σ 10 26), .int (σ 10 27), .ref (ad 0)])), (ad 28, .inl (ct 0, 6, .inl (σ 11))), (ad 29, .inl (ct 0, 6, .inl (σ 12))), (ad 30, .inl (ct 0, 6, .inl (σ 13))), (ad 31, .inl (ct 0, 6, .inl (σ 14))), (ad 32, .inl (ct 0, 6, .inl (σ 15))), (ad 33, .inl (ct 0, 6, .inl (σ 16))), (ad 34, .inl (ct 0, 6, .inl (σ 17))), (ad 35, .inl (ct 0, 6, .inl (σ 18))), (ad 36, .inl (ct 0, 18, .inl (σ 19))), (ad 37, .inr (3, [.ref (ad 38), .ref (ad 39), .ref (ad 40), .ref (ad 41), .ref (ad 42), .ref (ad 43), .ref (ad 44), .ref (ad 45), .ref (ad 46), .int (σ 20 9), .int (σ 20 10), .int (σ 20 11), .int (σ 20 12), .int (σ 20 13), .int (σ 20 14), .int (σ 20 15), .int (σ 20 16), .int (σ 20 17), .int (σ 20 18), .int (σ 20 19), .int (σ 20 20), .int (σ 20 21), .int (σ 20 22), .int (σ 20 23), .int (σ 20 24), .int (σ 20 25), .int (σ 20 26), .int (σ 20 27), .ref (ad 0)])), (ad 38, .inl (ct 0, 8, .inl (σ 21))), (ad 39, .inl (ct 0, 8, .inl (σ 22))), (ad 40, .inl (ct 0, 8, .inl (σ 23))), (ad 41, .inl (ct 0, 8, .inl (σ 24))), (ad 42, .inl (ct 0, 8, .inl (σ 25))), (ad 43, .inl (ct 0, 8, .inl (σ 26))), (ad 44, .inl (ct 0, 8, .inl (σ 27))), (ad 45, .inl (ct 0, 8, .inl (σ 28))), (ad 46, .inl (ct 0, 18, .inl (σ 29)))]
theorem now_p {ad : Nat → Nat} {ct : Nat → ClassId} {n : Nat} {τ σ : Nat → Nat → Int32} : (fw ad ct n τ σ).Perm (nowC ad ct n σ ++ nowR ad ct n τ σ) := permBy 47 [7, 8, 9, 10, 11, 0, 1, 2, 3, 4, 5, 6, 12, 13, 14, 15, 16, 17, 18, 19, 20, 21, 22, 23, 24, 25, 26, 27, 28, 29, 30, 31, 32, 33, 34, 35, 36, 37, 38, 39, 40, 41, 42, 43, 44, 45, 46] (by decide) rfl rfl
/-- what is kept at a place -/
def rowK (pl : List KP) (k : Nat) : Nat → Int32 := ((pl[k]?).map (fun p => p.2.1)).getD (fun _ => 0)
theorem rowK_at {pl : List KP} {k : Nat} {p : KP} (h : pl[k]? = some p) : rowK pl k = p.2.1 := by unfold rowK; rw [h]; rfl
def upK (K : Nat) : Nat := if K = 20 then 20 else K + 1
/-- one more is kept, the eldest is lost where there is no room -/
def KU (K : Nat) (pl : List KP) (P : Nat → Int32) (pl2 : List KP) : Prop := pl2.length ≤ 20 ∧ upK K ≤ pl2.length ∧ ∀ k, k < upK K → rowK pl2 k = if K = 20 then (if k = 19 then P else rowK pl (k + 1)) else if k = K then P else rowK pl k
theorem row_l {l1 l2 : List KP} {k : Nat} (h : k < l1.length) : rowK (l1 ++ l2) k = rowK l1 k := by unfold rowK; rw [List.getElem?_append_left h]
theorem KU.rot {rest : List KP} {p q : KP} {P : Nat → Int32} (h : rest.length = 19) (hq : q.2.1 = P) : KU 20 (p :: rest) P (rest ++ q :: []) := by
  refine ⟨by rw [List.length_append]; show rest.length + 1 ≤ 20; omega, by rw [List.length_append]; show 20 ≤ rest.length + 1; omega, fun k hk => ?_⟩
  have hk : k < 20 := hk
  rw [if_pos rfl]
  by_cases e : k = 19
  · subst e; rw [if_pos rfl, rowK_at (mid_at h), hq]
  · rw [if_neg e, row_l (by omega)]; rfl
theorem KU.mid {l1 l2 : List KP} {p q : KP} {P : Nat → Int32} (h : l1.length < 20) (hl : (l1 ++ p :: l2).length ≤ 20) (hq : q.2.1 = P) : KU l1.length (l1 ++ p :: l2) P (l1 ++ q :: l2) := by
  have e1 : upK l1.length = l1.length + 1 := by unfold upK; rw [if_neg (by omega)]
  have e2 : (l1 ++ q :: l2).length = (l1 ++ p :: l2).length := by rw [List.length_append, List.length_append]; rfl
  refine ⟨by rw [e2]; exact hl, by rw [e1, List.length_append]; show l1.length + 1 ≤ l1.length + (l2.length + 1); omega, fun k hk => ?_⟩
  rw [e1] at hk
  rw [if_neg (by omega)]
  by_cases e : k = l1.length
  · rw [if_pos e, rowK_at (mid_at e.symm), hq]
  · rw [if_neg e, row_l (by omega), row_l (by omega)]
theorem KU.new {pl : List KP} {q : KP} {P : Nat → Int32} (h : pl.length < 20) (hq : q.2.1 = P) : KU pl.length pl P (pl ++ q :: []) := by
  have e1 : upK pl.length = pl.length + 1 := by unfold upK; rw [if_neg (by omega)]
  refine ⟨by rw [List.length_append]; show pl.length + 1 ≤ 20; omega, by rw [e1, List.length_append]; exact Nat.le_refl _, fun k hk => ?_⟩
  rw [e1] at hk
  rw [if_neg (by omega)]
  by_cases e : k = pl.length
  · rw [if_pos e, rowK_at (mid_at e.symm), hq]
  · rw [if_neg e, row_l (by omega)]
theorem pch_z {n b : Nat} : pch n b (fun _ => 0) (fun _ => 0) = fun _ => 0 := by
  funext j; unfold pch; split
  · rfl
  · split <;> rfl
theorem pbl_z : pbl (fun _ => 0) = fun _ => 0 := by funext j; unfold pbl; split <;> rfl
theorem flat_rot {ct : Nat → ClassId} {n : Nat} {p : KP} {rest : List KP} : ((p :: rest).flatMap (plC ct n)).Perm ((rest ++ [p]).flatMap (plC ct n)) := by
  rw [List.flatMap_cons, List.flatMap_append]
  refine List.perm_append_comm.trans ?_
  rw [List.flatMap_cons, List.flatMap_nil, List.append_nil]
theorem rot_of {pl : List KP} (h : pl.length = 20) : ∃ p rest, pl = p :: rest ∧ rest.length = 19 := by
  cases pl with
  | nil => cases h
  | cons p rest => exact ⟨p, rest, rfl, by rw [List.length_cons] at h; omega⟩
theorem kp_fin {ad : Nat → Nat} {ct : Nat → ClassId} {n a : Nat} {τ σ : Nat → Nat → Int32} {U : va_W} {l1 l2 : List KP} {p q : KP} (h : q.1 = p.1) : iw ad ct n τ σ (U ++ kpG a ct n (ktF (l1 ++ p :: l2)) (l1 ++ q :: l2)) = iw ad ct n τ σ (U ++ kpW a ct n (l1 ++ q :: l2)) := by unfold kpW; rw [ktF_put h]
def plZ (pa : Nat → Nat) : KP := (pa, fun _ => 0, fun _ => 0)
