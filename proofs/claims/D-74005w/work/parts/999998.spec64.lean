/-! THE WORLD BEHIND A TEXT -/
set_option maxRecDepth 100000
def usW (ad : Nat → Nat) (n : Nat) (τ : Nat → Nat → Int32) : va_W := (List.range n).map (fun k => (ad (100 + k), .inr (7, ufs τ k)))
theorem usW_UT {ad : Nat → Nat} {n : Nat} {τ : Nat → Nat → Int32} {X : va_W} : UT ad n τ (usW ad n τ ++ X) := by
  intro k hk
  rw [List.getElem?_append_left (by unfold usW; rw [List.length_map, List.length_range]; exact hk)]
  unfold usW
  rw [List.getElem?_map, List.getElem?_range hk]
  rfl
theorem perm_of {L M : va_W} (h : ∀ [BEq (Nat × va_E)] [LawfulBEq (Nat × va_E)], ∀ a, List.count a L = List.count a M) : L.Perm M := by
  letI : DecidableEq (Nat × va_E) := fun a b => Classical.propDecidable _
  exact List.perm_iff_count.mpr (fun a => h a)
/-- the cells of the class but itself and the tape -/
def fwT (ad : Nat → Nat) (ct : Nat → ClassId) (n : Nat) (τ σ : Nat → Nat → Int32) : va_W := ((fw ad ct n τ σ).drop 2).take 5
def fwP (ad : Nat → Nat) (ct : Nat → ClassId) (n : Nat) (τ σ : Nat → Nat → Int32) : va_W := (fw ad ct n τ σ).drop 7
theorem iw_cut {ad : Nat → Nat} {ct : Nat → ClassId} {n : Nat} {τ σ : Nat → Nat → Int32} {T : va_W} : iw ad ct n τ σ T = xtW ad ct σ ++ ((fwT ad ct n τ σ ++ fwP ad ct n τ σ) ++ T) := rfl
theorem tx_p1 {ad : Nat → Nat} {ct : Nat → ClassId} {n : Nat} {τ σ : Nat → Nat → Int32} {T : va_W} {c : Nat × va_E} : (iw ad ct n τ σ T ++ [c]).Perm ((c :: xtW ad ct σ) ++ ((fwT ad ct n τ σ ++ fwP ad ct n τ σ) ++ T)) := by
  rw [iw_cut]
  exact List.perm_append_comm
theorem tx_px {ad : Nat → Nat} {ct : Nat → ClassId} {n : Nat} {τ σ : Nat → Nat → Int32} {T : va_W} {c : Nat × va_E} : (((fwT ad ct n τ σ ++ fwP ad ct n τ σ) ++ T) ++ (xtW ad ct σ ++ [c])).Perm (iw ad ct n τ σ T ++ [c]) := by
  rw [iw_cut, ← List.append_assoc]
  exact List.Perm.append_right _ List.perm_append_comm
/-- a plan's row for another number of users -/
def rnP (n : Nat) (P J : Nat → Int32) : Nat → Int32 := fun m => if m < 6 then pch n 0 P J m else if m < 12 then pch n 6 P J (m - 6) else if 73 ≤ m then pch n 73 P J (m - 73) else P m
theorem rnP_ch {n n2 b : Nat} {P J : Nat → Int32} (hb : b = 0 ∨ b = 6 ∨ b = 73) (hn : n2 ≤ 6) (hn1 : n ≤ 6) : pch n2 b (rnP n P J) (rnP n P J) = pch n b P J := by
  have e : ∀ j, j < 6 → rnP n P J (b + j) = pch n b P J j := by
    intro j hj
    unfold rnP
    rcases hb with rfl | rfl | rfl
    · rw [if_pos (by omega), Nat.zero_add]
    · rw [if_neg (by omega), if_pos (by omega), Nat.add_sub_cancel_left]
    · rw [if_neg (by omega), if_neg (by omega), if_pos (by omega), Nat.add_sub_cancel_left]
  funext j
  by_cases q : j < 6
  · have : pch n2 b (rnP n P J) (rnP n P J) j = rnP n P J (b + j) := by
      unfold pch
      by_cases z : j < n2
      · rw [if_pos z]
      · rw [if_neg z, if_pos q]
    rw [this, e j q]
  · unfold pch
    rw [if_neg (by omega), if_neg q, if_neg (by omega), if_neg q]
theorem rnP_bl {n : Nat} {P J : Nat → Int32} : pbl (rnP n P J) = pbl P := by
  funext j
  unfold pbl
  by_cases q : j < 61
  · rw [if_pos q, if_pos q]; unfold rnP; rw [if_neg (by omega), if_neg (by omega), if_neg (by omega)]
  · rw [if_neg q, if_neg q]
def txσ (n : Nat) (σ ρ : Nat → Nat → Int32) : Nat → Nat → Int32 := fun r => if 1 ≤ r ∧ r ≤ 4 then rnP n (σ r) (σ (r + 4)) else if 5 ≤ r ∧ r ≤ 8 then rnP n (σ (r - 4)) (σ r) else if r = 30 then (fun j => if j = 0 then ρ 0 15 else ρ 0 30) else if r = 31 then ρ 31 else σ r
def adT (ad ra : Nat → Nat) : Nat → Nat := fun k => if 2 ≤ k ∧ k ≤ 6 then ra (k - 1) else if 100 ≤ k then ra k else ad k
theorem adT_o {ad ra : Nat → Nat} {k : Nat} (h : ¬ (2 ≤ k ∧ k ≤ 6)) (h2 : k < 100) : adT ad ra k = ad k := by unfold adT; rw [if_neg h, if_neg (by omega)]
/-- what is told, as it was read -/
def TK (τ ρ : Nat → Nat → Int32) : Prop := (∀ j, j < 10 → τ 3 j = ρ 3 (10 + j)) ∧ (∀ r, 5 ≤ r ∧ r ≤ 11 → ∀ k, k < 6 → τ r k = ρ r (6 + k)) ∧ ∀ j, j < 9 → τ 12 j = ρ 12 (9 + j)
theorem TK.ls {τ ρ : Nat → Nat → Int32} (h : TK τ ρ) : losF τ = lsF ρ := by
  funext j
  unfold losF lsF
  by_cases q : j < 3
  · rw [if_pos q, if_pos q, h.1 _ (by omega), show 10 + (4 + j) = 14 + j by omega]
  · rw [if_neg q, if_neg q]
theorem TK.lk {τ ρ : Nat → Nat → Int32} (h : TK τ ρ) : lnkF τ = lkF ρ := by
  funext j
  unfold lnkF lkF
  by_cases q : j < 9
  · rw [if_pos q, if_pos q, h.2.2 j q]
  · rw [if_neg q, if_neg q]
theorem TK.us {τ ρ : Nat → Nat → Int32} {ad ra : Nat → Nat} {n : Nat} (h : TK τ ρ) (hn : n ≤ 6) : uR ra ρ n = usW (adT ad ra) n τ := by
  unfold uR usW
  apply List.map_congr_left
  intro k hk
  have hk := List.mem_range.mp hk
  have e : adT ad ra (100 + k) = ra (100 + k) := by unfold adT; rw [if_neg (by omega), if_pos (by omega)]
  rw [e]
  unfold ufR ufs
  rw [h.2.1 5 (by decide) k (by omega), h.2.1 6 (by decide) k (by omega), h.2.1 7 (by decide) k (by omega), h.2.1 8 (by decide) k (by omega), h.2.1 9 (by decide) k (by omega), h.2.1 10 (by decide) k (by omega), h.2.1 11 (by decide) k (by omega)]
theorem usR_T {ad ra : Nat → Nat} {n : Nat} : usR ra n = usF (adT ad ra) n := by
  funext k
  unfold usR usF
  have e : adT ad ra (100 + k) = ra (100 + k) := by unfold adT; rw [if_neg (by omega), if_pos (by omega)]
  rw [e]
def rnK (n : Nat) (p : KP) : KP := (p.1, rnP n p.2.1 p.2.2, rnP n p.2.1 p.2.2)
theorem rnK_c {ct : Nat → ClassId} {n n2 : Nat} {p : KP} (hn : n2 ≤ 6) (hn1 : n ≤ 6) : plC ct n2 (rnK n p) = plC ct n p := by
  unfold plC rnK
  dsimp only
  rw [rnP_ch (Or.inl rfl) hn hn1, rnP_ch (Or.inr (Or.inl rfl)) hn hn1, rnP_ch (Or.inr (Or.inr rfl)) hn hn1, rnP_bl]
theorem rnK_w {a : Nat} {ct : Nat → ClassId} {n n2 : Nat} {pl : List KP} (hn : n2 ≤ 6) (hn1 : n ≤ 6) : kpW a ct n pl = kpW a ct n2 (pl.map (rnK n)) := by
  unfold kpW kpG
  have e : ktF (pl.map (rnK n)) = ktF pl := by
    funext k
    unfold ktF
    rw [List.getElem?_map, Option.map_map]
    rfl
  have h2 : ∀ l : List KP, l.flatMap (plC ct n) = (l.map (rnK n)).flatMap (plC ct n2) := by
    intro l
    induction l with
    | nil => rfl
    | cons p l ih => rw [List.map_cons, List.flatMap_cons, List.flatMap_cons, ih, rnK_c hn hn1]
  rw [e, h2]
def rdC (ra ad : Nat → Nat) (ρ : Nat → Nat → Int32) : Nat × va_E := (ra 0, .inr (5, rdf ad ra ρ))
theorem tx_set {ad ra : Nat → Nat} {ct : Nat → ClassId} {n n2 : Nat} {τ σ ρ : Nat → Nat → Int32} {T : va_W} : (rw ad ra ct σ ρ (tW ra ct n2 ρ) ++ T).set 1 (ad 0, .inr (0, (xfs ad σ).set 4 (.ref (ra 1)))) = rdC ra ad ρ :: ((ad 0, .inr (0, xfs (adT ad ra) σ)) :: (ad 1, .inl (ct 2, 700, .inl (σ 9))) :: (tW ra ct n2 ρ ++ T)) := by
  have e : (xfs ad σ).set 4 (.ref (ra 1)) = xfs (adT ad ra) σ := rfl
  rw [e]
  unfold rw
  rw [List.cons_append, List.append_assoc]
  rfl
theorem tx_end {ad ra : Nat → Nat} {ct : Nat → ClassId} {n n2 : Nat} {τ τ2 σ ρ : Nat → Nat → Int32} {pl : List KP} (hn : n2 ≤ 6) (hn1 : n ≤ 6) (h : TK τ2 ρ) :
    (rdC ra ad ρ :: ((ad 0, .inr (0, xfs (adT ad ra) σ)) :: (ad 1, .inl (ct 2, 700, .inl (σ 9))) :: (tW ra ct n2 ρ ++ ((fwT ad ct n τ σ ++ fwP ad ct n τ σ) ++ (usW ad n τ ++ kpW (ad 47) ct n pl))))).Perm
      (iw (adT ad ra) ct n2 τ2 (txσ n σ ρ) (usW (adT ad ra) n2 τ2 ++ kpW (adT ad ra 47) ct n2 (pl.map (rnK n))) ++ (rdC ra ad ρ :: (fwT ad ct n τ σ ++ usW ad n τ))) := by
  have eT : tW ra ct n2 ρ = fwT (adT ad ra) ct n2 τ2 (txσ n σ ρ) ++ usW (adT ad ra) n2 τ2 := by
    rw [← h.us (ad := ad) hn]
    have e1 : tfR ra ρ = tfs (adT ad ra) τ2 (txσ n σ ρ) := by
      unfold tfR tfs
      rw [h.1 7 (by decide), h.1 8 (by decide), h.1 0 (by decide), h.1 1 (by decide), h.1 2 (by decide), h.1 3 (by decide), h.1 9 (by decide)]
      rfl
    unfold tW
    rw [e1, usR_T (ad := ad), ← h.ls, ← h.lk]
    rfl
  have eP : fwP ad ct n τ σ = fwP (adT ad ra) ct n2 τ2 (txσ n σ ρ) := by
    have z : ∀ b r, b = 0 ∨ b = 6 ∨ b = 73 → pch n2 b (rnP n (σ r) (σ (r + 4))) (rnP n (σ r) (σ (r + 4))) = pch n b (σ r) (σ (r + 4)) := fun b r hb => rnP_ch hb hn hn1
    have e0 : (0 : Nat) = 0 ∨ (0 : Nat) = 6 ∨ (0 : Nat) = 73 := Or.inl rfl
    have e6 : (6 : Nat) = 0 ∨ (6 : Nat) = 6 ∨ (6 : Nat) = 73 := Or.inr (Or.inl rfl)
    have e7 : (73 : Nat) = 0 ∨ (73 : Nat) = 6 ∨ (73 : Nat) = 73 := Or.inr (Or.inr rfl)
    have s : ∀ r, 1 ≤ r ∧ r ≤ 4 → txσ n σ ρ r = rnP n (σ r) (σ (r + 4)) := fun r hr => by unfold txσ; rw [if_pos hr]
    have s2 : ∀ r, 1 ≤ r ∧ r ≤ 4 → txσ n σ ρ (r + 4) = rnP n (σ r) (σ (r + 4)) := fun r hr => by unfold txσ; rw [if_neg (by omega), if_pos (by omega), Nat.add_sub_cancel]
    have k1 := s 1 (by decide)
    have k2 := s 2 (by decide)
    have k3 := s 3 (by decide)
    have k4 := s 4 (by decide)
    have k5 : txσ n σ ρ 5 = _ := s2 1 (by decide)
    have k6 : txσ n σ ρ 6 = _ := s2 2 (by decide)
    have k7 : txσ n σ ρ 7 = _ := s2 3 (by decide)
    have k8 : txσ n σ ρ 8 = _ := s2 4 (by decide)
    unfold fwP fw
    dsimp only [List.drop]
    rw [k1, k2, k3, k4, k5, k6, k7, k8]
    rw [z 0 1 e0, z 6 1 e6, z 73 1 e7, z 0 2 e0, z 6 2 e6, z 73 2 e7, z 0 3 e0, z 6 3 e6, z 73 3 e7, z 0 4 e0, z 6 4 e6, z 73 4 e7]
    rw [rnP_bl, rnP_bl, rnP_bl, rnP_bl]
    rfl
  have eX : xtW (adT ad ra) ct (txσ n σ ρ) = [(ad 0, .inr (0, xfs (adT ad ra) σ)), (ad 1, .inl (ct 2, 700, .inl (σ 9)))] := rfl
  rw [iw_cut, eX, eT, ← eP, rnK_w hn hn1, show adT ad ra 47 = ad 47 from rfl]
  refine perm_of ?_
  intro _ _ a
  simp only [List.count_append, List.count_cons, List.count_nil, List.cons_append, List.nil_append]
  omega
/-- a reader at its start, beside the reference -/
def rho0 (N : Nat) (s : Nat → Nat → Int32) : Nat → Nat → Int32 := fun r => if r = 0 then (fun j => if j = 16 then nI N else 0) else if r = 31 then (fun _ => 0) else frS (rt0 N s) r
theorem rho0_Z {N : Nat} {s : Nat → Nat → Int32} : RZ (rho0 N s) N := by
  refine ⟨rfl, rfl, rfl, rfl, rfl, rfl⟩
theorem fr3_at {f : Nat → Int32} : fr3 f 17 = nI 0 ∧ fr3 f 18 = nI 0 ∧ fr3 f 10 = nI 30 ∧ fr3 f 11 = nI 0 ∧ fr3 f 12 = nI 1 ∧ fr3 f 13 = nI 2 ∧ fr3 f 19 = nI 0 ∧ fr3 f 14 = nI 5 ∧ fr3 f 15 = nI 10 ∧ fr3 f 16 = nI 20 := ⟨rfl, rfl, rfl, rfl, rfl, rfl, rfl, rfl, rfl, rfl⟩
theorem rho0_T {N : Nat} {s : Nat → Nat → Int32} : TI (rho0 N s) := by
  have e3 : rho0 N s 3 = fr3 (s 3) := rfl
  have e12 : rho0 N s 12 = frR (-2) 9 (s 12) 9 := rfl
  obtain ⟨a, b, c, d, e, f, g, h1, h2, h3⟩ := fr3_at (f := s 3)
  refine ⟨by rw [e3]; exact a, by rw [e3]; exact b, by rw [e3]; exact c, by rw [e3]; exact d, by rw [e3]; exact e, by rw [e3]; exact f, by rw [e3]; exact g, rfl, rfl, rfl, ?_, ?_⟩
  · funext j
    unfold lsF lsI
    rw [e3]
    by_cases q : j < 3
    · rw [if_pos q]
      obtain rfl | rfl | rfl : j = 0 ∨ j = 1 ∨ j = 2 := by omega
      · exact h1
      · exact h2
      · exact h3
    · rw [if_neg q]
      unfold upd
      rw [if_neg (by omega), if_neg (by omega), if_neg (by omega)]
  · funext j
    unfold lkF lkI
    rw [e12]
    by_cases q : j < 9
    · have z : frR (-2) 9 (s 12) 9 (9 + j) = -2 := by unfold frR; rw [if_pos (by omega)]
      rw [if_pos q, z]
      obtain rfl | rfl | rfl | rfl | rfl | rfl | rfl | rfl | rfl : j = 0 ∨ j = 1 ∨ j = 2 ∨ j = 3 ∨ j = 4 ∨ j = 5 ∨ j = 6 ∨ j = 7 ∨ j = 8 := by omega
      all_goals rfl
    · rw [if_neg q]
      unfold upd
      rw [if_neg (by omega), if_neg (by omega), if_neg (by omega), if_neg (by omega), if_neg (by omega), if_neg (by omega), if_neg (by omega), if_neg (by omega), if_neg (by omega)]
theorem rl_begin {N : Nat} {s : Nat → Nat → Int32} (hN : N ≤ 700) (hb : BY s) : RL (rt1 N s) (setT (rho0 N s) (tokX (s 1) N 0 (rho0 N s 0 20))) := by
  have h0 := rt0_R0 hN hb
  have a16 : frS (rt0 N s) 0 16 = nI N := by rw [frS_0 (by decide)]; unfold rt0; simp [st1, upR, upd]
  have a17 : frS (rt0 N s) 0 17 = nI 0 := by rw [frS_0 (by decide)]; unfold rt0; simp [st1, upR, upd]
  have a21 : frS (rt0 N s) 0 21 = 0 := by rw [frS_0 (by decide)]; unfold rt0; simp [st1, upR, upd]; rfl
  have a15 : frS (rt0 N s) 0 15 = 0 := by rw [frS_0 (by decide)]; unfold rt0; simp [st1, upR, upd]; rfl
  have a14 : frS (rt0 N s) 0 14 = 0 := by unfold frS; rw [st1_eq]; rfl
  have e1 : rt1 N s = setT (frS (rt0 N s)) (tokF (s 1) N 0 (frS (rt0 N s) 0 20)) := by
    unfold rt1 tokS
    rw [a16, a17, tN_nI (by omega), tN_nI (by decide)]
    rfl
  obtain ⟨t1, t2, t3⟩ := tok_two (t := s 1) (n := N) (a := 0) (frS (rt0 N s) 0 20) (rho0 N s 0 20) (Nat.zero_le _)
  have q := setT_rd (s := frS (rt0 N s)) (q := tokF (s 1) N 0 (frS (rt0 N s) 0 20))
  have x := setT_rd (s := rho0 N s) (q := tokX (s 1) N 0 (rho0 N s 0 20))
  have hi := (rt1_of hN hb).1
  rw [e1] at hi ⊢
  refine ⟨hi, (q.2.2.2.2.2.1 21 (by decide)).trans a21, ?_, ?_, ?_, ?_, ?_, ?_, ?_⟩
  · exact x.1.trans (a16.symm.trans q.1.symm)
  · exact x.2.1.trans ((congrArg nI t1).trans q.2.1.symm)
  · exact x.2.2.1.trans ((congrArg nI t2).trans q.2.2.1.symm)
  · rw [x.2.2.2.1, x.2.2.2.2.1, q.2.2.2.1, q.2.2.2.2.1]
    exact t3
  · intro r hr
    have e : r ≠ 0 := by omega
    refine (x.2.2.2.2.2.2 r e).trans (Eq.trans ?_ (q.2.2.2.2.2.2 r e).symm)
    unfold rho0
    rw [if_neg e, if_neg (by omega)]
  · exact (x.2.2.2.2.2.1 14 (by decide)).trans (a14.symm.trans (q.2.2.2.2.2.1 14 (by decide)).symm)
  · exact (x.2.2.2.2.2.1 15 (by decide)).trans (a15.symm.trans (q.2.2.2.2.2.1 15 (by decide)).symm)
theorem bib_begin {N : Nat} {s : Nat → Nat → Int32} {q : Nat × Nat × Int32 × Int32} : BIb (rt1 N s) (setT (rho0 N s) q) := by
  refine ⟨0, by decide, setT_rd.2.2.2.2.2.1 30 (by decide), fun v hv => ?_⟩
  have e : rt1 N s 4 = frR (nI 0) 0 (s 4) 11 := by unfold rt1; rw [tokS_r (by decide)]; rfl
  have z : frR (nI 0) 0 (s 4) 11 (kq v) = 0 := by
    have : kq v < 11 := by
      have : ∀ v, v < 6 → kq v < 11 := by decide
      exact this v hv
    unfold frR
    rw [if_pos (by omega)]
    rfl
  rw [e, z]
  have b0 : bit 0 v = 0 := by unfold bit; rw [Nat.zero_div]
  rw [b0]
  exact ⟨fun _ => rfl, fun _ => rfl⟩
theorem bik_begin {N : Nat} {s : Nat → Nat → Int32} {q : Nat × Nat × Int32 × Int32} : BIk (rt1 N s) (setT (rho0 N s) q) := by
  have e13 : rt1 N s 13 = frR (nI 0) 61 (s 13) 61 := by unfold rt1; rw [tokS_r (by decide)]; rfl
  have e3 : rt1 N s 3 18 = nI 0 := by unfold rt1; rw [tokS_r (by decide)]; rfl
  unfold BIk
  rw [e13, e3, tN_nI (by decide)]
  refine ⟨fun c hc => ?_, fun k hk => absurd hk (Nat.not_lt_zero _)⟩
  have : blkB (setT (rho0 N s) q 31) 0 c = false := rfl
  rw [this]
  unfold frR
  rw [if_pos (by omega), bI_f (by decide)]
theorem rb_begin {N : Nat} {s : Nat → Nat → Int32} : RB (rt1 N s) := by
  unfold rt1
  exact (RB.fr (s := rt0 N s)).cg (fun r hr => tokS_r (by omega)) (by rw [tok14]; exact id)
theorem rt1_17 {N : Nat} {s : Nat → Nat → Int32} : rt1 N s 3 17 = nI 0 := by unfold rt1; rw [tokS_r (by decide)]; rfl
/-- what is told behind a text that was read -/
theorem tkr_of {T ρ : Nat → Nat → Int32} (h : RL T ρ) : TK (takeS T) ρ := by
  have e := h.2.2.2.2.2.2.1
  have e3 : takeS T 3 = tkR 10 (T 3) 10 := rfl
  have e12 : takeS T 12 = tkR 9 (T 12) 9 := rfl
  refine ⟨fun j hj => ?_, fun r hr k hk => ?_, fun j hj => ?_⟩
  · rw [e3, e 3 (Or.inl rfl)]; unfold tkR; rw [if_pos hj]
  · have er : takeS T r = tkR 6 (T r) 6 := by
      obtain rfl | rfl | rfl | rfl | rfl | rfl | rfl : r = 5 ∨ r = 6 ∨ r = 7 ∨ r = 8 ∨ r = 9 ∨ r = 10 ∨ r = 11 := by omega
      all_goals rfl
    rw [er, e r (Or.inr (by omega))]; unfold tkR; rw [if_pos hk]
  · rw [e12, e 12 (Or.inr (by decide))]; unfold tkR; rw [if_pos hj]
theorem xt_of {T : Nat → Nat → Int32} {n : Nat} (h : RB T) (hn : T 3 17 = nI n) (hn6 : n ≤ 6) : XT (takeS T) n := by
  obtain ⟨⟨a1, a2, a3, a4, a5, a6, a7, a8⟩, hu, hl, hf, hy⟩ := h
  rw [hn, tN_nI (by omega)] at hu
  have e3 : ∀ j, j < 10 → takeS T 3 j = T 3 (10 + j) := fun j hj => by
    show tkR 10 (T 3) 10 j = _
    unfold tkR; rw [if_pos hj]
  have er : ∀ r, 5 ≤ r ∧ r ≤ 11 → ∀ k, k < 6 → takeS T r k = T r (6 + k) := fun r hr k hk => by
    have er : takeS T r = tkR 6 (T r) 6 := by
      obtain rfl | rfl | rfl | rfl | rfl | rfl | rfl : r = 5 ∨ r = 6 ∨ r = 7 ∨ r = 8 ∨ r = 9 ∨ r = 10 ∨ r = 11 := by omega
      all_goals rfl
    rw [er]; unfold tkR; rw [if_pos hk]
  have e12 : ∀ j, j < 9 → takeS T 12 j = T 12 (9 + j) := fun j hj => by
    show tkR 9 (T 12) 9 j = _
    unfold tkR; rw [if_pos hj]
  refine ⟨by rw [e3 7 (by decide)]; exact hn, hn6, fun v hv => ?_, fun v hv => ?_, by rw [e3 0 (by decide)]; exact a3, by rw [e3 0 (by decide)]; exact a4, fun v hv => ?_, by rw [e3 3 (by decide)]; exact a7, fun j hj => ?_, by rw [e3 9 (by decide)]; exact a8, by rw [e3 1 (by decide)]; exact a5, by rw [e3 2 (by decide)]; exact a6⟩
  · rw [er 6 (by decide) v (by omega)]; exact (hu v hv).1
  · rw [er 8 (by decide) v (by omega), er 9 (by decide) v (by omega)]; exact ⟨(hu v hv).2.1, (hu v hv).2.2.1, (hu v hv).2.2.2.1⟩
  · rw [er 9 (by decide) v (by omega), e3 0 (by decide)]; exact (hu v hv).2.2.2.2.1
  · rw [e12 j hj]; exact hl j hj
def begX (τ σ : Nat → Nat → Int32) (n : Nat) : Nat → Nat → Int32 := st1 (st1 (upR σ 1 (frP τ (σ 1) (σ 31) n (tN (τ 3 8)))) 0 9 (nI 0)) 0 10 (nI 0)
def txPost (s : Nat → Nat → Int32) (tp : Nat) (v : Int32) (ad : Nat → Nat) (n : Nat) (τ σ : Nat → Nat → Int32) (pl : List KP) (r : Int32) (u : (Nat → Nat) × Nat × (Nat → Nat → Int32) × (Nat → Nat → Int32) × List KP) : Prop :=
  (¬ (¬ v < nI 0 ∧ ¬ nI tp < v) → r = -2 ∧ u = (ad, n, τ, σ, pl)) ∧
  (∀ N, v = nI N → N ≤ tp → ¬ readTextS N s 0 21 = 0 → r = -1 ∧ u = (ad, n, τ, st1 (st1 (st1 σ 0 1 (nI 0)) 0 2 (readTextS N s 0 21)) 0 3 (readTextS N s 0 22), pl)) ∧
  (∀ N, v = nI N → N ≤ tp → readTextS N s 0 21 = 0 → r = readTextS N s 0 15 ∧ ∃ (ra : Nat → Nat) (n2 : Nat) (ρ : Nat → Nat → Int32), RL (readTextS N s) ρ ∧ RB (readTextS N s) ∧ BIk (readTextS N s) ρ ∧ readTextS N s 3 17 = nI n2 ∧ n2 ≤ 6 ∧ u = (adT ad ra, n2, takeS (readTextS N s), begX (takeS (readTextS N s)) (txσ n (st1 (st1 (st1 σ 0 1 (nI 0)) 0 2 (nI 0)) 0 3 (-1)) ρ) n2, pl.map (rnK n)))
theorem tx_fl {σ : Nat → Nat → Int32} {a b : Int32} : st1 (st1 (st1 (st1 (st1 σ 0 1 (nI 0)) 0 2 (nI 0)) 0 3 (-1)) 0 2 a) 0 3 b = st1 (st1 (st1 σ 0 1 (nI 0)) 0 2 a) 0 3 b := by
  rw [st1_cmj (s := st1 (st1 σ 0 1 (nI 0)) 0 2 (nI 0)) (i := 3) (j := 2) (by decide), st1_2, st1_2]
