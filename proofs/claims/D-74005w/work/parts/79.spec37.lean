/-! A SEARCH BEGINS: its cells, and what they hold -/
set_option maxRecDepth 100000
theorem iw_snoc {ad : Nat → Nat} {ct : Nat → ClassId} {n : Nat} {τ σ : Nat → Nat → Int32} {T X : va_W} : iw ad ct n τ σ T ++ X = iw ad ct n τ σ (T ++ X) := by unfold iw; rw [List.append_assoc]
theorem iw_snoc2 {ad : Nat → Nat} {ct : Nat → ClassId} {n : Nat} {τ σ : Nat → Nat → Int32} {T : va_W} {a b : Nat × va_E} : iw ad ct n τ σ (T ++ [a]) ++ [b] = iw ad ct n τ σ (T ++ [a, b]) := by unfold iw; simp
theorem df_X9 : ∀ j, j < 6 → defaultValue (tyX9 j) = vp_V [.null, .int 0, .null, .int 0, .int 0, .null] j := by
  intro j hj
  obtain rfl | rfl | rfl | rfl | rfl | rfl : j = 0 ∨ j = 1 ∨ j = 2 ∨ j = 3 ∨ j = 4 ∨ j = 5 := by omega
  all_goals rfl
/-- how far a search has been laid out: the users below k -/
def siN (S k : Nat) (b : Int32) : Nat → Int32 := fun j => if j = 0 then nI (elN S k) else if j = 2 then b else 0
def siE (S k : Nat) : Nat → Int32 := fun a => if a < elN S k then nI ((el S).getD a 0) else 0
def siK (σ : Nat → Nat → Int32) (S k : Nat) (b : Int32) : Nat → Nat → Int32 := upR (upR (upR σ 3 (zP (σ 3) S k)) 40 (siN S k b)) 41 (siE S k)
def siS (σ : Nat → Nat → Int32) (S n : Nat) (b : Int32) : Nat → Nat → Int32 := siK σ S n b
theorem siK_0 {σ : Nat → Nat → Int32} {S : Nat} {b : Int32} : siK σ S 0 b = upR (upR σ 40 (fun j => if j = 2 then b else 0)) 41 (fun _ => 0) := by
  unfold siK
  rw [upR_self (by rfl : zP (σ 3) S 0 = σ 3)]
  congr 1
  · congr 1
    funext j
    unfold siN
    by_cases h : j = 0
    · subst h; rfl
    · rw [if_neg h]
theorem siK_1 {σ : Nat → Nat → Int32} {S k : Nat} {b : Int32} (hS : S < 64) (hk : k < 6) (hb : bit S k = 1) : st1 (st1 (st1 (siK σ S k b) 41 (elN S k) (nI k)) 3 k (nI 0)) 40 0 (nI (elN S k + 1)) = siK σ S (k + 1) b := by
  obtain ⟨e1, e2⟩ := el_n1 S hS k hk hb
  funext r
  by_cases h40 : r = 40
  · subst h40
    funext j
    show (if j = 0 then nI (elN S k + 1) else siN S k b j) = siN S (k + 1) b j
    unfold siN
    rw [e2]
    by_cases h : j = 0
    · rw [if_pos h, if_pos h]
    · rw [if_neg h, if_neg h, if_neg h]
  · rw [st1_ne h40]
    by_cases h3 : r = 3
    · subst h3
      funext j
      show (if j = k then nI 0 else zP (σ 3) S k j) = zP (σ 3) S (k + 1) j
      rw [zP, if_pos hb]
      rfl
    · rw [st1_ne h3]
      by_cases h41 : r = 41
      · subst h41
        funext j
        show (if j = elN S k then nI k else siE S k j) = siE S (k + 1) j
        unfold siE
        rw [e2]
        by_cases h : j = elN S k
        · subst h; rw [if_pos rfl, if_pos (by omega), e1]
        · rw [if_neg h]
          by_cases q : j < elN S k
          · rw [if_pos q, if_pos (by omega)]
          · rw [if_neg q, if_neg (by omega)]
      · rw [st1_ne h41]
        unfold siK
        rw [upR_ne h41, upR_ne h40, upR_ne h3, upR_ne h41, upR_ne h40, upR_ne h3]
theorem siK_n {σ : Nat → Nat → Int32} {S k : Nat} {b : Int32} (hS : S < 64) (hk : k < 6) (hb : ¬ bit S k = 1) : siK σ S k b = siK σ S (k + 1) b := by
  have e := el_n0 S hS k hk hb
  unfold siK siN siE
  rw [e, zP, if_neg hb]
theorem el_low {S n : Nat} (h : Sub S n) : elN S n = (el S).length := by
  have h6 := el_n6 S h.s64
  have : ∀ k, n ≤ k → k ≤ 6 → elN S k = elN S n := by
    intro k
    induction k with
    | zero => intro a _; rw [show n = 0 by omega]
    | succ k ih =>
      intro a b
      rcases Nat.lt_or_ge k n with q | q
      · rw [show n = k + 1 by omega]
      · rw [el_n0 S h.s64 k (by omega) (fun z => by have := h.lt z; omega)]
        exact ih q (by omega)
  rw [← this 6 h.2 (Nat.le_refl _)]
  exact h6
theorem siS_h0 {σ : Nat → Nat → Int32} {S n : Nat} {b : Int32} (h : Sub S n) : siS σ S n b 40 0 = nI (el S).length := by
  show nI (elN S n) = _
  rw [el_low h]
theorem siS_el {σ : Nat → Nat → Int32} {S n : Nat} {b : Int32} (h : Sub S n) : ∀ a, a < (el S).length → siS σ S n b 41 a = nI ((el S).getD a 0) := by
  intro a ha
  show (if a < elN S n then _ else _) = _
  rw [if_pos (by rw [el_low h]; exact ha)]
/-- the search's own rows laid back -/
def offS (σ w : Nat → Nat → Int32) : Nat → Nat → Int32 := upR (upR w 40 (σ 40)) 41 (σ 41)
theorem XS.go {σ W w : Nat → Nat → Int32} {S n : Nat} {b : Int32} (h : XS σ W) (x : XR (siS W S n b) w) : XS σ (offS σ w) := by
  intro r h3 h7 hr
  unfold offS
  by_cases h41 : r = 41
  · subst h41; rw [upR_eq]
  · rw [upR_ne h41]
    by_cases h40 : r = 40
    · subst h40; rw [upR_eq]
    · rw [upR_ne h40, x r h3 h40 hr]
      unfold siS siK
      rw [upR_ne h41, upR_ne h40, upR_ne h3]
      exact h r h3 h7 hr
