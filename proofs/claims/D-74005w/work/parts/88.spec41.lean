/-! WHAT IS CHANGED: plans kept, channels counted -/
set_option maxRecDepth 100000
def bkB (P : Nat → Int32) (c : Nat) : Bool := decide (¬ P (12 + c) = 0)
/-- no channel but those of the band is blocked -/
def ZB (P : Nat → Int32) (B : Nat) : Prop := ∀ c, c < 61 → (c = 0 ∨ B < c) → P (12 + c) = nI 0
theorem cnt_ge {f : Nat → Bool} {a b : Nat} (h : a ≤ b) (hf : ∀ c, a ≤ c → c < b → ¬ f c = true) : cntN f b = cntN f a := by
  induction b with
  | zero => rw [show a = 0 by omega]
  | succ b ih =>
    rcases Nat.lt_or_ge b a with q | q
    · rw [show a = b + 1 by omega]
    · rw [cntN_f (hf b q (by omega))]
      exact ih q (fun c h1 h2 => hf c h1 (by omega))
theorem block_cnt {s : Nat → Nat → Int32} {P : Nat → Int32} (h25 : s 25 = P) (hb : BB P) (h0 : P 12 = nI 0) : ∀ B, B ≤ 60 → blockF s B = nI (cntN (bkB P) (B + 1)) := by
  intro B
  induction B with
  | zero => intro _; rw [cntN_f (by unfold bkB; rw [Nat.add_zero, h0]; decide)]; rfl
  | succ B ih =>
    intro h
    rw [blockF, ih (by omega), h25]
    rcases hb (B + 1) (by omega) with e | e
    · rw [e, cntN_f (p := B + 1) (by unfold bkB; rw [e]; decide)]
      exact nI_add _ 0
    · rw [e, cntN_t (p := B + 1) (by unfold bkB; rw [e]; decide)]
      exact nI_add _ 1
theorem block_all {s : Nat → Nat → Int32} {P : Nat → Int32} {B : Nat} (h25 : s 25 = P) (hb : BB P) (hz : ZB P B) (hB : B ≤ 60) : nI (cntN (bkB P) 61) = blockF s B := by
  rw [block_cnt h25 hb (hz 0 (by decide) (Or.inl rfl)) B hB, cnt_ge (a := B + 1) (b := 61) (by omega)]
  intro c h1 h2
  unfold bkB
  rw [hz c h2 (Or.inr (by omega))]
  decide
/-- all but the plan, the trial, the air and the number of acts is so -/
def XN (σ σ2 : Nat → Nat → Int32) : Prop := (∀ r, r ≠ 0 → r ≠ 1 → r ≠ 3 → r ≠ 5 → r ≠ 7 → ¬ (10 ≤ r ∧ r < 20) → σ2 r = σ r) ∧ ∀ j, j ≠ 9 → σ2 0 j = σ 0 j
theorem XS.xn {a b : Nat → Nat → Int32} (h : XS a b) : XN a b := ⟨fun r _ _ h3 _ h7 hr => h r h3 h7 hr, fun j _ => by rw [h 0 (by decide) (by decide) (by decide)]⟩
theorem XN.tr {a b c : Nat → Nat → Int32} (h : XN a b) (k : XN b c) : XN a c := ⟨fun r h0 h1 h3 h5 h7 hr => (k.1 r h0 h1 h3 h5 h7 hr).trans (h.1 r h0 h1 h3 h5 h7 hr), fun j hj => (k.2 j hj).trans (h.2 j hj)⟩
theorem XN.act {σ : Nat → Nat → Int32} {v : Int32} : XN σ (st1 σ 0 9 v) := ⟨fun r h _ _ _ _ _ => st1_ne h, fun j h => st1_nj h⟩
theorem XN.lik {σ : Nat → Nat → Int32} {i : Nat} : XN σ (likS 0 i σ) := by
  refine ⟨fun r _ h1 _ h5 _ _ => ?_, fun j _ => ?_⟩
  · unfold likS; rw [upR_ne h5, upR_ne h1]
  · unfold likS; rw [upR_ne (by decide), upR_ne (by decide)]
theorem XN.st {σ : Nat → Nat → Int32} {N : Nat} {v : Int32} : XN σ (st1 σ 1 N v) := ⟨fun r _ h _ _ _ _ => st1_ne h, fun j _ => by rw [st1_ne (by decide)]⟩
theorem bl_not {x : Int32} (h : x = nI 0 ∨ x = nI 1) : (x = 0 → nI 1 = nI 1 - x) ∧ (¬ x = 0 → nI 0 = nI 1 - x) := by
  rcases h with rfl | rfl
  · exact ⟨fun _ => by decide, fun h => absurd (by decide) h⟩
  · exact ⟨fun h => absurd h (by decide), fun _ => by decide⟩
theorem sr_pos {s : Nat → Nat → Int32} {n S : Nat} (h : ¬ srV s n S < 0) (k : ¬ srV s n S = 0) : 0 < srV s n S := Int32.lt_of_le_of_ne (Int32.not_lt.mp h) (Ne.symm k)
theorem mdF_sub {s : Nat → Nat → Int32} {n H : Nat} : ∀ m, mdF s n H m ≤ H + 1 := by
  intro m
  induction m with
  | zero => exact Nat.zero_le _
  | succ m ih =>
    rw [mdF]
    split
    · exact firstN_le _ _
    · exact ih
theorem md_sub {s : Nat → Nat → Int32} {n : Nat} (hn : n ≤ 6) (h : mdN s n ≠ 0) : Sub (mdN s n - 1) n := by
  have h1 := mdF_sub (s := s) (n := n) (H := 2 ^ n - 1 - FS s n) (n + 1)
  have h2 : mdN s n = mdF s n (2 ^ n - 1 - FS s n) (n + 1) := rfl
  have h3 := Nat.two_pow_pos n
  exact ⟨by omega, hn⟩
