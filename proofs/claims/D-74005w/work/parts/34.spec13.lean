/-! THE SPEC, part 13: rows that grow -/
set_option maxRecDepth 100000
def exB (f : Nat → Bool) : Nat → Bool
  | 0 => false
  | i + 1 => exB f i || f i
theorem exB_t {f : Nat → Bool} {i n : Nat} (hi : i < n) (h : f i = true) : exB f n = true := by
  induction n with
  | zero => omega
  | succ n ih =>
    rw [exB]
    rcases Nat.lt_or_ge i n with q | q
    · rw [ih q]; rfl
    · have : i = n := by omega
      subst this; rw [h]; simp
theorem exB_s {f : Nat → Bool} {i : Nat} (h : exB f i = false) (k : ¬ f i = true) : exB f (i + 1) = false := by
  rw [exB, h]; simpa using k
theorem exB_congr {f g : Nat → Bool} {i : Nat} (h : ∀ u, u < i → f u = g u) : exB f i = exB g i := by
  induction i with
  | zero => rfl
  | succ i ih => rw [exB, exB, ih (fun u hu => h u (by omega)), h i (by omega)]
def sumR (g : Nat → Int32) (k a b : Nat) (c : Option Nat) : Int32 := tA k * g a + tB k * g b + (match c with
  | none => nI 0
  | some w => tC k * g w)
def nearR (g : Nat → Int32) (v near : Int32) (a b : Nat) (c : Option Nat) (u : Nat) : Bool := !decide (u = a) && !decide (u = b) && !decide (nI u = cI c) && !decide (near < absI (g u - v))
def hitR (g : Nat → Int32) (v near : Int32) (M a b : Nat) (c : Option Nat) : Bool := !decide (v < nI 1) && !decide (nI 60 < v) && exB (nearR g v near a b c) M
def cC3 (g : Nat → Int32) (near : Int32) (M k a b c : Nat) : Bool := decide (c = a) || decide (c = b) || !hitR g (sumR g k a b (some c)) near M a b (some c)
def cK (g : Nat → Int32) (o near : Int32) (M a b k : Nat) : Bool := decide (o &&& bO k = 0) || (ordK k && decide (b < a)) || (if third k = true then allB (cC3 g near M k a b) M else !hitR g (sumR g k a b none) near M a b none)
def cB2 (g : Nat → Int32) (o near far : Int32) (M a b : Nat) : Bool := decide (a = b) || (!decide (absI (g a - g b) < far) && allB (cK g o near M a b) 6)
def rcB (g : Nat → Int32) (o near far : Int32) (M : Nat) : Bool := allB (fun a => allB (cB2 g o near far M a) M) M
theorem rcB_cg {g g' : Nat → Int32} {o near far : Int32} {M : Nat} (h : ∀ j, j < M → g j = g' j) : rcB g o near far M = rcB g' o near far M := by
  refine allB_congr fun a ha => allB_congr fun b hb => ?_
  unfold cB2
  rw [h a ha, h b hb]
  have hn : ∀ v c, exB (nearR g v near a b c) M = exB (nearR g' v near a b c) M := fun v c => exB_congr fun u hu => by unfold nearR; rw [h u hu]
  have hk : allB (cK g o near M a b) 6 = allB (cK g' o near M a b) 6 := allB_congr fun k _ => by
    have h3 : allB (cC3 g near M k a b) M = allB (cC3 g' near M k a b) M := allB_congr fun c hc => by
      have hs : sumR g k a b (some c) = sumR g' k a b (some c) := by unfold sumR; dsimp only; rw [h a ha, h b hb, h c hc]
      unfold cC3; rw [hs]; unfold hitR; rw [hn]
    have hs : sumR g k a b none = sumR g' k a b none := by unfold sumR; dsimp only; rw [h a ha, h b hb]
    unfold cK
    rw [h3, hs]; unfold hitR; rw [hn]
  rw [hk]
/-- the least place from c on where the row stays clean; beyond 60: none -/
def npF (P : Nat → Nat) (o near far : Int32) (n : Nat) : Nat → Nat → Nat
  | 0, c => c
  | f + 1, c => if rcB (fun j => nI (if j = n then c else P j)) o near far (n + 1) = true then c else npF P o near far n f (c + 1)
def np (P : Nat → Nat) (o near far : Int32) (n c : Nat) : Nat := npF P o near far n (61 - c) c
def gN (o near far : Int32) : Nat → Nat → Nat
  | 0 => fun _ => 1
  | n + 1 => fun j => if j = n + 1 then np (gN o near far n) o near far (n + 1) (gN o near far n n + 1) else gN o near far n j
/-- all the first n places are within 60 -/
def gOk (o near far : Int32) : Nat → Bool
  | 0 => true
  | n + 1 => gOk o near far n && decide (gN o near far (n + 1) (n + 1) ≤ 60)
def grOk (o g s i : Int32) : Bool := !decide (o < 0) && !decide (nI 7 < o) && !decide (g < 0) && !decide (nI 5 < g) && !decide (s < nI 1) && !decide (nI 20 < s) && !decide (i < 0)
def grF (o g s i : Int32) : Int32 := if grOk o g s i = true then (if i < nI 8 then (if gOk o g s (tN i) = true then nI (gN o g s (tN i) (tN i)) else -2) else -2) else -1
theorem gN_lo (o near far : Int32) : ∀ n m j, j ≤ n → n ≤ m → gN o near far m j = gN o near far n j := by
  intro n m
  induction m with
  | zero => intro j h1 h2; have : n = 0 := by omega
            rw [this]
  | succ m ih =>
    intro j h1 h2
    rcases Nat.lt_or_ge m n with q | q
    · have : n = m + 1 := by omega
      rw [this]
    · rw [gN]; dsimp only; rw [if_neg (by omega)]; exact ih j h1 q
theorem gOk_f {o near far : Int32} {n m : Nat} (h : n < m) (h1 : ¬ gN o near far (n + 1) (n + 1) ≤ 60) : gOk o near far m = false := by
  induction m with
  | zero => omega
  | succ m ih =>
    rw [gOk]
    rcases Nat.lt_or_ge n m with q | q
    · rw [ih q]; rfl
    · have : n = m := by omega
      subst this
      rw [decide_eq_false h1]; simp
theorem npF_le (P : Nat → Nat) (o near far : Int32) (n : Nat) : ∀ f c, npF P o near far n f c ≤ c + f ∧ c ≤ npF P o near far n f c := by
  intro f
  induction f with
  | zero => intro c; exact ⟨Nat.le_refl _, Nat.le_refl _⟩
  | succ f ih =>
    intro c
    rw [npF]; split
    · exact ⟨by omega, Nat.le_refl _⟩
    · have := ih (c + 1); omega
theorem cK_of {g : Nat → Int32} {o near : Int32} {M a b k : Nat} (h1 : third k = true → allB (cC3 g near M k a b) M = true) (h2 : third k = false → ¬ hitR g (sumR g k a b none) near M a b none = true) : cK g o near M a b k = true := by
  unfold cK
  cases h : third k with
  | true => rw [if_pos rfl, h1 h]; simp
  | false =>
    have h3 : hitR g (sumR g k a b none) near M a b none = false := by simpa using h2 h
    rw [if_neg (by decide), h3]; simp
theorem cK_no {g : Nat → Int32} {o near : Int32} {M a b k : Nat} (h0 : ¬ o &&& bO k = 0) (ho : ordK k = true → ¬ b < a) (h : third k = true ∧ ¬ allB (cC3 g near M k a b) M = true ∨ third k = false ∧ hitR g (sumR g k a b none) near M a b none = true) : ¬ cK g o near M a b k = true := by
  unfold cK
  have e : (ordK k && decide (b < a)) = false := by
    cases h9 : ordK k with
    | false => rfl
    | true => simpa using ho h9
  rw [decide_eq_false h0, e]
  rcases h with ⟨h1, h2⟩ | ⟨h1, h2⟩
  · rw [if_pos h1]; simpa using h2
  · rw [h1, if_neg (by decide), h2]; simp
theorem cB2_no {g : Nat → Int32} {o near far : Int32} {M a b k : Nat} (h0 : ¬ a = b) (hk : k < 6) (h : ¬ cK g o near M a b k = true) : ¬ cB2 g o near far M a b = true := by
  unfold cB2
  have : allB (cK g o near M a b) 6 = false := by simpa using allB_f (f := cK g o near M a b) hk h
  rw [decide_eq_false h0, this]; simp
theorem HQ.row {s : Nat → Nat → Int32} {k : Nat} {v : Int32} : HQ s (st1 s 43 k v) := ⟨fun r _ _ h _ _ => st1_ne h, fun j _ _ _ _ => by rw [st1_ne (by decide)]⟩
