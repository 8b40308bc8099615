/-! THE TAPE, the plan begun -/
set_option maxRecDepth 100000
def byteW (a b c d e : Int32) (k : Nat) : Int32 := ((if k < 4 then a else if k < 8 then b else if k < 12 then c else if k < 16 then d else e) >>> ((nI 24 - nI 8 * nI (k % 4)) &&& 31)).toInt8.toInt32
theorem nar_b (x : Int32) : vp_nar .byte x.toInt8.toInt32 = x.toInt8.toInt32 := pk_vb x
theorem byte_and (x : Int32) : x.toInt8.toInt32 &&& 255 = x &&& 255 := by
  apply Int32.toBitVec_inj.mp
  rw [Int32.toBitVec_and, Int32.toBitVec_and]
  apply BitVec.eq_of_getLsbD_eq
  intro i hi
  rw [BitVec.getLsbD_and, BitVec.getLsbD_and]
  by_cases h : i < 8
  · congr 1
    rw [Int8.toBitVec_toInt32, Int32.toBitVec_toInt8, BitVec.getLsbD_signExtend, if_pos h, BitVec.getLsbD_signExtend, if_pos (by omega), decide_eq_true hi, decide_eq_true h]
    simp
  · have : (255 : Int32).toBitVec.getLsbD i = false := by
      show (BitVec.ofNat 32 255).getLsbD i = false
      rw [BitVec.getLsbD_ofNat, Nat.testBit_lt_two_pow (show 255 < 2 ^ i from Nat.lt_of_lt_of_le (by decide : 255 < 2 ^ 8) (Nat.pow_le_pow_right (by decide) (by omega)))]
      simp
    rw [this, Bool.and_false, Bool.and_false]
def fdR (s : Nat → Nat → Int32) (n : Nat) (a b c d e : Int32) (k : Nat) : Nat → Int32 := fun j => if n ≤ j ∧ j < n + k then byteW a b c d e (j - n) else s 9 j
def feedX (s : Nat → Nat → Int32) (n : Nat) (a b c d e : Int32) : Nat → Nat → Int32 := st1 (upR s 9 (fdR s n a b c d e 20)) 0 1 (nI (n + 20))
theorem fdR_0 {s : Nat → Nat → Int32} {n : Nat} {a b c d e : Int32} : upR s 9 (fdR s n a b c d e 0) = s := upR_self (by funext j; unfold fdR; rw [if_neg (by omega)])
theorem fdR_s {s : Nat → Nat → Int32} {n k N : Nat} {a b c d e v : Int32} (hN : N = n + k) (hv : v = byteW a b c d e k) : st1 (upR s 9 (fdR s n a b c d e k)) 9 N v = upR s 9 (fdR s n a b c d e (k + 1)) := by
  subst hN; subst hv
  funext r
  by_cases h : r = 9
  · subst h
    funext j
    show (if j = n + k then byteW a b c d e k else fdR s n a b c d e k j) = fdR s n a b c d e (k + 1) j
    unfold fdR
    by_cases q : j = n + k
    · subst q; rw [if_pos rfl, if_pos (by omega), show n + k - n = k by omega]
    · rw [if_neg q]
      by_cases z : n ≤ j ∧ j < n + k
      · rw [if_pos z, if_pos (by omega)]
      · rw [if_neg z, if_neg (by omega)]
  · rw [st1_ne h, upR_ne h, upR_ne h]
/-- a plan begun: the users told, their channels, powers, slots -/
def usF2 (τ : Nat → Nat → Int32) (P : Nat → Int32) (u : Nat) : Nat → Int32 := fun j => if j < u then τ 10 j else if 6 ≤ j ∧ j < 6 + u then τ 7 (j - 6) else if 73 ≤ j ∧ j < 73 + u then (if τ 11 (j - 73) = 0 then nI 255 else τ 11 (j - 73)) else P j
def zrF (P : Nat → Int32) (c : Nat) : Nat → Int32 := fun j => if 12 ≤ j ∧ j < 12 + c then nI 0 else P j
def blkB (b : Nat → Int32) (m c : Nat) : Bool := exB (fun k => decide (tN (b (2 * k)) ≤ c) && decide (c ≤ tN (b (2 * k + 1)))) m
def bkF (P b : Nat → Int32) (k lo c : Nat) : Nat → Int32 := fun j => if 12 ≤ j ∧ j < 73 ∧ (blkB b k (j - 12) = true ∨ (lo ≤ j - 12 ∧ j - 12 < c)) then nI 1 else P j
theorem usF2_0 {τ : Nat → Nat → Int32} {P : Nat → Int32} : usF2 τ P 0 = P := by funext j; unfold usF2; rw [if_neg (by omega), if_neg (by omega), if_neg (by omega)]
theorem usF2_s {τ σ : Nat → Nat → Int32} {P : Nat → Int32} {u : Nat} (hu : u < 6) : st1 (st1 (st1 (upR σ 1 (usF2 τ P u)) 1 u (τ 10 u)) 1 (6 + u) (τ 7 u)) 1 (73 + u) (if τ 11 u = 0 then nI 255 else τ 11 u) = upR σ 1 (usF2 τ P (u + 1)) := by
  funext r
  by_cases h : r = 1
  · subst h
    funext j
    show (if j = 73 + u then _ else if j = 6 + u then _ else if j = u then _ else usF2 τ P u j) = usF2 τ P (u + 1) j
    unfold usF2
    by_cases a : j = u
    · subst a; rw [if_neg (by omega), if_neg (by omega), if_pos rfl, if_pos (by omega)]
    · by_cases b : j = 6 + u
      · subst b; rw [if_neg (by omega), if_pos rfl, if_neg (by omega), if_pos (by omega), Nat.add_sub_cancel_left]
      · by_cases c : j = 73 + u
        · subst c; rw [if_pos (rfl : 73 + u = 73 + u), if_neg (show ¬ 73 + u < u + 1 by omega), if_neg (show ¬ (6 ≤ 73 + u ∧ 73 + u < 6 + (u + 1)) by omega), if_pos (show 73 ≤ 73 + u ∧ 73 + u < 73 + (u + 1) by omega), Nat.add_sub_cancel_left]
        · rw [if_neg c, if_neg b, if_neg a]
          by_cases d : j < u
          · rw [if_pos d, if_pos (by omega)]
          · rw [if_neg d, if_neg (by omega : ¬ j < u + 1)]
            by_cases e : 6 ≤ j ∧ j < 6 + u
            · rw [if_pos e, if_pos (by omega)]
            · rw [if_neg e, if_neg (by omega : ¬ (6 ≤ j ∧ j < 6 + (u + 1)))]
              by_cases f : 73 ≤ j ∧ j < 73 + u
              · rw [if_pos f, if_pos (show 73 ≤ j ∧ j < 73 + (u + 1) by omega)]
              · rw [if_neg f, if_neg (by omega)]
  · rw [st1_ne h, st1_ne h, st1_ne h, upR_ne h, upR_ne h]
theorem zrF_0 {P : Nat → Int32} : zrF P 0 = P := by funext j; unfold zrF; rw [if_neg (by omega)]
theorem zrF_s {σ : Nat → Nat → Int32} {P : Nat → Int32} {c : Nat} : st1 (upR σ 1 (zrF P c)) 1 (12 + c) (nI 0) = upR σ 1 (zrF P (c + 1)) := by
  funext r
  by_cases h : r = 1
  · subst h
    funext j
    show (if j = 12 + c then _ else zrF P c j) = zrF P (c + 1) j
    unfold zrF
    by_cases a : j = 12 + c
    · rw [if_pos a, if_pos (by omega)]
    · rw [if_neg a]
      by_cases b : 12 ≤ j ∧ j < 12 + c
      · rw [if_pos b, if_pos (by omega)]
      · rw [if_neg b, if_neg (by omega)]
  · rw [st1_ne h, upR_ne h, upR_ne h]
theorem bkF_0 {P b : Nat → Int32} : bkF P b 0 0 0 = P := by
  funext j; unfold bkF; rw [if_neg]; rintro ⟨_, _, h | h⟩
  · cases h
  · omega
theorem bkF_l {P b : Nat → Int32} {k lo : Nat} : bkF P b k 0 0 = bkF P b k lo lo := by
  funext j; unfold bkF
  have e : (12 ≤ j ∧ j < 73 ∧ (blkB b k (j - 12) = true ∨ (0 ≤ j - 12 ∧ j - 12 < 0))) ↔ (12 ≤ j ∧ j < 73 ∧ (blkB b k (j - 12) = true ∨ (lo ≤ j - 12 ∧ j - 12 < lo))) := by
    constructor
    · rintro ⟨h1, h2, h | h⟩
      · exact ⟨h1, h2, Or.inl h⟩
      · omega
    · rintro ⟨h1, h2, h | h⟩
      · exact ⟨h1, h2, Or.inl h⟩
      · omega
  by_cases q : 12 ≤ j ∧ j < 73 ∧ (blkB b k (j - 12) = true ∨ (0 ≤ j - 12 ∧ j - 12 < 0))
  · rw [if_pos q, if_pos (e.mp q)]
  · rw [if_neg q, if_neg (fun z => q (e.mpr z))]
theorem bkF_s {σ : Nat → Nat → Int32} {P b : Nat → Int32} {k lo c : Nat} (h0 : lo ≤ c) (hc : c < 61) : st1 (upR σ 1 (bkF P b k lo c)) 1 (12 + c) (nI 1) = upR σ 1 (bkF P b k lo (c + 1)) := by
  funext r
  by_cases h : r = 1
  · subst h
    funext j
    show (if j = 12 + c then _ else bkF P b k lo c j) = bkF P b k lo (c + 1) j
    unfold bkF
    by_cases a : j = 12 + c
    · rw [if_pos a, if_pos ⟨by omega, by omega, Or.inr (by omega)⟩]
    · rw [if_neg a]
      by_cases q : 12 ≤ j ∧ j < 73 ∧ (blkB b k (j - 12) = true ∨ (lo ≤ j - 12 ∧ j - 12 < c))
      · rw [if_pos q, if_pos ⟨q.1, q.2.1, q.2.2.imp id (fun z => by omega)⟩]
      · rw [if_neg q, if_neg]
        rintro ⟨h1, h2, h3⟩
        exact q ⟨h1, h2, h3.imp id (fun z => by omega)⟩
  · rw [st1_ne h, upR_ne h, upR_ne h]
theorem bkF_n {P b : Nat → Int32} {k c : Nat} (h1 : tN (b (2 * k + 1)) < c) (h2 : c ≤ tN (b (2 * k + 1)) + 1 ∨ c = tN (b (2 * k))) : bkF P b k (tN (b (2 * k))) c = bkF P b (k + 1) 0 0 := by
  funext j; unfold bkF
  have e : (12 ≤ j ∧ j < 73 ∧ (blkB b k (j - 12) = true ∨ (tN (b (2 * k)) ≤ j - 12 ∧ j - 12 < c))) ↔ (12 ≤ j ∧ j < 73 ∧ (blkB b (k + 1) (j - 12) = true ∨ (0 ≤ j - 12 ∧ j - 12 < 0))) := by
    have : blkB b (k + 1) (j - 12) = (blkB b k (j - 12) || (decide (tN (b (2 * k)) ≤ j - 12) && decide (j - 12 ≤ tN (b (2 * k + 1))))) := rfl
    rw [this, Bool.or_eq_true, Bool.and_eq_true, decide_eq_true_eq, decide_eq_true_eq]
    constructor
    · rintro ⟨a, d, h | h⟩
      · exact ⟨a, d, Or.inl (Or.inl h)⟩
      · exact ⟨a, d, Or.inl (Or.inr (by omega))⟩
    · rintro ⟨a, d, (h | h) | h⟩
      · exact ⟨a, d, Or.inl h⟩
      · exact ⟨a, d, Or.inr (by omega)⟩
      · omega
  by_cases q : 12 ≤ j ∧ j < 73 ∧ (blkB b k (j - 12) = true ∨ (tN (b (2 * k)) ≤ j - 12 ∧ j - 12 < c))
  · rw [if_pos q, if_pos (e.mp q)]
  · rw [if_neg q, if_neg (fun z => q (e.mpr z))]
/-- the plan begun -/
def frP (τ : Nat → Nat → Int32) (P b : Nat → Int32) (n m : Nat) : Nat → Int32 := bkF (zrF (usF2 τ P n) 61) b m 0 0
