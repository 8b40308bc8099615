/-! THE SPEC, part 21: a text is taken, the plan begins -/
def BO (s : Nat → Nat → Int32) : Prop := ∀ j, j < 122 → s 13 j = nI 0 ∨ s 13 j = nI 1
theorem BO.nar {s : Nat → Nat → Int32} (h : BO s) {j : Nat} (hj : j < 122) : vp_nar .boolean (s 13 j) = s 13 j := by
  rcases h j hj with e | e <;> rw [e] <;> rfl
theorem BO.cg {s w : Nat → Nat → Int32} (h : BO s) (e : w 13 = s 13) : BO w := by unfold BO; rw [e]; exact h
def tkR (b : Nat) (f : Nat → Int32) (k : Nat) : Nat → Int32 := fun j => if j < k then f (b + j) else f j
theorem tkR_0 {s : Nat → Nat → Int32} {r b : Nat} : upR s r (tkR b (s r) 0) = s := upR_self (by funext j; unfold tkR; rw [if_neg (by omega)])
theorem tkR_s {s : Nat → Nat → Int32} {f : Nat → Int32} {r b k : Nat} : st1 (upR s r (tkR b f k)) r k (f (b + k)) = upR s r (tkR b f (k + 1)) := by
  rw [st1_upR]
  congr 1
  funext j
  by_cases q : j = k
  · subst q; simp only [upd, if_true]; unfold tkR; rw [if_pos (by omega)]
  · simp only [upd, if_neg q]; unfold tkR
    by_cases g : j < k
    · rw [if_pos g, if_pos (by omega)]
    · rw [if_neg g, if_neg (by omega)]
theorem tkR_rd {s : Nat → Nat → Int32} {r b k : Nat} (h : k ≤ b) : (upR s r (tkR b (s r) k)) r (b + k) = s r (b + k) := by
  rw [upR_eq]; unfold tkR; rw [if_neg (by omega)]
def tk7 (s : Nat → Nat → Int32) (k : Nat) : Nat → Nat → Int32 := fun r => if 5 ≤ r ∧ r ≤ 11 then tkR 6 (s r) k else s r
theorem tk7_0 {s : Nat → Nat → Int32} : tk7 s 0 = s := by
  funext r j
  unfold tk7 tkR
  split
  · exact if_neg (Nat.not_lt_zero j)
  · rfl
theorem tk7_rd {s : Nat → Nat → Int32} {r k : Nat} (h : k ≤ 6) : tk7 s k r (6 + k) = s r (6 + k) := by
  unfold tk7 tkR
  split
  · exact if_neg (show ¬ 6 + k < k by omega)
  · rfl
theorem tk7_s {s : Nat → Nat → Int32} {k : Nat} : st1 (st1 (st1 (st1 (st1 (st1 (st1 (tk7 s k) 5 k (s 5 (6 + k))) 6 k (s 6 (6 + k))) 7 k (s 7 (6 + k))) 8 k (s 8 (6 + k))) 9 k (s 9 (6 + k))) 10 k (s 10 (6 + k))) 11 k (s 11 (6 + k)) = tk7 s (k + 1) := by
  have h1 : ∀ r, 5 ≤ r → r ≤ 11 → ∀ j, upd (tk7 s k r) k (s r (6 + k)) j = tk7 s (k + 1) r j := by
    intro r a b j
    unfold tk7
    rw [if_pos ⟨a, b⟩, if_pos ⟨a, b⟩]
    unfold tkR upd
    by_cases q : j = k
    · subst q; rw [if_pos rfl, if_pos (by omega)]
    · rw [if_neg q]
      dsimp only
      by_cases g : j < k
      · rw [if_pos g, if_pos (show j < k + 1 by omega)]
      · rw [if_neg g, if_neg (show ¬ j < k + 1 by omega)]
  funext r j
  by_cases e : 5 ≤ r ∧ r ≤ 11
  · obtain rfl | rfl | rfl | rfl | rfl | rfl | rfl : r = 5 ∨ r = 6 ∨ r = 7 ∨ r = 8 ∨ r = 9 ∨ r = 10 ∨ r = 11 := by omega
    · rw [← h1 5 (by decide) (by decide) j, st1_ne (by decide), st1_ne (by decide), st1_ne (by decide), st1_ne (by decide), st1_ne (by decide), st1_ne (by decide)]; rfl
    · rw [← h1 6 (by decide) (by decide) j, st1_ne (by decide), st1_ne (by decide), st1_ne (by decide), st1_ne (by decide), st1_ne (by decide)]; rfl
    · rw [← h1 7 (by decide) (by decide) j, st1_ne (by decide), st1_ne (by decide), st1_ne (by decide), st1_ne (by decide)]; rfl
    · rw [← h1 8 (by decide) (by decide) j, st1_ne (by decide), st1_ne (by decide), st1_ne (by decide)]; rfl
    · rw [← h1 9 (by decide) (by decide) j, st1_ne (by decide), st1_ne (by decide)]; rfl
    · rw [← h1 10 (by decide) (by decide) j, st1_ne (by decide)]; rfl
    · rw [← h1 11 (by decide) (by decide) j]; rfl
  · have e2 : tk7 s (k + 1) r j = s r j := by unfold tk7; rw [if_neg e]
    have e3 : tk7 s k r = s r := by unfold tk7; rw [if_neg e]
    rw [e2, st1_ne (by omega), st1_ne (by omega), st1_ne (by omega), st1_ne (by omega), st1_ne (by omega), st1_ne (by omega), st1_ne (by omega), e3]
def T1 (s : Nat → Nat → Int32) : Nat → Nat → Int32 := upR s 3 (tkR 10 (s 3) 10)
def T2 (s : Nat → Nat → Int32) : Nat → Nat → Int32 := tk7 (T1 s) 6
def T3 (s : Nat → Nat → Int32) : Nat → Nat → Int32 := upR (T2 s) 12 (tkR 9 (T2 s 12) 9)
def takeS (s : Nat → Nat → Int32) : Nat → Nat → Int32 := upR (T3 s) 13 (tkR 61 (T3 s 13) 61)
theorem T3_13 {s : Nat → Nat → Int32} : T3 s 13 = s 13 := rfl
def bgF (s : Nat → Nat → Int32) (u c z : Nat) : Nat → Int32 := fun j =>
  if j < u then s 10 j else if 6 ≤ j ∧ j < 6 + u then s 7 (j - 6) else if 73 ≤ j ∧ j < 73 + u then (if s 11 (j - 73) = 0 then nI 255 else s 11 (j - 73))
  else if 13 ≤ j ∧ j < 12 + c then (if s 13 (j - 12) = 0 then nI 0 else nI 1) else if j < z then nI 0 else s 25 j
def begS (n : Nat) (s : Nat → Nat → Int32) : Nat → Nat → Int32 := toldF (upR s 25 (bgF s n 61 79))
theorem bg_0 {s : Nat → Nat → Int32} : upR s 25 (bgF s 0 1 0) = s := upR_self (by
  funext j
  unfold bgF
  rw [if_neg (by omega), if_neg (by omega), if_neg (by omega), if_neg (by omega), if_neg (by omega)])
theorem bg_z {s : Nat → Nat → Int32} {z : Nat} : st1 (upR s 25 (bgF s 0 1 z)) 25 z (nI 0) = upR s 25 (bgF s 0 1 (z + 1)) := by
  have e : ∀ z j, bgF s 0 1 z j = if j < z then nI 0 else s 25 j := by
    intro z j
    unfold bgF
    rw [if_neg (show ¬ j < 0 by omega), if_neg (show ¬ (6 ≤ j ∧ j < 6 + 0) by omega), if_neg (show ¬ (73 ≤ j ∧ j < 73 + 0) by omega), if_neg (show ¬ (13 ≤ j ∧ j < 12 + 1) by omega)]
  rw [st1_upR]
  congr 1
  funext j
  unfold upd
  rw [e, e]
  by_cases q : j = z
  · rw [if_pos q, if_pos (show j < z + 1 by omega)]
  · rw [if_neg q]
    by_cases g : j < z
    · rw [if_pos g, if_pos (show j < z + 1 by omega)]
    · rw [if_neg g, if_neg (show ¬ j < z + 1 by omega)]
theorem bg_u {s : Nat → Nat → Int32} {u : Nat} (hu : u < 6) : st1 (st1 (st1 (upR s 25 (bgF s u 1 79)) 25 u (s 10 u)) 25 (6 + u) (s 7 u)) 25 (73 + u) (if s 11 u = 0 then nI 255 else s 11 u) = upR s 25 (bgF s (u + 1) 1 79) := by
  rw [st1_upR, st1_upR, st1_upR]
  congr 1
  funext j
  simp only [upd]
  by_cases q1 : j = 73 + u
  · subst q1
    rw [if_pos rfl]; unfold bgF
    rw [if_neg (show ¬ 73 + u < u + 1 by omega), if_neg (show ¬ (6 ≤ 73 + u ∧ 73 + u < 6 + (u + 1)) by omega), if_pos (show 73 ≤ 73 + u ∧ 73 + u < 73 + (u + 1) by omega), show 73 + u - 73 = u by omega]
  rw [if_neg q1]
  by_cases q2 : j = 6 + u
  · subst q2
    rw [if_pos rfl]; unfold bgF
    rw [if_neg (by omega), if_pos (by omega), show 6 + u - 6 = u by omega]
  rw [if_neg q2]
  by_cases q3 : j = u
  · subst q3
    rw [if_pos rfl]; unfold bgF
    rw [if_pos (show j < j + 1 by omega)]
  rw [if_neg q3]
  unfold bgF
  simp only [show (j < u + 1) = (j < u) from propext ⟨fun h => by omega, fun h => by omega⟩, show (6 ≤ j ∧ j < 6 + (u + 1)) = (6 ≤ j ∧ j < 6 + u) from propext ⟨fun h => by omega, fun h => by omega⟩, show (73 ≤ j ∧ j < 73 + (u + 1)) = (73 ≤ j ∧ j < 73 + u) from propext ⟨fun h => by omega, fun h => by omega⟩]
theorem bg_c {s : Nat → Nat → Int32} {u c : Nat} (hu : u ≤ 6) (hc1 : 1 ≤ c) (hc : c ≤ 60) {v : Int32} (hv : v = if s 13 c = 0 then nI 0 else nI 1) : st1 (upR s 25 (bgF s u c 79)) 25 (12 + c) v = upR s 25 (bgF s u (c + 1) 79) := by
  rw [st1_upR, hv]
  congr 1
  funext j
  simp only [upd]
  by_cases q : j = 12 + c
  · subst q
    rw [if_pos rfl]; unfold bgF
    rw [if_neg (show ¬ 12 + c < u by omega), if_neg (show ¬ (6 ≤ 12 + c ∧ 12 + c < 6 + u) by omega), if_neg (show ¬ (73 ≤ 12 + c ∧ 12 + c < 73 + u) by omega), if_pos (show 13 ≤ 12 + c ∧ 12 + c < 12 + (c + 1) by omega), show 12 + c - 12 = c by omega]
  · rw [if_neg q]; unfold bgF
    simp only [show (13 ≤ j ∧ j < 12 + (c + 1)) = (13 ≤ j ∧ j < 12 + c) from propext ⟨fun h => by omega, fun h => by omega⟩]
def txA (n : Nat) (s : Nat → Nat → Int32) : Nat → Nat → Int32 := st1 (st1 (st1 (readTextS n s) 0 2 (nI 0)) 0 23 (readTextS n s 0 21)) 0 24 (if readTextS n s 0 21 = 0 then -1 else readTextS n s 0 22)
def txS (n : Nat) (s : Nat → Nat → Int32) : Nat → Nat → Int32 := if readTextS n s 0 21 = 0 then st1 (st1 (begS (tN (readTextS n s 3 17)) (takeS (txA n s))) 0 28 (nI 0)) 0 29 (nI 0) else txA n s
def txR (n : Nat) (s : Nat → Nat → Int32) : Int32 := if readTextS n s 0 21 = 0 then readTextS n s 0 15 else -1
