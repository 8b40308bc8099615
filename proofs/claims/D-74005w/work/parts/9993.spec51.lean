/-! WHAT IS TOLD while a reader reads it -/
set_option maxRecDepth 100000
def lsF (σ : Nat → Nat → Int32) : Nat → Int32 := fun j => if j < 3 then σ 3 (14 + j) else 0
def lkF (σ : Nat → Nat → Int32) : Nat → Int32 := fun j => if j < 9 then (if j = 0 ∨ j = 4 ∨ j = 8 then 0 else σ 12 (9 + j)) else 0
def usR (ra : Nat → Nat) (n : Nat) : Nat → Option Nat := fun k => if k < n then some (ra (100 + k)) else none
def ufR (σ : Nat → Nat → Int32) (k : Nat) : List Value := [.int (σ 5 (6 + k)), .int (σ 6 (6 + k)), .int (σ 7 (6 + k)), .int (σ 8 (6 + k)), .int (σ 9 (6 + k)), .int (σ 10 (6 + k)), .int (σ 11 (6 + k))]
def uR (ra : Nat → Nat) (σ : Nat → Nat → Int32) (n : Nat) : va_W := (List.range n).map (fun k => (ra (100 + k), .inr (7, ufR σ k)))
def tfR (ra : Nat → Nat) (σ : Nat → Nat → Int32) : List Value := [.ref (ra 2), .ref (ra 3), .ref (ra 4), .ref (ra 5), .int (σ 3 17), .int (σ 3 18), .int (σ 3 10), .int (σ 3 11), .int (σ 3 12), .int (σ 3 13), .int (σ 3 19), .int (σ 0 15), .int (σ 0 30)]
def tW (ra : Nat → Nat) (ct : Nat → ClassId) (n : Nat) (σ : Nat → Nat → Int32) : va_W := (ra 1, .inr (1, tfR ra σ)) :: (ra 2, .inl (ct 3, 6, .inr (.inr (.inr (.inr (usR ra n)))))) :: (ra 3, .inl (ct 0, 12, .inl (σ 31))) :: (ra 4, .inl (ct 0, 3, .inl (lsF σ))) :: (ra 5, .inl (ct 0, 9, .inl (lkF σ))) :: uR ra σ n
theorem uR_at {ra : Nat → Nat} {σ : Nat → Nat → Int32} {n k : Nat} (h : k < n) : (uR ra σ n)[k]? = some (ra (100 + k), .inr (7, ufR σ k)) := by
  unfold uR
  rw [List.getElem?_map, List.getElem?_range h]; rfl
theorem rt_at {ad ra : Nat → Nat} {ct : Nat → ClassId} {ξ σ : Nat → Nat → Int32} {n k : Nat} (h : k < n) : (rw ad ra ct ξ σ (tW ra ct n σ))[8 + k]? = some (ra (100 + k), .inr (7, ufR σ k)) := by
  rw [← uR_at (ra := ra) (σ := σ) h]
  rw [Nat.add_comm]
  rfl
/-- only the sign has changed: what is told is the same -/
theorem tW_rf {ra : Nat → Nat} {ct : Nat → ClassId} {n : Nat} {σ σ2 : Nat → Nat → Int32} (h : RF σ σ2) : tW ra ct n σ = tW ra ct n σ2 := by
  have e : ∀ r, r ≠ 0 → σ2 r = σ r := h.1
  have a : σ2 0 15 = σ 0 15 := h.2 15 (by decide)
  have b : σ2 0 30 = σ 0 30 := h.2 30 (by decide)
  unfold tW uR tfR ufR lsF lkF
  rw [e 3 (by decide), e 5 (by decide), e 6 (by decide), e 7 (by decide), e 8 (by decide), e 9 (by decide), e 10 (by decide), e 11 (by decide), e 12 (by decide), e 31 (by decide), a, b]
