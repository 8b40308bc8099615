/-! A READER's world: itself, the object that reads, the tape; what is told behind them -/
set_option maxRecDepth 100000
def rdf (ad ra : Nat → Nat) (ρ : Nat → Nat → Int32) : List Value := [.int (ρ 0 16), .ref (ra 1), .int (ρ 0 17), .int (ρ 0 19), .int (ρ 0 20), .int (ρ 0 18), .int (ρ 0 14), .ref (ad 0)]
def xtW (ad : Nat → Nat) (ct : Nat → ClassId) (ξ : Nat → Nat → Int32) : va_W := [(ad 0, .inr (0, xfs ad ξ)), (ad 1, .inl (ct 2, 700, .inl (ξ 9)))]
def rw (ad ra : Nat → Nat) (ct : Nat → ClassId) (ξ ρ : Nat → Nat → Int32) (T : va_W) : va_W := (ra 0, .inr (5, rdf ad ra ρ)) :: (xtW ad ct ξ ++ T)
theorem rw_snoc {ad ra : Nat → Nat} {ct : Nat → ClassId} {ξ ρ : Nat → Nat → Int32} {T X : va_W} : rw ad ra ct ξ ρ T ++ X = rw ad ra ct ξ ρ (T ++ X) := by unfold rw; rw [List.cons_append, List.append_assoc]
/-- the bytes that a reader sees -/
def BT (ξ : Nat → Nat → Int32) (t : Nat → Int32) : Prop := ∀ k, k < 700 → ξ 9 k &&& nI 255 = t k ∧ In (t k) 256
theorem rw_out {ad ra : Nat → Nat} {ct : Nat → ClassId} {ξ ρ : Nat → Nat → Int32} {T X : va_W} : (rw ad ra ct ξ ρ T ++ X).Perm ((xtW ad ct ξ ++ X) ++ ((ra 0, .inr (5, rdf ad ra ρ)) :: T)) := by
  unfold rw
  rw [List.cons_append, List.append_assoc, List.append_assoc]
  refine (List.Perm.cons _ (List.Perm.append_left _ List.perm_append_comm)).trans ?_
  rw [← List.append_assoc]
  exact List.perm_middle.symm
