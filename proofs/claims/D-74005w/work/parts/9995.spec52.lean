/-! A READER's lines -/
set_option maxRecDepth 100000
theorem nameF_cg {s σ : Nat → Nat → Int32} {b n : Nat} {x : Int32} (h : σ 5 = s 5) : nameF σ b x n = nameF s b x n := by
  induction n with
  | zero => rfl
  | succ n ih => rw [nameF, nameF, ih, h]
theorem KD.wv {a v k w : Int32} (h : KD a v k w) (ha : a = nI 1) : w = v := by
  rcases h with ⟨rfl, -⟩ | ⟨rfl, -⟩ | ⟨-, -, h⟩ | ⟨rfl, -⟩ | ⟨rfl, -⟩ | ⟨rfl, -⟩
  · exact absurd ha (by decide)
  · exact absurd ha (by decide)
  · exact h
  · exact absurd ha (by decide)
  · exact absurd ha (by decide)
  · exact absurd ha (by decide)
theorem rt_set10 {ad ra : Nat → Nat} {ct : Nat → ClassId} {ξ σ : Nat → Nat → Int32} {n k : Nat} {v : Int32} (h : k < n) : (rw ad ra ct ξ σ (tW ra ct n σ)).set (8 + k) (ra (100 + k), .inr (7, (ufR σ k).set 5 (.int v))) = rw ad ra ct ξ (st1 σ 10 (6 + k) v) (tW ra ct n (st1 σ 10 (6 + k) v)) := by
  have e : (uR ra σ n).set k (ra (100 + k), .inr (7, (ufR σ k).set 5 (.int v))) = uR ra (st1 σ 10 (6 + k) v) n := by
    apply List.ext_getElem?
    intro j
    rw [List.getElem?_set]
    by_cases q : k = j
    · subst q
      rw [if_pos rfl, if_pos (by unfold uR; rw [List.length_map, List.length_range]; exact h), uR_at h]
      unfold ufR
      rw [st1_eq]
      rfl
    · rw [if_neg q]
      rcases Nat.lt_or_ge j n with c | c
      · rw [uR_at c, uR_at c]
        unfold ufR
        rw [st1_nj (r := 10) (by omega : 6 + j ≠ 6 + k)]
        rfl
      · rw [List.getElem?_eq_none (by unfold uR; rw [List.length_map, List.length_range]; exact c), List.getElem?_eq_none (by unfold uR; rw [List.length_map, List.length_range]; exact c)]
  rw [Nat.add_comm]
  show rw ad ra ct ξ σ ((ra 1, .inr (1, tfR ra σ)) :: (ra 2, .inl (ct 3, 6, .inr (.inr (.inr (.inr (usR ra n)))))) :: (ra 3, .inl (ct 0, 12, .inl (σ 31))) :: (ra 4, .inl (ct 0, 3, .inl (lsF σ))) :: (ra 5, .inl (ct 0, 9, .inl (lkF σ))) :: (uR ra σ n).set k _) = _
  rw [e]
  rfl
theorem rt_set11 {ad ra : Nat → Nat} {ct : Nat → ClassId} {ξ σ : Nat → Nat → Int32} {n k : Nat} {v : Int32} (h : k < n) : (rw ad ra ct ξ σ (tW ra ct n σ)).set (8 + k) (ra (100 + k), .inr (7, (ufR σ k).set 6 (.int v))) = rw ad ra ct ξ (st1 σ 11 (6 + k) v) (tW ra ct n (st1 σ 11 (6 + k) v)) := by
  have e : (uR ra σ n).set k (ra (100 + k), .inr (7, (ufR σ k).set 6 (.int v))) = uR ra (st1 σ 11 (6 + k) v) n := by
    apply List.ext_getElem?
    intro j
    rw [List.getElem?_set]
    by_cases q : k = j
    · subst q
      rw [if_pos rfl, if_pos (by unfold uR; rw [List.length_map, List.length_range]; exact h), uR_at h]
      unfold ufR
      rw [st1_eq]
      rfl
    · rw [if_neg q]
      rcases Nat.lt_or_ge j n with c | c
      · rw [uR_at c, uR_at c]
        unfold ufR
        rw [st1_nj (r := 11) (by omega : 6 + j ≠ 6 + k)]
        rfl
      · rw [List.getElem?_eq_none (by unfold uR; rw [List.length_map, List.length_range]; exact c), List.getElem?_eq_none (by unfold uR; rw [List.length_map, List.length_range]; exact c)]
  rw [Nat.add_comm]
  show rw ad ra ct ξ σ ((ra 1, .inr (1, tfR ra σ)) :: (ra 2, .inl (ct 3, 6, .inr (.inr (.inr (.inr (usR ra n)))))) :: (ra 3, .inl (ct 0, 12, .inl (σ 31))) :: (ra 4, .inl (ct 0, 3, .inl (lsF σ))) :: (ra 5, .inl (ct 0, 9, .inl (lkF σ))) :: (uR ra σ n).set k _) = _
  rw [e]
  rfl
