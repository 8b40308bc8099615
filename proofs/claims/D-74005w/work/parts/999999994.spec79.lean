/-! READING leaves what is told -/
set_option maxRecDepth 100000
def RK (x s : Nat → Nat → Int32) : Prop := (∀ r, r ≠ 0 → r ≠ 3 → r ≠ 4 → ¬ (5 ≤ r ∧ r ≤ 13) → s r = x r) ∧ (∀ j, j < 14 ∨ 22 < j → s 0 j = x 0 j) ∧ TE x s
def okW (r N : Nat) : Prop := (r = 0 ∧ 14 ≤ N ∧ N ≤ 22) ∨ r = 4 ∨ (r = 3 ∧ 10 ≤ N) ∨ (5 ≤ r ∧ r ≤ 11 ∧ 6 ≤ N) ∨ (r = 12 ∧ 9 ≤ N) ∨ r = 13
section
variable {x s : Nat → Nat → Int32}
theorem RK.rf (x : Nat → Nat → Int32) : RK x x := ⟨fun _ _ _ _ _ => rfl, fun _ _ => rfl, TE.of fun _ _ => rfl⟩
theorem RK.st {r N : Nat} {v : Int32} (h : RK x s) (ok : okW r N) : RK x (st1 s r N v) := by
  unfold okW at ok
  refine ⟨fun q h0 h3 h4 h5 => ?_, fun j hj => ?_, fun j hj => ?_, fun q hq k hk => ?_, fun j hj => ?_⟩
  · rw [st1_ne (by omega)]; exact h.1 q h0 h3 h4 h5
  · rw [st1_o (by omega)]; exact h.2.1 j hj
  · rw [st1_o (by omega)]; exact h.2.2.1 j hj
  · rw [st1_o (by omega)]; exact h.2.2.2.1 q hq k hk
  · rw [st1_o (by omega)]; exact h.2.2.2.2 j hj
theorem RK.st0 {N : Nat} {v : Int32} (h : RK x s) (h1 : 14 ≤ N) (h2 : N ≤ 22) : RK x (st1 s 0 N v) := h.st (Or.inl ⟨rfl, h1, h2⟩)
theorem RK.up {r : Nat} {f : Nat → Int32} (h : RK x s) (hr : r = 4 ∨ r = 13) : RK x (upR s r f) := by
  refine ⟨fun q h0 h3 h4 h5 => ?_, fun j hj => ?_, fun j hj => ?_, fun q hq k hk => ?_, fun j hj => ?_⟩
  · rw [upR_ne (by omega)]; exact h.1 q h0 h3 h4 h5
  · rw [upR_ne (by omega)]; exact h.2.1 j hj
  · rw [upR_ne (by omega)]; exact h.2.2.1 j hj
  · rw [upR_ne (by omega)]; exact h.2.2.2.1 q hq k hk
  · rw [upR_ne (by omega)]; exact h.2.2.2.2 j hj
theorem RK.wr (h : RK x s) (v : Int32) : RK x (wrongS v s) := by
  unfold wrongS
  split
  · exact (h.st0 (by decide) (by decide)).st0 (by decide) (by decide)
  · exact h
theorem RK.tok (h : RK x s) : RK x (tokS s) := by
  unfold tokS setT
  exact (((h.st0 (by decide) (by decide)).st0 (by decide) (by decide)).st0 (by decide) (by decide)).st0 (by decide) (by decide)
theorem RK.go (h : RK x s) : RK x (goOnS s) := by
  unfold goOnS
  split
  · exact h.tok
  · exact h
theorem RK.num (h : RK x s) (lo hi : Int32) : RK x (numS lo hi s) := by
  unfold numS
  split
  · split
    · split
      · exact h.tok
      · exact h.wr _
    · exact h.wr _
  · exact h
theorem RK.once (h : RK x s) (k : Nat) : RK x (onceS k s) := by
  unfold onceS
  refine RK.go (RK.st ?_ (Or.inr (Or.inl rfl)))
  split
  · exact h
  · exact h.wr _
theorem RK.rd (h : RK x s) (f : Nat) (lo hi : Int32) : RK x (rdS f lo hi s) := (h.num lo hi).st (Or.inr (Or.inr (Or.inl ⟨rfl, by omega⟩)))
theorem RK.ro (h : RK x s) (k f : Nat) (lo hi : Int32) : RK x (readOnceS k f lo hi s) := (h.once k).rd f lo hi
theorem RK.band (h : RK x s) : RK x (readBandS s) := by
  unfold readBandS
  refine RK.ro ?_ _ _ _ _
  split
  · exact h
  · exact h.wr _
theorem RK.lossI (h : RK x s) : ∀ k, RK x (lossIt s k)
  | 0 => h
  | k + 1 => (RK.lossI h k).rd _ _ _
theorem RK.putN (h : RK x s) {r N : Nat} {lo hi : Int32} (hr : 5 ≤ r ∧ r ≤ 11) (hN : 6 ≤ N) : RK x (putN r N lo hi s) := (h.num lo hi).st (Or.inr (Or.inr (Or.inr (Or.inl ⟨hr.1, hr.2, hN⟩))))
theorem RK.us3k (h : RK x s) (n : Nat) : RK x (us3 n s) := by
  have ha : RK x (xa n s) := (h.st (Or.inr (Or.inr (Or.inr (Or.inl ⟨by decide, by decide, by omega⟩))))).tok
  have hb : RK x (xb n s) := ha.putN (by decide) (by omega)
  have hc : RK x (xc n s) := hb.putN (by decide) (by omega)
  have hd : RK x (xd n s) := hc.putN (by decide) (by omega)
  have he : RK x (xe n s) := hd.putN (by decide) (by omega)
  have hf : RK x (xf n s) := (he.st (Or.inr (Or.inr (Or.inr (Or.inl ⟨by decide, by decide, by omega⟩))))).st (Or.inr (Or.inr (Or.inr (Or.inl ⟨by decide, by decide, by omega⟩))))
  exact hf.st (Or.inr (Or.inr (Or.inl ⟨rfl, by decide⟩)))
theorem RK.user (h : RK x s) (n : Nat) : RK x (readUserS n s) := by
  have h1 : RK x (us1 s) := by
    unfold us1
    refine RK.go ?_
    split
    · exact (h.st0 (by decide) (by decide)).wr _
    · exact h.st0 (by decide) (by decide)
  unfold readUserS us2
  split
  · split
    · split
      · exact h1.us3k n
      · exact h1.wr _
    · exact h1.wr _
  · exact h1
theorem RK.uo (h : RK x s) (r n : Nat) : RK x (uoS r n s) := by
  unfold uoS
  repeat' split
  · exact h.go.wr _
  · exact h.go.wr _
  · exact h.go.tok
  · exact h.go.wr _
  · exact h.go
theorem RK.fixed (h : RK x s) (n : Nat) : RK x (readFixedS n s) := by
  have h1 : RK x (fx1 n s) := (h.st0 (by decide) (by decide)).uo 10 n
  have h2 : RK x (fx2 n s) := h1.num _ _
  unfold readFixedS
  split
  · exact h2.st (Or.inr (Or.inr (Or.inr (Or.inl ⟨by decide, by decide, by omega⟩))))
  · exact h2
theorem RK.slots (h : RK x s) (n : Nat) : RK x (readSlotsS n s) := by
  have h2 : RK x (sl2 n s) := (h.uo 11 n).num _ _
  unfold readSlotsS
  split
  · exact h2.st (Or.inr (Or.inr (Or.inr (Or.inl ⟨by decide, by decide, by omega⟩))))
  · exact h2
theorem RK.block (h : RK x s) : RK x (readBlockS s) := by
  have h1 : RK x (bl1 s) := by
    unfold bl1
    refine RK.go ?_
    split
    · exact (h.st0 (by decide) (by decide)).wr _
    · exact h.st0 (by decide) (by decide)
  have h3 : RK x (bl3 s) := (h1.num _ _).num _ _
  unfold readBlockS
  split
  · exact (h3.up (Or.inr rfl)).st (Or.inr (Or.inr (Or.inl ⟨rfl, by decide⟩)))
  · exact h3
theorem RK.link (h : RK x s) : RK x (readLinkS s) := by
  have h2 : RK x (lk2 s) := h.go.num _ _
  have h3 : RK x (lk3 s) := by
    unfold lk3
    split
    · exact h2.wr _
    · exact h2
  have h4 : RK x (lk4 s) := by
    unfold lk4
    split
    · exact h3.wr _
    · exact h3
  have h5 : RK x (lk5 s) := by
    unfold lk5
    split
    · exact h4.wr _
    · exact h4
  have h7 : RK x (lk7 s) := h5.go.num _ _
  unfold readLinkS
  split
  · exact (h7.st (Or.inr (Or.inr (Or.inr (Or.inr (Or.inl ⟨rfl, by omega⟩)))))).st (Or.inr (Or.inr (Or.inr (Or.inr (Or.inl ⟨rfl, by omega⟩)))))
  · exact h7
theorem RK.lnw (h : RK x s) (n : Nat) : RK x (lnW n s) := by
  unfold lnW
  repeat' split
  · exact h.wr _
  · exact h.band
  · exact h.ro _ _ _ _
  · exact h.ro _ _ _ _
  · exact h.ro _ _ _ _
  · exact (h.once 4).lossI 3
  · exact h.user n
  · exact h.fixed n
  · exact h.block
  · exact h.link
  · exact h.slots n
  · exact h.ro _ _ _ _
theorem RK.line (h : RK x s) (n : Nat) : RK x (lineS n s) := by
  have h1 := h.lnw n
  unfold lineS lnE
  refine RK.st0 (RK.go ?_) (by decide) (by decide)
  split
  · exact h1.wr _
  · exact h1
theorem RK.lnf : ∀ f (w : Nat → Nat → Int32), RK x w → RK x (lnF f w) := by
  intro f
  induction f with
  | zero => intro w h; exact h
  | succ f ih =>
    intro w h
    rw [lnF]
    split
    · exact ih _ (h.line _)
    · exact h
theorem RK.fr (h : RK x s) : RK x (frS s) := by
  have e3 : frS s 3 = fr3 (s 3) := rfl
  have e12 : frS s 12 = frR (-2) 9 (s 12) 9 := rfl
  refine ⟨fun q h0 h3 h4 h5 => ?_, fun j hj => ?_, fun j hj => ?_, fun q hq k hk => ?_, fun j hj => ?_⟩
  · rw [← h.1 q h0 h3 h4 h5]
    unfold frS F4 F3 F2 F1
    rw [st1_ne h0, upR_ne (by omega), upR_ne (by omega), upR_ne (by omega), upR_ne (by omega)]
  · rw [frS_0 (by omega)]; exact h.2.1 j hj
  · rw [h.2.2.1 j hj, e3]
    unfold fr3
    rw [upd_ne (by omega), upd_ne (by omega), upd_ne (by omega), upd_ne (by omega), upd_ne (by omega), upd_ne (by omega)]
    unfold frR
    rw [if_neg (by omega)]
  · rw [h.2.2.2.1 q hq k hk]
    unfold frS F4 F3 F2 F1
    rw [st1_ne (by omega), upR_ne (by omega), upR_ne (by omega), upR_ne (by omega), upR_ne (by omega)]
  · rw [h.2.2.2.2 j hj, e12]
    unfold frR
    rw [if_neg (by omega)]
theorem RK.text (N : Nat) : RK x (readTextS N x) := by
  refine RK.lnf _ _ (RK.tok (RK.fr ?_))
  unfold rt0
  exact ((((RK.rf x).st0 (by decide) (by decide)).st0 (by decide) (by decide)).st0 (by decide) (by decide)).st0 (by decide) (by decide)
end
