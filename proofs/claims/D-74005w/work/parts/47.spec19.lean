/-! THE SPEC, part 19: what any reader leaves, and how it goes on -/
def PR (s w : Nat → Nat → Int32) : Prop := (w 0 17 = s 0 17 ∧ w 0 19 = s 0 19) ∨ tN (s 0 17) < tN (w 0 17) ∨ (w 0 19 = nI 4 ∧ tN (s 0 17) ≤ tN (w 0 17))
theorem PR.tr {a b c : Nat → Nat → Int32} (h : PR a b) (k : PR b c) : PR a c := by
  unfold PR at *
  rcases h with ⟨h1, h2⟩ | h1 | ⟨h1, h2⟩ <;> rcases k with ⟨k1, k2⟩ | k1 | ⟨k1, k2⟩
  · exact Or.inl ⟨k1.trans h1, k2.trans h2⟩
  · rw [h1] at k1; exact Or.inr (Or.inl k1)
  · rw [h1] at k2; exact Or.inr (Or.inr ⟨k1, k2⟩)
  · rw [k1]; exact Or.inr (Or.inl h1)
  · exact Or.inr (Or.inl (by omega))
  · exact Or.inr (Or.inl (by omega))
  · rw [k1, k2]; exact Or.inr (Or.inr ⟨h1, h2⟩)
  · exact Or.inr (Or.inl (by omega))
  · exact Or.inr (Or.inr ⟨k1, by omega⟩)
theorem tokF_go {t : Nat → Int32} {n a : Nat} {v : Int32} (h : a ≤ n) : (tokF t n a v).2.2.1 = nI 4 ∧ a ≤ (tokF t n a v).1 ∨ a < (tokF t n a v).1 := by
  have h1 := scan_p wsB t h
  have h2 := scan_p smB t h1.2.1
  have h3 := scan_p dgB t h1.2.1
  unfold tokF
  split
  · left; exact ⟨rfl, h⟩
  · rename_i q
    have q1 : scan wsB t n a < n := by omega
    right
    split
    · rename_i q2
      have h4 := (scan_p smB t (show scan wsB t n a + 1 ≤ n by omega)).1
      rw [← scan_s q1 q2] at h4
      split
      · show a < scan smB t n (scan wsB t n a); omega
      · split
        · show a < scan smB t n (scan wsB t n a); omega
        · show a < scan smB t n (scan wsB t n a); omega
    · split
      · rename_i q2
        have h4 := (scan_p dgB t (show scan wsB t n a + 1 ≤ n by omega)).1
        rw [← scan_s q1 q2] at h4
        show a < scan dgB t n (scan wsB t n a); omega
      · show a < scan wsB t n a + 1; omega
theorem R0.pr {s : Nat → Nat → Int32} (h : R0 s) : PR s (tokS s) := by
  obtain ⟨h1, h2, h3⟩ := h
  have ha : tN (s 0 17) ≤ tN (s 0 16) := by have := h2.2; omega
  have hr := setT_rd (s := s) (q := tokF (s 1) (tN (s 0 16)) (tN (s 0 17)) (s 0 20))
  have hl := tokF_le (t := s 1) (s 0 20) ha
  have hg := tokF_go (t := s 1) (v := s 0 20) ha
  unfold PR tokS
  rw [hr.2.1, hr.2.2.2.1, tN_nI (by have := h1.2; omega)]
  rcases hg with hg | hg
  · exact Or.inr (Or.inr hg)
  · exact Or.inr (Or.inl hg)
def Re (s w : Nat → Nat → Int32) : Prop := (¬ s 0 21 = 0 → w 0 21 = s 0 21 ∧ w 0 22 = s 0 22) ∧ (RI s → RI w ∧ PR s w ∧ w 0 16 = s 0 16)
theorem Re.rf (s : Nat → Nat → Int32) : Re s s := ⟨fun _ => ⟨rfl, rfl⟩, fun h => ⟨h, Or.inl ⟨rfl, rfl⟩, rfl⟩⟩
theorem Re.wr (s : Nat → Nat → Int32) (v : Int32) (_ : v ≠ 0) : Re s (wrongS v s) := by
  refine ⟨fun h => ?_, fun h => ⟨h.wrong v, ?_, ?_⟩⟩
  · rw [wrongS, if_neg h]; exact ⟨rfl, rfl⟩
  · unfold wrongS
    split
    · exact Or.inl ⟨(st1_nj (by decide)).trans (st1_nj (by decide)), (st1_nj (by decide)).trans (st1_nj (by decide))⟩
    · exact Or.inl ⟨rfl, rfl⟩
  · unfold wrongS
    split
    · exact (st1_nj (by decide)).trans (st1_nj (by decide))
    · rfl
theorem Re.tok (s : Nat → Nat → Int32) (h0 : s 0 21 = 0) : Re s (tokS s) := ⟨fun h9 => absurd h0 h9, fun h => ⟨h.tok, h.1.pr, setT_rd.1⟩⟩
theorem Re.put (s : Nat → Nat → Int32) (r N : Nat) (v : Int32) (h0 : r ≠ 0) (h1 : r ≠ 1) : Re s (st1 s r N v) := by
  refine ⟨fun _ => by rw [st1_ne (fun e => h0 e.symm)]; exact ⟨rfl, rfl⟩, fun h => ⟨h.st h1 (Or.inl h0), ?_, by rw [st1_ne (fun e => h0 e.symm)]⟩⟩
  unfold PR; rw [st1_ne (fun e => h0 e.symm)]; exact Or.inl ⟨rfl, rfl⟩
theorem Re.put0 (s : Nat → Nat → Int32) (N : Nat) (v : Int32) (h0 : N = 14 ∨ N = 15) : Re s (st1 s 0 N v) := ⟨fun _ => ⟨st1_nj (by omega), st1_nj (by omega)⟩, fun h => ⟨h.st (by decide) (Or.inr (by omega)), Or.inl ⟨st1_nj (by omega), st1_nj (by omega)⟩, st1_nj (by omega)⟩⟩
theorem Re.up (s : Nat → Nat → Int32) (r : Nat) (f : Nat → Int32) (h0 : r ≠ 0) (h1 : r ≠ 1) : Re s (upR s r f) := by
  refine ⟨fun _ => by rw [upR_ne (fun e => h0 e.symm)]; exact ⟨rfl, rfl⟩, fun h => ⟨h.up h0 h1, ?_, by rw [upR_ne (fun e => h0 e.symm)]⟩⟩
  unfold PR; rw [upR_ne (fun e => h0 e.symm)]; exact Or.inl ⟨rfl, rfl⟩
theorem Re.tr (a b c : Nat → Nat → Int32) (i1 : Re a b) (i2 : Re b c) : Re a c := by
  refine ⟨fun h => ?_, fun h => ?_⟩
  · have h1 := i1.1 h
    have h2 := i2.1 (by rw [h1.1]; exact h)
    exact ⟨h2.1.trans h1.1, h2.2.trans h1.2⟩
  · have h1 := i1.2 h
    have h2 := i2.2 h1.1
    exact ⟨h2.1, h1.2.1.tr h2.2.1, h2.2.2.trans h1.2.2⟩
theorem Re.zero {s w : Nat → Nat → Int32} (h : Re s w) (h0 : w 0 21 = 0) : s 0 21 = 0 := by
  by_cases e : s 0 21 = 0
  · exact e
  · have := (h.1 e).1; rw [h0] at this; exact absurd this.symm e
theorem Re.goOn {s : Nat → Nat → Int32} : Re s (goOnS s) := by
  unfold goOnS
  split
  · exact .tok _ (by assumption)
  · exact .rf _
theorem Re.num {s : Nat → Nat → Int32} (lo hi : Int32) : Re s (numS lo hi s) := by
  unfold numS
  split
  · split
    · split
      · exact .tok _ (by assumption)
      · exact .wr _ _ (by decide)
    · exact .wr _ _ (by decide)
  · exact .rf _
theorem Re.once {s : Nat → Nat → Int32} {k : Nat} : Re s (onceS k s) := by
  unfold onceS
  refine .tr _ _ _ (.tr _ _ _ ?_ (.put _ 4 k (nI 1) (by decide) (by decide))) .goOn
  split
  · exact .rf _
  · exact .wr _ _ (by decide)
theorem Re.rputN {s : Nat → Nat → Int32} {r N : Nat} {lo hi : Int32} (h0 : r ≠ 0) (h1 : r ≠ 1) : Re s (putN r N lo hi s) := .tr _ _ _ (.num lo hi) (.put _ r N _ h0 h1)
theorem Re.rd {s : Nat → Nat → Int32} {f : Nat} {lo hi : Int32} : Re s (rdS f lo hi s) := .tr _ _ _ (.num lo hi) (.put _ 3 _ _ (by decide) (by decide))
theorem Re.readOnce {s : Nat → Nat → Int32} {k f : Nat} {lo hi : Int32} : Re s (readOnceS k f lo hi s) := .tr _ _ _ .once .rd
theorem Re.readBand {s : Nat → Nat → Int32} : Re s (readBandS s) := by
  unfold readBandS
  refine .tr _ _ _ ?_ .readOnce
  split
  · exact .rf _
  · exact .wr _ _ (by decide)
theorem Re.lossIt {s : Nat → Nat → Int32} : ∀ k, Re s (lossIt s k)
  | 0 => .rf _
  | k + 1 => .tr _ _ _ (Re.lossIt k) .rd
theorem Re.readLoss {s : Nat → Nat → Int32} : Re s (readLossS s) := .tr _ _ _ .once (.lossIt 3)
theorem Re.rus1 {s : Nat → Nat → Int32} : Re s (us1 s) := by
  unfold us1
  refine .tr _ _ _ ?_ .goOn
  split
  · exact .tr _ _ _ (.put0 _ 14 _ (by decide)) (.wr _ _ (by decide))
  · exact .put0 _ 14 _ (by decide)
theorem Re.rus3 {n : Nat} {s : Nat → Nat → Int32} (h : s 0 21 = 0) : Re s (us3 n s) := by
  have a1 : Re s (xa n s) := .tr _ _ _ (.put _ 5 _ _ (by decide) (by decide)) (.tok _ (by rw [st1_ne (by decide)]; exact h))
  have a2 : Re s (xb n s) := .tr _ _ _ a1 (.rputN (by decide) (by decide))
  have a3 : Re s (xc n s) := .tr _ _ _ a2 (.rputN (by decide) (by decide))
  have a4 : Re s (xd n s) := .tr _ _ _ a3 (.rputN (by decide) (by decide))
  have a5 : Re s (xe n s) := .tr _ _ _ a4 (.rputN (by decide) (by decide))
  have a6 : Re s (xf n s) := .tr _ _ _ a5 (.tr _ _ _ (.put _ 10 _ _ (by decide) (by decide)) (.put _ 11 _ _ (by decide) (by decide)))
  exact .tr _ _ _ a6 (.put _ 3 _ _ (by decide) (by decide))
theorem Re.readUser {n : Nat} {s : Nat → Nat → Int32} : Re s (readUserS n s) := by
  unfold readUserS us2
  refine .tr _ _ _ .rus1 ?_
  split
  · split
    · split
      · exact .rus3 (by assumption)
      · exact .wr _ _ (by decide)
    · exact .wr _ _ (by decide)
  · exact .rf _
theorem Re.uo {r n : Nat} {s : Nat → Nat → Int32} : Re s (uoS r n s) := by
  unfold uoS
  split
  · refine .tr _ _ _ .goOn ?_
    split
    · split
      · exact .wr _ _ (by decide)
      · split
        · exact .wr _ _ (by decide)
        · exact .tok _ (by assumption)
    · exact .wr _ _ (by decide)
  · exact .goOn
theorem Re.rfx1 {n : Nat} {s : Nat → Nat → Int32} : Re s (fx1 n s) := .tr _ _ _ (.put0 _ 14 _ (by decide)) .uo
theorem Re.rfx2 {n : Nat} {s : Nat → Nat → Int32} : Re s (fx2 n s) := .tr _ _ _ .rfx1 (.num _ _)
theorem Re.readFixed {n : Nat} {s : Nat → Nat → Int32} : Re s (readFixedS n s) := by
  unfold readFixedS
  split
  · exact .tr _ _ _ .rfx2 (.put _ 10 _ _ (by decide) (by decide))
  · exact .rfx2
theorem Re.rsl2 {n : Nat} {s : Nat → Nat → Int32} : Re s (sl2 n s) := .tr _ _ _ .uo (.num _ _)
theorem Re.readSlots {n : Nat} {s : Nat → Nat → Int32} : Re s (readSlotsS n s) := by
  unfold readSlotsS
  split
  · exact .tr _ _ _ .rsl2 (.put _ 11 _ _ (by decide) (by decide))
  · exact .rsl2
theorem Re.rlk2 {s : Nat → Nat → Int32} : Re s (lk2 s) := .tr _ _ _ .goOn (.num _ _)
theorem Re.rlk3 {s : Nat → Nat → Int32} : Re s (lk3 s) := by
  unfold lk3
  split
  · exact .tr _ _ _ .rlk2 (.wr _ _ (by decide))
  · exact .rlk2
theorem Re.rlk4 {s : Nat → Nat → Int32} : Re s (lk4 s) := by
  unfold lk4
  split
  · exact .tr _ _ _ .rlk3 (.wr _ _ (by decide))
  · exact .rlk3
theorem Re.rlk5 {s : Nat → Nat → Int32} : Re s (lk5 s) := by
  unfold lk5
  split
  · exact .tr _ _ _ .rlk4 (.wr _ _ (by decide))
  · exact .rlk4
theorem Re.rlk7 {s : Nat → Nat → Int32} : Re s (lk7 s) := .tr _ _ _ .rlk5 (.tr _ _ _ .goOn (.num _ _))
theorem Re.readLink {s : Nat → Nat → Int32} : Re s (readLinkS s) := by
  unfold readLinkS
  split
  · exact .tr _ _ _ .rlk7 (.tr _ _ _ (.put _ 12 _ _ (by decide) (by decide)) (.put _ 12 _ _ (by decide) (by decide)))
  · exact .rlk7
theorem Re.rbl1 {s : Nat → Nat → Int32} : Re s (bl1 s) := by
  unfold bl1
  refine .tr _ _ _ ?_ .goOn
  split
  · exact .tr _ _ _ (.put0 _ 14 _ (by decide)) (.wr _ _ (by decide))
  · exact .put0 _ 14 _ (by decide)
theorem Re.rbl3 {s : Nat → Nat → Int32} : Re s (bl3 s) := .tr _ _ _ .rbl1 (.tr _ _ _ (.num _ _) (.num _ _))
theorem Re.readBlock {s : Nat → Nat → Int32} : Re s (readBlockS s) := by
  unfold readBlockS
  split
  · exact .tr _ _ _ .rbl3 (.tr _ _ _ (.up _ 13 _ (by decide) (by decide)) (.put _ 3 _ _ (by decide) (by decide)))
  · exact .rbl3
theorem Re.rlnW {n : Nat} {s : Nat → Nat → Int32} : Re s (lnW n s) := by
  unfold lnW
  repeat' split
  · exact .wr _ _ (by decide)
  · exact .readBand
  · exact .readOnce
  · exact .readOnce
  · exact .readOnce
  · exact .readLoss
  · exact .readUser
  · exact .readFixed
  · exact .readBlock
  · exact .readLink
  · exact .readSlots
  · exact .readOnce
