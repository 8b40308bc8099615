set_option maxRecDepth 100000
section
variable {l : Launch} {D : va_G} {gt ad : Nat → Nat} {ct : Nat → ClassId}
set_option maxHeartbeats 1000000 in
set_option maxRecDepth 100000 in
theorem mz_text {σ : Nat → Nat → Int32} (t : Nat) (v : Int32) (ht : σ 0 2 = nI t) (ht7 : t ≤ 700) (hb : BY σ) (hbo : BO σ) : Ct l D gt yX5_text cX5_text 2 .int 12 257 0 0 [.ref (ad 0), .int (v)] (wm ad ct σ) (tysA ct) (fun r σ2 => (¬ v < 0 ∧ ¬ nI t < v → txR (tN v) (zt σ) = r ∧ txS (tN v) (zt σ) = σ2) ∧ (¬ (¬ v < 0 ∧ ¬ nI t < v) → -2 = r ∧ zt σ = σ2)) (fun σ2 => wm ad ct σ2) (fun _ => tysA ct) := by
  refine Ct.start RX5 (by decide) rfl (Nat.le_of_ble_eq_true rfl) rfl ?_
  intro pP eE sS mM aA bB hM cC QQ AA E Rt
  refine s_aload_n E dX5_text_0 (i := 0) (j := 0) rfl rfl ?_
  refine s_iconst E dX5_text_1 (v := nI 0) (by decide) ?_
  refine mp0 E dX5_text_2 ?_
  refine s_ws (ws2 := wm ad ct (zt σ)) (congrArg (wm ad ct) (rfl)) ?_
  refine s_iload_n E dX5_text_5 (i := 1) (j := 1) rfl rfl ?_
  refine s_if_lt E dX5_text_6 (tgt := 17) rfl (fun c6 => ?_) (fun c6 => ?_)
  · refine s_bipush E dX5_text_17 (v := (-2)) (by decide) ?_
    exact Rt ((-2)) (zt σ) dX5_text_19 (⟨fun h9 => absurd h9 (fun h9 => by first | exact h9.1 c6 | exact h9.2 c14), fun _ => ⟨rfl, rfl⟩⟩) rfl (Nat.le_refl _) (Nat.le_refl _) rfl E.2.2.2.2.2.1
  · refine s_iload_n E dX5_text_9 (i := 1) (j := 1) rfl rfl ?_
    refine s_aload_n E dX5_text_10 (i := 0) (j := 0) rfl rfl ?_
    refine mg2 E (v := nI t) (ht) dX5_text_11 ?_
    refine s_icmp_le E dX5_text_14 (tgt := 20) rfl (fun c14 => ?_) (fun c14 => ?_)
    · have c14 := Int32.not_lt.mpr c14
      obtain ⟨j, hv, _, hj⟩ := rng (a := 0) (b := t) ⟨c6, c14⟩ (by decide) (by omega)
      subst hv
      have ho := readTextS_of (n := j) (s := zt σ) (by omega) hb hbo
      refine s_aload_n E dX5_text_20 (i := 0) (j := 0) rfl rfl ?_
      refine s_iload_n E dX5_text_21 (i := 1) (j := 1) rfl rfl ?_
      refine m_callv E (mz_readText j (by omega) (hb)) K5_220 (Nat.le_of_ble_eq_true rfl) (Nat.le_of_ble_eq_true rfl) (Nat.zero_le _) (Nat.zero_le _) rfl rfl (Nat.le_of_ble_eq_true rfl) dX5_text_22 (fun w22 h22 => ?_)
      subst h22
      refine s_aload_n E dX5_text_25 (i := 0) (j := 0) rfl rfl ?_
      refine s_iconst E dX5_text_26 (v := nI 0) (by decide) ?_
      refine mp2 E dX5_text_27 ?_
      refine s_aload_n E dX5_text_30 (i := 0) (j := 0) rfl rfl ?_
      refine s_aload_n E dX5_text_31 (i := 0) (j := 0) rfl rfl ?_
      refine mg21 E (v := (readTextS j (zt σ)) 0 21) (st1_nj (by decide)) dX5_text_32 ?_
      refine mp23 E dX5_text_35 ?_
      refine s_aload_n E dX5_text_38 (i := 0) (j := 0) rfl rfl ?_
      refine s_aload_n E dX5_text_39 (i := 0) (j := 0) rfl rfl ?_
      refine mg21 E (v := (readTextS j (zt σ)) 0 21) ((st1_nj (by decide)).trans (st1_nj (by decide))) dX5_text_40 ?_
      have J54 : Sm pP l eE { frames := 12, cells := 0, slots := 0, locals := 257 } sS mM aA bB hM cC QQ AA D 2 0 0 (wm ad ct (st1 (st1 (readTextS j (zt σ)) 0 2 (nI 0)) 0 23 ((readTextS j (zt σ)) 0 21))) 54 [(0, .ref (ad 0)), (1, .int (nI j))] [.int (if readTextS j (zt σ) 0 21 = 0 then -1 else readTextS j (zt σ) 0 22), .ref (ad 0)] := by
        refine mp24 E dX5_text_54 ?_
        refine s_ws (ws2 := wm ad ct (txA j (zt σ))) (congrArg (wm ad ct) (rfl)) ?_
        refine s_aload_n E dX5_text_57 (i := 0) (j := 0) rfl rfl ?_
        refine mg21 E (v := (txA j (zt σ)) 0 21) (rfl) dX5_text_58 ?_
        refine s_if_eq E dX5_text_61 (tgt := 66) rfl (fun c61 => ?_) (fun c61 => ?_)
        · have hx : readTextS j (zt σ) 0 21 = 0 := by have h9 := c61; unfold txA at h9; rwa [st1_nj (by decide), st1_nj (by decide), st1_nj (by decide)] at h9
          refine s_aload_n E dX5_text_66 (i := 0) (j := 0) rfl rfl ?_
          refine m_callv E (mz_takeText (BO.cg (s := readTextS j (zt σ)) ho.2.1 rfl)) K5_90 (Nat.le_of_ble_eq_true rfl) (Nat.le_of_ble_eq_true rfl) (Nat.zero_le _) (Nat.zero_le _) rfl rfl (Nat.le_of_ble_eq_true rfl) dX5_text_67 (fun w67 h67 => ?_)
          subst h67
          refine s_aload_n E dX5_text_70 (i := 0) (j := 0) rfl rfl ?_
          refine m_callv E (mz_begins (tN (readTextS j (zt σ) 3 17)) (ho.1.2.2.1.1) (by have := ho.1.2.2.1.2; omega)) K5_93 (Nat.le_of_ble_eq_true rfl) (Nat.le_of_ble_eq_true rfl) (Nat.zero_le _) (Nat.zero_le _) rfl rfl (Nat.le_of_ble_eq_true rfl) dX5_text_71 (fun w71 h71 => ?_)
          subst h71
          refine s_aload_n E dX5_text_74 (i := 0) (j := 0) rfl rfl ?_
          refine s_iconst E dX5_text_75 (v := nI 0) (by decide) ?_
          refine mp28 E dX5_text_76 ?_
          refine s_aload_n E dX5_text_79 (i := 0) (j := 0) rfl rfl ?_
          refine s_iconst E dX5_text_80 (v := nI 0) (by decide) ?_
          refine mp29 E rfl rfl dX5_text_81 ?_
          refine s_aload_n E dX5_text_84 (i := 0) (j := 0) rfl rfl ?_
          refine mg15 E (v := (begS (tN (readTextS j (zt σ) 3 17)) (takeS (txA j (zt σ)))) 0 15) ((st1_nj (by decide)).trans (st1_nj (by decide))) dX5_text_85 ?_
          exact Rt ((begS (tN (readTextS j (zt σ) 3 17)) (takeS (txA j (zt σ)))) 0 15) (st1 (st1 (begS (tN (readTextS j (zt σ) 3 17)) (takeS (txA j (zt σ)))) 0 28 (nI 0)) 0 29 (nI 0)) dX5_text_88 (⟨fun _ => ⟨by rw [tN_nI (by omega)]; unfold txR; rw [if_pos hx]; rfl, by rw [tN_nI (by omega)]; unfold txS; rw [if_pos hx]⟩, fun h9 => absurd ⟨c6, c14⟩ h9⟩) rfl (Nat.le_refl _) (Nat.le_refl _) rfl E.2.2.2.2.2.1
        · have hx : ¬ readTextS j (zt σ) 0 21 = 0 := by have h9 := c61; unfold txA at h9; rwa [st1_nj (by decide), st1_nj (by decide), st1_nj (by decide)] at h9
          refine s_iconst E dX5_text_64 (v := (-1)) (by decide) ?_
          exact Rt ((-1)) (txA j (zt σ)) dX5_text_65 (⟨fun _ => ⟨by rw [tN_nI (by omega)]; unfold txR; rw [if_neg hx], by rw [tN_nI (by omega)]; unfold txS; rw [if_neg hx]⟩, fun h9 => absurd ⟨c6, c14⟩ h9⟩) rfl (Nat.le_refl _) (Nat.le_refl _) rfl E.2.2.2.2.2.1
      refine s_if_ne E dX5_text_43 (tgt := 50) rfl (fun c43 => ?_) (fun c43 => ?_)
      · refine s_aload_n E dX5_text_50 (i := 0) (j := 0) rfl rfl ?_
        refine mg22 E (v := (readTextS j (zt σ)) 0 22) ((st1_nj (by decide)).trans (st1_nj (by decide))) dX5_text_51 ?_
        refine s_top (v2 := if readTextS j (zt σ) 0 21 = 0 then -1 else readTextS j (zt σ) 0 22) (by simp [bI, c6, c14, ho, c43]) ?_
        exact J54
      · refine s_iconst E dX5_text_46 (v := (-1)) (by decide) ?_
        refine s_goto E dX5_text_47 (tgt := 54) rfl ?_
        refine s_top (v2 := if readTextS j (zt σ) 0 21 = 0 then -1 else readTextS j (zt σ) 0 22) (by simp [bI, c6, c14, ho, c43]) ?_
        exact J54
    · have c14 := Int32.not_le.mp c14
      refine s_bipush E dX5_text_17 (v := (-2)) (by decide) ?_
      exact Rt ((-2)) (zt σ) dX5_text_19 (⟨fun h9 => absurd h9 (fun h9 => by first | exact h9.1 c6 | exact h9.2 c14), fun _ => ⟨rfl, rfl⟩⟩) rfl (Nat.le_refl _) (Nat.le_refl _) rfl E.2.2.2.2.2.1
end
