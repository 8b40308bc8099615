set_option maxRecDepth 100000
theorem K_X0_7 : KV RX0 7 RX1 yX1_user cX1_user 4 (some .int) 2 := ⟨q1166, q1167, q1168, q113, q1169, by decide +kernel⟩
def outW (ct : Nat → ClassId) (o : Nat) (f : Nat → Int64) : va_W := [(o, .inl (ct 6, 1, .inr (.inl f)))]
set_option maxHeartbeats 1000000 in
theorem x0z_user {l : Launch} {D : va_G} {gt : Nat → Nat} {ad : Nat → Nat} {ct : Nat → ClassId} {n o : Nat} {τ σ : Nat → Nat → Int32} {T : va_W} {f : Nat → Int64} (hst : l.stackTraces = false) (u v : Int32) (hX : XT τ n) (hT : UT ad n τ T) (hP : PC (σ 1) n) : CtN l D gt yX0_user cX0_user 5 .int [(0, 10, 13, 13), (0, 10, 17, 15)] 8 120 1 6 [.ref (ad 0), .int u, .int v, .ref o] (iw ad ct n τ σ T ++ outW ct o f) (tysA ct) (fun r g => (userF (vw τ (σ 1)) n u v).1 = r ∧ (r = nI 0 → g 0 = ((userF (vw τ (σ 1)) n u v).2).toInt64)) (fun g : Nat → Int64 => iw ad ct n τ σ T ++ outW ct o g) (fun _ => tysA ct) := by
  refine CtN.start RX0 (by decide) rfl (Nat.le_of_ble_eq_true rfl) rfl ?_
  intro pP eE sS mM aA bB hM cC QQ AA E hEx hNc Rt
  refine s_aload_n E dX0_user_0 (i := 3) (j := 3) rfl rfl ?_
  refine s_iconst E dX0_user_1 (v := nI 0) (by decide) ?_
  refine s_aload_n E dX0_user_2 (i := 0) (j := 0) rfl rfl ?_
  refine s_iload_n E dX0_user_3 (i := 1) (j := 1) rfl rfl ?_
  refine s_iload_n E dX0_user_4 (i := 2) (j := 2) rfl rfl ?_
  refine xu_goi (wr := outW ct o f) (ws2 := fun σ2 => iw ad ct n τ σ2 T ++ outW ct o f) (ws3 := iw ad ct n τ σ T ++ outW ct o f) E (List.Perm.refl _) (x1z_user hst u v hX hT hP) K_X0_7 (Nat.le_of_ble_eq_true rfl) (Nat.le_of_ble_eq_true rfl) (Nat.le_refl _) (Nat.le_refl _) rfl rfl rfl rfl (Nat.le_of_ble_eq_true rfl) dX0_user_5 (fun w => List.perm_append_comm) List.perm_append_comm (fun E9 q hp => ?_) (fun r w hw => ?_)
  · rcases hp with ⟨rfl, h1⟩ | ⟨rfl, h1⟩
    · refine s_catch1 E hEx (Nat.zero_le _) (by decide) (by decide) q1131 q1172 ?_
      refine s_astore E dX0_user_13 (by decide) rfl ?_
      refine s_iconst E dX0_user_15 (v := nI 1) (by decide) ?_
      exact Rt (nI 1) f dX0_user_16 ⟨h1, fun h => absurd h (by decide)⟩ rfl (Nat.le_refl _) (Nat.le_refl _) rfl E.2.2.2.2.2.1
    · refine s_catch2 E hEx (Nat.zero_le _) (by decide) (by decide) q1165 q1193 (by decide) q1131 hNc ?_
      refine s_astore E dX0_user_17 (by decide) rfl ?_
      refine s_iconst E dX0_user_19 (v := nI 2) (by decide) ?_
      exact Rt (nI 2) f dX0_user_20 ⟨h1, fun h => absurd h (by decide)⟩ rfl (Nat.le_refl _) (Nat.le_refl _) rfl E.2.2.2.2.2.1
  · obtain ⟨hr, rfl⟩ := hw
    refine s_i2l E dX0_user_8 rfl ?_
    refine s_perm (ws2 := outW ct o f ++ iw ad ct n τ σ T) List.perm_append_comm ?_
    refine s_last (f := f) (nA := 1) (ws2 := outW ct o (vp_updL f (nI 0).toNatClampNeg r.toInt64) ++ iw ad ct n τ σ T) E 0 6 rfl rfl (vp_in_nI (by decide) (by decide)) rfl dX0_user_9 ?_
    refine s_perm (ws2 := iw ad ct n τ σ T ++ outW ct o (vp_updL f (nI 0).toNatClampNeg r.toInt64)) List.perm_append_comm ?_
    refine s_goto E dX0_user_10 (tgt := 21) (by decide) ?_
    refine s_iconst E dX0_user_21 (v := nI 0) (by decide) ?_
    exact Rt (nI 0) _ dX0_user_22 ⟨by rw [hr], fun _ => by rw [hr]; rfl⟩ rfl (Nat.le_refl _) (Nat.le_refl _) rfl E.2.2.2.2.2.1

