set_option maxRecDepth 100000
section
variable {l : Launch} {D : va_G} {gt ad : Nat → Nat} {ct : Nat → ClassId}
set_option maxHeartbeats 1000000 in
set_option maxRecDepth 100000 in
theorem mz_adds {σ : Nat → Nat → Int32} (σ0 : Nat → Nat → Int32) (L : List Pr) (k a b : Nat) (hL : HL σ0 σ L) (hk : k < 6) (ha : a < 6) (hb : b < 6) (hlen : (L ++ okL σ0 (k, a, b, none)).length ≤ 300) : Cv l D gt yX5_adds cX5_adds 8 1 21 0 0 [.ref (ad 0), .int (nI k), .int (nI a), .int (nI b), .int ((-2))] (wm ad ct σ) (tysA ct) (fun σ2 => HL σ0 σ2 (L ++ okL σ0 (k, a, b, none))) (fun σ2 => wm ad ct σ2) (fun _ => tysA ct) := by
  refine Cv.start RX5 (by decide) rfl (Nat.le_of_ble_eq_true rfl) rfl ?_
  intro pP eE sS mM aA bB hM cC QQ AA E Rt
  refine s_iload_n E dX5_adds_0 (i := 1) (j := 1) rfl rfl ?_
  refine m_calls E (mz_timesA k (hk)) K5_268 (Nat.le_of_ble_eq_true rfl) (Nat.le_of_ble_eq_true rfl) (Nat.zero_le _) (Nat.zero_le _) rfl rfl (Nat.le_of_ble_eq_true rfl) dX5_adds_1 (fun r1 h1 => ?_)
  subst h1
  refine s_aload_n E dX5_adds_4 (i := 0) (j := 0) rfl rfl ?_
  refine mg25 E dX5_adds_5 ?_
  refine s_iconst E dX5_adds_8 (v := nI 0) (by decide) ?_
  refine s_iload_n E dX5_adds_9 (i := 2) (j := 2) rfl rfl ?_
  refine s_iadd_ E dX5_adds_10 (v := nI a) (nI_z _) ?_
  refine ml25 E (v := σ 25 a) (a) (rfl) (by omega) (rfl) dX5_adds_11 ?_
  refine s_imul E dX5_adds_12 ?_
  refine s_iload_n E dX5_adds_13 (i := 1) (j := 1) rfl rfl ?_
  refine m_calls E (mz_timesB k (hk)) K5_271 (Nat.le_of_ble_eq_true rfl) (Nat.le_of_ble_eq_true rfl) (Nat.zero_le _) (Nat.zero_le _) rfl rfl (Nat.le_of_ble_eq_true rfl) dX5_adds_14 (fun r14 h14 => ?_)
  subst h14
  refine s_aload_n E dX5_adds_17 (i := 0) (j := 0) rfl rfl ?_
  refine mg25 E dX5_adds_18 ?_
  refine s_iconst E dX5_adds_21 (v := nI 0) (by decide) ?_
  refine s_iload_n E dX5_adds_22 (i := 3) (j := 3) rfl rfl ?_
  refine s_iadd_ E dX5_adds_23 (v := nI b) (nI_z _) ?_
  refine ml25 E (v := σ 25 b) (b) (rfl) (by omega) (rfl) dX5_adds_24 ?_
  refine s_imul E dX5_adds_25 ?_
  refine s_iadd E dX5_adds_26 ?_
  refine s_istore E (L2 := [(5, .int (((tA k) * (σ 25 a)) + ((tB k) * (σ 25 b)))), (0, .ref (ad 0)), (1, .int (nI k)), (2, .int (nI a)), (3, .int (nI b)), (4, .int ((-2)))]) dX5_adds_27 (Nat.le_of_ble_eq_true rfl) rfl ?_
  refine s_iload_n E dX5_adds_29 (i := 1) (j := 2) rfl rfl ?_
  refine m_calls E (mz_timesA k (hk)) K5_268 (Nat.le_of_ble_eq_true rfl) (Nat.le_of_ble_eq_true rfl) (Nat.zero_le _) (Nat.zero_le _) rfl rfl (Nat.le_of_ble_eq_true rfl) dX5_adds_30 (fun r30 h30 => ?_)
  subst h30
  refine s_aload_n E dX5_adds_33 (i := 0) (j := 1) rfl rfl ?_
  refine mg25 E dX5_adds_34 ?_
  refine s_bipush E dX5_adds_37 (v := nI 6) (by decide) ?_
  refine s_iload_n E dX5_adds_39 (i := 2) (j := 3) rfl rfl ?_
  refine s_iadd_ E dX5_adds_40 (v := nI (6 + a)) (nI_add _ _) ?_
  refine ml25 E (v := σ 25 (6 + a)) (6 + a) (rfl) (by omega) (rfl) dX5_adds_41 ?_
  refine s_imul E dX5_adds_42 ?_
  refine s_iload_n E dX5_adds_43 (i := 1) (j := 2) rfl rfl ?_
  refine m_calls E (mz_timesB k (hk)) K5_271 (Nat.le_of_ble_eq_true rfl) (Nat.le_of_ble_eq_true rfl) (Nat.zero_le _) (Nat.zero_le _) rfl rfl (Nat.le_of_ble_eq_true rfl) dX5_adds_44 (fun r44 h44 => ?_)
  subst h44
  refine m_calls E (mz_without (tB k)) K5_274 (Nat.le_of_ble_eq_true rfl) (Nat.le_of_ble_eq_true rfl) (Nat.zero_le _) (Nat.zero_le _) rfl rfl (Nat.le_of_ble_eq_true rfl) dX5_adds_47 (fun r47 h47 => ?_)
  subst h47
  refine s_aload_n E dX5_adds_50 (i := 0) (j := 1) rfl rfl ?_
  refine mg25 E dX5_adds_51 ?_
  refine s_bipush E dX5_adds_54 (v := nI 6) (by decide) ?_
  refine s_iload_n E dX5_adds_56 (i := 3) (j := 4) rfl rfl ?_
  refine s_iadd_ E dX5_adds_57 (v := nI (6 + b)) (nI_add _ _) ?_
  refine ml25 E (v := σ 25 (6 + b)) (6 + b) (rfl) (by omega) (rfl) dX5_adds_58 ?_
  refine s_imul E dX5_adds_59 ?_
  refine s_iadd E dX5_adds_60 ?_
  refine s_istore E (L2 := [(6, .int (((tA k) * (σ 25 (6 + a))) + ((absI (tB k)) * (σ 25 (6 + b))))), (5, .int (((tA k) * (σ 25 a)) + ((tB k) * (σ 25 b)))), (0, .ref (ad 0)), (1, .int (nI k)), (2, .int (nI a)), (3, .int (nI b)), (4, .int ((-2)))]) dX5_adds_61 (Nat.le_of_ble_eq_true rfl) rfl ?_
  refine s_iload E dX5_adds_63 (i := 4) (j := 6) rfl ?_
  refine s_bipush E dX5_adds_65 (v := (-2)) (by decide) ?_
  refine s_icmp_eq E dX5_adds_67 (tgt := 112) rfl (fun c67 => ?_) (fun c67 => absurd rfl c67)
  refine s_aload_n E dX5_adds_112 (i := 0) (j := 2) rfl rfl ?_
  refine mg25 E dX5_adds_113 ?_
  refine s_bipush E dX5_adds_116 (v := nI 73) (by decide) ?_
  refine s_iload_n E dX5_adds_118 (i := 2) (j := 4) rfl rfl ?_
  refine s_iadd_ E dX5_adds_119 (v := nI (73 + a)) (nI_add _ _) ?_
  refine ml25 E (v := σ 25 (73 + a)) (73 + a) (rfl) (by omega) (rfl) dX5_adds_120 ?_
  refine s_aload_n E dX5_adds_121 (i := 0) (j := 2) rfl rfl ?_
  refine mg25 E dX5_adds_122 ?_
  refine s_bipush E dX5_adds_125 (v := nI 73) (by decide) ?_
  refine s_iload_n E dX5_adds_127 (i := 3) (j := 5) rfl rfl ?_
  refine s_iadd_ E dX5_adds_128 (v := nI (73 + b)) (nI_add _ _) ?_
  refine ml25 E (v := σ 25 (73 + b)) (73 + b) (rfl) (by omega) (rfl) dX5_adds_129 ?_
  refine s_iand E dX5_adds_130 ?_
  refine s_iload E dX5_adds_131 (i := 4) (j := 6) rfl ?_
  refine s_bipush E dX5_adds_133 (v := (-2)) (by decide) ?_
  refine s_icmp_ne E dX5_adds_135 (tgt := 144) rfl (fun c135 => absurd rfl c135) (fun c135 => ?_)
  refine s_sipush E dX5_adds_138 (v := nI 255) (by decide) ?_
  refine s_goto E dX5_adds_141 (tgt := 154) rfl ?_
  refine s_iand E dX5_adds_154 ?_
  refine s_istore E (L2 := [(7, .int (((σ 25 (73 + a)) &&& (σ 25 (73 + b))) &&& (nI 255))), (6, .int (((tA k) * (σ 25 (6 + a))) + ((absI (tB k)) * (σ 25 (6 + b))))), (5, .int (((tA k) * (σ 25 a)) + ((tB k) * (σ 25 b)))), (0, .ref (ad 0)), (1, .int (nI k)), (2, .int (nI a)), (3, .int (nI b)), (4, .int ((-2)))]) dX5_adds_155 (Nat.le_of_ble_eq_true rfl) rfl ?_
  refine s_iload E dX5_adds_157 (i := 5) (j := 2) rfl ?_
  refine s_iconst E dX5_adds_159 (v := nI 1) (by decide) ?_
  refine s_icmp_lt E dX5_adds_160 (tgt := 177) rfl (fun c160 => ?_) (fun c160 => ?_)
  · exact Rt (σ) dX5_adds_177 (hL.no (by simp [bI, okP, pvF, pcF, c160])) rfl (Nat.le_refl _) (Nat.le_refl _) E.2.2.2.2.2.1
  · refine s_iload E dX5_adds_163 (i := 5) (j := 2) rfl ?_
    refine s_aload_n E dX5_adds_165 (i := 0) (j := 3) rfl rfl ?_
    refine mg30 E (v := σ 0 30) (rfl) dX5_adds_166 ?_
    refine s_icmp_gt E dX5_adds_169 (tgt := 177) rfl (fun c169 => ?_) (fun c169 => ?_)
    · exact Rt (σ) dX5_adds_177 (hL.no (by simp [bI, okP, pvF, pcF, c160, c169])) rfl (Nat.le_refl _) (Nat.le_refl _) E.2.2.2.2.2.1
    · refine s_iload E dX5_adds_172 (i := 7) (j := 0) rfl ?_
      refine s_if_ne E dX5_adds_174 (tgt := 178) rfl (fun c174 => ?_) (fun c174 => ?_)
      · have hok : okP σ (k, a, b, none) = true := (by simp [okP, pvF, pcF, c160, c169, c174])
        have hlt : L.length < 300 := okL_one hL hlen hok
        refine s_aload_n E dX5_adds_178 (i := 0) (j := 3) rfl rfl ?_
        refine mg40 E dX5_adds_179 ?_
        refine s_aload_n E dX5_adds_182 (i := 0) (j := 3) rfl rfl ?_
        refine mg41 E (v := nI (L.length)) (hL.2.1) dX5_adds_183 ?_
        refine s_iload E dX5_adds_186 (i := 7) (j := 0) rfl ?_
        refine ms40 E (L.length) (rfl) (hlt) dX5_adds_188 ?_
        refine s_aload_n E dX5_adds_189 (i := 0) (j := 3) rfl rfl ?_
        refine mg34 E dX5_adds_190 ?_
        refine s_aload_n E dX5_adds_193 (i := 0) (j := 3) rfl rfl ?_
        refine mg41 E (v := nI (L.length)) (hL.2.1) dX5_adds_194 ?_
        refine s_iload_n E dX5_adds_197 (i := 1) (j := 4) rfl rfl ?_
        refine ms34 E (L.length) (rfl) (hlt) dX5_adds_198 ?_
        refine s_aload_n E dX5_adds_199 (i := 0) (j := 3) rfl rfl ?_
        refine mg35 E dX5_adds_200 ?_
        refine s_aload_n E dX5_adds_203 (i := 0) (j := 3) rfl rfl ?_
        refine mg41 E (v := nI (L.length)) (hL.2.1) dX5_adds_204 ?_
        refine s_iload_n E dX5_adds_207 (i := 2) (j := 5) rfl rfl ?_
        refine ms35 E (L.length) (rfl) (hlt) dX5_adds_208 ?_
        refine s_aload_n E dX5_adds_209 (i := 0) (j := 3) rfl rfl ?_
        refine mg36 E dX5_adds_210 ?_
        refine s_aload_n E dX5_adds_213 (i := 0) (j := 3) rfl rfl ?_
        refine mg41 E (v := nI (L.length)) (hL.2.1) dX5_adds_214 ?_
        refine s_iload_n E dX5_adds_217 (i := 3) (j := 6) rfl rfl ?_
        refine ms36 E (L.length) (rfl) (hlt) dX5_adds_218 ?_
        refine s_aload_n E dX5_adds_219 (i := 0) (j := 3) rfl rfl ?_
        refine mg37 E dX5_adds_220 ?_
        refine s_aload_n E dX5_adds_223 (i := 0) (j := 3) rfl rfl ?_
        refine mg41 E (v := nI (L.length)) (hL.2.1) dX5_adds_224 ?_
        refine s_iload E dX5_adds_227 (i := 4) (j := 7) rfl ?_
        refine ms37 E (L.length) (rfl) (hlt) dX5_adds_229 ?_
        refine s_aload_n E dX5_adds_230 (i := 0) (j := 3) rfl rfl ?_
        refine mg38 E dX5_adds_231 ?_
        refine s_aload_n E dX5_adds_234 (i := 0) (j := 3) rfl rfl ?_
        refine mg41 E (v := nI (L.length)) (hL.2.1) dX5_adds_235 ?_
        refine s_iload E dX5_adds_238 (i := 5) (j := 2) rfl ?_
        refine ms38 E (L.length) (rfl) (hlt) dX5_adds_240 ?_
        refine s_aload_n E dX5_adds_241 (i := 0) (j := 3) rfl rfl ?_
        refine mg39 E dX5_adds_242 ?_
        refine s_aload_n E dX5_adds_245 (i := 0) (j := 3) rfl rfl ?_
        refine mg41 E (v := nI (L.length)) (hL.2.1) dX5_adds_246 ?_
        refine s_iload E dX5_adds_249 (i := 6) (j := 1) rfl ?_
        refine s_aload_n E dX5_adds_251 (i := 0) (j := 3) rfl rfl ?_
        refine s_iload_n E dX5_adds_252 (i := 1) (j := 4) rfl rfl ?_
        refine m_calli E (mz_lossOf k (hk)) K5_283 (Nat.le_of_ble_eq_true rfl) (Nat.le_of_ble_eq_true rfl) (Nat.zero_le _) (Nat.zero_le _) rfl rfl (Nat.le_of_ble_eq_true rfl) dX5_adds_253 (fun r253 w253 h253 => ?_)
        obtain ⟨rfl, rfl⟩ := h253
        refine s_isub E dX5_adds_256 ?_
        refine ms39 E (L.length) (rfl) (hlt) dX5_adds_257 ?_
        refine s_aload_n E dX5_adds_258 (i := 0) (j := 3) rfl rfl ?_
        refine s_dup E dX5_adds_259 rfl ?_
        refine mg41 E (v := nI (L.length)) (hL.2.1) dX5_adds_260 ?_
        refine s_iconst E dX5_adds_263 (v := nI 1) (by decide) ?_
        refine s_iadd_ E dX5_adds_264 (v := nI (L.length + 1)) (nI_add _ _) ?_
        refine mp41 E dX5_adds_265 ?_
        exact Rt (st1 (st1 (st1 (st1 (st1 (st1 (st1 (st1 σ 40 L.length (((σ 25 (73 + a)) &&& (σ 25 (73 + b))) &&& (nI 255))) 34 L.length (nI k)) 35 L.length (nI a)) 36 L.length (nI b)) 37 L.length (-2)) 38 L.length (((tA k) * (σ 25 a)) + ((tB k) * (σ 25 b)))) 39 L.length ((((tA k) * (σ 25 (6 + a))) + ((absI (tB k)) * (σ 25 (6 + b)))) - ((st1 (st1 (st1 (st1 (st1 (st1 σ 40 L.length (((σ 25 (73 + a)) &&& (σ 25 (73 + b))) &&& (nI 255))) 34 L.length (nI k)) 35 L.length (nI a)) 36 L.length (nI b)) 37 L.length (-2)) 38 L.length (((tA k) * (σ 25 a)) + ((tB k) * (σ 25 b)))) 3 (4 + k / 2)))) 0 41 (nI (L.length + 1))) dX5_adds_268 (show HL σ0 (addS σ (k, a, b, none) L.length) (L ++ okL σ0 (k, a, b, none)) from hL.ok hok) rfl (Nat.le_refl _) (Nat.le_refl _) E.2.2.2.2.2.1
      · exact Rt (σ) dX5_adds_177 (hL.no (by simp [bI, okP, pvF, pcF, c160, c169, c174])) rfl (Nat.le_refl _) (Nat.le_refl _) E.2.2.2.2.2.1
set_option maxHeartbeats 1000000 in
set_option maxRecDepth 100000 in
theorem mz_adds3 {σ : Nat → Nat → Int32} (σ0 : Nat → Nat → Int32) (L : List Pr) (k a b w : Nat) (hL : HL σ0 σ L) (hk : k < 6) (ha : a < 6) (hb : b < 6) (hw : w < 6) (hlen : (L ++ okL σ0 (k, a, b, some w)).length ≤ 300) : Cv l D gt yX5_adds cX5_adds 8 1 21 0 0 [.ref (ad 0), .int (nI k), .int (nI a), .int (nI b), .int (nI w)] (wm ad ct σ) (tysA ct) (fun σ2 => HL σ0 σ2 (L ++ okL σ0 (k, a, b, some w))) (fun σ2 => wm ad ct σ2) (fun _ => tysA ct) := by
  refine Cv.start RX5 (by decide) rfl (Nat.le_of_ble_eq_true rfl) rfl ?_
  intro pP eE sS mM aA bB hM cC QQ AA E Rt
  refine s_iload_n E dX5_adds_0 (i := 1) (j := 1) rfl rfl ?_
  refine m_calls E (mz_timesA k (hk)) K5_268 (Nat.le_of_ble_eq_true rfl) (Nat.le_of_ble_eq_true rfl) (Nat.zero_le _) (Nat.zero_le _) rfl rfl (Nat.le_of_ble_eq_true rfl) dX5_adds_1 (fun r1 h1 => ?_)
  subst h1
  refine s_aload_n E dX5_adds_4 (i := 0) (j := 0) rfl rfl ?_
  refine mg25 E dX5_adds_5 ?_
  refine s_iconst E dX5_adds_8 (v := nI 0) (by decide) ?_
  refine s_iload_n E dX5_adds_9 (i := 2) (j := 2) rfl rfl ?_
  refine s_iadd_ E dX5_adds_10 (v := nI a) (nI_z _) ?_
  refine ml25 E (v := σ 25 a) (a) (rfl) (by omega) (rfl) dX5_adds_11 ?_
  refine s_imul E dX5_adds_12 ?_
  refine s_iload_n E dX5_adds_13 (i := 1) (j := 1) rfl rfl ?_
  refine m_calls E (mz_timesB k (hk)) K5_271 (Nat.le_of_ble_eq_true rfl) (Nat.le_of_ble_eq_true rfl) (Nat.zero_le _) (Nat.zero_le _) rfl rfl (Nat.le_of_ble_eq_true rfl) dX5_adds_14 (fun r14 h14 => ?_)
  subst h14
  refine s_aload_n E dX5_adds_17 (i := 0) (j := 0) rfl rfl ?_
  refine mg25 E dX5_adds_18 ?_
  refine s_iconst E dX5_adds_21 (v := nI 0) (by decide) ?_
  refine s_iload_n E dX5_adds_22 (i := 3) (j := 3) rfl rfl ?_
  refine s_iadd_ E dX5_adds_23 (v := nI b) (nI_z _) ?_
  refine ml25 E (v := σ 25 b) (b) (rfl) (by omega) (rfl) dX5_adds_24 ?_
  refine s_imul E dX5_adds_25 ?_
  refine s_iadd E dX5_adds_26 ?_
  refine s_istore E (L2 := [(5, .int (((tA k) * (σ 25 a)) + ((tB k) * (σ 25 b)))), (0, .ref (ad 0)), (1, .int (nI k)), (2, .int (nI a)), (3, .int (nI b)), (4, .int (nI w))]) dX5_adds_27 (Nat.le_of_ble_eq_true rfl) rfl ?_
  refine s_iload_n E dX5_adds_29 (i := 1) (j := 2) rfl rfl ?_
  refine m_calls E (mz_timesA k (hk)) K5_268 (Nat.le_of_ble_eq_true rfl) (Nat.le_of_ble_eq_true rfl) (Nat.zero_le _) (Nat.zero_le _) rfl rfl (Nat.le_of_ble_eq_true rfl) dX5_adds_30 (fun r30 h30 => ?_)
  subst h30
  refine s_aload_n E dX5_adds_33 (i := 0) (j := 1) rfl rfl ?_
  refine mg25 E dX5_adds_34 ?_
  refine s_bipush E dX5_adds_37 (v := nI 6) (by decide) ?_
  refine s_iload_n E dX5_adds_39 (i := 2) (j := 3) rfl rfl ?_
  refine s_iadd_ E dX5_adds_40 (v := nI (6 + a)) (nI_add _ _) ?_
  refine ml25 E (v := σ 25 (6 + a)) (6 + a) (rfl) (by omega) (rfl) dX5_adds_41 ?_
  refine s_imul E dX5_adds_42 ?_
  refine s_iload_n E dX5_adds_43 (i := 1) (j := 2) rfl rfl ?_
  refine m_calls E (mz_timesB k (hk)) K5_271 (Nat.le_of_ble_eq_true rfl) (Nat.le_of_ble_eq_true rfl) (Nat.zero_le _) (Nat.zero_le _) rfl rfl (Nat.le_of_ble_eq_true rfl) dX5_adds_44 (fun r44 h44 => ?_)
  subst h44
  refine m_calls E (mz_without (tB k)) K5_274 (Nat.le_of_ble_eq_true rfl) (Nat.le_of_ble_eq_true rfl) (Nat.zero_le _) (Nat.zero_le _) rfl rfl (Nat.le_of_ble_eq_true rfl) dX5_adds_47 (fun r47 h47 => ?_)
  subst h47
  refine s_aload_n E dX5_adds_50 (i := 0) (j := 1) rfl rfl ?_
  refine mg25 E dX5_adds_51 ?_
  refine s_bipush E dX5_adds_54 (v := nI 6) (by decide) ?_
  refine s_iload_n E dX5_adds_56 (i := 3) (j := 4) rfl rfl ?_
  refine s_iadd_ E dX5_adds_57 (v := nI (6 + b)) (nI_add _ _) ?_
  refine ml25 E (v := σ 25 (6 + b)) (6 + b) (rfl) (by omega) (rfl) dX5_adds_58 ?_
  refine s_imul E dX5_adds_59 ?_
  refine s_iadd E dX5_adds_60 ?_
  refine s_istore E (L2 := [(6, .int (((tA k) * (σ 25 (6 + a))) + ((absI (tB k)) * (σ 25 (6 + b))))), (5, .int (((tA k) * (σ 25 a)) + ((tB k) * (σ 25 b)))), (0, .ref (ad 0)), (1, .int (nI k)), (2, .int (nI a)), (3, .int (nI b)), (4, .int (nI w))]) dX5_adds_61 (Nat.le_of_ble_eq_true rfl) rfl ?_
  refine s_iload E dX5_adds_63 (i := 4) (j := 6) rfl ?_
  refine s_bipush E dX5_adds_65 (v := (-2)) (by decide) ?_
  refine s_icmp_eq E dX5_adds_67 (tgt := 112) rfl (fun c67 => absurd c67 (nI_m2 (by omega))) (fun c67 => ?_)
  refine s_iload E dX5_adds_70 (i := 5) (j := 1) rfl ?_
  refine s_iload_n E dX5_adds_72 (i := 1) (j := 3) rfl rfl ?_
  refine m_calls E (mz_timesC k (hk)) K5_277 (Nat.le_of_ble_eq_true rfl) (Nat.le_of_ble_eq_true rfl) (Nat.zero_le _) (Nat.zero_le _) rfl rfl (Nat.le_of_ble_eq_true rfl) dX5_adds_73 (fun r73 h73 => ?_)
  subst h73
  refine s_aload_n E dX5_adds_76 (i := 0) (j := 2) rfl rfl ?_
  refine mg25 E dX5_adds_77 ?_
  refine s_iconst E dX5_adds_80 (v := nI 0) (by decide) ?_
  refine s_iload E dX5_adds_81 (i := 4) (j := 6) rfl ?_
  refine s_iadd_ E dX5_adds_83 (v := nI w) (nI_z _) ?_
  refine ml25 E (v := σ 25 w) (w) (rfl) (by omega) (rfl) dX5_adds_84 ?_
  refine s_imul E dX5_adds_85 ?_
  refine s_iadd E dX5_adds_86 ?_
  refine s_istore E (L2 := [(5, .int ((((tA k) * (σ 25 a)) + ((tB k) * (σ 25 b))) + ((tC k) * (σ 25 w)))), (6, .int (((tA k) * (σ 25 (6 + a))) + ((absI (tB k)) * (σ 25 (6 + b))))), (0, .ref (ad 0)), (1, .int (nI k)), (2, .int (nI a)), (3, .int (nI b)), (4, .int (nI w))]) dX5_adds_87 (Nat.le_of_ble_eq_true rfl) rfl ?_
  refine s_iload E dX5_adds_89 (i := 6) (j := 1) rfl ?_
  refine s_iload_n E dX5_adds_91 (i := 1) (j := 3) rfl rfl ?_
  refine m_calls E (mz_timesC k (hk)) K5_277 (Nat.le_of_ble_eq_true rfl) (Nat.le_of_ble_eq_true rfl) (Nat.zero_le _) (Nat.zero_le _) rfl rfl (Nat.le_of_ble_eq_true rfl) dX5_adds_92 (fun r92 h92 => ?_)
  subst h92
  refine m_calls E (mz_without (tC k)) K5_274 (Nat.le_of_ble_eq_true rfl) (Nat.le_of_ble_eq_true rfl) (Nat.zero_le _) (Nat.zero_le _) rfl rfl (Nat.le_of_ble_eq_true rfl) dX5_adds_95 (fun r95 h95 => ?_)
  subst h95
  refine s_aload_n E dX5_adds_98 (i := 0) (j := 2) rfl rfl ?_
  refine mg25 E dX5_adds_99 ?_
  refine s_bipush E dX5_adds_102 (v := nI 6) (by decide) ?_
  refine s_iload E dX5_adds_104 (i := 4) (j := 6) rfl ?_
  refine s_iadd_ E dX5_adds_106 (v := nI (6 + w)) (nI_add _ _) ?_
  refine ml25 E (v := σ 25 (6 + w)) (6 + w) (rfl) (by omega) (rfl) dX5_adds_107 ?_
  refine s_imul E dX5_adds_108 ?_
  refine s_iadd E dX5_adds_109 ?_
  refine s_istore E (L2 := [(6, .int ((((tA k) * (σ 25 (6 + a))) + ((absI (tB k)) * (σ 25 (6 + b)))) + ((absI (tC k)) * (σ 25 (6 + w))))), (5, .int ((((tA k) * (σ 25 a)) + ((tB k) * (σ 25 b))) + ((tC k) * (σ 25 w)))), (0, .ref (ad 0)), (1, .int (nI k)), (2, .int (nI a)), (3, .int (nI b)), (4, .int (nI w))]) dX5_adds_110 (Nat.le_of_ble_eq_true rfl) rfl ?_
  refine s_aload_n E dX5_adds_112 (i := 0) (j := 2) rfl rfl ?_
  refine mg25 E dX5_adds_113 ?_
  refine s_bipush E dX5_adds_116 (v := nI 73) (by decide) ?_
  refine s_iload_n E dX5_adds_118 (i := 2) (j := 4) rfl rfl ?_
  refine s_iadd_ E dX5_adds_119 (v := nI (73 + a)) (nI_add _ _) ?_
  refine ml25 E (v := σ 25 (73 + a)) (73 + a) (rfl) (by omega) (rfl) dX5_adds_120 ?_
  refine s_aload_n E dX5_adds_121 (i := 0) (j := 2) rfl rfl ?_
  refine mg25 E dX5_adds_122 ?_
  refine s_bipush E dX5_adds_125 (v := nI 73) (by decide) ?_
  refine s_iload_n E dX5_adds_127 (i := 3) (j := 5) rfl rfl ?_
  refine s_iadd_ E dX5_adds_128 (v := nI (73 + b)) (nI_add _ _) ?_
  refine ml25 E (v := σ 25 (73 + b)) (73 + b) (rfl) (by omega) (rfl) dX5_adds_129 ?_
  refine s_iand E dX5_adds_130 ?_
  refine s_iload E dX5_adds_131 (i := 4) (j := 6) rfl ?_
  refine s_bipush E dX5_adds_133 (v := (-2)) (by decide) ?_
  refine s_icmp_ne E dX5_adds_135 (tgt := 144) rfl (fun c135 => ?_) (fun c135 => absurd c135 (nI_m2 (by omega)))
  refine s_aload_n E dX5_adds_144 (i := 0) (j := 2) rfl rfl ?_
  refine mg25 E dX5_adds_145 ?_
  refine s_bipush E dX5_adds_148 (v := nI 73) (by decide) ?_
  refine s_iload E dX5_adds_150 (i := 4) (j := 6) rfl ?_
  refine s_iadd_ E dX5_adds_152 (v := nI (73 + w)) (nI_add _ _) ?_
  refine ml25 E (v := σ 25 (73 + w)) (73 + w) (rfl) (by omega) (rfl) dX5_adds_153 ?_
  refine s_iand E dX5_adds_154 ?_
  refine s_istore E (L2 := [(7, .int (((σ 25 (73 + a)) &&& (σ 25 (73 + b))) &&& (σ 25 (73 + w)))), (6, .int ((((tA k) * (σ 25 (6 + a))) + ((absI (tB k)) * (σ 25 (6 + b)))) + ((absI (tC k)) * (σ 25 (6 + w))))), (5, .int ((((tA k) * (σ 25 a)) + ((tB k) * (σ 25 b))) + ((tC k) * (σ 25 w)))), (0, .ref (ad 0)), (1, .int (nI k)), (2, .int (nI a)), (3, .int (nI b)), (4, .int (nI w))]) dX5_adds_155 (Nat.le_of_ble_eq_true rfl) rfl ?_
  refine s_iload E dX5_adds_157 (i := 5) (j := 2) rfl ?_
  refine s_iconst E dX5_adds_159 (v := nI 1) (by decide) ?_
  refine s_icmp_lt E dX5_adds_160 (tgt := 177) rfl (fun c160 => ?_) (fun c160 => ?_)
  · exact Rt (σ) dX5_adds_177 (hL.no (by simp [bI, okP, pvF, pcF, c160])) rfl (Nat.le_refl _) (Nat.le_refl _) E.2.2.2.2.2.1
  · refine s_iload E dX5_adds_163 (i := 5) (j := 2) rfl ?_
    refine s_aload_n E dX5_adds_165 (i := 0) (j := 3) rfl rfl ?_
    refine mg30 E (v := σ 0 30) (rfl) dX5_adds_166 ?_
    refine s_icmp_gt E dX5_adds_169 (tgt := 177) rfl (fun c169 => ?_) (fun c169 => ?_)
    · exact Rt (σ) dX5_adds_177 (hL.no (by simp [bI, okP, pvF, pcF, c160, c169])) rfl (Nat.le_refl _) (Nat.le_refl _) E.2.2.2.2.2.1
    · refine s_iload E dX5_adds_172 (i := 7) (j := 0) rfl ?_
      refine s_if_ne E dX5_adds_174 (tgt := 178) rfl (fun c174 => ?_) (fun c174 => ?_)
      · have hok : okP σ (k, a, b, some w) = true := (by simp [okP, pvF, pcF, c160, c169, c174])
        have hlt : L.length < 300 := okL_one hL hlen hok
        refine s_aload_n E dX5_adds_178 (i := 0) (j := 3) rfl rfl ?_
        refine mg40 E dX5_adds_179 ?_
        refine s_aload_n E dX5_adds_182 (i := 0) (j := 3) rfl rfl ?_
        refine mg41 E (v := nI (L.length)) (hL.2.1) dX5_adds_183 ?_
        refine s_iload E dX5_adds_186 (i := 7) (j := 0) rfl ?_
        refine ms40 E (L.length) (rfl) (hlt) dX5_adds_188 ?_
        refine s_aload_n E dX5_adds_189 (i := 0) (j := 3) rfl rfl ?_
        refine mg34 E dX5_adds_190 ?_
        refine s_aload_n E dX5_adds_193 (i := 0) (j := 3) rfl rfl ?_
        refine mg41 E (v := nI (L.length)) (hL.2.1) dX5_adds_194 ?_
        refine s_iload_n E dX5_adds_197 (i := 1) (j := 4) rfl rfl ?_
        refine ms34 E (L.length) (rfl) (hlt) dX5_adds_198 ?_
        refine s_aload_n E dX5_adds_199 (i := 0) (j := 3) rfl rfl ?_
        refine mg35 E dX5_adds_200 ?_
        refine s_aload_n E dX5_adds_203 (i := 0) (j := 3) rfl rfl ?_
        refine mg41 E (v := nI (L.length)) (hL.2.1) dX5_adds_204 ?_
        refine s_iload_n E dX5_adds_207 (i := 2) (j := 5) rfl rfl ?_
        refine ms35 E (L.length) (rfl) (hlt) dX5_adds_208 ?_
        refine s_aload_n E dX5_adds_209 (i := 0) (j := 3) rfl rfl ?_
        refine mg36 E dX5_adds_210 ?_
        refine s_aload_n E dX5_adds_213 (i := 0) (j := 3) rfl rfl ?_
        refine mg41 E (v := nI (L.length)) (hL.2.1) dX5_adds_214 ?_
        refine s_iload_n E dX5_adds_217 (i := 3) (j := 6) rfl rfl ?_
        refine ms36 E (L.length) (rfl) (hlt) dX5_adds_218 ?_
        refine s_aload_n E dX5_adds_219 (i := 0) (j := 3) rfl rfl ?_
        refine mg37 E dX5_adds_220 ?_
        refine s_aload_n E dX5_adds_223 (i := 0) (j := 3) rfl rfl ?_
        refine mg41 E (v := nI (L.length)) (hL.2.1) dX5_adds_224 ?_
        refine s_iload E dX5_adds_227 (i := 4) (j := 7) rfl ?_
        refine ms37 E (L.length) (rfl) (hlt) dX5_adds_229 ?_
        refine s_aload_n E dX5_adds_230 (i := 0) (j := 3) rfl rfl ?_
        refine mg38 E dX5_adds_231 ?_
        refine s_aload_n E dX5_adds_234 (i := 0) (j := 3) rfl rfl ?_
        refine mg41 E (v := nI (L.length)) (hL.2.1) dX5_adds_235 ?_
        refine s_iload E dX5_adds_238 (i := 5) (j := 2) rfl ?_
        refine ms38 E (L.length) (rfl) (hlt) dX5_adds_240 ?_
        refine s_aload_n E dX5_adds_241 (i := 0) (j := 3) rfl rfl ?_
        refine mg39 E dX5_adds_242 ?_
        refine s_aload_n E dX5_adds_245 (i := 0) (j := 3) rfl rfl ?_
        refine mg41 E (v := nI (L.length)) (hL.2.1) dX5_adds_246 ?_
        refine s_iload E dX5_adds_249 (i := 6) (j := 1) rfl ?_
        refine s_aload_n E dX5_adds_251 (i := 0) (j := 3) rfl rfl ?_
        refine s_iload_n E dX5_adds_252 (i := 1) (j := 4) rfl rfl ?_
        refine m_calli E (mz_lossOf k (hk)) K5_283 (Nat.le_of_ble_eq_true rfl) (Nat.le_of_ble_eq_true rfl) (Nat.zero_le _) (Nat.zero_le _) rfl rfl (Nat.le_of_ble_eq_true rfl) dX5_adds_253 (fun r253 w253 h253 => ?_)
        obtain ⟨rfl, rfl⟩ := h253
        refine s_isub E dX5_adds_256 ?_
        refine ms39 E (L.length) (rfl) (hlt) dX5_adds_257 ?_
        refine s_aload_n E dX5_adds_258 (i := 0) (j := 3) rfl rfl ?_
        refine s_dup E dX5_adds_259 rfl ?_
        refine mg41 E (v := nI (L.length)) (hL.2.1) dX5_adds_260 ?_
        refine s_iconst E dX5_adds_263 (v := nI 1) (by decide) ?_
        refine s_iadd_ E dX5_adds_264 (v := nI (L.length + 1)) (nI_add _ _) ?_
        refine mp41 E dX5_adds_265 ?_
        exact Rt (st1 (st1 (st1 (st1 (st1 (st1 (st1 (st1 σ 40 L.length (((σ 25 (73 + a)) &&& (σ 25 (73 + b))) &&& (σ 25 (73 + w)))) 34 L.length (nI k)) 35 L.length (nI a)) 36 L.length (nI b)) 37 L.length (nI w)) 38 L.length ((((tA k) * (σ 25 a)) + ((tB k) * (σ 25 b))) + ((tC k) * (σ 25 w)))) 39 L.length (((((tA k) * (σ 25 (6 + a))) + ((absI (tB k)) * (σ 25 (6 + b)))) + ((absI (tC k)) * (σ 25 (6 + w)))) - ((st1 (st1 (st1 (st1 (st1 (st1 σ 40 L.length (((σ 25 (73 + a)) &&& (σ 25 (73 + b))) &&& (σ 25 (73 + w)))) 34 L.length (nI k)) 35 L.length (nI a)) 36 L.length (nI b)) 37 L.length (nI w)) 38 L.length ((((tA k) * (σ 25 a)) + ((tB k) * (σ 25 b))) + ((tC k) * (σ 25 w)))) 3 (4 + k / 2)))) 0 41 (nI (L.length + 1))) dX5_adds_268 (show HL σ0 (addS σ (k, a, b, some w) L.length) (L ++ okL σ0 (k, a, b, some w)) from hL.ok hok) rfl (Nat.le_refl _) (Nat.le_refl _) E.2.2.2.2.2.1
      · exact Rt (σ) dX5_adds_177 (hL.no (by simp [bI, okP, pvF, pcF, c160, c169, c174])) rfl (Nat.le_refl _) (Nat.le_refl _) E.2.2.2.2.2.1
set_option maxHeartbeats 1000000 in
set_option maxRecDepth 100000 in
theorem mz_laysSort {σ : Nat → Nat → Int32} (σ0 : Nat → Nat → Int32) (L : List Pr) (n at0 k : Nat) (hL : HL σ0 σ L) (hn : σ0 3 7 = nI n) (hn6 : n ≤ 6) (hk : k < 6) (hlen : (L ++ catN (fA σ0 n at0 k) n).length ≤ 300) : Cv l D gt yX5_laysSort cX5_laysSort 7 2 48 0 0 [.ref (ad 0), .int (nI at0), .int (nI k)] (wm ad ct σ) (tysA ct) (fun σ2 => HL σ0 σ2 (L ++ catN (fA σ0 n at0 k) n)) (fun σ2 => wm ad ct σ2) (fun _ => tysA ct) := by
  refine Cv.start RX5 (by decide) rfl (Nat.le_of_ble_eq_true rfl) rfl ?_
  intro pP eE sS mM aA bB hM cC QQ AA E Rt
  refine s_iconst E dX5_laysSort_0 (v := nI 0) (by decide) ?_
  refine s_istore_n E (L2 := [(3, .int (nI 0)), (0, .ref (ad 0)), (1, .int (nI at0)), (2, .int (nI k))]) dX5_laysSort_1 rfl (Nat.le_of_ble_eq_true rfl) rfl ?_
  have L2 : ∀ (fuel : Nat) (a : Nat) (w2 : Nat → Nat → Int32), a ≤ n → HL σ0 w2 (L ++ catN (fA σ0 n at0 k) a) → (n - a) < fuel → Sm pP l eE { frames := 2, cells := 0, slots := 0, locals := 48 } sS mM aA bB hM cC QQ AA D 7 0 0 (wm ad ct w2) 2 [(0, .ref (ad 0)), (1, .int (nI at0)), (2, .int (nI k)), (3, .int (nI a))] [] := by
    intro fuel
    induction fuel with
    | zero =>
      intro a w2 hi hL2 hf2
      exact absurd hf2 (Nat.not_lt_zero _)
    | succ fuel ih2 =>
      intro a w2 hi hL2 hf2
      refine s_iload_n E dX5_laysSort_2 (i := 3) (j := 3) rfl rfl ?_
      refine s_aload_n E dX5_laysSort_3 (i := 0) (j := 0) rfl rfl ?_
      refine m_calli E (mz_users n (by rw [hL2.1.1 3 (by omega) (by omega)]; exact hn)) K5_232 (Nat.le_of_ble_eq_true rfl) (Nat.le_of_ble_eq_true rfl) (Nat.zero_le _) (Nat.zero_le _) rfl rfl (Nat.le_of_ble_eq_true rfl) dX5_laysSort_4 (fun r4 w4 h4 => ?_)
      obtain ⟨rfl, rfl⟩ := h4
      refine s_icmp_ge E dX5_laysSort_7 (tgt := 163) rfl (fun c7 => ?_) (fun c7 => ?_)
      · have c7 : ¬ a < n := fun h => absurd c7 (Int32.not_le.mpr ((nI_ltI (a := a) (b := n) (by omega) (by omega)).mpr h))
        exact Rt (w2) dX5_laysSort_163 (by obtain rfl : a = n := (by omega); exact hL2) rfl (Nat.le_refl _) (Nat.le_refl _) E.2.2.2.2.2.1
      · have c7 : a < n := (nI_ltI (a := a) (b := n) (by omega) (by omega)).mp (Int32.not_le.mp c7)
        refine s_iconst E dX5_laysSort_10 (v := nI 0) (by decide) ?_
        refine s_istore E (L2 := [(4, .int (nI 0)), (0, .ref (ad 0)), (1, .int (nI at0)), (2, .int (nI k)), (3, .int (nI a))]) dX5_laysSort_11 (Nat.le_of_ble_eq_true rfl) rfl ?_
        have L13 : ∀ (fuel : Nat) (b : Nat) (w13 : Nat → Nat → Int32), b ≤ n → HL σ0 w13 (L ++ catN (fA σ0 n at0 k) a ++ catN (fB σ0 n at0 k a) b) → (n - b) < fuel → Sm pP l eE { frames := 2, cells := 0, slots := 0, locals := 48 } sS mM aA bB hM cC QQ AA D 7 0 0 (wm ad ct w13) 13 [(0, .ref (ad 0)), (1, .int (nI at0)), (2, .int (nI k)), (3, .int (nI a)), (4, .int (nI b))] [] := by
          intro fuel
          induction fuel with
          | zero =>
            intro b w13 hb hL13 hf13
            exact absurd hf13 (Nat.not_lt_zero _)
          | succ fuel ih13 =>
            intro b w13 hb hL13 hf13
            refine s_iload E dX5_laysSort_13 (i := 4) (j := 4) rfl ?_
            refine s_aload_n E dX5_laysSort_15 (i := 0) (j := 0) rfl rfl ?_
            refine m_calli E (mz_users n (by rw [hL13.1.1 3 (by omega) (by omega)]; exact hn)) K5_232 (Nat.le_of_ble_eq_true rfl) (Nat.le_of_ble_eq_true rfl) (Nat.zero_le _) (Nat.zero_le _) rfl rfl (Nat.le_of_ble_eq_true rfl) dX5_laysSort_16 (fun r16 w16 h16 => ?_)
            obtain ⟨rfl, rfl⟩ := h16
            refine s_icmp_ge E dX5_laysSort_19 (tgt := 157) rfl (fun c19 => ?_) (fun c19 => ?_)
            · have c19 : ¬ b < n := fun h => absurd c19 (Int32.not_le.mpr ((nI_ltI (a := b) (b := n) (by omega) (by omega)).mpr h))
              refine s_iinc E (L2 := [(3, .int (nI (a + 1))), (0, .ref (ad 0)), (1, .int (nI at0)), (2, .int (nI k)), (4, .int (nI b))]) dX5_laysSort_157 (k := 3) rfl (v := nI (a + 1)) (nI_inc _) (Nat.le_of_ble_eq_true rfl) rfl ?_
              refine s_goto E dX5_laysSort_160 (tgt := 2) rfl ?_
              refine s_loc (L2 := [(0, .ref (ad 0)), (1, .int (nI at0)), (2, .int (nI k)), (3, .int (nI (a + 1)))]) [1, 2, 3, 0] rfl ?_
              exact ih2 (a + 1) w13 (by omega) (by obtain rfl : b = n := (by omega); rw [catN, ← List.append_assoc]; exact hL13) (by omega)
            · have c19 : b < n := (nI_ltI (a := b) (b := n) (by omega) (by omega)).mp (Int32.not_le.mp c19)
              have J36 : Sm pP l eE { frames := 2, cells := 0, slots := 0, locals := 48 } sS mM aA bB hM cC QQ AA D 7 0 0 (wm ad ct w13) 36 [(0, .ref (ad 0)), (1, .int (nI at0)), (2, .int (nI k)), (3, .int (nI a)), (4, .int (nI b))] [.int (bI (ordK k = true))] := by
                refine s_istore E (L2 := [(5, .int (bI (ordK k = true))), (0, .ref (ad 0)), (1, .int (nI at0)), (2, .int (nI k)), (3, .int (nI a)), (4, .int (nI b))]) dX5_laysSort_36 (Nat.le_of_ble_eq_true rfl) rfl ?_
                refine s_aload_n E dX5_laysSort_38 (i := 0) (j := 1) rfl rfl ?_
                refine s_iload_n E dX5_laysSort_39 (i := 3) (j := 4) rfl rfl ?_
                refine s_iload_n E dX5_laysSort_40 (i := 1) (j := 2) rfl rfl ?_
                refine m_calli E (mz_isThere a at0 (by omega)) K5_292 (Nat.le_of_ble_eq_true rfl) (Nat.le_of_ble_eq_true rfl) (Nat.zero_le _) (Nat.zero_le _) rfl rfl (Nat.le_of_ble_eq_true rfl) dX5_laysSort_41 (fun r41 w41 h41 => ?_)
                obtain ⟨rfl, rfl⟩ := h41
                refine s_top (v2 := bI (thB σ0 a at0 = true)) (by rw [thB_cg hL13.1]) ?_
                refine s_if_eq E dX5_laysSort_44 (tgt := 151) rfl (fun c44 => ?_) (fun c44 => ?_)
                · have c44 := bI_0 c44
                  refine s_iinc E (L2 := [(4, .int (nI (b + 1))), (5, .int (bI (ordK k = true))), (0, .ref (ad 0)), (1, .int (nI at0)), (2, .int (nI k)), (3, .int (nI a))]) dX5_laysSort_151 (k := 5) rfl (v := nI (b + 1)) (nI_inc _) (Nat.le_of_ble_eq_true rfl) rfl ?_
                  refine s_goto E dX5_laysSort_154 (tgt := 13) rfl ?_
                  refine s_loc (L2 := [(0, .ref (ad 0)), (1, .int (nI at0)), (2, .int (nI k)), (3, .int (nI a)), (4, .int (nI (b + 1)))]) [2, 3, 4, 5, 0] rfl ?_
                  exact ih13 (b + 1) w13 (by omega) (by rw [catN, show fB σ0 n at0 k a b = [] from by simp [bI, fB, c19, c44], List.append_nil]; exact hL13) (by omega)
                · have c44 := bI_n0 c44
                  refine s_aload_n E dX5_laysSort_47 (i := 0) (j := 1) rfl rfl ?_
                  refine s_iload E dX5_laysSort_48 (i := 4) (j := 5) rfl ?_
                  refine s_iload_n E dX5_laysSort_50 (i := 1) (j := 2) rfl rfl ?_
                  refine m_calli E (mz_isThere b at0 (by omega)) K5_292 (Nat.le_of_ble_eq_true rfl) (Nat.le_of_ble_eq_true rfl) (Nat.zero_le _) (Nat.zero_le _) rfl rfl (Nat.le_of_ble_eq_true rfl) dX5_laysSort_51 (fun r51 w51 h51 => ?_)
                  obtain ⟨rfl, rfl⟩ := h51
                  refine s_top (v2 := bI (thB σ0 b at0 = true)) (by rw [thB_cg hL13.1]) ?_
                  refine s_if_eq E dX5_laysSort_54 (tgt := 151) rfl (fun c54 => ?_) (fun c54 => ?_)
                  · have c54 := bI_0 c54
                    refine s_iinc E (L2 := [(4, .int (nI (b + 1))), (5, .int (bI (ordK k = true))), (0, .ref (ad 0)), (1, .int (nI at0)), (2, .int (nI k)), (3, .int (nI a))]) dX5_laysSort_151 (k := 5) rfl (v := nI (b + 1)) (nI_inc _) (Nat.le_of_ble_eq_true rfl) rfl ?_
                    refine s_goto E dX5_laysSort_154 (tgt := 13) rfl ?_
                    refine s_loc (L2 := [(0, .ref (ad 0)), (1, .int (nI at0)), (2, .int (nI k)), (3, .int (nI a)), (4, .int (nI (b + 1)))]) [2, 3, 4, 5, 0] rfl ?_
                    exact ih13 (b + 1) w13 (by omega) (by rw [catN, show fB σ0 n at0 k a b = [] from by simp [bI, fB, c19, c44, c54], List.append_nil]; exact hL13) (by omega)
                  · have c54 := bI_n0 c54
                    refine s_iload_n E dX5_laysSort_57 (i := 3) (j := 4) rfl rfl ?_
                    refine s_iload E dX5_laysSort_58 (i := 4) (j := 5) rfl ?_
                    refine s_icmp_eq E dX5_laysSort_60 (tgt := 151) rfl (fun c60 => ?_) (fun c60 => ?_)
                    · have c60 : a = b := (nI_eq (a := a) (b := b) (by omega) (by omega)).mp c60
                      refine s_iinc E (L2 := [(4, .int (nI (b + 1))), (5, .int (bI (ordK k = true))), (0, .ref (ad 0)), (1, .int (nI at0)), (2, .int (nI k)), (3, .int (nI a))]) dX5_laysSort_151 (k := 5) rfl (v := nI (b + 1)) (nI_inc _) (Nat.le_of_ble_eq_true rfl) rfl ?_
                      refine s_goto E dX5_laysSort_154 (tgt := 13) rfl ?_
                      refine s_loc (L2 := [(0, .ref (ad 0)), (1, .int (nI at0)), (2, .int (nI k)), (3, .int (nI a)), (4, .int (nI (b + 1)))]) [2, 3, 4, 5, 0] rfl ?_
                      exact ih13 (b + 1) w13 (by omega) (by rw [catN, show fB σ0 n at0 k a b = [] from by simp [bI, fB, c19, c44, c54, c60], List.append_nil]; exact hL13) (by omega)
                    · have c60 : ¬ a = b := fun h => c60 ((nI_eq (a := a) (b := b) (by omega) (by omega)).mpr h)
                      refine s_iload E dX5_laysSort_63 (i := 5) (j := 0) rfl ?_
                      refine s_if_eq E dX5_laysSort_65 (tgt := 77) rfl (fun c65 => ?_) (fun c65 => ?_)
                      · have c65 := bI_0 c65
                        refine s_iload_n E dX5_laysSort_77 (i := 2) (j := 3) rfl rfl ?_
                        refine s_iconst E dX5_laysSort_78 (v := nI 3) (by decide) ?_
                        refine s_icmp_eq E dX5_laysSort_79 (tgt := 100) rfl (fun c79 => ?_) (fun c79 => ?_)
                        · have c79 : k = 3 := (nI_eq (a := k) (b := 3) (by omega) (by omega)).mp c79
                          have f3 : fB σ0 n at0 k a b = catN (fC σ0 at0 k a b) n := (by first | (simp [bI, fB, third, ordK, c19, c44, c54, c60, c65, c79]; done) | exact absurd (by simp [ordK, c79]) c65)
                          refine s_iconst E dX5_laysSort_100 (v := nI 0) (by decide) ?_
                          refine s_istore E (L2 := [(6, .int (nI 0)), (5, .int (bI (ordK k = true))), (0, .ref (ad 0)), (1, .int (nI at0)), (2, .int (nI k)), (3, .int (nI a)), (4, .int (nI b))]) dX5_laysSort_101 (Nat.le_of_ble_eq_true rfl) rfl ?_
                          have L103 : ∀ (fuel : Nat) (w : Nat) (w103 : Nat → Nat → Int32), w ≤ n → HL σ0 w103 (L ++ catN (fA σ0 n at0 k) a ++ catN (fB σ0 n at0 k a) b ++ catN (fC σ0 at0 k a b) w) → (n - w) < fuel → Sm pP l eE { frames := 2, cells := 0, slots := 0, locals := 48 } sS mM aA bB hM cC QQ AA D 7 0 0 (wm ad ct w103) 103 [(0, .ref (ad 0)), (1, .int (nI at0)), (2, .int (nI k)), (3, .int (nI a)), (4, .int (nI b)), (6, .int (nI w))] [] := by
                            intro fuel
                            induction fuel with
                            | zero =>
                              intro w w103 hw hL103 hf103
                              exact absurd hf103 (Nat.not_lt_zero _)
                            | succ fuel ih103 =>
                              intro w w103 hw hL103 hf103
                              refine s_iload E dX5_laysSort_103 (i := 6) (j := 5) rfl ?_
                              refine s_aload_n E dX5_laysSort_105 (i := 0) (j := 0) rfl rfl ?_
                              refine m_calli E (mz_users n (by rw [hL103.1.1 3 (by omega) (by omega)]; exact hn)) K5_232 (Nat.le_of_ble_eq_true rfl) (Nat.le_of_ble_eq_true rfl) (Nat.zero_le _) (Nat.zero_le _) rfl rfl (Nat.le_of_ble_eq_true rfl) dX5_laysSort_106 (fun r106 w106 h106 => ?_)
                              obtain ⟨rfl, rfl⟩ := h106
                              refine s_icmp_ge E dX5_laysSort_109 (tgt := 151) rfl (fun c109 => ?_) (fun c109 => ?_)
                              · have c109 : ¬ w < n := fun h => absurd c109 (Int32.not_le.mpr ((nI_ltI (a := w) (b := n) (by omega) (by omega)).mpr h))
                                refine s_iinc E (L2 := [(4, .int (nI (b + 1))), (0, .ref (ad 0)), (1, .int (nI at0)), (2, .int (nI k)), (3, .int (nI a)), (6, .int (nI w))]) dX5_laysSort_151 (k := 4) rfl (v := nI (b + 1)) (nI_inc _) (Nat.le_of_ble_eq_true rfl) rfl ?_
                                refine s_goto E dX5_laysSort_154 (tgt := 13) rfl ?_
                                refine s_loc (L2 := [(0, .ref (ad 0)), (1, .int (nI at0)), (2, .int (nI k)), (3, .int (nI a)), (4, .int (nI (b + 1)))]) [1, 2, 3, 4, 0] rfl ?_
                                exact ih13 (b + 1) w103 (by omega) (by obtain rfl : w = n := (by omega); rw [catN, ← List.append_assoc, f3]; exact hL103) (by omega)
                              · have c109 : w < n := (nI_ltI (a := w) (b := n) (by omega) (by omega)).mp (Int32.not_le.mp c109)
                                refine s_aload_n E dX5_laysSort_112 (i := 0) (j := 0) rfl rfl ?_
                                refine s_iload E dX5_laysSort_113 (i := 6) (j := 5) rfl ?_
                                refine s_iload_n E dX5_laysSort_115 (i := 1) (j := 1) rfl rfl ?_
                                refine m_calli E (mz_isThere w at0 (by omega)) K5_292 (Nat.le_of_ble_eq_true rfl) (Nat.le_of_ble_eq_true rfl) (Nat.zero_le _) (Nat.zero_le _) rfl rfl (Nat.le_of_ble_eq_true rfl) dX5_laysSort_116 (fun r116 w116 h116 => ?_)
                                obtain ⟨rfl, rfl⟩ := h116
                                refine s_top (v2 := bI (thB σ0 w at0 = true)) (by rw [thB_cg hL103.1]) ?_
                                refine s_if_eq E dX5_laysSort_119 (tgt := 145) rfl (fun c119 => ?_) (fun c119 => ?_)
                                · have c119 := bI_0 c119
                                  refine s_iinc E (L2 := [(6, .int (nI (w + 1))), (0, .ref (ad 0)), (1, .int (nI at0)), (2, .int (nI k)), (3, .int (nI a)), (4, .int (nI b))]) dX5_laysSort_145 (k := 5) rfl (v := nI (w + 1)) (nI_inc _) (Nat.le_of_ble_eq_true rfl) rfl ?_
                                  refine s_goto E dX5_laysSort_148 (tgt := 103) rfl ?_
                                  refine s_loc (L2 := [(0, .ref (ad 0)), (1, .int (nI at0)), (2, .int (nI k)), (3, .int (nI a)), (4, .int (nI b)), (6, .int (nI (w + 1)))]) [1, 2, 3, 4, 5, 0] rfl ?_
                                  exact ih103 (w + 1) w103 (by omega) (by rw [catN, show fC σ0 at0 k a b w = [] from by simp [bI, fC, c109, c119], List.append_nil]; exact hL103) (by omega)
                                · have c119 := bI_n0 c119
                                  refine s_iload E dX5_laysSort_122 (i := 6) (j := 5) rfl ?_
                                  refine s_iload_n E dX5_laysSort_124 (i := 3) (j := 3) rfl rfl ?_
                                  refine s_icmp_eq E dX5_laysSort_125 (tgt := 145) rfl (fun c125 => ?_) (fun c125 => ?_)
                                  · have c125 : w = a := (nI_eq (a := w) (b := a) (by omega) (by omega)).mp c125
                                    refine s_iinc E (L2 := [(6, .int (nI (w + 1))), (0, .ref (ad 0)), (1, .int (nI at0)), (2, .int (nI k)), (3, .int (nI a)), (4, .int (nI b))]) dX5_laysSort_145 (k := 5) rfl (v := nI (w + 1)) (nI_inc _) (Nat.le_of_ble_eq_true rfl) rfl ?_
                                    refine s_goto E dX5_laysSort_148 (tgt := 103) rfl ?_
                                    refine s_loc (L2 := [(0, .ref (ad 0)), (1, .int (nI at0)), (2, .int (nI k)), (3, .int (nI a)), (4, .int (nI b)), (6, .int (nI (w + 1)))]) [1, 2, 3, 4, 5, 0] rfl ?_
                                    exact ih103 (w + 1) w103 (by omega) (by rw [catN, show fC σ0 at0 k a b w = [] from by simp [bI, fC, c109, c119, c125], List.append_nil]; exact hL103) (by omega)
                                  · have c125 : ¬ w = a := fun h => c125 ((nI_eq (a := w) (b := a) (by omega) (by omega)).mpr h)
                                    refine s_iload E dX5_laysSort_128 (i := 6) (j := 5) rfl ?_
                                    refine s_iload E dX5_laysSort_130 (i := 4) (j := 4) rfl ?_
                                    refine s_icmp_eq E dX5_laysSort_132 (tgt := 145) rfl (fun c132 => ?_) (fun c132 => ?_)
                                    · have c132 : w = b := (nI_eq (a := w) (b := b) (by omega) (by omega)).mp c132
                                      refine s_iinc E (L2 := [(6, .int (nI (w + 1))), (0, .ref (ad 0)), (1, .int (nI at0)), (2, .int (nI k)), (3, .int (nI a)), (4, .int (nI b))]) dX5_laysSort_145 (k := 5) rfl (v := nI (w + 1)) (nI_inc _) (Nat.le_of_ble_eq_true rfl) rfl ?_
                                      refine s_goto E dX5_laysSort_148 (tgt := 103) rfl ?_
                                      refine s_loc (L2 := [(0, .ref (ad 0)), (1, .int (nI at0)), (2, .int (nI k)), (3, .int (nI a)), (4, .int (nI b)), (6, .int (nI (w + 1)))]) [1, 2, 3, 4, 5, 0] rfl ?_
                                      exact ih103 (w + 1) w103 (by omega) (by rw [catN, show fC σ0 at0 k a b w = [] from by simp [bI, fC, c109, c119, c125, c132], List.append_nil]; exact hL103) (by omega)
                                    · have c132 : ¬ w = b := fun h => c132 ((nI_eq (a := w) (b := b) (by omega) (by omega)).mpr h)
                                      refine s_aload_n E dX5_laysSort_135 (i := 0) (j := 0) rfl rfl ?_
                                      refine s_iload_n E dX5_laysSort_136 (i := 2) (j := 2) rfl rfl ?_
                                      refine s_iload_n E dX5_laysSort_137 (i := 3) (j := 3) rfl rfl ?_
                                      refine s_iload E dX5_laysSort_138 (i := 4) (j := 4) rfl ?_
                                      refine s_iload E dX5_laysSort_140 (i := 6) (j := 5) rfl ?_
                                      refine m_callv E (mz_adds3 σ0 (L ++ catN (fA σ0 n at0 k) a ++ catN (fB σ0 n at0 k a) b ++ catN (fC σ0 at0 k a b) w) k a b w (hL103) (hk) (by omega) (by omega) (by omega) (by have h1 := catN_mono (fA σ0 n at0 k) (show a + 1 ≤ n by omega); have h2 := catN_mono (fB σ0 n at0 k a) (show b + 1 ≤ n by omega); have h4 := catN_mono (fC σ0 at0 k a b) (show w + 1 ≤ n by omega); have h5 : fC σ0 at0 k a b w = okL σ0 (k, a, b, some w) := (by simp [bI, fC, c109, c119, c125, c132]); simp only [catN, fA, f3, h5, List.length_append] at h1 h2 h4 hlen ⊢; omega)) K5_296 (Nat.le_of_ble_eq_true rfl) (Nat.le_of_ble_eq_true rfl) (Nat.zero_le _) (Nat.zero_le _) rfl rfl (Nat.le_of_ble_eq_true rfl) dX5_laysSort_142 (fun w142 h142 => ?_)
                                      refine s_iinc E (L2 := [(6, .int (nI (w + 1))), (0, .ref (ad 0)), (1, .int (nI at0)), (2, .int (nI k)), (3, .int (nI a)), (4, .int (nI b))]) dX5_laysSort_145 (k := 5) rfl (v := nI (w + 1)) (nI_inc _) (Nat.le_of_ble_eq_true rfl) rfl ?_
                                      refine s_goto E dX5_laysSort_148 (tgt := 103) rfl ?_
                                      refine s_loc (L2 := [(0, .ref (ad 0)), (1, .int (nI at0)), (2, .int (nI k)), (3, .int (nI a)), (4, .int (nI b)), (6, .int (nI (w + 1)))]) [1, 2, 3, 4, 5, 0] rfl ?_
                                      exact ih103 (w + 1) w142 (by omega) (by rw [catN, ← List.append_assoc, show fC σ0 at0 k a b w = okL σ0 (k, a, b, some w) from by simp [bI, fC, c109, c119, c125, c132]]; exact h142) (by omega)
                          refine s_loc (L2 := [(0, .ref (ad 0)), (1, .int (nI at0)), (2, .int (nI k)), (3, .int (nI a)), (4, .int (nI b)), (6, .int (nI 0))]) [2, 3, 4, 5, 6, 0] rfl ?_
                          exact L103 (_ + 1) 0 w13 (Nat.zero_le _) (by rw [catN, List.append_nil]; exact hL13) (Nat.lt_succ_self _)
                        · have c79 : ¬ k = 3 := fun h => c79 ((nI_eq (a := k) (b := 3) (by omega) (by omega)).mpr h)
                          refine s_iload_n E dX5_laysSort_82 (i := 2) (j := 3) rfl rfl ?_
                          refine s_iconst E dX5_laysSort_83 (v := nI 5) (by decide) ?_
                          refine s_icmp_eq E dX5_laysSort_84 (tgt := 100) rfl (fun c84 => ?_) (fun c84 => ?_)
                          · have c84 : k = 5 := (nI_eq (a := k) (b := 5) (by omega) (by omega)).mp c84
                            have f3 : fB σ0 n at0 k a b = catN (fC σ0 at0 k a b) n := (by first | (simp [bI, fB, third, ordK, c19, c44, c54, c60, c65, c79, c84]; done) | exact absurd (by simp [ordK, c79]) c65)
                            refine s_iconst E dX5_laysSort_100 (v := nI 0) (by decide) ?_
                            refine s_istore E (L2 := [(6, .int (nI 0)), (5, .int (bI (ordK k = true))), (0, .ref (ad 0)), (1, .int (nI at0)), (2, .int (nI k)), (3, .int (nI a)), (4, .int (nI b))]) dX5_laysSort_101 (Nat.le_of_ble_eq_true rfl) rfl ?_
                            have L103 : ∀ (fuel : Nat) (w : Nat) (w103 : Nat → Nat → Int32), w ≤ n → HL σ0 w103 (L ++ catN (fA σ0 n at0 k) a ++ catN (fB σ0 n at0 k a) b ++ catN (fC σ0 at0 k a b) w) → (n - w) < fuel → Sm pP l eE { frames := 2, cells := 0, slots := 0, locals := 48 } sS mM aA bB hM cC QQ AA D 7 0 0 (wm ad ct w103) 103 [(0, .ref (ad 0)), (1, .int (nI at0)), (2, .int (nI k)), (3, .int (nI a)), (4, .int (nI b)), (6, .int (nI w))] [] := by
                              intro fuel
                              induction fuel with
                              | zero =>
                                intro w w103 hw hL103 hf103
                                exact absurd hf103 (Nat.not_lt_zero _)
                              | succ fuel ih103 =>
                                intro w w103 hw hL103 hf103
                                refine s_iload E dX5_laysSort_103 (i := 6) (j := 5) rfl ?_
                                refine s_aload_n E dX5_laysSort_105 (i := 0) (j := 0) rfl rfl ?_
                                refine m_calli E (mz_users n (by rw [hL103.1.1 3 (by omega) (by omega)]; exact hn)) K5_232 (Nat.le_of_ble_eq_true rfl) (Nat.le_of_ble_eq_true rfl) (Nat.zero_le _) (Nat.zero_le _) rfl rfl (Nat.le_of_ble_eq_true rfl) dX5_laysSort_106 (fun r106 w106 h106 => ?_)
                                obtain ⟨rfl, rfl⟩ := h106
                                refine s_icmp_ge E dX5_laysSort_109 (tgt := 151) rfl (fun c109 => ?_) (fun c109 => ?_)
                                · have c109 : ¬ w < n := fun h => absurd c109 (Int32.not_le.mpr ((nI_ltI (a := w) (b := n) (by omega) (by omega)).mpr h))
                                  refine s_iinc E (L2 := [(4, .int (nI (b + 1))), (0, .ref (ad 0)), (1, .int (nI at0)), (2, .int (nI k)), (3, .int (nI a)), (6, .int (nI w))]) dX5_laysSort_151 (k := 4) rfl (v := nI (b + 1)) (nI_inc _) (Nat.le_of_ble_eq_true rfl) rfl ?_
                                  refine s_goto E dX5_laysSort_154 (tgt := 13) rfl ?_
                                  refine s_loc (L2 := [(0, .ref (ad 0)), (1, .int (nI at0)), (2, .int (nI k)), (3, .int (nI a)), (4, .int (nI (b + 1)))]) [1, 2, 3, 4, 0] rfl ?_
                                  exact ih13 (b + 1) w103 (by omega) (by obtain rfl : w = n := (by omega); rw [catN, ← List.append_assoc, f3]; exact hL103) (by omega)
                                · have c109 : w < n := (nI_ltI (a := w) (b := n) (by omega) (by omega)).mp (Int32.not_le.mp c109)
                                  refine s_aload_n E dX5_laysSort_112 (i := 0) (j := 0) rfl rfl ?_
                                  refine s_iload E dX5_laysSort_113 (i := 6) (j := 5) rfl ?_
                                  refine s_iload_n E dX5_laysSort_115 (i := 1) (j := 1) rfl rfl ?_
                                  refine m_calli E (mz_isThere w at0 (by omega)) K5_292 (Nat.le_of_ble_eq_true rfl) (Nat.le_of_ble_eq_true rfl) (Nat.zero_le _) (Nat.zero_le _) rfl rfl (Nat.le_of_ble_eq_true rfl) dX5_laysSort_116 (fun r116 w116 h116 => ?_)
                                  obtain ⟨rfl, rfl⟩ := h116
                                  refine s_top (v2 := bI (thB σ0 w at0 = true)) (by rw [thB_cg hL103.1]) ?_
                                  refine s_if_eq E dX5_laysSort_119 (tgt := 145) rfl (fun c119 => ?_) (fun c119 => ?_)
                                  · have c119 := bI_0 c119
                                    refine s_iinc E (L2 := [(6, .int (nI (w + 1))), (0, .ref (ad 0)), (1, .int (nI at0)), (2, .int (nI k)), (3, .int (nI a)), (4, .int (nI b))]) dX5_laysSort_145 (k := 5) rfl (v := nI (w + 1)) (nI_inc _) (Nat.le_of_ble_eq_true rfl) rfl ?_
                                    refine s_goto E dX5_laysSort_148 (tgt := 103) rfl ?_
                                    refine s_loc (L2 := [(0, .ref (ad 0)), (1, .int (nI at0)), (2, .int (nI k)), (3, .int (nI a)), (4, .int (nI b)), (6, .int (nI (w + 1)))]) [1, 2, 3, 4, 5, 0] rfl ?_
                                    exact ih103 (w + 1) w103 (by omega) (by rw [catN, show fC σ0 at0 k a b w = [] from by simp [bI, fC, c109, c119], List.append_nil]; exact hL103) (by omega)
                                  · have c119 := bI_n0 c119
                                    refine s_iload E dX5_laysSort_122 (i := 6) (j := 5) rfl ?_
                                    refine s_iload_n E dX5_laysSort_124 (i := 3) (j := 3) rfl rfl ?_
                                    refine s_icmp_eq E dX5_laysSort_125 (tgt := 145) rfl (fun c125 => ?_) (fun c125 => ?_)
                                    · have c125 : w = a := (nI_eq (a := w) (b := a) (by omega) (by omega)).mp c125
                                      refine s_iinc E (L2 := [(6, .int (nI (w + 1))), (0, .ref (ad 0)), (1, .int (nI at0)), (2, .int (nI k)), (3, .int (nI a)), (4, .int (nI b))]) dX5_laysSort_145 (k := 5) rfl (v := nI (w + 1)) (nI_inc _) (Nat.le_of_ble_eq_true rfl) rfl ?_
                                      refine s_goto E dX5_laysSort_148 (tgt := 103) rfl ?_
                                      refine s_loc (L2 := [(0, .ref (ad 0)), (1, .int (nI at0)), (2, .int (nI k)), (3, .int (nI a)), (4, .int (nI b)), (6, .int (nI (w + 1)))]) [1, 2, 3, 4, 5, 0] rfl ?_
                                      exact ih103 (w + 1) w103 (by omega) (by rw [catN, show fC σ0 at0 k a b w = [] from by simp [bI, fC, c109, c119, c125], List.append_nil]; exact hL103) (by omega)
                                    · have c125 : ¬ w = a := fun h => c125 ((nI_eq (a := w) (b := a) (by omega) (by omega)).mpr h)
                                      refine s_iload E dX5_laysSort_128 (i := 6) (j := 5) rfl ?_
                                      refine s_iload E dX5_laysSort_130 (i := 4) (j := 4) rfl ?_
                                      refine s_icmp_eq E dX5_laysSort_132 (tgt := 145) rfl (fun c132 => ?_) (fun c132 => ?_)
                                      · have c132 : w = b := (nI_eq (a := w) (b := b) (by omega) (by omega)).mp c132
                                        refine s_iinc E (L2 := [(6, .int (nI (w + 1))), (0, .ref (ad 0)), (1, .int (nI at0)), (2, .int (nI k)), (3, .int (nI a)), (4, .int (nI b))]) dX5_laysSort_145 (k := 5) rfl (v := nI (w + 1)) (nI_inc _) (Nat.le_of_ble_eq_true rfl) rfl ?_
                                        refine s_goto E dX5_laysSort_148 (tgt := 103) rfl ?_
                                        refine s_loc (L2 := [(0, .ref (ad 0)), (1, .int (nI at0)), (2, .int (nI k)), (3, .int (nI a)), (4, .int (nI b)), (6, .int (nI (w + 1)))]) [1, 2, 3, 4, 5, 0] rfl ?_
                                        exact ih103 (w + 1) w103 (by omega) (by rw [catN, show fC σ0 at0 k a b w = [] from by simp [bI, fC, c109, c119, c125, c132], List.append_nil]; exact hL103) (by omega)
                                      · have c132 : ¬ w = b := fun h => c132 ((nI_eq (a := w) (b := b) (by omega) (by omega)).mpr h)
                                        refine s_aload_n E dX5_laysSort_135 (i := 0) (j := 0) rfl rfl ?_
                                        refine s_iload_n E dX5_laysSort_136 (i := 2) (j := 2) rfl rfl ?_
                                        refine s_iload_n E dX5_laysSort_137 (i := 3) (j := 3) rfl rfl ?_
                                        refine s_iload E dX5_laysSort_138 (i := 4) (j := 4) rfl ?_
                                        refine s_iload E dX5_laysSort_140 (i := 6) (j := 5) rfl ?_
                                        refine m_callv E (mz_adds3 σ0 (L ++ catN (fA σ0 n at0 k) a ++ catN (fB σ0 n at0 k a) b ++ catN (fC σ0 at0 k a b) w) k a b w (hL103) (hk) (by omega) (by omega) (by omega) (by have h1 := catN_mono (fA σ0 n at0 k) (show a + 1 ≤ n by omega); have h2 := catN_mono (fB σ0 n at0 k a) (show b + 1 ≤ n by omega); have h4 := catN_mono (fC σ0 at0 k a b) (show w + 1 ≤ n by omega); have h5 : fC σ0 at0 k a b w = okL σ0 (k, a, b, some w) := (by simp [bI, fC, c109, c119, c125, c132]); simp only [catN, fA, f3, h5, List.length_append] at h1 h2 h4 hlen ⊢; omega)) K5_296 (Nat.le_of_ble_eq_true rfl) (Nat.le_of_ble_eq_true rfl) (Nat.zero_le _) (Nat.zero_le _) rfl rfl (Nat.le_of_ble_eq_true rfl) dX5_laysSort_142 (fun w142 h142 => ?_)
                                        refine s_iinc E (L2 := [(6, .int (nI (w + 1))), (0, .ref (ad 0)), (1, .int (nI at0)), (2, .int (nI k)), (3, .int (nI a)), (4, .int (nI b))]) dX5_laysSort_145 (k := 5) rfl (v := nI (w + 1)) (nI_inc _) (Nat.le_of_ble_eq_true rfl) rfl ?_
                                        refine s_goto E dX5_laysSort_148 (tgt := 103) rfl ?_
                                        refine s_loc (L2 := [(0, .ref (ad 0)), (1, .int (nI at0)), (2, .int (nI k)), (3, .int (nI a)), (4, .int (nI b)), (6, .int (nI (w + 1)))]) [1, 2, 3, 4, 5, 0] rfl ?_
                                        exact ih103 (w + 1) w142 (by omega) (by rw [catN, ← List.append_assoc, show fC σ0 at0 k a b w = okL σ0 (k, a, b, some w) from by simp [bI, fC, c109, c119, c125, c132]]; exact h142) (by omega)
                            refine s_loc (L2 := [(0, .ref (ad 0)), (1, .int (nI at0)), (2, .int (nI k)), (3, .int (nI a)), (4, .int (nI b)), (6, .int (nI 0))]) [2, 3, 4, 5, 6, 0] rfl ?_
                            exact L103 (_ + 1) 0 w13 (Nat.zero_le _) (by rw [catN, List.append_nil]; exact hL13) (Nat.lt_succ_self _)
                          · have c84 : ¬ k = 5 := fun h => c84 ((nI_eq (a := k) (b := 5) (by omega) (by omega)).mpr h)
                            refine s_aload_n E dX5_laysSort_87 (i := 0) (j := 1) rfl rfl ?_
                            refine s_iload_n E dX5_laysSort_88 (i := 2) (j := 3) rfl rfl ?_
                            refine s_iload_n E dX5_laysSort_89 (i := 3) (j := 4) rfl rfl ?_
                            refine s_iload E dX5_laysSort_90 (i := 4) (j := 5) rfl ?_
                            refine s_bipush E dX5_laysSort_92 (v := (-2)) (by decide) ?_
                            refine m_callv E (mz_adds σ0 (L ++ catN (fA σ0 n at0 k) a ++ catN (fB σ0 n at0 k a) b) k a b (hL13) (hk) (by omega) (by omega) (by have h1 := catN_mono (fA σ0 n at0 k) (show a + 1 ≤ n by omega); have h2 := catN_mono (fB σ0 n at0 k a) (show b + 1 ≤ n by omega); have h3 : fB σ0 n at0 k a b = okL σ0 (k, a, b, none) := (by simp [bI, fB, third, c19, c44, c54, c60, c65, c79, c84]); simp only [catN, fA, h3, List.length_append] at h1 h2 hlen ⊢; omega)) K5_296 (Nat.le_of_ble_eq_true rfl) (Nat.le_of_ble_eq_true rfl) (Nat.zero_le _) (Nat.zero_le _) rfl rfl (Nat.le_of_ble_eq_true rfl) dX5_laysSort_94 (fun w94 h94 => ?_)
                            refine s_goto E dX5_laysSort_97 (tgt := 151) rfl ?_
                            refine s_iinc E (L2 := [(4, .int (nI (b + 1))), (5, .int (bI (ordK k = true))), (0, .ref (ad 0)), (1, .int (nI at0)), (2, .int (nI k)), (3, .int (nI a))]) dX5_laysSort_151 (k := 5) rfl (v := nI (b + 1)) (nI_inc _) (Nat.le_of_ble_eq_true rfl) rfl ?_
                            refine s_goto E dX5_laysSort_154 (tgt := 13) rfl ?_
                            refine s_loc (L2 := [(0, .ref (ad 0)), (1, .int (nI at0)), (2, .int (nI k)), (3, .int (nI a)), (4, .int (nI (b + 1)))]) [2, 3, 4, 5, 0] rfl ?_
                            exact ih13 (b + 1) w94 (by omega) (by rw [catN, ← List.append_assoc, show fB σ0 n at0 k a b = okL σ0 (k, a, b, none) from by simp [bI, fB, third, c19, c44, c54, c60, c65, c79, c84]]; exact h94) (by omega)
                      · have c65 := bI_n0 c65
                        refine s_iload_n E dX5_laysSort_68 (i := 3) (j := 4) rfl rfl ?_
                        refine s_iload E dX5_laysSort_69 (i := 4) (j := 5) rfl ?_
                        refine s_icmp_le E dX5_laysSort_71 (tgt := 77) rfl (fun c71 => ?_) (fun c71 => ?_)
                        · have c71 : ¬ b < a := fun h => absurd c71 (Int32.not_le.mpr ((nI_ltI (a := b) (b := a) (by omega) (by omega)).mpr h))
                          refine s_iload_n E dX5_laysSort_77 (i := 2) (j := 3) rfl rfl ?_
                          refine s_iconst E dX5_laysSort_78 (v := nI 3) (by decide) ?_
                          refine s_icmp_eq E dX5_laysSort_79 (tgt := 100) rfl (fun c79 => ?_) (fun c79 => ?_)
                          · have c79 : k = 3 := (nI_eq (a := k) (b := 3) (by omega) (by omega)).mp c79
                            have f3 : fB σ0 n at0 k a b = catN (fC σ0 at0 k a b) n := (by first | (simp [bI, fB, third, ordK, c19, c44, c54, c60, c65, c71, c79]; done) | exact absurd (by simp [ordK, c79]) c65)
                            refine s_iconst E dX5_laysSort_100 (v := nI 0) (by decide) ?_
                            refine s_istore E (L2 := [(6, .int (nI 0)), (5, .int (bI (ordK k = true))), (0, .ref (ad 0)), (1, .int (nI at0)), (2, .int (nI k)), (3, .int (nI a)), (4, .int (nI b))]) dX5_laysSort_101 (Nat.le_of_ble_eq_true rfl) rfl ?_
                            have L103 : ∀ (fuel : Nat) (w : Nat) (w103 : Nat → Nat → Int32), w ≤ n → HL σ0 w103 (L ++ catN (fA σ0 n at0 k) a ++ catN (fB σ0 n at0 k a) b ++ catN (fC σ0 at0 k a b) w) → (n - w) < fuel → Sm pP l eE { frames := 2, cells := 0, slots := 0, locals := 48 } sS mM aA bB hM cC QQ AA D 7 0 0 (wm ad ct w103) 103 [(0, .ref (ad 0)), (1, .int (nI at0)), (2, .int (nI k)), (3, .int (nI a)), (4, .int (nI b)), (6, .int (nI w))] [] := by
                              intro fuel
                              induction fuel with
                              | zero =>
                                intro w w103 hw hL103 hf103
                                exact absurd hf103 (Nat.not_lt_zero _)
                              | succ fuel ih103 =>
                                intro w w103 hw hL103 hf103
                                refine s_iload E dX5_laysSort_103 (i := 6) (j := 5) rfl ?_
                                refine s_aload_n E dX5_laysSort_105 (i := 0) (j := 0) rfl rfl ?_
                                refine m_calli E (mz_users n (by rw [hL103.1.1 3 (by omega) (by omega)]; exact hn)) K5_232 (Nat.le_of_ble_eq_true rfl) (Nat.le_of_ble_eq_true rfl) (Nat.zero_le _) (Nat.zero_le _) rfl rfl (Nat.le_of_ble_eq_true rfl) dX5_laysSort_106 (fun r106 w106 h106 => ?_)
                                obtain ⟨rfl, rfl⟩ := h106
                                refine s_icmp_ge E dX5_laysSort_109 (tgt := 151) rfl (fun c109 => ?_) (fun c109 => ?_)
                                · have c109 : ¬ w < n := fun h => absurd c109 (Int32.not_le.mpr ((nI_ltI (a := w) (b := n) (by omega) (by omega)).mpr h))
                                  refine s_iinc E (L2 := [(4, .int (nI (b + 1))), (0, .ref (ad 0)), (1, .int (nI at0)), (2, .int (nI k)), (3, .int (nI a)), (6, .int (nI w))]) dX5_laysSort_151 (k := 4) rfl (v := nI (b + 1)) (nI_inc _) (Nat.le_of_ble_eq_true rfl) rfl ?_
                                  refine s_goto E dX5_laysSort_154 (tgt := 13) rfl ?_
                                  refine s_loc (L2 := [(0, .ref (ad 0)), (1, .int (nI at0)), (2, .int (nI k)), (3, .int (nI a)), (4, .int (nI (b + 1)))]) [1, 2, 3, 4, 0] rfl ?_
                                  exact ih13 (b + 1) w103 (by omega) (by obtain rfl : w = n := (by omega); rw [catN, ← List.append_assoc, f3]; exact hL103) (by omega)
                                · have c109 : w < n := (nI_ltI (a := w) (b := n) (by omega) (by omega)).mp (Int32.not_le.mp c109)
                                  refine s_aload_n E dX5_laysSort_112 (i := 0) (j := 0) rfl rfl ?_
                                  refine s_iload E dX5_laysSort_113 (i := 6) (j := 5) rfl ?_
                                  refine s_iload_n E dX5_laysSort_115 (i := 1) (j := 1) rfl rfl ?_
                                  refine m_calli E (mz_isThere w at0 (by omega)) K5_292 (Nat.le_of_ble_eq_true rfl) (Nat.le_of_ble_eq_true rfl) (Nat.zero_le _) (Nat.zero_le _) rfl rfl (Nat.le_of_ble_eq_true rfl) dX5_laysSort_116 (fun r116 w116 h116 => ?_)
                                  obtain ⟨rfl, rfl⟩ := h116
                                  refine s_top (v2 := bI (thB σ0 w at0 = true)) (by rw [thB_cg hL103.1]) ?_
                                  refine s_if_eq E dX5_laysSort_119 (tgt := 145) rfl (fun c119 => ?_) (fun c119 => ?_)
                                  · have c119 := bI_0 c119
                                    refine s_iinc E (L2 := [(6, .int (nI (w + 1))), (0, .ref (ad 0)), (1, .int (nI at0)), (2, .int (nI k)), (3, .int (nI a)), (4, .int (nI b))]) dX5_laysSort_145 (k := 5) rfl (v := nI (w + 1)) (nI_inc _) (Nat.le_of_ble_eq_true rfl) rfl ?_
                                    refine s_goto E dX5_laysSort_148 (tgt := 103) rfl ?_
                                    refine s_loc (L2 := [(0, .ref (ad 0)), (1, .int (nI at0)), (2, .int (nI k)), (3, .int (nI a)), (4, .int (nI b)), (6, .int (nI (w + 1)))]) [1, 2, 3, 4, 5, 0] rfl ?_
                                    exact ih103 (w + 1) w103 (by omega) (by rw [catN, show fC σ0 at0 k a b w = [] from by simp [bI, fC, c109, c119], List.append_nil]; exact hL103) (by omega)
                                  · have c119 := bI_n0 c119
                                    refine s_iload E dX5_laysSort_122 (i := 6) (j := 5) rfl ?_
                                    refine s_iload_n E dX5_laysSort_124 (i := 3) (j := 3) rfl rfl ?_
                                    refine s_icmp_eq E dX5_laysSort_125 (tgt := 145) rfl (fun c125 => ?_) (fun c125 => ?_)
                                    · have c125 : w = a := (nI_eq (a := w) (b := a) (by omega) (by omega)).mp c125
                                      refine s_iinc E (L2 := [(6, .int (nI (w + 1))), (0, .ref (ad 0)), (1, .int (nI at0)), (2, .int (nI k)), (3, .int (nI a)), (4, .int (nI b))]) dX5_laysSort_145 (k := 5) rfl (v := nI (w + 1)) (nI_inc _) (Nat.le_of_ble_eq_true rfl) rfl ?_
                                      refine s_goto E dX5_laysSort_148 (tgt := 103) rfl ?_
                                      refine s_loc (L2 := [(0, .ref (ad 0)), (1, .int (nI at0)), (2, .int (nI k)), (3, .int (nI a)), (4, .int (nI b)), (6, .int (nI (w + 1)))]) [1, 2, 3, 4, 5, 0] rfl ?_
                                      exact ih103 (w + 1) w103 (by omega) (by rw [catN, show fC σ0 at0 k a b w = [] from by simp [bI, fC, c109, c119, c125], List.append_nil]; exact hL103) (by omega)
                                    · have c125 : ¬ w = a := fun h => c125 ((nI_eq (a := w) (b := a) (by omega) (by omega)).mpr h)
                                      refine s_iload E dX5_laysSort_128 (i := 6) (j := 5) rfl ?_
                                      refine s_iload E dX5_laysSort_130 (i := 4) (j := 4) rfl ?_
                                      refine s_icmp_eq E dX5_laysSort_132 (tgt := 145) rfl (fun c132 => ?_) (fun c132 => ?_)
                                      · have c132 : w = b := (nI_eq (a := w) (b := b) (by omega) (by omega)).mp c132
                                        refine s_iinc E (L2 := [(6, .int (nI (w + 1))), (0, .ref (ad 0)), (1, .int (nI at0)), (2, .int (nI k)), (3, .int (nI a)), (4, .int (nI b))]) dX5_laysSort_145 (k := 5) rfl (v := nI (w + 1)) (nI_inc _) (Nat.le_of_ble_eq_true rfl) rfl ?_
                                        refine s_goto E dX5_laysSort_148 (tgt := 103) rfl ?_
                                        refine s_loc (L2 := [(0, .ref (ad 0)), (1, .int (nI at0)), (2, .int (nI k)), (3, .int (nI a)), (4, .int (nI b)), (6, .int (nI (w + 1)))]) [1, 2, 3, 4, 5, 0] rfl ?_
                                        exact ih103 (w + 1) w103 (by omega) (by rw [catN, show fC σ0 at0 k a b w = [] from by simp [bI, fC, c109, c119, c125, c132], List.append_nil]; exact hL103) (by omega)
                                      · have c132 : ¬ w = b := fun h => c132 ((nI_eq (a := w) (b := b) (by omega) (by omega)).mpr h)
                                        refine s_aload_n E dX5_laysSort_135 (i := 0) (j := 0) rfl rfl ?_
                                        refine s_iload_n E dX5_laysSort_136 (i := 2) (j := 2) rfl rfl ?_
                                        refine s_iload_n E dX5_laysSort_137 (i := 3) (j := 3) rfl rfl ?_
                                        refine s_iload E dX5_laysSort_138 (i := 4) (j := 4) rfl ?_
                                        refine s_iload E dX5_laysSort_140 (i := 6) (j := 5) rfl ?_
                                        refine m_callv E (mz_adds3 σ0 (L ++ catN (fA σ0 n at0 k) a ++ catN (fB σ0 n at0 k a) b ++ catN (fC σ0 at0 k a b) w) k a b w (hL103) (hk) (by omega) (by omega) (by omega) (by have h1 := catN_mono (fA σ0 n at0 k) (show a + 1 ≤ n by omega); have h2 := catN_mono (fB σ0 n at0 k a) (show b + 1 ≤ n by omega); have h4 := catN_mono (fC σ0 at0 k a b) (show w + 1 ≤ n by omega); have h5 : fC σ0 at0 k a b w = okL σ0 (k, a, b, some w) := (by simp [bI, fC, c109, c119, c125, c132]); simp only [catN, fA, f3, h5, List.length_append] at h1 h2 h4 hlen ⊢; omega)) K5_296 (Nat.le_of_ble_eq_true rfl) (Nat.le_of_ble_eq_true rfl) (Nat.zero_le _) (Nat.zero_le _) rfl rfl (Nat.le_of_ble_eq_true rfl) dX5_laysSort_142 (fun w142 h142 => ?_)
                                        refine s_iinc E (L2 := [(6, .int (nI (w + 1))), (0, .ref (ad 0)), (1, .int (nI at0)), (2, .int (nI k)), (3, .int (nI a)), (4, .int (nI b))]) dX5_laysSort_145 (k := 5) rfl (v := nI (w + 1)) (nI_inc _) (Nat.le_of_ble_eq_true rfl) rfl ?_
                                        refine s_goto E dX5_laysSort_148 (tgt := 103) rfl ?_
                                        refine s_loc (L2 := [(0, .ref (ad 0)), (1, .int (nI at0)), (2, .int (nI k)), (3, .int (nI a)), (4, .int (nI b)), (6, .int (nI (w + 1)))]) [1, 2, 3, 4, 5, 0] rfl ?_
                                        exact ih103 (w + 1) w142 (by omega) (by rw [catN, ← List.append_assoc, show fC σ0 at0 k a b w = okL σ0 (k, a, b, some w) from by simp [bI, fC, c109, c119, c125, c132]]; exact h142) (by omega)
                            refine s_loc (L2 := [(0, .ref (ad 0)), (1, .int (nI at0)), (2, .int (nI k)), (3, .int (nI a)), (4, .int (nI b)), (6, .int (nI 0))]) [2, 3, 4, 5, 6, 0] rfl ?_
                            exact L103 (_ + 1) 0 w13 (Nat.zero_le _) (by rw [catN, List.append_nil]; exact hL13) (Nat.lt_succ_self _)
                          · have c79 : ¬ k = 3 := fun h => c79 ((nI_eq (a := k) (b := 3) (by omega) (by omega)).mpr h)
                            refine s_iload_n E dX5_laysSort_82 (i := 2) (j := 3) rfl rfl ?_
                            refine s_iconst E dX5_laysSort_83 (v := nI 5) (by decide) ?_
                            refine s_icmp_eq E dX5_laysSort_84 (tgt := 100) rfl (fun c84 => ?_) (fun c84 => ?_)
                            · have c84 : k = 5 := (nI_eq (a := k) (b := 5) (by omega) (by omega)).mp c84
                              have f3 : fB σ0 n at0 k a b = catN (fC σ0 at0 k a b) n := (by first | (simp [bI, fB, third, ordK, c19, c44, c54, c60, c65, c71, c79, c84]; done) | exact absurd (by simp [ordK, c79]) c65)
                              refine s_iconst E dX5_laysSort_100 (v := nI 0) (by decide) ?_
                              refine s_istore E (L2 := [(6, .int (nI 0)), (5, .int (bI (ordK k = true))), (0, .ref (ad 0)), (1, .int (nI at0)), (2, .int (nI k)), (3, .int (nI a)), (4, .int (nI b))]) dX5_laysSort_101 (Nat.le_of_ble_eq_true rfl) rfl ?_
                              have L103 : ∀ (fuel : Nat) (w : Nat) (w103 : Nat → Nat → Int32), w ≤ n → HL σ0 w103 (L ++ catN (fA σ0 n at0 k) a ++ catN (fB σ0 n at0 k a) b ++ catN (fC σ0 at0 k a b) w) → (n - w) < fuel → Sm pP l eE { frames := 2, cells := 0, slots := 0, locals := 48 } sS mM aA bB hM cC QQ AA D 7 0 0 (wm ad ct w103) 103 [(0, .ref (ad 0)), (1, .int (nI at0)), (2, .int (nI k)), (3, .int (nI a)), (4, .int (nI b)), (6, .int (nI w))] [] := by
                                intro fuel
                                induction fuel with
                                | zero =>
                                  intro w w103 hw hL103 hf103
                                  exact absurd hf103 (Nat.not_lt_zero _)
                                | succ fuel ih103 =>
                                  intro w w103 hw hL103 hf103
                                  refine s_iload E dX5_laysSort_103 (i := 6) (j := 5) rfl ?_
                                  refine s_aload_n E dX5_laysSort_105 (i := 0) (j := 0) rfl rfl ?_
                                  refine m_calli E (mz_users n (by rw [hL103.1.1 3 (by omega) (by omega)]; exact hn)) K5_232 (Nat.le_of_ble_eq_true rfl) (Nat.le_of_ble_eq_true rfl) (Nat.zero_le _) (Nat.zero_le _) rfl rfl (Nat.le_of_ble_eq_true rfl) dX5_laysSort_106 (fun r106 w106 h106 => ?_)
                                  obtain ⟨rfl, rfl⟩ := h106
                                  refine s_icmp_ge E dX5_laysSort_109 (tgt := 151) rfl (fun c109 => ?_) (fun c109 => ?_)
                                  · have c109 : ¬ w < n := fun h => absurd c109 (Int32.not_le.mpr ((nI_ltI (a := w) (b := n) (by omega) (by omega)).mpr h))
                                    refine s_iinc E (L2 := [(4, .int (nI (b + 1))), (0, .ref (ad 0)), (1, .int (nI at0)), (2, .int (nI k)), (3, .int (nI a)), (6, .int (nI w))]) dX5_laysSort_151 (k := 4) rfl (v := nI (b + 1)) (nI_inc _) (Nat.le_of_ble_eq_true rfl) rfl ?_
                                    refine s_goto E dX5_laysSort_154 (tgt := 13) rfl ?_
                                    refine s_loc (L2 := [(0, .ref (ad 0)), (1, .int (nI at0)), (2, .int (nI k)), (3, .int (nI a)), (4, .int (nI (b + 1)))]) [1, 2, 3, 4, 0] rfl ?_
                                    exact ih13 (b + 1) w103 (by omega) (by obtain rfl : w = n := (by omega); rw [catN, ← List.append_assoc, f3]; exact hL103) (by omega)
                                  · have c109 : w < n := (nI_ltI (a := w) (b := n) (by omega) (by omega)).mp (Int32.not_le.mp c109)
                                    refine s_aload_n E dX5_laysSort_112 (i := 0) (j := 0) rfl rfl ?_
                                    refine s_iload E dX5_laysSort_113 (i := 6) (j := 5) rfl ?_
                                    refine s_iload_n E dX5_laysSort_115 (i := 1) (j := 1) rfl rfl ?_
                                    refine m_calli E (mz_isThere w at0 (by omega)) K5_292 (Nat.le_of_ble_eq_true rfl) (Nat.le_of_ble_eq_true rfl) (Nat.zero_le _) (Nat.zero_le _) rfl rfl (Nat.le_of_ble_eq_true rfl) dX5_laysSort_116 (fun r116 w116 h116 => ?_)
                                    obtain ⟨rfl, rfl⟩ := h116
                                    refine s_top (v2 := bI (thB σ0 w at0 = true)) (by rw [thB_cg hL103.1]) ?_
                                    refine s_if_eq E dX5_laysSort_119 (tgt := 145) rfl (fun c119 => ?_) (fun c119 => ?_)
                                    · have c119 := bI_0 c119
                                      refine s_iinc E (L2 := [(6, .int (nI (w + 1))), (0, .ref (ad 0)), (1, .int (nI at0)), (2, .int (nI k)), (3, .int (nI a)), (4, .int (nI b))]) dX5_laysSort_145 (k := 5) rfl (v := nI (w + 1)) (nI_inc _) (Nat.le_of_ble_eq_true rfl) rfl ?_
                                      refine s_goto E dX5_laysSort_148 (tgt := 103) rfl ?_
                                      refine s_loc (L2 := [(0, .ref (ad 0)), (1, .int (nI at0)), (2, .int (nI k)), (3, .int (nI a)), (4, .int (nI b)), (6, .int (nI (w + 1)))]) [1, 2, 3, 4, 5, 0] rfl ?_
                                      exact ih103 (w + 1) w103 (by omega) (by rw [catN, show fC σ0 at0 k a b w = [] from by simp [bI, fC, c109, c119], List.append_nil]; exact hL103) (by omega)
                                    · have c119 := bI_n0 c119
                                      refine s_iload E dX5_laysSort_122 (i := 6) (j := 5) rfl ?_
                                      refine s_iload_n E dX5_laysSort_124 (i := 3) (j := 3) rfl rfl ?_
                                      refine s_icmp_eq E dX5_laysSort_125 (tgt := 145) rfl (fun c125 => ?_) (fun c125 => ?_)
                                      · have c125 : w = a := (nI_eq (a := w) (b := a) (by omega) (by omega)).mp c125
                                        refine s_iinc E (L2 := [(6, .int (nI (w + 1))), (0, .ref (ad 0)), (1, .int (nI at0)), (2, .int (nI k)), (3, .int (nI a)), (4, .int (nI b))]) dX5_laysSort_145 (k := 5) rfl (v := nI (w + 1)) (nI_inc _) (Nat.le_of_ble_eq_true rfl) rfl ?_
                                        refine s_goto E dX5_laysSort_148 (tgt := 103) rfl ?_
                                        refine s_loc (L2 := [(0, .ref (ad 0)), (1, .int (nI at0)), (2, .int (nI k)), (3, .int (nI a)), (4, .int (nI b)), (6, .int (nI (w + 1)))]) [1, 2, 3, 4, 5, 0] rfl ?_
                                        exact ih103 (w + 1) w103 (by omega) (by rw [catN, show fC σ0 at0 k a b w = [] from by simp [bI, fC, c109, c119, c125], List.append_nil]; exact hL103) (by omega)
                                      · have c125 : ¬ w = a := fun h => c125 ((nI_eq (a := w) (b := a) (by omega) (by omega)).mpr h)
                                        refine s_iload E dX5_laysSort_128 (i := 6) (j := 5) rfl ?_
                                        refine s_iload E dX5_laysSort_130 (i := 4) (j := 4) rfl ?_
                                        refine s_icmp_eq E dX5_laysSort_132 (tgt := 145) rfl (fun c132 => ?_) (fun c132 => ?_)
                                        · have c132 : w = b := (nI_eq (a := w) (b := b) (by omega) (by omega)).mp c132
                                          refine s_iinc E (L2 := [(6, .int (nI (w + 1))), (0, .ref (ad 0)), (1, .int (nI at0)), (2, .int (nI k)), (3, .int (nI a)), (4, .int (nI b))]) dX5_laysSort_145 (k := 5) rfl (v := nI (w + 1)) (nI_inc _) (Nat.le_of_ble_eq_true rfl) rfl ?_
                                          refine s_goto E dX5_laysSort_148 (tgt := 103) rfl ?_
                                          refine s_loc (L2 := [(0, .ref (ad 0)), (1, .int (nI at0)), (2, .int (nI k)), (3, .int (nI a)), (4, .int (nI b)), (6, .int (nI (w + 1)))]) [1, 2, 3, 4, 5, 0] rfl ?_
                                          exact ih103 (w + 1) w103 (by omega) (by rw [catN, show fC σ0 at0 k a b w = [] from by simp [bI, fC, c109, c119, c125, c132], List.append_nil]; exact hL103) (by omega)
                                        · have c132 : ¬ w = b := fun h => c132 ((nI_eq (a := w) (b := b) (by omega) (by omega)).mpr h)
                                          refine s_aload_n E dX5_laysSort_135 (i := 0) (j := 0) rfl rfl ?_
                                          refine s_iload_n E dX5_laysSort_136 (i := 2) (j := 2) rfl rfl ?_
                                          refine s_iload_n E dX5_laysSort_137 (i := 3) (j := 3) rfl rfl ?_
                                          refine s_iload E dX5_laysSort_138 (i := 4) (j := 4) rfl ?_
                                          refine s_iload E dX5_laysSort_140 (i := 6) (j := 5) rfl ?_
                                          refine m_callv E (mz_adds3 σ0 (L ++ catN (fA σ0 n at0 k) a ++ catN (fB σ0 n at0 k a) b ++ catN (fC σ0 at0 k a b) w) k a b w (hL103) (hk) (by omega) (by omega) (by omega) (by have h1 := catN_mono (fA σ0 n at0 k) (show a + 1 ≤ n by omega); have h2 := catN_mono (fB σ0 n at0 k a) (show b + 1 ≤ n by omega); have h4 := catN_mono (fC σ0 at0 k a b) (show w + 1 ≤ n by omega); have h5 : fC σ0 at0 k a b w = okL σ0 (k, a, b, some w) := (by simp [bI, fC, c109, c119, c125, c132]); simp only [catN, fA, f3, h5, List.length_append] at h1 h2 h4 hlen ⊢; omega)) K5_296 (Nat.le_of_ble_eq_true rfl) (Nat.le_of_ble_eq_true rfl) (Nat.zero_le _) (Nat.zero_le _) rfl rfl (Nat.le_of_ble_eq_true rfl) dX5_laysSort_142 (fun w142 h142 => ?_)
                                          refine s_iinc E (L2 := [(6, .int (nI (w + 1))), (0, .ref (ad 0)), (1, .int (nI at0)), (2, .int (nI k)), (3, .int (nI a)), (4, .int (nI b))]) dX5_laysSort_145 (k := 5) rfl (v := nI (w + 1)) (nI_inc _) (Nat.le_of_ble_eq_true rfl) rfl ?_
                                          refine s_goto E dX5_laysSort_148 (tgt := 103) rfl ?_
                                          refine s_loc (L2 := [(0, .ref (ad 0)), (1, .int (nI at0)), (2, .int (nI k)), (3, .int (nI a)), (4, .int (nI b)), (6, .int (nI (w + 1)))]) [1, 2, 3, 4, 5, 0] rfl ?_
                                          exact ih103 (w + 1) w142 (by omega) (by rw [catN, ← List.append_assoc, show fC σ0 at0 k a b w = okL σ0 (k, a, b, some w) from by simp [bI, fC, c109, c119, c125, c132]]; exact h142) (by omega)
                              refine s_loc (L2 := [(0, .ref (ad 0)), (1, .int (nI at0)), (2, .int (nI k)), (3, .int (nI a)), (4, .int (nI b)), (6, .int (nI 0))]) [2, 3, 4, 5, 6, 0] rfl ?_
                              exact L103 (_ + 1) 0 w13 (Nat.zero_le _) (by rw [catN, List.append_nil]; exact hL13) (Nat.lt_succ_self _)
                            · have c84 : ¬ k = 5 := fun h => c84 ((nI_eq (a := k) (b := 5) (by omega) (by omega)).mpr h)
                              refine s_aload_n E dX5_laysSort_87 (i := 0) (j := 1) rfl rfl ?_
                              refine s_iload_n E dX5_laysSort_88 (i := 2) (j := 3) rfl rfl ?_
                              refine s_iload_n E dX5_laysSort_89 (i := 3) (j := 4) rfl rfl ?_
                              refine s_iload E dX5_laysSort_90 (i := 4) (j := 5) rfl ?_
                              refine s_bipush E dX5_laysSort_92 (v := (-2)) (by decide) ?_
                              refine m_callv E (mz_adds σ0 (L ++ catN (fA σ0 n at0 k) a ++ catN (fB σ0 n at0 k a) b) k a b (hL13) (hk) (by omega) (by omega) (by have h1 := catN_mono (fA σ0 n at0 k) (show a + 1 ≤ n by omega); have h2 := catN_mono (fB σ0 n at0 k a) (show b + 1 ≤ n by omega); have h3 : fB σ0 n at0 k a b = okL σ0 (k, a, b, none) := (by simp [bI, fB, third, c19, c44, c54, c60, c65, c71, c79, c84]); simp only [catN, fA, h3, List.length_append] at h1 h2 hlen ⊢; omega)) K5_296 (Nat.le_of_ble_eq_true rfl) (Nat.le_of_ble_eq_true rfl) (Nat.zero_le _) (Nat.zero_le _) rfl rfl (Nat.le_of_ble_eq_true rfl) dX5_laysSort_94 (fun w94 h94 => ?_)
                              refine s_goto E dX5_laysSort_97 (tgt := 151) rfl ?_
                              refine s_iinc E (L2 := [(4, .int (nI (b + 1))), (5, .int (bI (ordK k = true))), (0, .ref (ad 0)), (1, .int (nI at0)), (2, .int (nI k)), (3, .int (nI a))]) dX5_laysSort_151 (k := 5) rfl (v := nI (b + 1)) (nI_inc _) (Nat.le_of_ble_eq_true rfl) rfl ?_
                              refine s_goto E dX5_laysSort_154 (tgt := 13) rfl ?_
                              refine s_loc (L2 := [(0, .ref (ad 0)), (1, .int (nI at0)), (2, .int (nI k)), (3, .int (nI a)), (4, .int (nI (b + 1)))]) [2, 3, 4, 5, 0] rfl ?_
                              exact ih13 (b + 1) w94 (by omega) (by rw [catN, ← List.append_assoc, show fB σ0 n at0 k a b = okL σ0 (k, a, b, none) from by simp [bI, fB, third, c19, c44, c54, c60, c65, c71, c79, c84]]; exact h94) (by omega)
                        · have c71 : b < a := (nI_ltI (a := b) (b := a) (by omega) (by omega)).mp (Int32.not_le.mp c71)
                          refine s_goto E dX5_laysSort_74 (tgt := 151) rfl ?_
                          refine s_iinc E (L2 := [(4, .int (nI (b + 1))), (5, .int (bI (ordK k = true))), (0, .ref (ad 0)), (1, .int (nI at0)), (2, .int (nI k)), (3, .int (nI a))]) dX5_laysSort_151 (k := 5) rfl (v := nI (b + 1)) (nI_inc _) (Nat.le_of_ble_eq_true rfl) rfl ?_
                          refine s_goto E dX5_laysSort_154 (tgt := 13) rfl ?_
                          refine s_loc (L2 := [(0, .ref (ad 0)), (1, .int (nI at0)), (2, .int (nI k)), (3, .int (nI a)), (4, .int (nI (b + 1)))]) [2, 3, 4, 5, 0] rfl ?_
                          exact ih13 (b + 1) w13 (by omega) (by rw [catN, show fB σ0 n at0 k a b = [] from by simp [bI, fB, c19, c44, c54, c60, c65, c71], List.append_nil]; exact hL13) (by omega)
              refine s_iload_n E dX5_laysSort_22 (i := 2) (j := 2) rfl rfl ?_
              refine s_if_eq E dX5_laysSort_23 (tgt := 31) rfl (fun c23 => ?_) (fun c23 => ?_)
              · have c23 : k = 0 := (nI_eq (a := k) (b := 0) (by omega) (by omega)).mp c23
                refine s_iconst E dX5_laysSort_31 (v := nI 1) (by decide) ?_
                refine s_goto E dX5_laysSort_32 (tgt := 36) rfl ?_
                refine s_top (v2 := bI (ordK k = true)) (by simp [bI, ordK, c19, c23]) ?_
                exact J36
              · have c23 : ¬ k = 0 := fun h => c23 ((nI_eq (a := k) (b := 0) (by omega) (by omega)).mpr h)
                refine s_iload_n E dX5_laysSort_26 (i := 2) (j := 2) rfl rfl ?_
                refine s_iconst E dX5_laysSort_27 (v := nI 3) (by decide) ?_
                refine s_icmp_ne E dX5_laysSort_28 (tgt := 35) rfl (fun c28 => ?_) (fun c28 => ?_)
                · have c28 : ¬ k = 3 := fun h => c28 ((nI_eq (a := k) (b := 3) (by omega) (by omega)).mpr h)
                  refine s_iconst E dX5_laysSort_35 (v := nI 0) (by decide) ?_
                  refine s_top (v2 := bI (ordK k = true)) (by simp [bI, ordK, c19, c23, c28]) ?_
                  exact J36
                · have c28 : k = 3 := (nI_eq (a := k) (b := 3) (by omega) (by omega)).mp c28
                  refine s_iconst E dX5_laysSort_31 (v := nI 1) (by decide) ?_
                  refine s_goto E dX5_laysSort_32 (tgt := 36) rfl ?_
                  refine s_top (v2 := bI (ordK k = true)) (by simp [bI, ordK, c19, c23, c28]) ?_
                  exact J36
        refine s_loc (L2 := [(0, .ref (ad 0)), (1, .int (nI at0)), (2, .int (nI k)), (3, .int (nI a)), (4, .int (nI 0))]) [1, 2, 3, 4, 0] rfl ?_
        exact L13 (_ + 1) 0 w2 (Nat.zero_le _) (by rw [catN, List.append_nil]; exact hL2) (Nat.lt_succ_self _)
  refine s_loc (L2 := [(0, .ref (ad 0)), (1, .int (nI at0)), (2, .int (nI k)), (3, .int (nI 0))]) [1, 2, 3, 0] rfl ?_
  exact L2 (_ + 1) 0 σ (Nat.zero_le _) (by rw [catN, List.append_nil]; exact hL) (Nat.lt_succ_self _)
set_option maxHeartbeats 1000000 in
set_option maxRecDepth 100000 in
theorem mz_laysProducts {σ : Nat → Nat → Int32} (n : Nat) (hn : σ 3 7 = nI n) (hn6 : n ≤ 6) : Cv l D gt yX5_laysProducts cX5_laysProducts 3 3 74 0 0 [.ref (ad 0)] (wm ad ct σ) (tysA ct) (fun σ2 => HL σ σ2 (prods σ n)) (fun σ2 => wm ad ct σ2) (fun _ => tysA ct) := by
  refine Cv.start RX5 (by decide) rfl (Nat.le_of_ble_eq_true rfl) rfl ?_
  intro pP eE sS mM aA bB hM cC QQ AA E Rt
  refine s_aload_n E dX5_laysProducts_0 (i := 0) (j := 0) rfl rfl ?_
  refine s_iconst E dX5_laysProducts_1 (v := nI 0) (by decide) ?_
  refine mp41 E dX5_laysProducts_2 ?_
  refine s_iconst E dX5_laysProducts_5 (v := nI 0) (by decide) ?_
  refine s_istore_n E (L2 := [(1, .int (nI 0)), (0, .ref (ad 0))]) dX5_laysProducts_6 rfl (Nat.le_of_ble_eq_true rfl) rfl ?_
  have L7 : ∀ (fuel : Nat) (t : Nat) (w7 : Nat → Nat → Int32), t ≤ 3 → HL σ w7 (catN (fS σ n) t) → (3 - t) < fuel → Sm pP l eE { frames := 3, cells := 0, slots := 0, locals := 74 } sS mM aA bB hM cC QQ AA D 3 0 0 (wm ad ct w7) 7 [(0, .ref (ad 0)), (1, .int (nI t))] [] := by
    intro fuel
    induction fuel with
    | zero =>
      intro t w7 hi hL7 hf7
      exact absurd hf7 (Nat.not_lt_zero _)
    | succ fuel ih7 =>
      intro t w7 hi hL7 hf7
      refine s_iload_n E dX5_laysProducts_7 (i := 1) (j := 1) rfl rfl ?_
      refine s_iconst E dX5_laysProducts_8 (v := nI 3) (by decide) ?_
      refine s_icmp_ge E dX5_laysProducts_9 (tgt := 50) rfl (fun c9 => ?_) (fun c9 => ?_)
      · have c9 : ¬ t < 3 := fun h => absurd c9 (Int32.not_le.mpr ((nI_ltI (a := t) (b := 3) (by omega) (by omega)).mpr h))
        exact Rt (w7) dX5_laysProducts_50 (by obtain rfl : t = 3 := (by omega); exact hL7) rfl (Nat.le_refl _) (Nat.le_refl _) E.2.2.2.2.2.1
      · have c9 : t < 3 := (nI_ltI (a := t) (b := 3) (by omega) (by omega)).mp (Int32.not_le.mp c9)
        refine s_iconst E dX5_laysProducts_12 (v := nI 0) (by decide) ?_
        refine s_istore_n E (L2 := [(2, .int (nI 0)), (0, .ref (ad 0)), (1, .int (nI t))]) dX5_laysProducts_13 rfl (Nat.le_of_ble_eq_true rfl) rfl ?_
        have L14 : ∀ (fuel : Nat) (k : Nat) (w14 : Nat → Nat → Int32), k ≤ 6 → HL σ w14 (catN (fS σ n) t ++ catN (fK σ n t) k) → (6 - k) < fuel → Sm pP l eE { frames := 3, cells := 0, slots := 0, locals := 74 } sS mM aA bB hM cC QQ AA D 3 0 0 (wm ad ct w14) 14 [(0, .ref (ad 0)), (1, .int (nI t)), (2, .int (nI k))] [] := by
          intro fuel
          induction fuel with
          | zero =>
            intro k w14 hk hL14 hf14
            exact absurd hf14 (Nat.not_lt_zero _)
          | succ fuel ih14 =>
            intro k w14 hk hL14 hf14
            refine s_iload_n E dX5_laysProducts_14 (i := 2) (j := 2) rfl rfl ?_
            refine s_bipush E dX5_laysProducts_15 (v := nI 6) (by decide) ?_
            refine s_icmp_ge E dX5_laysProducts_17 (tgt := 44) rfl (fun c17 => ?_) (fun c17 => ?_)
            · have c17 : ¬ k < 6 := fun h => absurd c17 (Int32.not_le.mpr ((nI_ltI (a := k) (b := 6) (by omega) (by omega)).mpr h))
              refine s_iinc E (L2 := [(1, .int (nI (t + 1))), (0, .ref (ad 0)), (2, .int (nI k))]) dX5_laysProducts_44 (k := 1) rfl (v := nI (t + 1)) (nI_inc _) (Nat.le_of_ble_eq_true rfl) rfl ?_
              refine s_goto E dX5_laysProducts_47 (tgt := 7) rfl ?_
              refine s_loc (L2 := [(0, .ref (ad 0)), (1, .int (nI (t + 1)))]) [1, 0] rfl ?_
              exact ih7 (t + 1) w14 (by omega) (by obtain rfl : k = 6 := (by omega); rw [catN]; exact hL14) (by omega)
            · have c17 : k < 6 := (nI_ltI (a := k) (b := 6) (by omega) (by omega)).mp (Int32.not_le.mp c17)
              refine s_aload_n E dX5_laysProducts_20 (i := 0) (j := 0) rfl rfl ?_
              refine mg33 E (v := σ 0 33) (hL14.1.2 33 (by omega)) dX5_laysProducts_21 ?_
              refine s_iload_n E dX5_laysProducts_24 (i := 2) (j := 2) rfl rfl ?_
              refine m_calls E (mz_bitOf k (by omega)) K5_286 (Nat.le_of_ble_eq_true rfl) (Nat.le_of_ble_eq_true rfl) (Nat.zero_le _) (Nat.zero_le _) rfl rfl (Nat.le_of_ble_eq_true rfl) dX5_laysProducts_25 (fun r25 h25 => ?_)
              subst h25
              refine s_iand E dX5_laysProducts_28 ?_
              refine s_if_eq E dX5_laysProducts_29 (tgt := 38) rfl (fun c29 => ?_) (fun c29 => ?_)
              · refine s_iinc E (L2 := [(2, .int (nI (k + 1))), (0, .ref (ad 0)), (1, .int (nI t))]) dX5_laysProducts_38 (k := 2) rfl (v := nI (k + 1)) (nI_inc _) (Nat.le_of_ble_eq_true rfl) rfl ?_
                refine s_goto E dX5_laysProducts_41 (tgt := 14) rfl ?_
                refine s_loc (L2 := [(0, .ref (ad 0)), (1, .int (nI t)), (2, .int (nI (k + 1)))]) [1, 2, 0] rfl ?_
                exact ih14 (k + 1) w14 (by omega) (by rw [catN, show fK σ n t k = [] from by simp [bI, fK, c17, c29], List.append_nil]; exact hL14) (by omega)
              · refine s_aload_n E dX5_laysProducts_32 (i := 0) (j := 0) rfl rfl ?_
                refine s_iload_n E dX5_laysProducts_33 (i := 1) (j := 1) rfl rfl ?_
                refine s_iload_n E dX5_laysProducts_34 (i := 2) (j := 2) rfl rfl ?_
                refine m_callv E (mz_laysSort σ (catN (fS σ n) t ++ catN (fK σ n t) k) n t k (hL14) (hn) (hn6) (by omega) (by have h1 := catN_mono (fS σ n) (show t + 1 ≤ 3 by omega); have h2 := catN_mono (fK σ n t) (show k + 1 ≤ 6 by omega); have h3 : fK σ n t k = catN (fA σ n t k) n := (by simp [bI, fK, c17, c29]); have h4 := prods_len (s := σ) hn6; unfold prods at h4; simp only [catN, fS, h3, List.length_append] at h1 h2 h4 ⊢; omega)) K5_289 (Nat.le_of_ble_eq_true rfl) (Nat.le_of_ble_eq_true rfl) (Nat.zero_le _) (Nat.zero_le _) rfl rfl (Nat.le_of_ble_eq_true rfl) dX5_laysProducts_35 (fun w35 h35 => ?_)
                refine s_iinc E (L2 := [(2, .int (nI (k + 1))), (0, .ref (ad 0)), (1, .int (nI t))]) dX5_laysProducts_38 (k := 2) rfl (v := nI (k + 1)) (nI_inc _) (Nat.le_of_ble_eq_true rfl) rfl ?_
                refine s_goto E dX5_laysProducts_41 (tgt := 14) rfl ?_
                refine s_loc (L2 := [(0, .ref (ad 0)), (1, .int (nI t)), (2, .int (nI (k + 1)))]) [1, 2, 0] rfl ?_
                exact ih14 (k + 1) w35 (by omega) (by rw [catN, ← List.append_assoc, show fK σ n t k = catN (fA σ n t k) n from by simp [bI, fK, c17, c29]]; exact h35) (by omega)
        refine s_loc (L2 := [(0, .ref (ad 0)), (1, .int (nI t)), (2, .int (nI 0))]) [1, 2, 0] rfl ?_
        exact L14 (_ + 1) 0 w7 (Nat.zero_le _) (by rw [catN, List.append_nil]; exact hL7) (Nat.lt_succ_self _)
  refine s_loc (L2 := [(0, .ref (ad 0)), (1, .int (nI 0))]) [1, 0] rfl ?_
  exact L7 (_ + 1) 0 (st1 σ 0 41 (nI 0)) (Nat.zero_le _) (HL.nil (HR.rf _)) (Nat.lt_succ_self _)
end
