set_option maxRecDepth 100000
theorem us_ut {ad : Nat → Nat} {n : Nat} {τ : Nat → Nat → Int32} {T : va_W} : UT ad n τ (usW ad n τ ++ T) := by
  intro k hk
  have hl : k < (usW ad n τ).length := by unfold usW; rw [List.length_map, List.length_range]; exact hk
  rw [List.getElem?_append_left hl]
  unfold usW
  rw [List.getElem?_map, List.getElem?_range hk]
  rfl
theorem K_X0_35 : KV RX0 35 RX1 yX1_named cX1_named 2 (some .int) 1 := ⟨q773, q774, q775, q113, q776, by decide +kernel⟩
theorem K_X0_38 : KV RX0 38 RX5 yX5_named cX5_named 2 (some .int) 1 := ⟨q1485, q1486, q1487, q117, q1488, by decide +kernel⟩
theorem K_X0_77 : KV RX0 77 RX1 yX1_products cX1_products 3 (some .int) 1 := ⟨q972, q973, q974, q113, q975, by decide +kernel⟩
theorem K_X0_80 : KV RX0 80 RX5 yX5_products cX5_products 2 (some .int) 1 := ⟨q1699, q1700, q1701, q117, q1702, by decide +kernel⟩
theorem K_X0_81 : KV RX0 81 RX1 yX1_product cX1_product 4 (some .int) 2 := ⟨q980, q981, q982, q113, q983, by decide +kernel⟩
theorem K_X0_84 : KV RX0 84 RX5 yX5_product cX5_product 3 (some .int) 2 := ⟨q1715, q1716, q1717, q117, q1718, by decide +kernel⟩
theorem K_X0_85 : KV RX0 85 RX1 yX1_hits cX1_hits 2 (some .int) 1 := ⟨q985, q986, q987, q113, q988, by decide +kernel⟩
theorem K_X0_88 : KV RX0 88 RX5 yX5_hits_2 cX5_hits_2 4 (some .int) 1 := ⟨q1719, q1720, q1721, q117, q1722, by decide +kernel⟩
theorem K_X0_89 : KV RX0 89 RX1 yX1_hitBy cX1_hitBy 6 (some .int) 2 := ⟨q989, q990, q991, q113, q992, by decide +kernel⟩
theorem K_X0_92 : KV RX0 92 RX5 yX5_hitBy cX5_hitBy 5 (some .int) 2 := ⟨q1723, q1724, q1725, q117, q1726, by decide +kernel⟩
theorem K_X0_93 : KV RX0 93 RX1 yX1_crowds cX1_crowds 5 (some .int) 1 := ⟨q993, q994, q995, q113, q996, by decide +kernel⟩
theorem K_X0_96 : KV RX0 96 RX5 yX5_crowds cX5_crowds 2 (some .int) 1 := ⟨q1727, q1728, q1729, q117, q1730, by decide +kernel⟩
theorem K_X0_97 : KV RX0 97 RX1 yX1_clean cX1_clean 1 (some .int) 0 := ⟨q998, q999, q1000, q113, q1001, by decide +kernel⟩
theorem K_X0_100 : KV RX0 100 RX5 yX5_clean cX5_clean 1 (some .int) 0 := ⟨q1731, q1732, q1733, q117, q1734, by decide +kernel⟩
theorem K_X0_101 : KV RX0 101 RX1 yX1_fits cX1_fits 3 (some .int) 2 := ⟨q1007, q1008, q1009, q113, q1010, by decide +kernel⟩
theorem K_X0_104 : KV RX0 104 RX5 yX5_fits cX5_fits 3 (some .int) 2 := ⟨q1735, q1736, q1737, q117, q1738, by decide +kernel⟩
theorem K_X0_105 : KV RX0 105 RX1 yX1_free cX1_free 4 (some .int) 1 := ⟨q1015, q1016, q1017, q113, q1018, by decide +kernel⟩
theorem K_X0_108 : KV RX0 108 RX5 yX5_free cX5_free 4 (some .int) 1 := ⟨q1743, q1744, q1745, q117, q1746, by decide +kernel⟩
theorem K_X0_109 : KV RX0 109 RX1 yX1_freeAt cX1_freeAt 5 (some .int) 2 := ⟨q1019, q1020, q1021, q113, q1022, by decide +kernel⟩
theorem K_X0_112 : KV RX0 112 RX5 yX5_freeAt cX5_freeAt 5 (some .int) 2 := ⟨q1747, q1748, q1749, q117, q1750, by decide +kernel⟩
theorem K_X0_113 : KV RX0 113 RX1 yX1_quietest cX1_quietest 6 (some .int) 1 := ⟨q1031, q1032, q1033, q113, q1034, by decide +kernel⟩
theorem K_X0_116 : KV RX0 116 RX5 yX5_quietest cX5_quietest 6 (some .int) 1 := ⟨q1751, q1752, q1753, q117, q1754, by decide +kernel⟩
theorem K_X0_121 : KV RX0 121 RX1 yX1_mended cX1_mended 1 (some .int) 0 := ⟨q950, q951, q952, q113, q953, by decide +kernel⟩
theorem K_X0_124 : KV RX0 124 RX5 yX5_mended cX5_mended 2 (some .int) 0 := ⟨q1663, q1664, q1665, q117, q1666, by decide +kernel⟩
theorem K_X0_125 : KV RX0 125 RX1 yX1_leastBand cX1_leastBand 2 (some .int) 0 := ⟨q963, q964, q965, q113, q966, by decide +kernel⟩
theorem K_X0_128 : KV RX0 128 RX5 yX5_leastBand cX5_leastBand 3 (some .int) 0 := ⟨q1671, q1672, q1673, q117, q1674, by decide +kernel⟩
theorem K_X0_129 : KV RX0 129 RX1 yX1_grown cX1_grown 6 (some .int) 4 := ⟨q1108, q1109, q1110, q113, q1111, by decide +kernel⟩
theorem K_X0_133 : KV RX0 133 RX5 yX5_grown cX5_grown 6 (some .int) 4 := ⟨q1675, q1676, q1677, q117, q1678, by decide +kernel⟩
theorem K_X0_134 : KV RX0 134 RX1 yX1_worst cX1_worst 1 (some .int) 0 := ⟨q1035, q1036, q1037, q113, q1038, by decide +kernel⟩
theorem K_X0_137 : KV RX0 137 RX5 yX5_worst cX5_worst 1 (some .int) 0 := ⟨q1763, q1764, q1765, q117, q1766, by decide +kernel⟩
theorem K_X0_138 : KV RX0 138 RX1 yX1_ifTuned cX1_ifTuned 3 (some .int) 2 := ⟨q1023, q1024, q1025, q113, q1026, by decide +kernel⟩
theorem K_X0_141 : KV RX0 141 RX5 yX5_ifTuned cX5_ifTuned 3 (some .int) 2 := ⟨q1759, q1760, q1761, q117, q1762, by decide +kernel⟩
theorem K_X0_142 : KV RX0 142 RX1 yX1_bySort cX1_bySort 3 (some .int) 2 := ⟨q1043, q1044, q1045, q113, q1046, by decide +kernel⟩
theorem K_X0_145 : KV RX0 145 RX5 yX5_bySort cX5_bySort 5 (some .int) 2 := ⟨q1779, q1780, q1781, q117, q1782, by decide +kernel⟩
theorem K_X0_146 : KV RX0 146 RX1 yX1_loudest cX1_loudest 1 (some .int) 0 := ⟨q1047, q1048, q1049, q113, q1050, by decide +kernel⟩
theorem K_X0_149 : KV RX0 149 RX5 yX5_loudest cX5_loudest 3 (some .int) 0 := ⟨q1783, q1784, q1785, q117, q1786, by decide +kernel⟩
theorem K_X0_158 : KV RX0 158 RX1 yX1_bestSwap cX1_bestSwap 6 (some .int) 0 := ⟨q1096, q1097, q1098, q113, q1099, by decide +kernel⟩
theorem K_X0_161 : KV RX0 161 RX5 yX5_bestSwap cX5_bestSwap 6 (some .int) 0 := ⟨q1799, q1800, q1801, q117, q1802, by decide +kernel⟩
theorem K_X0_162 : KV RX0 162 RX1 yX1_when cX1_when 2 (some .int) 1 := ⟨q1051, q1052, q1053, q113, q1054, by decide +kernel⟩
theorem K_X0_165 : KV RX0 165 RX5 yX5_when cX5_when 4 (some .int) 1 := ⟨q1807, q1808, q1809, q117, q1810, by decide +kernel⟩
theorem K_X0_166 : KV RX0 166 RX1 yX1_clearance cX1_clearance 2 (some .int) 1 := ⟨q1055, q1056, q1057, q113, q1058, by decide +kernel⟩
theorem K_X0_169 : KV RX0 169 RX5 yX5_clearance cX5_clearance 5 (some .int) 1 := ⟨q1815, q1816, q1817, q117, q1818, by decide +kernel⟩
theorem K_X0_170 : KV RX0 170 RX1 yX1_nearest cX1_nearest 4 (some .int) 1 := ⟨q1059, q1060, q1061, q113, q1062, by decide +kernel⟩
theorem K_X0_173 : KV RX0 173 RX5 yX5_nearest cX5_nearest 4 (some .int) 1 := ⟨q1819, q1820, q1821, q117, q1822, by decide +kernel⟩
theorem K_X0_174 : KV RX0 174 RX1 yX1_mostSpace cX1_mostSpace 2 (some .int) 0 := ⟨q1068, q1069, q1070, q113, q1071, by decide +kernel⟩
theorem K_X0_177 : KV RX0 177 RX5 yX5_mostSpace cX5_mostSpace 2 (some .int) 0 := ⟨q1823, q1824, q1825, q117, q1826, by decide +kernel⟩
theorem K_X0_178 : KV RX0 178 RX1 yX1_spare cX1_spare 4 (some .int) 1 := ⟨q1072, q1073, q1074, q113, q1075, by decide +kernel⟩
theorem K_X0_181 : KV RX0 181 RX5 yX5_spare cX5_spare 4 (some .int) 1 := ⟨q1827, q1828, q1829, q117, q1830, by decide +kernel⟩
theorem K_X0_182 : KV RX0 182 RX1 yX1_rank cX1_rank 6 (some .int) 1 := ⟨q1076, q1077, q1078, q113, q1079, by decide +kernel⟩
theorem K_X0_185 : KV RX0 185 RX5 yX5_rank cX5_rank 5 (some .int) 1 := ⟨q1775, q1776, q1777, q117, q1778, by decide +kernel⟩
theorem K_X0_186 : KV RX0 186 RX1 yX1_linked cX1_linked 3 (some .int) 2 := ⟨q1080, q1081, q1082, q113, q1083, by decide +kernel⟩
theorem K_X0_189 : KV RX0 189 RX5 yX5_linked cX5_linked 3 (some .int) 2 := ⟨q1811, q1812, q1813, q117, q1814, by decide +kernel⟩
theorem K_X0_190 : KV RX0 190 RX1 yX1_mostPower cX1_mostPower 3 (some .int) 1 := ⟨q1100, q1101, q1102, q113, q1103, by decide +kernel⟩
theorem K_X0_193 : KV RX0 193 RX5 yX5_mostPower cX5_mostPower 4 (some .int) 1 := ⟨q1831, q1832, q1833, q117, q1834, by decide +kernel⟩
theorem K_X0_194 : KV RX0 194 RX1 yX1_mostGuard cX1_mostGuard 2 (some .int) 0 := ⟨q1104, q1105, q1106, q113, q1107, by decide +kernel⟩
theorem K_X0_197 : KV RX0 197 RX5 yX5_mostGuard cX5_mostGuard 2 (some .int) 0 := ⟨q1839, q1840, q1841, q117, q1842, by decide +kernel⟩
theorem K_X0_198 : KV RX0 198 RX1 yX1_chance cX1_chance 9 (some .int) 3 := ⟨q1112, q1113, q1114, q113, q1115, by decide +kernel⟩
theorem K_X0_202 : KV RX0 202 RX5 yX5_chance cX5_chance 8 (some .int) 3 := ⟨q1843, q1844, q1845, q117, q1846, by decide +kernel⟩
theorem K_X0_215 : KV RX0 215 RX1 yX1_count cX1_count 7 (some .int) 1 := ⟨q1124, q1125, q1126, q113, q1127, by decide +kernel⟩
theorem K_X0_218 : KV RX0 218 RX5 yX5_count cX5_count 2 (some .int) 1 := ⟨q1853, q1854, q1855, q117, q1856, by decide +kernel⟩
theorem K_X0_31 : KV RX0 31 RX1 yX1_fault cX1_fault 2 (some .int) 1 := ⟨q769, q770, q771, q113, q772, by decide +kernel⟩
theorem K_X0_34 : KV RX0 34 RX5 yX5_fault cX5_fault 2 (some .int) 1 := ⟨q1481, q1482, q1483, q117, q1484, by decide +kernel⟩
theorem K_X0_73 : KV RX0 73 RX1 yX1_blocked cX1_blocked 2 (some .int) 1 := ⟨q968, q969, q970, q113, q971, by decide +kernel⟩
theorem K_X0_76 : KV RX0 76 RX5 yX5_blocked cX5_blocked 2 (some .int) 1 := ⟨q1695, q1696, q1697, q117, q1698, by decide +kernel⟩
theorem K_X0_117 : KV RX0 117 RX1 yX1_planned cX1_planned 3 (some .int) 1 := ⟨q946, q947, q948, q113, q949, by decide +kernel⟩
theorem K_X0_120 : KV RX0 120 RX5 yX5_planned cX5_planned 4 (some .int) 1 := ⟨q1667, q1668, q1669, q117, q1670, by decide +kernel⟩
theorem K_X0_150 : KV RX0 150 RX1 yX1_turned cX1_turned 3 (some .int) 1 := ⟨q1084, q1085, q1086, q113, q1087, by decide +kernel⟩
theorem K_X0_153 : KV RX0 153 RX5 yX5_turned cX5_turned 4 (some .int) 1 := ⟨q1787, q1788, q1789, q117, q1790, by decide +kernel⟩
theorem K_X0_154 : KV RX0 154 RX1 yX1_left cX1_left 1 (some .int) 0 := ⟨q1092, q1093, q1094, q113, q1095, by decide +kernel⟩
theorem K_X0_157 : KV RX0 157 RX5 yX5_left cX5_left 2 (some .int) 0 := ⟨q1795, q1796, q1797, q117, q1798, by decide +kernel⟩
set_option maxHeartbeats 1000000 in
theorem lc_3 {p : Program} {l : Launch} {e : Env} {s : State} {m : MethodId} {args : Array Value} {below : List Frame} {meth : Method} {c : Code} {Q : State → Prop} {A : Nat → Prop} {D : va_G} {ret : Option FieldType} {ct : Nat → ClassId} {gt : Nat → Nat} {b L0 : Nat} {xs : Nat → Int32} {ad am : Nat → Nat} {o j n K tp : Nat} {μ σ : Nat → Nat → Int32} {pl : List KP} {f : Nat → Int64} (E : En p s m args meth c A code 7 RX0 ret D (tysA ct) gt) (hX : va_X b L0 xs s s.heap) (hbl : b < s.heap.size) (hbA : ¬ A b) (hL : L0 ≤ 384) (hj : 6 * j + 6 ≤ L0) (h : LI n K tp μ σ pl) (next : LN p l e s m args below meth c Q A D ct am b (ad 0) o j) : Sm p l e room_1 s m args below meth c Q A D 7 (76 + 10521 * j) (6340 + 83470 * j) (LW ct ad am o n (zt μ) σ μ pl f) 367 (LL b (ad 0) (am 0) o (nI (6 * j))) [] := by
  have hT : UT ad n (zt μ) (usW ad n (zt μ) ++ kpW (ad 47) ct n pl) := us_ut
  unfold LW
  refine s_aload_n E dL_law_367 (i := 1) (j := 1) rfl rfl ?_
  refine l_arg E hX hbl hbA hL (k := 1) (by omega) dL_law_368 dL_law_369 dL_law_371 (by decide) dL_law_372 dL_law_373 ?_
  refine l_x E (x1z_named (τ := zt μ) (σ := σ) (xs (6 * j + 1)) h.1.1 hT) K_X0_35 (Nat.le_of_ble_eq_true rfl) (Nat.le_of_ble_eq_true rfl) (by show _ ≤ 853071; omega) (by show _ ≤ 6529724; omega) rfl rfl (Nat.le_of_ble_eq_true rfl) dL_law_374 (fun r u hu => ?_)
  refine s_aload_n E dL_law_377 (i := 2) (j := 2) rfl rfl ?_
  refine l_arg E hX hbl hbA hL (k := 1) (by omega) dL_law_378 dL_law_379 dL_law_381 (by decide) dL_law_382 dL_law_383 ?_
  refine l_m E (mz_named (σ := μ) n (xs (6 * j + 1)) h.n7 h.n6) K_X0_38 (Nat.le_of_ble_eq_true rfl) (Nat.le_of_ble_eq_true rfl) (by show _ ≤ 853071; omega) (by show _ ≤ 6529724; omega) rfl rfl (Nat.le_of_ble_eq_true rfl) dL_law_384 (fun r2 μ2 hv => ?_)
  refine s_icmp_eq E dL_law_387 (tgt := 1522) (by decide) (fun _ => ?_) (fun c9 => absurd ?_ c9)
  · exact l_next next (h.q (HQ.of_eq hv.2) (hu.2 ▸ QX.rf _)) (by omega) (by omega)
  · exact hu.1.symm.trans hv.1
set_option maxHeartbeats 1000000 in
theorem lc_12 {p : Program} {l : Launch} {e : Env} {s : State} {m : MethodId} {args : Array Value} {below : List Frame} {meth : Method} {c : Code} {Q : State → Prop} {A : Nat → Prop} {D : va_G} {ret : Option FieldType} {ct : Nat → ClassId} {gt : Nat → Nat} {b L0 : Nat} {xs : Nat → Int32} {ad am : Nat → Nat} {o j n K tp : Nat} {μ σ : Nat → Nat → Int32} {pl : List KP} {f : Nat → Int64} (E : En p s m args meth c A code 7 RX0 ret D (tysA ct) gt) (hX : va_X b L0 xs s s.heap) (hbl : b < s.heap.size) (hbA : ¬ A b) (hL : L0 ≤ 384) (hj : 6 * j + 6 ≤ L0) (h : LI n K tp μ σ pl) (next : LN p l e s m args below meth c Q A D ct am b (ad 0) o j) : Sm p l e room_1 s m args below meth c Q A D 7 (76 + 10521 * j) (6340 + 83470 * j) (LW ct ad am o n (zt μ) σ μ pl f) 647 (LL b (ad 0) (am 0) o (nI (6 * j))) [] := by
  have hT : UT ad n (zt μ) (usW ad n (zt μ) ++ kpW (ad 47) ct n pl) := us_ut
  unfold LW
  refine s_aload_n E dL_law_647 (i := 1) (j := 1) rfl rfl ?_
  refine l_arg E hX hbl hbA hL (k := 1) (by omega) dL_law_648 dL_law_649 dL_law_651 (by decide) dL_law_652 dL_law_653 ?_
  refine l_x E (x1z_products (τ := zt μ) (σ := σ) (xs (6 * j + 1)) h.1.1 hT h.pc) K_X0_77 (Nat.le_of_ble_eq_true rfl) (Nat.le_of_ble_eq_true rfl) (by show _ ≤ 853071; omega) (by show _ ≤ 6529724; omega) rfl rfl (Nat.le_of_ble_eq_true rfl) dL_law_654 (fun r u hu => ?_)
  rw [h.vwz] at hu
  refine s_aload_n E dL_law_657 (i := 2) (j := 2) rfl rfl ?_
  refine l_arg E hX hbl hbA hL (k := 1) (by omega) dL_law_658 dL_law_659 dL_law_661 (by decide) dL_law_662 dL_law_663 ?_
  refine l_m E (mz_products (σ := μ) n (xs (6 * j + 1)) h.n7 h.n6 h.st) K_X0_80 (Nat.le_of_ble_eq_true rfl) (Nat.le_of_ble_eq_true rfl) (by show _ ≤ 853071; omega) (by show _ ≤ 6529724; omega) rfl rfl (Nat.le_of_ble_eq_true rfl) dL_law_664 (fun r2 μ2 hv => ?_)
  refine s_icmp_eq E dL_law_667 (tgt := 1522) (by decide) (fun _ => ?_) (fun c9 => absurd ?_ c9)
  · exact l_next next (h.q (HQ.of_hr hv.2) (QX.xa hu.2)) (by omega) (by omega)
  · exact hu.1.symm.trans hv.1
set_option maxHeartbeats 1000000 in
theorem lc_13 {p : Program} {l : Launch} {e : Env} {s : State} {m : MethodId} {args : Array Value} {below : List Frame} {meth : Method} {c : Code} {Q : State → Prop} {A : Nat → Prop} {D : va_G} {ret : Option FieldType} {ct : Nat → ClassId} {gt : Nat → Nat} {b L0 : Nat} {xs : Nat → Int32} {ad am : Nat → Nat} {o j n K tp : Nat} {μ σ : Nat → Nat → Int32} {pl : List KP} {f : Nat → Int64} (E : En p s m args meth c A code 7 RX0 ret D (tysA ct) gt) (hX : va_X b L0 xs s s.heap) (hbl : b < s.heap.size) (hbA : ¬ A b) (hL : L0 ≤ 384) (hj : 6 * j + 6 ≤ L0) (h : LI n K tp μ σ pl) (next : LN p l e s m args below meth c Q A D ct am b (ad 0) o j) : Sm p l e room_1 s m args below meth c Q A D 7 (76 + 10521 * j) (6340 + 83470 * j) (LW ct ad am o n (zt μ) σ μ pl f) 672 (LL b (ad 0) (am 0) o (nI (6 * j))) [] := by
  have hT : UT ad n (zt μ) (usW ad n (zt μ) ++ kpW (ad 47) ct n pl) := us_ut
  unfold LW
  refine s_aload_n E dL_law_672 (i := 1) (j := 1) rfl rfl ?_
  refine l_arg E hX hbl hbA hL (k := 1) (by omega) dL_law_673 dL_law_674 dL_law_676 (by decide) dL_law_677 dL_law_678 ?_
  refine l_arg E hX hbl hbA hL (k := 2) (by omega) dL_law_679 dL_law_680 dL_law_682 (by decide) dL_law_683 dL_law_684 ?_
  refine l_x E (x1z_product (τ := zt μ) (σ := σ) (xs (6 * j + 1)) (xs (6 * j + 2)) h.1.1 hT h.pc) K_X0_81 (Nat.le_of_ble_eq_true rfl) (Nat.le_of_ble_eq_true rfl) (by show _ ≤ 853071; omega) (by show _ ≤ 6529724; omega) rfl rfl (Nat.le_of_ble_eq_true rfl) dL_law_685 (fun r u hu => ?_)
  rw [h.vwz] at hu
  refine s_aload_n E dL_law_688 (i := 2) (j := 2) rfl rfl ?_
  refine l_arg E hX hbl hbA hL (k := 1) (by omega) dL_law_689 dL_law_690 dL_law_692 (by decide) dL_law_693 dL_law_694 ?_
  refine l_arg E hX hbl hbA hL (k := 2) (by omega) dL_law_695 dL_law_696 dL_law_698 (by decide) dL_law_699 dL_law_700 ?_
  refine l_m E (mz_product (σ := μ) n (xs (6 * j + 1)) (xs (6 * j + 2)) h.n7 h.n6 h.st) K_X0_84 (Nat.le_of_ble_eq_true rfl) (Nat.le_of_ble_eq_true rfl) (by show _ ≤ 853071; omega) (by show _ ≤ 6529724; omega) rfl rfl (Nat.le_of_ble_eq_true rfl) dL_law_701 (fun r2 μ2 hv => ?_)
  refine s_icmp_eq E dL_law_704 (tgt := 1522) (by decide) (fun _ => ?_) (fun c9 => absurd ?_ c9)
  · exact l_next next (h.q (HQ.of_hr hv.2) (QX.xa hu.2)) (by omega) (by omega)
  · exact hu.1.symm.trans hv.1
set_option maxHeartbeats 1000000 in
theorem lc_14 {p : Program} {l : Launch} {e : Env} {s : State} {m : MethodId} {args : Array Value} {below : List Frame} {meth : Method} {c : Code} {Q : State → Prop} {A : Nat → Prop} {D : va_G} {ret : Option FieldType} {ct : Nat → ClassId} {gt : Nat → Nat} {b L0 : Nat} {xs : Nat → Int32} {ad am : Nat → Nat} {o j n K tp : Nat} {μ σ : Nat → Nat → Int32} {pl : List KP} {f : Nat → Int64} (E : En p s m args meth c A code 7 RX0 ret D (tysA ct) gt) (hX : va_X b L0 xs s s.heap) (hbl : b < s.heap.size) (hbA : ¬ A b) (hL : L0 ≤ 384) (hj : 6 * j + 6 ≤ L0) (h : LI n K tp μ σ pl) (next : LN p l e s m args below meth c Q A D ct am b (ad 0) o j) : Sm p l e room_1 s m args below meth c Q A D 7 (76 + 10521 * j) (6340 + 83470 * j) (LW ct ad am o n (zt μ) σ μ pl f) 709 (LL b (ad 0) (am 0) o (nI (6 * j))) [] := by
  have hT : UT ad n (zt μ) (usW ad n (zt μ) ++ kpW (ad 47) ct n pl) := us_ut
  unfold LW
  refine s_aload_n E dL_law_709 (i := 1) (j := 1) rfl rfl ?_
  refine l_arg E hX hbl hbA hL (k := 1) (by omega) dL_law_710 dL_law_711 dL_law_713 (by decide) dL_law_714 dL_law_715 ?_
  refine l_x E (x1z_hits (τ := zt μ) (σ := σ) (xs (6 * j + 1)) h.1.1 hT h.pc) K_X0_85 (Nat.le_of_ble_eq_true rfl) (Nat.le_of_ble_eq_true rfl) (by show _ ≤ 853071; omega) (by show _ ≤ 6529724; omega) rfl rfl (Nat.le_of_ble_eq_true rfl) dL_law_716 (fun r u hu => ?_)
  rw [h.vwz] at hu
  refine s_aload_n E dL_law_719 (i := 2) (j := 2) rfl rfl ?_
  refine l_arg E hX hbl hbA hL (k := 1) (by omega) dL_law_720 dL_law_721 dL_law_723 (by decide) dL_law_724 dL_law_725 ?_
  refine l_m E (mz_hits_2 (σ := μ) n (xs (6 * j + 1)) h.n7 h.n6 h.st) K_X0_88 (Nat.le_of_ble_eq_true rfl) (Nat.le_of_ble_eq_true rfl) (by show _ ≤ 853071; omega) (by show _ ≤ 6529724; omega) rfl rfl (Nat.le_of_ble_eq_true rfl) dL_law_726 (fun r2 μ2 hv => ?_)
  refine s_icmp_eq E dL_law_729 (tgt := 1522) (by decide) (fun _ => ?_) (fun c9 => absurd ?_ c9)
  · exact l_next next (h.q (HQ.of_hr hv.2) (QX.xa hu.2)) (by omega) (by omega)
  · exact hu.1.symm.trans hv.1
set_option maxHeartbeats 1000000 in
theorem lc_15 {p : Program} {l : Launch} {e : Env} {s : State} {m : MethodId} {args : Array Value} {below : List Frame} {meth : Method} {c : Code} {Q : State → Prop} {A : Nat → Prop} {D : va_G} {ret : Option FieldType} {ct : Nat → ClassId} {gt : Nat → Nat} {b L0 : Nat} {xs : Nat → Int32} {ad am : Nat → Nat} {o j n K tp : Nat} {μ σ : Nat → Nat → Int32} {pl : List KP} {f : Nat → Int64} (E : En p s m args meth c A code 7 RX0 ret D (tysA ct) gt) (hX : va_X b L0 xs s s.heap) (hbl : b < s.heap.size) (hbA : ¬ A b) (hL : L0 ≤ 384) (hj : 6 * j + 6 ≤ L0) (h : LI n K tp μ σ pl) (next : LN p l e s m args below meth c Q A D ct am b (ad 0) o j) : Sm p l e room_1 s m args below meth c Q A D 7 (76 + 10521 * j) (6340 + 83470 * j) (LW ct ad am o n (zt μ) σ μ pl f) 734 (LL b (ad 0) (am 0) o (nI (6 * j))) [] := by
  have hT : UT ad n (zt μ) (usW ad n (zt μ) ++ kpW (ad 47) ct n pl) := us_ut
  unfold LW
  refine s_aload_n E dL_law_734 (i := 1) (j := 1) rfl rfl ?_
  refine l_arg E hX hbl hbA hL (k := 1) (by omega) dL_law_735 dL_law_736 dL_law_738 (by decide) dL_law_739 dL_law_740 ?_
  refine l_arg E hX hbl hbA hL (k := 2) (by omega) dL_law_741 dL_law_742 dL_law_744 (by decide) dL_law_745 dL_law_746 ?_
  refine l_x E (x1z_hitBy (τ := zt μ) (σ := σ) (xs (6 * j + 1)) (xs (6 * j + 2)) h.1.1 hT h.pc) K_X0_89 (Nat.le_of_ble_eq_true rfl) (Nat.le_of_ble_eq_true rfl) (by show _ ≤ 853071; omega) (by show _ ≤ 6529724; omega) rfl rfl (Nat.le_of_ble_eq_true rfl) dL_law_747 (fun r u hu => ?_)
  rw [h.vwz] at hu
  refine s_aload_n E dL_law_750 (i := 2) (j := 2) rfl rfl ?_
  refine l_arg E hX hbl hbA hL (k := 1) (by omega) dL_law_751 dL_law_752 dL_law_754 (by decide) dL_law_755 dL_law_756 ?_
  refine l_arg E hX hbl hbA hL (k := 2) (by omega) dL_law_757 dL_law_758 dL_law_760 (by decide) dL_law_761 dL_law_762 ?_
  refine l_m E (mz_hitBy (σ := μ) n (xs (6 * j + 1)) (xs (6 * j + 2)) h.n7 h.n6 h.st) K_X0_92 (Nat.le_of_ble_eq_true rfl) (Nat.le_of_ble_eq_true rfl) (by show _ ≤ 853071; omega) (by show _ ≤ 6529724; omega) rfl rfl (Nat.le_of_ble_eq_true rfl) dL_law_763 (fun r2 μ2 hv => ?_)
  refine s_icmp_eq E dL_law_766 (tgt := 1522) (by decide) (fun _ => ?_) (fun c9 => absurd ?_ c9)
  · exact l_next next (h.q (HQ.of_hr hv.2) (QX.xa hu.2)) (by omega) (by omega)
  · exact hu.1.symm.trans hv.1
set_option maxHeartbeats 1000000 in
theorem lc_16 {p : Program} {l : Launch} {e : Env} {s : State} {m : MethodId} {args : Array Value} {below : List Frame} {meth : Method} {c : Code} {Q : State → Prop} {A : Nat → Prop} {D : va_G} {ret : Option FieldType} {ct : Nat → ClassId} {gt : Nat → Nat} {b L0 : Nat} {xs : Nat → Int32} {ad am : Nat → Nat} {o j n K tp : Nat} {μ σ : Nat → Nat → Int32} {pl : List KP} {f : Nat → Int64} (E : En p s m args meth c A code 7 RX0 ret D (tysA ct) gt) (hX : va_X b L0 xs s s.heap) (hbl : b < s.heap.size) (hbA : ¬ A b) (hL : L0 ≤ 384) (hj : 6 * j + 6 ≤ L0) (h : LI n K tp μ σ pl) (next : LN p l e s m args below meth c Q A D ct am b (ad 0) o j) : Sm p l e room_1 s m args below meth c Q A D 7 (76 + 10521 * j) (6340 + 83470 * j) (LW ct ad am o n (zt μ) σ μ pl f) 771 (LL b (ad 0) (am 0) o (nI (6 * j))) [] := by
  have hT : UT ad n (zt μ) (usW ad n (zt μ) ++ kpW (ad 47) ct n pl) := us_ut
  unfold LW
  refine s_aload_n E dL_law_771 (i := 1) (j := 1) rfl rfl ?_
  refine l_arg E hX hbl hbA hL (k := 1) (by omega) dL_law_772 dL_law_773 dL_law_775 (by decide) dL_law_776 dL_law_777 ?_
  refine l_x E (x1z_crowds (τ := zt μ) (σ := σ) (xs (6 * j + 1)) h.1.1 hT h.pc) K_X0_93 (Nat.le_of_ble_eq_true rfl) (Nat.le_of_ble_eq_true rfl) (by show _ ≤ 853071; omega) (by show _ ≤ 6529724; omega) rfl rfl (Nat.le_of_ble_eq_true rfl) dL_law_778 (fun r u hu => ?_)
  rw [h.vwz] at hu
  refine s_aload_n E dL_law_781 (i := 2) (j := 2) rfl rfl ?_
  refine l_arg E hX hbl hbA hL (k := 1) (by omega) dL_law_782 dL_law_783 dL_law_785 (by decide) dL_law_786 dL_law_787 ?_
  refine l_m E (mz_crowds (σ := μ) n (xs (6 * j + 1)) h.n7 h.n6) K_X0_96 (Nat.le_of_ble_eq_true rfl) (Nat.le_of_ble_eq_true rfl) (by show _ ≤ 853071; omega) (by show _ ≤ 6529724; omega) rfl rfl (Nat.le_of_ble_eq_true rfl) dL_law_788 (fun r2 μ2 hv => ?_)
  refine s_icmp_eq E dL_law_791 (tgt := 1522) (by decide) (fun _ => ?_) (fun c9 => absurd ?_ c9)
  · exact l_next next (h.q (HQ.of_eq hv.2) (QX.xa hu.2)) (by omega) (by omega)
  · exact hu.1.symm.trans hv.1
set_option maxHeartbeats 1000000 in
theorem lc_17 {p : Program} {l : Launch} {e : Env} {s : State} {m : MethodId} {args : Array Value} {below : List Frame} {meth : Method} {c : Code} {Q : State → Prop} {A : Nat → Prop} {D : va_G} {ret : Option FieldType} {ct : Nat → ClassId} {gt : Nat → Nat} {b L0 : Nat} {xs : Nat → Int32} {ad am : Nat → Nat} {o j n K tp : Nat} {μ σ : Nat → Nat → Int32} {pl : List KP} {f : Nat → Int64} (E : En p s m args meth c A code 7 RX0 ret D (tysA ct) gt) (hX : va_X b L0 xs s s.heap) (hbl : b < s.heap.size) (hbA : ¬ A b) (hL : L0 ≤ 384) (hj : 6 * j + 6 ≤ L0) (h : LI n K tp μ σ pl) (next : LN p l e s m args below meth c Q A D ct am b (ad 0) o j) : Sm p l e room_1 s m args below meth c Q A D 7 (76 + 10521 * j) (6340 + 83470 * j) (LW ct ad am o n (zt μ) σ μ pl f) 796 (LL b (ad 0) (am 0) o (nI (6 * j))) [] := by
  have hT : UT ad n (zt μ) (usW ad n (zt μ) ++ kpW (ad 47) ct n pl) := us_ut
  unfold LW
  refine s_aload_n E dL_law_796 (i := 1) (j := 1) rfl rfl ?_
  refine l_x E (x1z_clean (τ := zt μ) (σ := σ) h.1.1 hT h.pc) K_X0_97 (Nat.le_of_ble_eq_true rfl) (Nat.le_of_ble_eq_true rfl) (by show _ ≤ 853071; omega) (by show _ ≤ 6529724; omega) rfl rfl (Nat.le_of_ble_eq_true rfl) dL_law_797 (fun r u hu => ?_)
  rw [h.vwz] at hu
  refine s_aload_n E dL_law_800 (i := 2) (j := 2) rfl rfl ?_
  refine l_m E (mz_clean (σ := μ) n h.cm) K_X0_100 (Nat.le_of_ble_eq_true rfl) (Nat.le_of_ble_eq_true rfl) (by show _ ≤ 853071; omega) (by show _ ≤ 6529724; omega) rfl rfl (Nat.le_of_ble_eq_true rfl) dL_law_801 (fun r2 μ2 hv => ?_)
  refine s_icmp_eq E dL_law_804 (tgt := 1522) (by decide) (fun _ => ?_) (fun c9 => absurd ?_ c9)
  · exact l_next next (h.q (HQ.of_hr hv.2) (QX.xa hu.2)) (by omega) (by omega)
  · exact hu.1.symm.trans hv.1
set_option maxHeartbeats 1000000 in
theorem lc_18 {p : Program} {l : Launch} {e : Env} {s : State} {m : MethodId} {args : Array Value} {below : List Frame} {meth : Method} {c : Code} {Q : State → Prop} {A : Nat → Prop} {D : va_G} {ret : Option FieldType} {ct : Nat → ClassId} {gt : Nat → Nat} {b L0 : Nat} {xs : Nat → Int32} {ad am : Nat → Nat} {o j n K tp : Nat} {μ σ : Nat → Nat → Int32} {pl : List KP} {f : Nat → Int64} (E : En p s m args meth c A code 7 RX0 ret D (tysA ct) gt) (hX : va_X b L0 xs s s.heap) (hbl : b < s.heap.size) (hbA : ¬ A b) (hL : L0 ≤ 384) (hj : 6 * j + 6 ≤ L0) (h : LI n K tp μ σ pl) (next : LN p l e s m args below meth c Q A D ct am b (ad 0) o j) : Sm p l e room_1 s m args below meth c Q A D 7 (76 + 10521 * j) (6340 + 83470 * j) (LW ct ad am o n (zt μ) σ μ pl f) 809 (LL b (ad 0) (am 0) o (nI (6 * j))) [] := by
  have hT : UT ad n (zt μ) (usW ad n (zt μ) ++ kpW (ad 47) ct n pl) := us_ut
  unfold LW
  refine s_aload_n E dL_law_809 (i := 1) (j := 1) rfl rfl ?_
  refine l_arg E hX hbl hbA hL (k := 1) (by omega) dL_law_810 dL_law_811 dL_law_813 (by decide) dL_law_814 dL_law_815 ?_
  refine l_arg E hX hbl hbA hL (k := 2) (by omega) dL_law_816 dL_law_817 dL_law_819 (by decide) dL_law_820 dL_law_821 ?_
  refine l_x E (x1z_fits (τ := zt μ) (σ := σ) (xs (6 * j + 1)) (xs (6 * j + 2)) h.1.1 hT h.pc h.bb) K_X0_101 (Nat.le_of_ble_eq_true rfl) (Nat.le_of_ble_eq_true rfl) (by show _ ≤ 853071; omega) (by show _ ≤ 6529724; omega) rfl rfl (Nat.le_of_ble_eq_true rfl) dL_law_822 (fun r u hu => ?_)
  rw [h.vwz] at hu
  refine s_aload_n E dL_law_825 (i := 2) (j := 2) rfl rfl ?_
  refine l_arg E hX hbl hbA hL (k := 1) (by omega) dL_law_826 dL_law_827 dL_law_829 (by decide) dL_law_830 dL_law_831 ?_
  refine l_arg E hX hbl hbA hL (k := 2) (by omega) dL_law_832 dL_law_833 dL_law_835 (by decide) dL_law_836 dL_law_837 ?_
  refine l_m E (mz_fits (σ := μ) n (tN (μ 3 0)) (xs (6 * j + 1)) (xs (6 * j + 2)) h.cm h.b61.1 (by have := h.b61.2; omega)) K_X0_104 (Nat.le_of_ble_eq_true rfl) (Nat.le_of_ble_eq_true rfl) (by show _ ≤ 853071; omega) (by show _ ≤ 6529724; omega) rfl rfl (Nat.le_of_ble_eq_true rfl) dL_law_838 (fun r2 μ2 hv => ?_)
  refine s_icmp_eq E dL_law_841 (tgt := 1522) (by decide) (fun _ => ?_) (fun c9 => absurd ?_ c9)
  · exact l_next next (h.q (HQ.of_hr hv.2) (QX.xs hu.2)) (by omega) (by omega)
  · exact hu.1.symm.trans hv.1
set_option maxHeartbeats 1000000 in
theorem lc_19 {p : Program} {l : Launch} {e : Env} {s : State} {m : MethodId} {args : Array Value} {below : List Frame} {meth : Method} {c : Code} {Q : State → Prop} {A : Nat → Prop} {D : va_G} {ret : Option FieldType} {ct : Nat → ClassId} {gt : Nat → Nat} {b L0 : Nat} {xs : Nat → Int32} {ad am : Nat → Nat} {o j n K tp : Nat} {μ σ : Nat → Nat → Int32} {pl : List KP} {f : Nat → Int64} (E : En p s m args meth c A code 7 RX0 ret D (tysA ct) gt) (hX : va_X b L0 xs s s.heap) (hbl : b < s.heap.size) (hbA : ¬ A b) (hL : L0 ≤ 384) (hj : 6 * j + 6 ≤ L0) (h : LI n K tp μ σ pl) (next : LN p l e s m args below meth c Q A D ct am b (ad 0) o j) : Sm p l e room_1 s m args below meth c Q A D 7 (76 + 10521 * j) (6340 + 83470 * j) (LW ct ad am o n (zt μ) σ μ pl f) 846 (LL b (ad 0) (am 0) o (nI (6 * j))) [] := by
  have hT : UT ad n (zt μ) (usW ad n (zt μ) ++ kpW (ad 47) ct n pl) := us_ut
  unfold LW
  refine s_aload_n E dL_law_846 (i := 1) (j := 1) rfl rfl ?_
  refine l_arg E hX hbl hbA hL (k := 1) (by omega) dL_law_847 dL_law_848 dL_law_850 (by decide) dL_law_851 dL_law_852 ?_
  refine l_x E (x1z_free (τ := zt μ) (σ := σ) (xs (6 * j + 1)) h.1.1 hT h.pc h.bb) K_X0_105 (Nat.le_of_ble_eq_true rfl) (Nat.le_of_ble_eq_true rfl) (by show _ ≤ 853071; omega) (by show _ ≤ 6529724; omega) rfl rfl (Nat.le_of_ble_eq_true rfl) dL_law_853 (fun r u hu => ?_)
  rw [h.vwz] at hu
  refine s_aload_n E dL_law_856 (i := 2) (j := 2) rfl rfl ?_
  refine l_arg E hX hbl hbA hL (k := 1) (by omega) dL_law_857 dL_law_858 dL_law_860 (by decide) dL_law_861 dL_law_862 ?_
  refine l_m E (mz_free (σ := μ) n (tN (μ 3 0)) (xs (6 * j + 1)) h.cm h.b30 (by have := h.b61.2; omega)) K_X0_108 (Nat.le_of_ble_eq_true rfl) (Nat.le_of_ble_eq_true rfl) (by show _ ≤ 853071; omega) (by show _ ≤ 6529724; omega) rfl rfl (Nat.le_of_ble_eq_true rfl) dL_law_863 (fun r2 μ2 hv => ?_)
  refine s_icmp_eq E dL_law_866 (tgt := 1522) (by decide) (fun _ => ?_) (fun c9 => absurd ?_ c9)
  · exact l_next next (h.q (HQ.of_hr hv.2) (QX.xs hu.2)) (by omega) (by omega)
  · exact hu.1.symm.trans hv.1
set_option maxHeartbeats 1000000 in
theorem lc_20 {p : Program} {l : Launch} {e : Env} {s : State} {m : MethodId} {args : Array Value} {below : List Frame} {meth : Method} {c : Code} {Q : State → Prop} {A : Nat → Prop} {D : va_G} {ret : Option FieldType} {ct : Nat → ClassId} {gt : Nat → Nat} {b L0 : Nat} {xs : Nat → Int32} {ad am : Nat → Nat} {o j n K tp : Nat} {μ σ : Nat → Nat → Int32} {pl : List KP} {f : Nat → Int64} (E : En p s m args meth c A code 7 RX0 ret D (tysA ct) gt) (hX : va_X b L0 xs s s.heap) (hbl : b < s.heap.size) (hbA : ¬ A b) (hL : L0 ≤ 384) (hj : 6 * j + 6 ≤ L0) (h : LI n K tp μ σ pl) (next : LN p l e s m args below meth c Q A D ct am b (ad 0) o j) : Sm p l e room_1 s m args below meth c Q A D 7 (76 + 10521 * j) (6340 + 83470 * j) (LW ct ad am o n (zt μ) σ μ pl f) 871 (LL b (ad 0) (am 0) o (nI (6 * j))) [] := by
  have hT : UT ad n (zt μ) (usW ad n (zt μ) ++ kpW (ad 47) ct n pl) := us_ut
  unfold LW
  refine s_aload_n E dL_law_871 (i := 1) (j := 1) rfl rfl ?_
  refine l_arg E hX hbl hbA hL (k := 1) (by omega) dL_law_872 dL_law_873 dL_law_875 (by decide) dL_law_876 dL_law_877 ?_
  refine l_arg E hX hbl hbA hL (k := 2) (by omega) dL_law_878 dL_law_879 dL_law_881 (by decide) dL_law_882 dL_law_883 ?_
  refine l_x E (x1z_freeAt (τ := zt μ) (σ := σ) (xs (6 * j + 1)) (xs (6 * j + 2)) h.1.1 hT h.pc h.bb) K_X0_109 (Nat.le_of_ble_eq_true rfl) (Nat.le_of_ble_eq_true rfl) (by show _ ≤ 853071; omega) (by show _ ≤ 6529724; omega) rfl rfl (Nat.le_of_ble_eq_true rfl) dL_law_884 (fun r u hu => ?_)
  rw [h.vwz] at hu
  refine s_aload_n E dL_law_887 (i := 2) (j := 2) rfl rfl ?_
  refine l_arg E hX hbl hbA hL (k := 1) (by omega) dL_law_888 dL_law_889 dL_law_891 (by decide) dL_law_892 dL_law_893 ?_
  refine l_arg E hX hbl hbA hL (k := 2) (by omega) dL_law_894 dL_law_895 dL_law_897 (by decide) dL_law_898 dL_law_899 ?_
  refine l_m E (mz_freeAt (σ := μ) n (tN (μ 3 0)) (xs (6 * j + 1)) (xs (6 * j + 2)) h.cm h.b30 (by have := h.b61.2; omega)) K_X0_112 (Nat.le_of_ble_eq_true rfl) (Nat.le_of_ble_eq_true rfl) (by show _ ≤ 853071; omega) (by show _ ≤ 6529724; omega) rfl rfl (Nat.le_of_ble_eq_true rfl) dL_law_900 (fun r2 μ2 hv => ?_)
  refine s_icmp_eq E dL_law_903 (tgt := 1522) (by decide) (fun _ => ?_) (fun c9 => absurd ?_ c9)
  · exact l_next next (h.q (HQ.of_hr hv.2) (QX.xs hu.2)) (by omega) (by omega)
  · exact hu.1.symm.trans hv.1
set_option maxHeartbeats 1000000 in
theorem lc_21 {p : Program} {l : Launch} {e : Env} {s : State} {m : MethodId} {args : Array Value} {below : List Frame} {meth : Method} {c : Code} {Q : State → Prop} {A : Nat → Prop} {D : va_G} {ret : Option FieldType} {ct : Nat → ClassId} {gt : Nat → Nat} {b L0 : Nat} {xs : Nat → Int32} {ad am : Nat → Nat} {o j n K tp : Nat} {μ σ : Nat → Nat → Int32} {pl : List KP} {f : Nat → Int64} (E : En p s m args meth c A code 7 RX0 ret D (tysA ct) gt) (hX : va_X b L0 xs s s.heap) (hbl : b < s.heap.size) (hbA : ¬ A b) (hL : L0 ≤ 384) (hj : 6 * j + 6 ≤ L0) (h : LI n K tp μ σ pl) (next : LN p l e s m args below meth c Q A D ct am b (ad 0) o j) : Sm p l e room_1 s m args below meth c Q A D 7 (76 + 10521 * j) (6340 + 83470 * j) (LW ct ad am o n (zt μ) σ μ pl f) 908 (LL b (ad 0) (am 0) o (nI (6 * j))) [] := by
  have hT : UT ad n (zt μ) (usW ad n (zt μ) ++ kpW (ad 47) ct n pl) := us_ut
  unfold LW
  refine s_aload_n E dL_law_908 (i := 1) (j := 1) rfl rfl ?_
  refine l_arg E hX hbl hbA hL (k := 1) (by omega) dL_law_909 dL_law_910 dL_law_912 (by decide) dL_law_913 dL_law_914 ?_
  refine l_x E (x1z_quietest (τ := zt μ) (σ := σ) (xs (6 * j + 1)) h.1.1 hT h.pc h.bb h.1.2.2.1) K_X0_113 (Nat.le_of_ble_eq_true rfl) (Nat.le_of_ble_eq_true rfl) (by show _ ≤ 853071; omega) (by show _ ≤ 6529724; omega) rfl rfl (Nat.le_of_ble_eq_true rfl) dL_law_915 (fun r u hu => ?_)
  rw [h.vwz] at hu
  refine s_aload_n E dL_law_918 (i := 2) (j := 2) rfl rfl ?_
  refine l_arg E hX hbl hbA hL (k := 1) (by omega) dL_law_919 dL_law_920 dL_law_922 (by decide) dL_law_923 dL_law_924 ?_
  refine l_m E (mz_quietest (σ := μ) n (tN (μ 3 0)) (xs (6 * j + 1)) h.n7 h.n6 h.st (by have := h.b61.2; omega) (fun v hv => ⟨(h.lh v hv).1, ⟨(h.lh v hv).2.1.1, by have := h.hiB v hv; omega⟩, h.1.2.2.1 v hv⟩)) K_X0_116 (Nat.le_of_ble_eq_true rfl) (Nat.le_of_ble_eq_true rfl) (by show _ ≤ 853071; omega) (by show _ ≤ 6529724; omega) rfl rfl (Nat.le_of_ble_eq_true rfl) dL_law_925 (fun r2 μ2 hv => ?_)
  refine s_icmp_eq E dL_law_928 (tgt := 1522) (by decide) (fun _ => ?_) (fun c9 => absurd ?_ c9)
  · exact l_next next (h.q (HQ.of_hr hv.2) (QX.xs hu.2)) (by omega) (by omega)
  · exact hu.1.symm.trans hv.1
set_option maxHeartbeats 1000000 in
theorem lc_23 {p : Program} {l : Launch} {e : Env} {s : State} {m : MethodId} {args : Array Value} {below : List Frame} {meth : Method} {c : Code} {Q : State → Prop} {A : Nat → Prop} {D : va_G} {ret : Option FieldType} {ct : Nat → ClassId} {gt : Nat → Nat} {b L0 : Nat} {xs : Nat → Int32} {ad am : Nat → Nat} {o j n K tp : Nat} {μ σ : Nat → Nat → Int32} {pl : List KP} {f : Nat → Int64} (E : En p s m args meth c A code 7 RX0 ret D (tysA ct) gt) (hX : va_X b L0 xs s s.heap) (hbl : b < s.heap.size) (hbA : ¬ A b) (hL : L0 ≤ 384) (hj : 6 * j + 6 ≤ L0) (h : LI n K tp μ σ pl) (next : LN p l e s m args below meth c Q A D ct am b (ad 0) o j) : Sm p l e room_1 s m args below meth c Q A D 7 (76 + 10521 * j) (6340 + 83470 * j) (LW ct ad am o n (zt μ) σ μ pl f) 958 (LL b (ad 0) (am 0) o (nI (6 * j))) [] := by
  have hT : UT ad n (zt μ) (usW ad n (zt μ) ++ kpW (ad 47) ct n pl) := us_ut
  unfold LW
  refine s_aload_n E dL_law_958 (i := 1) (j := 1) rfl rfl ?_
  refine l_x E (x1z_mended (τ := zt μ) (σ := σ) h.1.1 hT h.pc h.bb) K_X0_121 (Nat.le_of_ble_eq_true rfl) (Nat.le_of_ble_eq_true rfl) (by show _ ≤ 853071; omega) (by show _ ≤ 6529724; omega) rfl rfl (Nat.le_of_ble_eq_true rfl) dL_law_959 (fun r u hu => ?_)
  rw [h.vwz] at hu
  refine s_aload_n E dL_law_962 (i := 2) (j := 2) rfl rfl ?_
  refine l_m E (mz_mended (σ := μ) n h.cm h.lhh h.1.2.2.2) K_X0_124 (Nat.le_of_ble_eq_true rfl) (Nat.le_of_ble_eq_true rfl) (by show _ ≤ 853071; omega) (by show _ ≤ 6529724; omega) rfl rfl (Nat.le_of_ble_eq_true rfl) dL_law_963 (fun r2 μ2 hv => ?_)
  refine s_icmp_eq E dL_law_966 (tgt := 1522) (by decide) (fun _ => ?_) (fun c9 => absurd ?_ c9)
  · exact l_next next (h.q (hv.2) (QX.xs hu.2)) (by omega) (by omega)
  · exact hu.1.symm.trans hv.1
set_option maxHeartbeats 1000000 in
theorem lc_24 {p : Program} {l : Launch} {e : Env} {s : State} {m : MethodId} {args : Array Value} {below : List Frame} {meth : Method} {c : Code} {Q : State → Prop} {A : Nat → Prop} {D : va_G} {ret : Option FieldType} {ct : Nat → ClassId} {gt : Nat → Nat} {b L0 : Nat} {xs : Nat → Int32} {ad am : Nat → Nat} {o j n K tp : Nat} {μ σ : Nat → Nat → Int32} {pl : List KP} {f : Nat → Int64} (E : En p s m args meth c A code 7 RX0 ret D (tysA ct) gt) (hX : va_X b L0 xs s s.heap) (hbl : b < s.heap.size) (hbA : ¬ A b) (hL : L0 ≤ 384) (hj : 6 * j + 6 ≤ L0) (h : LI n K tp μ σ pl) (next : LN p l e s m args below meth c Q A D ct am b (ad 0) o j) : Sm p l e room_1 s m args below meth c Q A D 7 (76 + 10521 * j) (6340 + 83470 * j) (LW ct ad am o n (zt μ) σ μ pl f) 971 (LL b (ad 0) (am 0) o (nI (6 * j))) [] := by
  have hT : UT ad n (zt μ) (usW ad n (zt μ) ++ kpW (ad 47) ct n pl) := us_ut
  unfold LW
  refine s_aload_n E dL_law_971 (i := 1) (j := 1) rfl rfl ?_
  refine l_x E (x1z_leastBand (τ := zt μ) (σ := σ) h.1.1 hT h.pc h.bb) K_X0_125 (Nat.le_of_ble_eq_true rfl) (Nat.le_of_ble_eq_true rfl) (by show _ ≤ 853071; omega) (by show _ ≤ 6529724; omega) rfl rfl (Nat.le_of_ble_eq_true rfl) dL_law_972 (fun r u hu => ?_)
  rw [h.vwz] at hu
  refine s_aload_n E dL_law_975 (i := 2) (j := 2) rfl rfl ?_
  refine l_m E (mz_leastBand (σ := μ) n h.cm h.lhh h.1.2.2.2) K_X0_128 (Nat.le_of_ble_eq_true rfl) (Nat.le_of_ble_eq_true rfl) (by show _ ≤ 853071; omega) (by show _ ≤ 6529724; omega) rfl rfl (Nat.le_of_ble_eq_true rfl) dL_law_976 (fun r2 μ2 hv => ?_)
  refine s_icmp_eq E dL_law_979 (tgt := 1522) (by decide) (fun _ => ?_) (fun c9 => absurd ?_ c9)
  · exact l_next next (h.q (hv.2) (QX.xs hu.2)) (by omega) (by omega)
  · exact hu.1.symm.trans hv.1
set_option maxHeartbeats 1000000 in
theorem lc_25 {p : Program} {l : Launch} {e : Env} {s : State} {m : MethodId} {args : Array Value} {below : List Frame} {meth : Method} {c : Code} {Q : State → Prop} {A : Nat → Prop} {D : va_G} {ret : Option FieldType} {ct : Nat → ClassId} {gt : Nat → Nat} {b L0 : Nat} {xs : Nat → Int32} {ad am : Nat → Nat} {o j n K tp : Nat} {μ σ : Nat → Nat → Int32} {pl : List KP} {f : Nat → Int64} (E : En p s m args meth c A code 7 RX0 ret D (tysA ct) gt) (hX : va_X b L0 xs s s.heap) (hbl : b < s.heap.size) (hbA : ¬ A b) (hL : L0 ≤ 384) (hj : 6 * j + 6 ≤ L0) (h : LI n K tp μ σ pl) (next : LN p l e s m args below meth c Q A D ct am b (ad 0) o j) : Sm p l e room_1 s m args below meth c Q A D 7 (76 + 10521 * j) (6340 + 83470 * j) (LW ct ad am o n (zt μ) σ μ pl f) 984 (LL b (ad 0) (am 0) o (nI (6 * j))) [] := by
  have hT : UT ad n (zt μ) (usW ad n (zt μ) ++ kpW (ad 47) ct n pl) := us_ut
  unfold LW
  refine s_aload_n E dL_law_984 (i := 1) (j := 1) rfl rfl ?_
  refine l_arg E hX hbl hbA hL (k := 1) (by omega) dL_law_985 dL_law_986 dL_law_988 (by decide) dL_law_989 dL_law_990 ?_
  refine l_arg E hX hbl hbA hL (k := 2) (by omega) dL_law_991 dL_law_992 dL_law_994 (by decide) dL_law_995 dL_law_996 ?_
  refine l_arg E hX hbl hbA hL (k := 3) (by omega) dL_law_997 dL_law_998 dL_law_1000 (by decide) dL_law_1001 dL_law_1002 ?_
  refine l_arg E hX hbl hbA hL (k := 4) (by omega) dL_law_1003 dL_law_1004 dL_law_1006 (by decide) dL_law_1007 dL_law_1008 ?_
  refine l_x E (x1z_grown (τ := zt μ) (σ := σ) (xs (6 * j + 1)) (xs (6 * j + 2)) (xs (6 * j + 3)) (xs (6 * j + 4)) h.1.1 h.1.2.1) K_X0_129 (Nat.le_of_ble_eq_true rfl) (Nat.le_of_ble_eq_true rfl) (by show _ ≤ 853071; omega) (by show _ ≤ 6529724; omega) rfl rfl (Nat.le_of_ble_eq_true rfl) dL_law_1009 (fun r u hu => ?_)
  refine s_aload_n E dL_law_1012 (i := 2) (j := 2) rfl rfl ?_
  refine l_arg E hX hbl hbA hL (k := 1) (by omega) dL_law_1013 dL_law_1014 dL_law_1016 (by decide) dL_law_1017 dL_law_1018 ?_
  refine l_arg E hX hbl hbA hL (k := 2) (by omega) dL_law_1019 dL_law_1020 dL_law_1022 (by decide) dL_law_1023 dL_law_1024 ?_
  refine l_arg E hX hbl hbA hL (k := 3) (by omega) dL_law_1025 dL_law_1026 dL_law_1028 (by decide) dL_law_1029 dL_law_1030 ?_
  refine l_arg E hX hbl hbA hL (k := 4) (by omega) dL_law_1031 dL_law_1032 dL_law_1034 (by decide) dL_law_1035 dL_law_1036 ?_
  refine l_m E (mz_grown (σ := μ) (xs (6 * j + 1)) (xs (6 * j + 2)) (xs (6 * j + 3)) (xs (6 * j + 4))) K_X0_133 (Nat.le_of_ble_eq_true rfl) (Nat.le_of_ble_eq_true rfl) (by show _ ≤ 853071; omega) (by show _ ≤ 6529724; omega) rfl rfl (Nat.le_of_ble_eq_true rfl) dL_law_1037 (fun r2 μ2 hv => ?_)
  refine s_icmp_eq E dL_law_1040 (tgt := 1522) (by decide) (fun _ => ?_) (fun c9 => absurd ?_ c9)
  · exact l_next next (h.q (hv.2) (QX.xg hu.2)) (by omega) (by omega)
  · exact hu.1.symm.trans hv.1
set_option maxHeartbeats 1000000 in
theorem lc_26 {p : Program} {l : Launch} {e : Env} {s : State} {m : MethodId} {args : Array Value} {below : List Frame} {meth : Method} {c : Code} {Q : State → Prop} {A : Nat → Prop} {D : va_G} {ret : Option FieldType} {ct : Nat → ClassId} {gt : Nat → Nat} {b L0 : Nat} {xs : Nat → Int32} {ad am : Nat → Nat} {o j n K tp : Nat} {μ σ : Nat → Nat → Int32} {pl : List KP} {f : Nat → Int64} (E : En p s m args meth c A code 7 RX0 ret D (tysA ct) gt) (hX : va_X b L0 xs s s.heap) (hbl : b < s.heap.size) (hbA : ¬ A b) (hL : L0 ≤ 384) (hj : 6 * j + 6 ≤ L0) (h : LI n K tp μ σ pl) (next : LN p l e s m args below meth c Q A D ct am b (ad 0) o j) : Sm p l e room_1 s m args below meth c Q A D 7 (76 + 10521 * j) (6340 + 83470 * j) (LW ct ad am o n (zt μ) σ μ pl f) 1045 (LL b (ad 0) (am 0) o (nI (6 * j))) [] := by
  have hT : UT ad n (zt μ) (usW ad n (zt μ) ++ kpW (ad 47) ct n pl) := us_ut
  unfold LW
  refine s_aload_n E dL_law_1045 (i := 1) (j := 1) rfl rfl ?_
  refine l_x E (x1z_worst (τ := zt μ) (σ := σ) h.1.1 hT h.pc) K_X0_134 (Nat.le_of_ble_eq_true rfl) (Nat.le_of_ble_eq_true rfl) (by show _ ≤ 853071; omega) (by show _ ≤ 6529724; omega) rfl rfl (Nat.le_of_ble_eq_true rfl) dL_law_1046 (fun r u hu => ?_)
  rw [h.vwz] at hu
  refine s_aload_n E dL_law_1049 (i := 2) (j := 2) rfl rfl ?_
  refine l_m E (mz_worst (σ := μ) n h.n7 h.n6 h.st) K_X0_137 (Nat.le_of_ble_eq_true rfl) (Nat.le_of_ble_eq_true rfl) (by show _ ≤ 853071; omega) (by show _ ≤ 6529724; omega) rfl rfl (Nat.le_of_ble_eq_true rfl) dL_law_1050 (fun r2 μ2 hv => ?_)
  refine s_icmp_eq E dL_law_1053 (tgt := 1522) (by decide) (fun _ => ?_) (fun c9 => absurd ?_ c9)
  · exact l_next next (h.q (HQ.of_hr hv.2) (QX.xa hu.2)) (by omega) (by omega)
  · exact hu.1.symm.trans hv.1
set_option maxHeartbeats 1000000 in
theorem lc_27 {p : Program} {l : Launch} {e : Env} {s : State} {m : MethodId} {args : Array Value} {below : List Frame} {meth : Method} {c : Code} {Q : State → Prop} {A : Nat → Prop} {D : va_G} {ret : Option FieldType} {ct : Nat → ClassId} {gt : Nat → Nat} {b L0 : Nat} {xs : Nat → Int32} {ad am : Nat → Nat} {o j n K tp : Nat} {μ σ : Nat → Nat → Int32} {pl : List KP} {f : Nat → Int64} (E : En p s m args meth c A code 7 RX0 ret D (tysA ct) gt) (hX : va_X b L0 xs s s.heap) (hbl : b < s.heap.size) (hbA : ¬ A b) (hL : L0 ≤ 384) (hj : 6 * j + 6 ≤ L0) (h : LI n K tp μ σ pl) (next : LN p l e s m args below meth c Q A D ct am b (ad 0) o j) : Sm p l e room_1 s m args below meth c Q A D 7 (76 + 10521 * j) (6340 + 83470 * j) (LW ct ad am o n (zt μ) σ μ pl f) 1058 (LL b (ad 0) (am 0) o (nI (6 * j))) [] := by
  have hT : UT ad n (zt μ) (usW ad n (zt μ) ++ kpW (ad 47) ct n pl) := us_ut
  unfold LW
  refine s_aload_n E dL_law_1058 (i := 1) (j := 1) rfl rfl ?_
  refine l_arg E hX hbl hbA hL (k := 1) (by omega) dL_law_1059 dL_law_1060 dL_law_1062 (by decide) dL_law_1063 dL_law_1064 ?_
  refine l_arg E hX hbl hbA hL (k := 2) (by omega) dL_law_1065 dL_law_1066 dL_law_1068 (by decide) dL_law_1069 dL_law_1070 ?_
  refine l_x E (x1z_ifTuned (τ := zt μ) (σ := σ) (xs (6 * j + 1)) (xs (6 * j + 2)) h.1.1 hT h.pc h.bb) K_X0_138 (Nat.le_of_ble_eq_true rfl) (Nat.le_of_ble_eq_true rfl) (by show _ ≤ 853071; omega) (by show _ ≤ 6529724; omega) rfl rfl (Nat.le_of_ble_eq_true rfl) dL_law_1071 (fun r u hu => ?_)
  rw [h.vwz] at hu
  refine s_aload_n E dL_law_1074 (i := 2) (j := 2) rfl rfl ?_
  refine l_arg E hX hbl hbA hL (k := 1) (by omega) dL_law_1075 dL_law_1076 dL_law_1078 (by decide) dL_law_1079 dL_law_1080 ?_
  refine l_arg E hX hbl hbA hL (k := 2) (by omega) dL_law_1081 dL_law_1082 dL_law_1084 (by decide) dL_law_1085 dL_law_1086 ?_
  refine l_m E (mz_ifTuned (σ := μ) n (tN (μ 3 0)) (xs (6 * j + 1)) (xs (6 * j + 2)) h.n7 h.n6 h.st h.b61.1 (by have := h.b61.2; omega)) K_X0_141 (Nat.le_of_ble_eq_true rfl) (Nat.le_of_ble_eq_true rfl) (by show _ ≤ 853071; omega) (by show _ ≤ 6529724; omega) rfl rfl (Nat.le_of_ble_eq_true rfl) dL_law_1087 (fun r2 μ2 hv => ?_)
  refine s_icmp_eq E dL_law_1090 (tgt := 1522) (by decide) (fun _ => ?_) (fun c9 => absurd ?_ c9)
  · exact l_next next (h.q (HQ.of_hr hv.2) (QX.xs hu.2)) (by omega) (by omega)
  · exact hu.1.symm.trans hv.1
set_option maxHeartbeats 1000000 in
theorem lc_28 {p : Program} {l : Launch} {e : Env} {s : State} {m : MethodId} {args : Array Value} {below : List Frame} {meth : Method} {c : Code} {Q : State → Prop} {A : Nat → Prop} {D : va_G} {ret : Option FieldType} {ct : Nat → ClassId} {gt : Nat → Nat} {b L0 : Nat} {xs : Nat → Int32} {ad am : Nat → Nat} {o j n K tp : Nat} {μ σ : Nat → Nat → Int32} {pl : List KP} {f : Nat → Int64} (E : En p s m args meth c A code 7 RX0 ret D (tysA ct) gt) (hX : va_X b L0 xs s s.heap) (hbl : b < s.heap.size) (hbA : ¬ A b) (hL : L0 ≤ 384) (hj : 6 * j + 6 ≤ L0) (h : LI n K tp μ σ pl) (next : LN p l e s m args below meth c Q A D ct am b (ad 0) o j) : Sm p l e room_1 s m args below meth c Q A D 7 (76 + 10521 * j) (6340 + 83470 * j) (LW ct ad am o n (zt μ) σ μ pl f) 1095 (LL b (ad 0) (am 0) o (nI (6 * j))) [] := by
  have hT : UT ad n (zt μ) (usW ad n (zt μ) ++ kpW (ad 47) ct n pl) := us_ut
  unfold LW
  refine s_aload_n E dL_law_1095 (i := 1) (j := 1) rfl rfl ?_
  refine l_arg E hX hbl hbA hL (k := 1) (by omega) dL_law_1096 dL_law_1097 dL_law_1099 (by decide) dL_law_1100 dL_law_1101 ?_
  refine l_arg E hX hbl hbA hL (k := 2) (by omega) dL_law_1102 dL_law_1103 dL_law_1105 (by decide) dL_law_1106 dL_law_1107 ?_
  refine l_x E (x1z_bySort (τ := zt μ) (σ := σ) (xs (6 * j + 1)) (xs (6 * j + 2)) h.1.1 hT h.pc) K_X0_142 (Nat.le_of_ble_eq_true rfl) (Nat.le_of_ble_eq_true rfl) (by show _ ≤ 853071; omega) (by show _ ≤ 6529724; omega) rfl rfl (Nat.le_of_ble_eq_true rfl) dL_law_1108 (fun r u hu => ?_)
  rw [h.vwz] at hu
  refine s_aload_n E dL_law_1111 (i := 2) (j := 2) rfl rfl ?_
  refine l_arg E hX hbl hbA hL (k := 1) (by omega) dL_law_1112 dL_law_1113 dL_law_1115 (by decide) dL_law_1116 dL_law_1117 ?_
  refine l_arg E hX hbl hbA hL (k := 2) (by omega) dL_law_1118 dL_law_1119 dL_law_1121 (by decide) dL_law_1122 dL_law_1123 ?_
  refine l_m E (mz_bySort (σ := μ) n (xs (6 * j + 1)) (xs (6 * j + 2)) h.n7 h.n6 h.st) K_X0_145 (Nat.le_of_ble_eq_true rfl) (Nat.le_of_ble_eq_true rfl) (by show _ ≤ 853071; omega) (by show _ ≤ 6529724; omega) rfl rfl (Nat.le_of_ble_eq_true rfl) dL_law_1124 (fun r2 μ2 hv => ?_)
  refine s_icmp_eq E dL_law_1127 (tgt := 1522) (by decide) (fun _ => ?_) (fun c9 => absurd ?_ c9)
  · exact l_next next (h.q (HQ.of_hr hv.2) (QX.xa hu.2)) (by omega) (by omega)
  · exact hu.1.symm.trans hv.1
set_option maxHeartbeats 1000000 in
theorem lc_29 {p : Program} {l : Launch} {e : Env} {s : State} {m : MethodId} {args : Array Value} {below : List Frame} {meth : Method} {c : Code} {Q : State → Prop} {A : Nat → Prop} {D : va_G} {ret : Option FieldType} {ct : Nat → ClassId} {gt : Nat → Nat} {b L0 : Nat} {xs : Nat → Int32} {ad am : Nat → Nat} {o j n K tp : Nat} {μ σ : Nat → Nat → Int32} {pl : List KP} {f : Nat → Int64} (E : En p s m args meth c A code 7 RX0 ret D (tysA ct) gt) (hX : va_X b L0 xs s s.heap) (hbl : b < s.heap.size) (hbA : ¬ A b) (hL : L0 ≤ 384) (hj : 6 * j + 6 ≤ L0) (h : LI n K tp μ σ pl) (next : LN p l e s m args below meth c Q A D ct am b (ad 0) o j) : Sm p l e room_1 s m args below meth c Q A D 7 (76 + 10521 * j) (6340 + 83470 * j) (LW ct ad am o n (zt μ) σ μ pl f) 1132 (LL b (ad 0) (am 0) o (nI (6 * j))) [] := by
  have hT : UT ad n (zt μ) (usW ad n (zt μ) ++ kpW (ad 47) ct n pl) := us_ut
  unfold LW
  refine s_aload_n E dL_law_1132 (i := 1) (j := 1) rfl rfl ?_
  refine l_x E (x1z_loudest (τ := zt μ) (σ := σ) h.1.1 hT h.pc) K_X0_146 (Nat.le_of_ble_eq_true rfl) (Nat.le_of_ble_eq_true rfl) (by show _ ≤ 853071; omega) (by show _ ≤ 6529724; omega) rfl rfl (Nat.le_of_ble_eq_true rfl) dL_law_1133 (fun r u hu => ?_)
  rw [h.vwz] at hu
  refine s_aload_n E dL_law_1136 (i := 2) (j := 2) rfl rfl ?_
  refine l_m E (mz_loudest (σ := μ) n h.n7 h.n6 h.st) K_X0_149 (Nat.le_of_ble_eq_true rfl) (Nat.le_of_ble_eq_true rfl) (by show _ ≤ 853071; omega) (by show _ ≤ 6529724; omega) rfl rfl (Nat.le_of_ble_eq_true rfl) dL_law_1137 (fun r2 μ2 hv => ?_)
  refine s_icmp_eq E dL_law_1140 (tgt := 1522) (by decide) (fun _ => ?_) (fun c9 => absurd ?_ c9)
  · exact l_next next (h.q (HQ.of_hr hv.2) (QX.xa hu.2)) (by omega) (by omega)
  · exact hu.1.symm.trans hv.1
set_option maxHeartbeats 1000000 in
theorem lc_32 {p : Program} {l : Launch} {e : Env} {s : State} {m : MethodId} {args : Array Value} {below : List Frame} {meth : Method} {c : Code} {Q : State → Prop} {A : Nat → Prop} {D : va_G} {ret : Option FieldType} {ct : Nat → ClassId} {gt : Nat → Nat} {b L0 : Nat} {xs : Nat → Int32} {ad am : Nat → Nat} {o j n K tp : Nat} {μ σ : Nat → Nat → Int32} {pl : List KP} {f : Nat → Int64} (E : En p s m args meth c A code 7 RX0 ret D (tysA ct) gt) (hX : va_X b L0 xs s s.heap) (hbl : b < s.heap.size) (hbA : ¬ A b) (hL : L0 ≤ 384) (hj : 6 * j + 6 ≤ L0) (h : LI n K tp μ σ pl) (next : LN p l e s m args below meth c Q A D ct am b (ad 0) o j) : Sm p l e room_1 s m args below meth c Q A D 7 (76 + 10521 * j) (6340 + 83470 * j) (LW ct ad am o n (zt μ) σ μ pl f) 1183 (LL b (ad 0) (am 0) o (nI (6 * j))) [] := by
  have hT : UT ad n (zt μ) (usW ad n (zt μ) ++ kpW (ad 47) ct n pl) := us_ut
  unfold LW
  refine s_aload_n E dL_law_1183 (i := 1) (j := 1) rfl rfl ?_
  refine l_x E (x1z_bestSwap (τ := zt μ) (σ := σ) h.1.1 hT h.pc h.bb) K_X0_158 (Nat.le_of_ble_eq_true rfl) (Nat.le_of_ble_eq_true rfl) (by show _ ≤ 853071; omega) (by show _ ≤ 6529724; omega) rfl rfl (Nat.le_of_ble_eq_true rfl) dL_law_1184 (fun r u hu => ?_)
  rw [h.vwz] at hu
  refine s_aload_n E dL_law_1187 (i := 2) (j := 2) rfl rfl ?_
  refine l_m E (mz_bestSwap (σ := μ) n h.n7 h.n6 h.st) K_X0_161 (Nat.le_of_ble_eq_true rfl) (Nat.le_of_ble_eq_true rfl) (by show _ ≤ 853071; omega) (by show _ ≤ 6529724; omega) rfl rfl (Nat.le_of_ble_eq_true rfl) dL_law_1188 (fun r2 μ2 hv => ?_)
  refine s_icmp_eq E dL_law_1191 (tgt := 1522) (by decide) (fun _ => ?_) (fun c9 => absurd ?_ c9)
  · exact l_next next (h.q (HQ.of_hr hv.2) (QX.xs hu.2)) (by omega) (by omega)
  · exact hu.1.symm.trans hv.1
set_option maxHeartbeats 1000000 in
theorem lc_33 {p : Program} {l : Launch} {e : Env} {s : State} {m : MethodId} {args : Array Value} {below : List Frame} {meth : Method} {c : Code} {Q : State → Prop} {A : Nat → Prop} {D : va_G} {ret : Option FieldType} {ct : Nat → ClassId} {gt : Nat → Nat} {b L0 : Nat} {xs : Nat → Int32} {ad am : Nat → Nat} {o j n K tp : Nat} {μ σ : Nat → Nat → Int32} {pl : List KP} {f : Nat → Int64} (E : En p s m args meth c A code 7 RX0 ret D (tysA ct) gt) (hX : va_X b L0 xs s s.heap) (hbl : b < s.heap.size) (hbA : ¬ A b) (hL : L0 ≤ 384) (hj : 6 * j + 6 ≤ L0) (h : LI n K tp μ σ pl) (next : LN p l e s m args below meth c Q A D ct am b (ad 0) o j) : Sm p l e room_1 s m args below meth c Q A D 7 (76 + 10521 * j) (6340 + 83470 * j) (LW ct ad am o n (zt μ) σ μ pl f) 1196 (LL b (ad 0) (am 0) o (nI (6 * j))) [] := by
  have hT : UT ad n (zt μ) (usW ad n (zt μ) ++ kpW (ad 47) ct n pl) := us_ut
  unfold LW
  refine s_aload_n E dL_law_1196 (i := 1) (j := 1) rfl rfl ?_
  refine l_arg E hX hbl hbA hL (k := 1) (by omega) dL_law_1197 dL_law_1198 dL_law_1200 (by decide) dL_law_1201 dL_law_1202 ?_
  refine l_x E (x1z_when (τ := zt μ) (σ := σ) (xs (6 * j + 1)) h.1.1 hT h.pc) K_X0_162 (Nat.le_of_ble_eq_true rfl) (Nat.le_of_ble_eq_true rfl) (by show _ ≤ 853071; omega) (by show _ ≤ 6529724; omega) rfl rfl (Nat.le_of_ble_eq_true rfl) dL_law_1203 (fun r u hu => ?_)
  rw [h.vwz] at hu
  refine s_aload_n E dL_law_1206 (i := 2) (j := 2) rfl rfl ?_
  refine l_arg E hX hbl hbA hL (k := 1) (by omega) dL_law_1207 dL_law_1208 dL_law_1210 (by decide) dL_law_1211 dL_law_1212 ?_
  refine l_m E (mz_when (σ := μ) n (xs (6 * j + 1)) h.n7 h.n6 h.st) K_X0_165 (Nat.le_of_ble_eq_true rfl) (Nat.le_of_ble_eq_true rfl) (by show _ ≤ 853071; omega) (by show _ ≤ 6529724; omega) rfl rfl (Nat.le_of_ble_eq_true rfl) dL_law_1213 (fun r2 μ2 hv => ?_)
  refine s_icmp_eq E dL_law_1216 (tgt := 1522) (by decide) (fun _ => ?_) (fun c9 => absurd ?_ c9)
  · exact l_next next (h.q (HQ.of_hr hv.2) (QX.xa hu.2)) (by omega) (by omega)
  · exact hu.1.symm.trans hv.1
set_option maxHeartbeats 1000000 in
theorem lc_34 {p : Program} {l : Launch} {e : Env} {s : State} {m : MethodId} {args : Array Value} {below : List Frame} {meth : Method} {c : Code} {Q : State → Prop} {A : Nat → Prop} {D : va_G} {ret : Option FieldType} {ct : Nat → ClassId} {gt : Nat → Nat} {b L0 : Nat} {xs : Nat → Int32} {ad am : Nat → Nat} {o j n K tp : Nat} {μ σ : Nat → Nat → Int32} {pl : List KP} {f : Nat → Int64} (E : En p s m args meth c A code 7 RX0 ret D (tysA ct) gt) (hX : va_X b L0 xs s s.heap) (hbl : b < s.heap.size) (hbA : ¬ A b) (hL : L0 ≤ 384) (hj : 6 * j + 6 ≤ L0) (h : LI n K tp μ σ pl) (next : LN p l e s m args below meth c Q A D ct am b (ad 0) o j) : Sm p l e room_1 s m args below meth c Q A D 7 (76 + 10521 * j) (6340 + 83470 * j) (LW ct ad am o n (zt μ) σ μ pl f) 1221 (LL b (ad 0) (am 0) o (nI (6 * j))) [] := by
  have hT : UT ad n (zt μ) (usW ad n (zt μ) ++ kpW (ad 47) ct n pl) := us_ut
  unfold LW
  refine s_aload_n E dL_law_1221 (i := 1) (j := 1) rfl rfl ?_
  refine l_arg E hX hbl hbA hL (k := 1) (by omega) dL_law_1222 dL_law_1223 dL_law_1225 (by decide) dL_law_1226 dL_law_1227 ?_
  refine l_x E (x1z_clearance (τ := zt μ) (σ := σ) (xs (6 * j + 1)) h.1.1 hT h.pc) K_X0_166 (Nat.le_of_ble_eq_true rfl) (Nat.le_of_ble_eq_true rfl) (by show _ ≤ 853071; omega) (by show _ ≤ 6529724; omega) rfl rfl (Nat.le_of_ble_eq_true rfl) dL_law_1228 (fun r u hu => ?_)
  rw [h.vwz] at hu
  refine s_aload_n E dL_law_1231 (i := 2) (j := 2) rfl rfl ?_
  refine l_arg E hX hbl hbA hL (k := 1) (by omega) dL_law_1232 dL_law_1233 dL_law_1235 (by decide) dL_law_1236 dL_law_1237 ?_
  refine l_m E (mz_clearance (σ := μ) n (xs (6 * j + 1)) h.n7 h.n6 h.st) K_X0_169 (Nat.le_of_ble_eq_true rfl) (Nat.le_of_ble_eq_true rfl) (by show _ ≤ 853071; omega) (by show _ ≤ 6529724; omega) rfl rfl (Nat.le_of_ble_eq_true rfl) dL_law_1238 (fun r2 μ2 hv => ?_)
  refine s_icmp_eq E dL_law_1241 (tgt := 1522) (by decide) (fun _ => ?_) (fun c9 => absurd ?_ c9)
  · exact l_next next (h.q (HQ.of_hr hv.2) (QX.xa hu.2)) (by omega) (by omega)
  · exact hu.1.symm.trans hv.1
set_option maxHeartbeats 1000000 in
theorem lc_35 {p : Program} {l : Launch} {e : Env} {s : State} {m : MethodId} {args : Array Value} {below : List Frame} {meth : Method} {c : Code} {Q : State → Prop} {A : Nat → Prop} {D : va_G} {ret : Option FieldType} {ct : Nat → ClassId} {gt : Nat → Nat} {b L0 : Nat} {xs : Nat → Int32} {ad am : Nat → Nat} {o j n K tp : Nat} {μ σ : Nat → Nat → Int32} {pl : List KP} {f : Nat → Int64} (E : En p s m args meth c A code 7 RX0 ret D (tysA ct) gt) (hX : va_X b L0 xs s s.heap) (hbl : b < s.heap.size) (hbA : ¬ A b) (hL : L0 ≤ 384) (hj : 6 * j + 6 ≤ L0) (h : LI n K tp μ σ pl) (next : LN p l e s m args below meth c Q A D ct am b (ad 0) o j) : Sm p l e room_1 s m args below meth c Q A D 7 (76 + 10521 * j) (6340 + 83470 * j) (LW ct ad am o n (zt μ) σ μ pl f) 1246 (LL b (ad 0) (am 0) o (nI (6 * j))) [] := by
  have hT : UT ad n (zt μ) (usW ad n (zt μ) ++ kpW (ad 47) ct n pl) := us_ut
  unfold LW
  refine s_aload_n E dL_law_1246 (i := 1) (j := 1) rfl rfl ?_
  refine l_arg E hX hbl hbA hL (k := 1) (by omega) dL_law_1247 dL_law_1248 dL_law_1250 (by decide) dL_law_1251 dL_law_1252 ?_
  refine l_x E (x1z_nearest (τ := zt μ) (σ := σ) (xs (6 * j + 1)) h.1.1 hT) K_X0_170 (Nat.le_of_ble_eq_true rfl) (Nat.le_of_ble_eq_true rfl) (by show _ ≤ 853071; omega) (by show _ ≤ 6529724; omega) rfl rfl (Nat.le_of_ble_eq_true rfl) dL_law_1253 (fun r u hu => ?_)
  rw [h.vwz] at hu
  refine s_aload_n E dL_law_1256 (i := 2) (j := 2) rfl rfl ?_
  refine l_arg E hX hbl hbA hL (k := 1) (by omega) dL_law_1257 dL_law_1258 dL_law_1260 (by decide) dL_law_1261 dL_law_1262 ?_
  refine l_m E (mz_nearest (σ := μ) n (xs (6 * j + 1)) h.n7 h.n6) K_X0_173 (Nat.le_of_ble_eq_true rfl) (Nat.le_of_ble_eq_true rfl) (by show _ ≤ 853071; omega) (by show _ ≤ 6529724; omega) rfl rfl (Nat.le_of_ble_eq_true rfl) dL_law_1263 (fun r2 μ2 hv => ?_)
  refine s_icmp_eq E dL_law_1266 (tgt := 1522) (by decide) (fun _ => ?_) (fun c9 => absurd ?_ c9)
  · exact l_next next (h.q (HQ.of_eq hv.2) (hu.2 ▸ QX.rf _)) (by omega) (by omega)
  · exact hu.1.symm.trans hv.1
set_option maxHeartbeats 1000000 in
theorem lc_36 {p : Program} {l : Launch} {e : Env} {s : State} {m : MethodId} {args : Array Value} {below : List Frame} {meth : Method} {c : Code} {Q : State → Prop} {A : Nat → Prop} {D : va_G} {ret : Option FieldType} {ct : Nat → ClassId} {gt : Nat → Nat} {b L0 : Nat} {xs : Nat → Int32} {ad am : Nat → Nat} {o j n K tp : Nat} {μ σ : Nat → Nat → Int32} {pl : List KP} {f : Nat → Int64} (E : En p s m args meth c A code 7 RX0 ret D (tysA ct) gt) (hX : va_X b L0 xs s s.heap) (hbl : b < s.heap.size) (hbA : ¬ A b) (hL : L0 ≤ 384) (hj : 6 * j + 6 ≤ L0) (h : LI n K tp μ σ pl) (next : LN p l e s m args below meth c Q A D ct am b (ad 0) o j) : Sm p l e room_1 s m args below meth c Q A D 7 (76 + 10521 * j) (6340 + 83470 * j) (LW ct ad am o n (zt μ) σ μ pl f) 1271 (LL b (ad 0) (am 0) o (nI (6 * j))) [] := by
  have hT : UT ad n (zt μ) (usW ad n (zt μ) ++ kpW (ad 47) ct n pl) := us_ut
  unfold LW
  refine s_aload_n E dL_law_1271 (i := 1) (j := 1) rfl rfl ?_
  refine l_x E (x1z_mostSpace (τ := zt μ) (σ := σ) h.1.1 hT h.pc h.bb) K_X0_174 (Nat.le_of_ble_eq_true rfl) (Nat.le_of_ble_eq_true rfl) (by show _ ≤ 853071; omega) (by show _ ≤ 6529724; omega) rfl rfl (Nat.le_of_ble_eq_true rfl) dL_law_1272 (fun r u hu => ?_)
  rw [h.vwz] at hu
  refine s_aload_n E dL_law_1275 (i := 2) (j := 2) rfl rfl ?_
  refine l_m E (mz_mostSpace (σ := μ) n h.n7 h.n6 h.1.2.2.2) K_X0_177 (Nat.le_of_ble_eq_true rfl) (Nat.le_of_ble_eq_true rfl) (by show _ ≤ 853071; omega) (by show _ ≤ 6529724; omega) rfl rfl (Nat.le_of_ble_eq_true rfl) dL_law_1276 (fun r2 μ2 hv => ?_)
  refine s_icmp_eq E dL_law_1279 (tgt := 1522) (by decide) (fun _ => ?_) (fun c9 => absurd ?_ c9)
  · exact l_next next (h.q (HQ.of_eq hv.2) (QX.xs hu.2)) (by omega) (by omega)
  · exact hu.1.symm.trans hv.1
set_option maxHeartbeats 1000000 in
theorem lc_37 {p : Program} {l : Launch} {e : Env} {s : State} {m : MethodId} {args : Array Value} {below : List Frame} {meth : Method} {c : Code} {Q : State → Prop} {A : Nat → Prop} {D : va_G} {ret : Option FieldType} {ct : Nat → ClassId} {gt : Nat → Nat} {b L0 : Nat} {xs : Nat → Int32} {ad am : Nat → Nat} {o j n K tp : Nat} {μ σ : Nat → Nat → Int32} {pl : List KP} {f : Nat → Int64} (E : En p s m args meth c A code 7 RX0 ret D (tysA ct) gt) (hX : va_X b L0 xs s s.heap) (hbl : b < s.heap.size) (hbA : ¬ A b) (hL : L0 ≤ 384) (hj : 6 * j + 6 ≤ L0) (h : LI n K tp μ σ pl) (next : LN p l e s m args below meth c Q A D ct am b (ad 0) o j) : Sm p l e room_1 s m args below meth c Q A D 7 (76 + 10521 * j) (6340 + 83470 * j) (LW ct ad am o n (zt μ) σ μ pl f) 1284 (LL b (ad 0) (am 0) o (nI (6 * j))) [] := by
  have hT : UT ad n (zt μ) (usW ad n (zt μ) ++ kpW (ad 47) ct n pl) := us_ut
  unfold LW
  refine s_aload_n E dL_law_1284 (i := 1) (j := 1) rfl rfl ?_
  refine l_arg E hX hbl hbA hL (k := 1) (by omega) dL_law_1285 dL_law_1286 dL_law_1288 (by decide) dL_law_1289 dL_law_1290 ?_
  refine l_x E (x1z_spare (τ := zt μ) (σ := σ) (xs (6 * j + 1)) h.1.1 hT h.pc h.bb) K_X0_178 (Nat.le_of_ble_eq_true rfl) (Nat.le_of_ble_eq_true rfl) (by show _ ≤ 853071; omega) (by show _ ≤ 6529724; omega) rfl rfl (Nat.le_of_ble_eq_true rfl) dL_law_1291 (fun r u hu => ?_)
  rw [h.vwz] at hu
  refine s_aload_n E dL_law_1294 (i := 2) (j := 2) rfl rfl ?_
  refine l_arg E hX hbl hbA hL (k := 1) (by omega) dL_law_1295 dL_law_1296 dL_law_1298 (by decide) dL_law_1299 dL_law_1300 ?_
  refine l_m E (mz_spare (σ := μ) n (tN (μ 3 0)) (xs (6 * j + 1)) h.cm h.lhh h.1.2.2.2 h.b30 (by have := h.b61.2; omega)) K_X0_181 (Nat.le_of_ble_eq_true rfl) (Nat.le_of_ble_eq_true rfl) (by show _ ≤ 853071; omega) (by show _ ≤ 6529724; omega) rfl rfl (Nat.le_of_ble_eq_true rfl) dL_law_1301 (fun r2 μ2 hv => ?_)
  refine s_icmp_eq E dL_law_1304 (tgt := 1522) (by decide) (fun _ => ?_) (fun c9 => absurd ?_ c9)
  · exact l_next next (h.q (hv.2) (QX.xs hu.2)) (by omega) (by omega)
  · exact hu.1.symm.trans hv.1
set_option maxHeartbeats 1000000 in
theorem lc_38 {p : Program} {l : Launch} {e : Env} {s : State} {m : MethodId} {args : Array Value} {below : List Frame} {meth : Method} {c : Code} {Q : State → Prop} {A : Nat → Prop} {D : va_G} {ret : Option FieldType} {ct : Nat → ClassId} {gt : Nat → Nat} {b L0 : Nat} {xs : Nat → Int32} {ad am : Nat → Nat} {o j n K tp : Nat} {μ σ : Nat → Nat → Int32} {pl : List KP} {f : Nat → Int64} (E : En p s m args meth c A code 7 RX0 ret D (tysA ct) gt) (hX : va_X b L0 xs s s.heap) (hbl : b < s.heap.size) (hbA : ¬ A b) (hL : L0 ≤ 384) (hj : 6 * j + 6 ≤ L0) (h : LI n K tp μ σ pl) (next : LN p l e s m args below meth c Q A D ct am b (ad 0) o j) : Sm p l e room_1 s m args below meth c Q A D 7 (76 + 10521 * j) (6340 + 83470 * j) (LW ct ad am o n (zt μ) σ μ pl f) 1309 (LL b (ad 0) (am 0) o (nI (6 * j))) [] := by
  have hT : UT ad n (zt μ) (usW ad n (zt μ) ++ kpW (ad 47) ct n pl) := us_ut
  unfold LW
  refine s_aload_n E dL_law_1309 (i := 1) (j := 1) rfl rfl ?_
  refine l_arg E hX hbl hbA hL (k := 1) (by omega) dL_law_1310 dL_law_1311 dL_law_1313 (by decide) dL_law_1314 dL_law_1315 ?_
  refine l_x E (x1z_rank (τ := zt μ) (σ := σ) (xs (6 * j + 1)) h.1.1 hT h.pc) K_X0_182 (Nat.le_of_ble_eq_true rfl) (Nat.le_of_ble_eq_true rfl) (by show _ ≤ 853071; omega) (by show _ ≤ 6529724; omega) rfl rfl (Nat.le_of_ble_eq_true rfl) dL_law_1316 (fun r u hu => ?_)
  rw [h.vwz] at hu
  refine s_aload_n E dL_law_1319 (i := 2) (j := 2) rfl rfl ?_
  refine l_arg E hX hbl hbA hL (k := 1) (by omega) dL_law_1320 dL_law_1321 dL_law_1323 (by decide) dL_law_1324 dL_law_1325 ?_
  refine l_m E (mz_rank (σ := μ) n (xs (6 * j + 1)) h.n7 h.n6 h.st) K_X0_185 (Nat.le_of_ble_eq_true rfl) (Nat.le_of_ble_eq_true rfl) (by show _ ≤ 853071; omega) (by show _ ≤ 6529724; omega) rfl rfl (Nat.le_of_ble_eq_true rfl) dL_law_1326 (fun r2 μ2 hv => ?_)
  refine s_icmp_eq E dL_law_1329 (tgt := 1522) (by decide) (fun _ => ?_) (fun c9 => absurd ?_ c9)
  · exact l_next next (h.q (HQ.of_hr hv.2) (QX.xa hu.2)) (by omega) (by omega)
  · exact hu.1.symm.trans hv.1
set_option maxHeartbeats 1000000 in
theorem lc_39 {p : Program} {l : Launch} {e : Env} {s : State} {m : MethodId} {args : Array Value} {below : List Frame} {meth : Method} {c : Code} {Q : State → Prop} {A : Nat → Prop} {D : va_G} {ret : Option FieldType} {ct : Nat → ClassId} {gt : Nat → Nat} {b L0 : Nat} {xs : Nat → Int32} {ad am : Nat → Nat} {o j n K tp : Nat} {μ σ : Nat → Nat → Int32} {pl : List KP} {f : Nat → Int64} (E : En p s m args meth c A code 7 RX0 ret D (tysA ct) gt) (hX : va_X b L0 xs s s.heap) (hbl : b < s.heap.size) (hbA : ¬ A b) (hL : L0 ≤ 384) (hj : 6 * j + 6 ≤ L0) (h : LI n K tp μ σ pl) (next : LN p l e s m args below meth c Q A D ct am b (ad 0) o j) : Sm p l e room_1 s m args below meth c Q A D 7 (76 + 10521 * j) (6340 + 83470 * j) (LW ct ad am o n (zt μ) σ μ pl f) 1334 (LL b (ad 0) (am 0) o (nI (6 * j))) [] := by
  have hT : UT ad n (zt μ) (usW ad n (zt μ) ++ kpW (ad 47) ct n pl) := us_ut
  unfold LW
  refine s_aload_n E dL_law_1334 (i := 1) (j := 1) rfl rfl ?_
  refine l_arg E hX hbl hbA hL (k := 1) (by omega) dL_law_1335 dL_law_1336 dL_law_1338 (by decide) dL_law_1339 dL_law_1340 ?_
  refine l_arg E hX hbl hbA hL (k := 2) (by omega) dL_law_1341 dL_law_1342 dL_law_1344 (by decide) dL_law_1345 dL_law_1346 ?_
  refine l_x E (x1z_linked (τ := zt μ) (σ := σ) (xs (6 * j + 1)) (xs (6 * j + 2))) K_X0_186 (Nat.le_of_ble_eq_true rfl) (Nat.le_of_ble_eq_true rfl) (by show _ ≤ 853071; omega) (by show _ ≤ 6529724; omega) rfl rfl (Nat.le_of_ble_eq_true rfl) dL_law_1347 (fun r u hu => ?_)
  refine s_aload_n E dL_law_1350 (i := 2) (j := 2) rfl rfl ?_
  refine l_arg E hX hbl hbA hL (k := 1) (by omega) dL_law_1351 dL_law_1352 dL_law_1354 (by decide) dL_law_1355 dL_law_1356 ?_
  refine l_arg E hX hbl hbA hL (k := 2) (by omega) dL_law_1357 dL_law_1358 dL_law_1360 (by decide) dL_law_1361 dL_law_1362 ?_
  refine l_m E (mz_linked (σ := μ) (xs (6 * j + 1)) (xs (6 * j + 2))) K_X0_189 (Nat.le_of_ble_eq_true rfl) (Nat.le_of_ble_eq_true rfl) (by show _ ≤ 853071; omega) (by show _ ≤ 6529724; omega) rfl rfl (Nat.le_of_ble_eq_true rfl) dL_law_1363 (fun r2 μ2 hv => ?_)
  refine s_icmp_eq E dL_law_1366 (tgt := 1522) (by decide) (fun _ => ?_) (fun c9 => absurd ?_ c9)
  · exact l_next next (h.q (HQ.of_eq hv.2) (hu.2 ▸ QX.rf _)) (by omega) (by omega)
  · exact hu.1.symm.trans hv.1
set_option maxHeartbeats 1000000 in
theorem lc_40 {p : Program} {l : Launch} {e : Env} {s : State} {m : MethodId} {args : Array Value} {below : List Frame} {meth : Method} {c : Code} {Q : State → Prop} {A : Nat → Prop} {D : va_G} {ret : Option FieldType} {ct : Nat → ClassId} {gt : Nat → Nat} {b L0 : Nat} {xs : Nat → Int32} {ad am : Nat → Nat} {o j n K tp : Nat} {μ σ : Nat → Nat → Int32} {pl : List KP} {f : Nat → Int64} (E : En p s m args meth c A code 7 RX0 ret D (tysA ct) gt) (hX : va_X b L0 xs s s.heap) (hbl : b < s.heap.size) (hbA : ¬ A b) (hL : L0 ≤ 384) (hj : 6 * j + 6 ≤ L0) (h : LI n K tp μ σ pl) (next : LN p l e s m args below meth c Q A D ct am b (ad 0) o j) : Sm p l e room_1 s m args below meth c Q A D 7 (76 + 10521 * j) (6340 + 83470 * j) (LW ct ad am o n (zt μ) σ μ pl f) 1371 (LL b (ad 0) (am 0) o (nI (6 * j))) [] := by
  have hT : UT ad n (zt μ) (usW ad n (zt μ) ++ kpW (ad 47) ct n pl) := us_ut
  unfold LW
  refine s_aload_n E dL_law_1371 (i := 1) (j := 1) rfl rfl ?_
  refine l_arg E hX hbl hbA hL (k := 1) (by omega) dL_law_1372 dL_law_1373 dL_law_1375 (by decide) dL_law_1376 dL_law_1377 ?_
  refine l_x E (x1z_mostPower (τ := zt μ) (σ := σ) (xs (6 * j + 1)) h.1.1 hT h.pc h.bb) K_X0_190 (Nat.le_of_ble_eq_true rfl) (Nat.le_of_ble_eq_true rfl) (by show _ ≤ 853071; omega) (by show _ ≤ 6529724; omega) rfl rfl (Nat.le_of_ble_eq_true rfl) dL_law_1378 (fun r u hu => ?_)
  rw [h.vwz] at hu
  refine s_aload_n E dL_law_1381 (i := 2) (j := 2) rfl rfl ?_
  refine l_arg E hX hbl hbA hL (k := 1) (by omega) dL_law_1382 dL_law_1383 dL_law_1385 (by decide) dL_law_1386 dL_law_1387 ?_
  refine l_m E (mz_mostPower (σ := μ) n (xs (6 * j + 1)) h.n7 h.n6 h.st) K_X0_193 (Nat.le_of_ble_eq_true rfl) (Nat.le_of_ble_eq_true rfl) (by show _ ≤ 853071; omega) (by show _ ≤ 6529724; omega) rfl rfl (Nat.le_of_ble_eq_true rfl) dL_law_1388 (fun r2 μ2 hv => ?_)
  refine s_icmp_eq E dL_law_1391 (tgt := 1522) (by decide) (fun _ => ?_) (fun c9 => absurd ?_ c9)
  · exact l_next next (h.q (HQ.of_hr hv.2) (QX.xs hu.2)) (by omega) (by omega)
  · exact hu.1.symm.trans hv.1
set_option maxHeartbeats 1000000 in
theorem lc_41 {p : Program} {l : Launch} {e : Env} {s : State} {m : MethodId} {args : Array Value} {below : List Frame} {meth : Method} {c : Code} {Q : State → Prop} {A : Nat → Prop} {D : va_G} {ret : Option FieldType} {ct : Nat → ClassId} {gt : Nat → Nat} {b L0 : Nat} {xs : Nat → Int32} {ad am : Nat → Nat} {o j n K tp : Nat} {μ σ : Nat → Nat → Int32} {pl : List KP} {f : Nat → Int64} (E : En p s m args meth c A code 7 RX0 ret D (tysA ct) gt) (hX : va_X b L0 xs s s.heap) (hbl : b < s.heap.size) (hbA : ¬ A b) (hL : L0 ≤ 384) (hj : 6 * j + 6 ≤ L0) (h : LI n K tp μ σ pl) (next : LN p l e s m args below meth c Q A D ct am b (ad 0) o j) : Sm p l e room_1 s m args below meth c Q A D 7 (76 + 10521 * j) (6340 + 83470 * j) (LW ct ad am o n (zt μ) σ μ pl f) 1396 (LL b (ad 0) (am 0) o (nI (6 * j))) [] := by
  have hT : UT ad n (zt μ) (usW ad n (zt μ) ++ kpW (ad 47) ct n pl) := us_ut
  unfold LW
  refine s_aload_n E dL_law_1396 (i := 1) (j := 1) rfl rfl ?_
  refine l_x E (x1z_mostGuard (τ := zt μ) (σ := σ) h.1.1 hT h.pc h.bb) K_X0_194 (Nat.le_of_ble_eq_true rfl) (Nat.le_of_ble_eq_true rfl) (by show _ ≤ 853071; omega) (by show _ ≤ 6529724; omega) rfl rfl (Nat.le_of_ble_eq_true rfl) dL_law_1397 (fun r u hu => ?_)
  rw [h.vwz] at hu
  refine s_aload_n E dL_law_1400 (i := 2) (j := 2) rfl rfl ?_
  refine l_m E (mz_mostGuard (σ := μ) n h.n7 h.n6 h.st h.1.2.2.2) K_X0_197 (Nat.le_of_ble_eq_true rfl) (Nat.le_of_ble_eq_true rfl) (by show _ ≤ 853071; omega) (by show _ ≤ 6529724; omega) rfl rfl (Nat.le_of_ble_eq_true rfl) dL_law_1401 (fun r2 μ2 hv => ?_)
  refine s_icmp_eq E dL_law_1404 (tgt := 1522) (by decide) (fun _ => ?_) (fun c9 => absurd ?_ c9)
  · exact l_next next (h.q (HQ.of_hr hv.2) (QX.xs hu.2)) (by omega) (by omega)
  · exact hu.1.symm.trans hv.1
set_option maxHeartbeats 1000000 in
theorem lc_42 {p : Program} {l : Launch} {e : Env} {s : State} {m : MethodId} {args : Array Value} {below : List Frame} {meth : Method} {c : Code} {Q : State → Prop} {A : Nat → Prop} {D : va_G} {ret : Option FieldType} {ct : Nat → ClassId} {gt : Nat → Nat} {b L0 : Nat} {xs : Nat → Int32} {ad am : Nat → Nat} {o j n K tp : Nat} {μ σ : Nat → Nat → Int32} {pl : List KP} {f : Nat → Int64} (E : En p s m args meth c A code 7 RX0 ret D (tysA ct) gt) (hX : va_X b L0 xs s s.heap) (hbl : b < s.heap.size) (hbA : ¬ A b) (hL : L0 ≤ 384) (hj : 6 * j + 6 ≤ L0) (h : LI n K tp μ σ pl) (next : LN p l e s m args below meth c Q A D ct am b (ad 0) o j) : Sm p l e room_1 s m args below meth c Q A D 7 (76 + 10521 * j) (6340 + 83470 * j) (LW ct ad am o n (zt μ) σ μ pl f) 1409 (LL b (ad 0) (am 0) o (nI (6 * j))) [] := by
  have hT : UT ad n (zt μ) (usW ad n (zt μ) ++ kpW (ad 47) ct n pl) := us_ut
  unfold LW
  refine s_aload_n E dL_law_1409 (i := 1) (j := 1) rfl rfl ?_
  refine l_arg E hX hbl hbA hL (k := 1) (by omega) dL_law_1410 dL_law_1411 dL_law_1413 (by decide) dL_law_1414 dL_law_1415 ?_
  refine l_arg E hX hbl hbA hL (k := 2) (by omega) dL_law_1416 dL_law_1417 dL_law_1419 (by decide) dL_law_1420 dL_law_1421 ?_
  refine l_arg E hX hbl hbA hL (k := 3) (by omega) dL_law_1422 dL_law_1423 dL_law_1425 (by decide) dL_law_1426 dL_law_1427 ?_
  refine l_x E (x1z_chance (τ := zt μ) (σ := σ) (xs (6 * j + 1)) (xs (6 * j + 2)) (xs (6 * j + 3)) h.1.1 hT h.pc h.bb) K_X0_198 (Nat.le_of_ble_eq_true rfl) (Nat.le_of_ble_eq_true rfl) (by show _ ≤ 853071; omega) (by show _ ≤ 6529724; omega) rfl rfl (Nat.le_of_ble_eq_true rfl) dL_law_1428 (fun r u hu => ?_)
  rw [h.vwz] at hu
  refine s_aload_n E dL_law_1431 (i := 2) (j := 2) rfl rfl ?_
  refine l_arg E hX hbl hbA hL (k := 1) (by omega) dL_law_1432 dL_law_1433 dL_law_1435 (by decide) dL_law_1436 dL_law_1437 ?_
  refine l_arg E hX hbl hbA hL (k := 2) (by omega) dL_law_1438 dL_law_1439 dL_law_1441 (by decide) dL_law_1442 dL_law_1443 ?_
  refine l_arg E hX hbl hbA hL (k := 3) (by omega) dL_law_1444 dL_law_1445 dL_law_1447 (by decide) dL_law_1448 dL_law_1449 ?_
  refine l_m E (mz_chance (σ := μ) n (tN (μ 3 0)) (xs (6 * j + 1)) (xs (6 * j + 2)) (xs (6 * j + 3)) h.cm h.lhh h.1.2.2.2 h.b30 (by have := h.b4; omega) (by have := h.b61.2; omega) h.sd) K_X0_202 (Nat.le_of_ble_eq_true rfl) (Nat.le_of_ble_eq_true rfl) (by show _ ≤ 853071; omega) (by show _ ≤ 6529724; omega) rfl rfl (Nat.le_of_ble_eq_true rfl) dL_law_1450 (fun r2 μ2 hv => ?_)
  refine s_icmp_eq E dL_law_1453 (tgt := 1522) (by decide) (fun _ => ?_) (fun c9 => absurd ?_ c9)
  · exact l_next next (h.q (hv.2) (QX.xc hu.2)) (by omega) (by omega)
  · exact hu.1.symm.trans hv.1
set_option maxHeartbeats 1000000 in
theorem lc_46 {p : Program} {l : Launch} {e : Env} {s : State} {m : MethodId} {args : Array Value} {below : List Frame} {meth : Method} {c : Code} {Q : State → Prop} {A : Nat → Prop} {D : va_G} {ret : Option FieldType} {ct : Nat → ClassId} {gt : Nat → Nat} {b L0 : Nat} {xs : Nat → Int32} {ad am : Nat → Nat} {o j n K tp : Nat} {μ σ : Nat → Nat → Int32} {pl : List KP} {f : Nat → Int64} (E : En p s m args meth c A code 7 RX0 ret D (tysA ct) gt) (hX : va_X b L0 xs s s.heap) (hbl : b < s.heap.size) (hbA : ¬ A b) (hL : L0 ≤ 384) (hj : 6 * j + 6 ≤ L0) (h : LI n K tp μ σ pl) (next : LN p l e s m args below meth c Q A D ct am b (ad 0) o j) : Sm p l e room_1 s m args below meth c Q A D 7 (76 + 10521 * j) (6340 + 83470 * j) (LW ct ad am o n (zt μ) σ μ pl f) 1497 (LL b (ad 0) (am 0) o (nI (6 * j))) [] := by
  have hT : UT ad n (zt μ) (usW ad n (zt μ) ++ kpW (ad 47) ct n pl) := us_ut
  unfold LW
  refine s_aload_n E dL_law_1497 (i := 1) (j := 1) rfl rfl ?_
  refine l_arg E hX hbl hbA hL (k := 1) (by omega) dL_law_1498 dL_law_1499 dL_law_1501 (by decide) dL_law_1502 dL_law_1503 ?_
  refine l_x E (x1z_count (τ := zt μ) (σ := σ) K (xs (6 * j + 1)) h.1.1 h.bb h.2.2.1.2.1 h.zb (h.2.2.2.2.1.2.1.trans h.2.2.2.2.1.1.symm)) K_X0_215 (Nat.le_of_ble_eq_true rfl) (Nat.le_of_ble_eq_true rfl) (by show _ ≤ 853071; omega) (by show _ ≤ 6529724; omega) rfl rfl (Nat.le_of_ble_eq_true rfl) dL_law_1504 (fun r u hu => ?_)
  rw [h.vwz] at hu
  refine s_aload_n E dL_law_1507 (i := 2) (j := 2) rfl rfl ?_
  refine l_arg E hX hbl hbA hL (k := 1) (by omega) dL_law_1508 dL_law_1509 dL_law_1511 (by decide) dL_law_1512 dL_law_1513 ?_
  refine l_m E (mz_count (σ := μ) n (tN (μ 3 0)) K (xs (6 * j + 1)) h.n7 h.n6 h.b61.1 (by have := h.b61.2; omega) h.2.2.1.1) K_X0_218 (Nat.le_of_ble_eq_true rfl) (Nat.le_of_ble_eq_true rfl) (by show _ ≤ 853071; omega) (by show _ ≤ 6529724; omega) rfl rfl (Nat.le_of_ble_eq_true rfl) dL_law_1514 (fun r2 μ2 hv => ?_)
  refine s_icmp_eq E dL_law_1517 (tgt := 1522) (by decide) (fun _ => ?_) (fun c9 => absurd ?_ c9)
  · exact l_next next (h.q (HQ.of_eq hv.2) (hu.2 ▸ QX.rf _)) (by omega) (by omega)
  · exact hu.1.symm.trans hv.1
set_option maxHeartbeats 1000000 in
theorem lc_2 {p : Program} {l : Launch} {e : Env} {s : State} {m : MethodId} {args : Array Value} {below : List Frame} {meth : Method} {c : Code} {Q : State → Prop} {A : Nat → Prop} {D : va_G} {ret : Option FieldType} {ct : Nat → ClassId} {gt : Nat → Nat} {b L0 : Nat} {xs : Nat → Int32} {ad am : Nat → Nat} {o j n K tp : Nat} {μ σ : Nat → Nat → Int32} {pl : List KP} {f : Nat → Int64} (E : En p s m args meth c A code 7 RX0 ret D (tysA ct) gt) (hX : va_X b L0 xs s s.heap) (hbl : b < s.heap.size) (hbA : ¬ A b) (hL : L0 ≤ 384) (hj : 6 * j + 6 ≤ L0) (h : LI n K tp μ σ pl) (next : LN p l e s m args below meth c Q A D ct am b (ad 0) o j) : Sm p l e room_1 s m args below meth c Q A D 7 (76 + 10521 * j) (6340 + 83470 * j) (LW ct ad am o n (zt μ) σ μ pl f) 342 (LL b (ad 0) (am 0) o (nI (6 * j))) [] := by
  have hT : UT ad n (zt μ) (usW ad n (zt μ) ++ kpW (ad 47) ct n pl) := us_ut
  unfold LW
  refine s_aload_n E dL_law_342 (i := 1) (j := 1) rfl rfl ?_
  refine l_arg E hX hbl hbA hL (k := 1) (by omega) dL_law_343 dL_law_344 dL_law_346 (by decide) dL_law_347 dL_law_348 ?_
  refine l_x E (x1z_fault (τ := zt μ) (σ := σ) (xs (6 * j + 1))) K_X0_31 (Nat.le_of_ble_eq_true rfl) (Nat.le_of_ble_eq_true rfl) (by show _ ≤ 853071; omega) (by show _ ≤ 6529724; omega) rfl rfl (Nat.le_of_ble_eq_true rfl) dL_law_349 (fun r u hu => ?_)
  refine s_aload_n E dL_law_352 (i := 2) (j := 2) rfl rfl ?_
  refine l_arg E hX hbl hbA hL (k := 1) (by omega) dL_law_353 dL_law_354 dL_law_356 (by decide) dL_law_357 dL_law_358 ?_
  refine l_m E (mz_fault (σ := μ) (xs (6 * j + 1))) K_X0_34 (Nat.le_of_ble_eq_true rfl) (Nat.le_of_ble_eq_true rfl) (by show _ ≤ 853071; omega) (by show _ ≤ 6529724; omega) rfl rfl (Nat.le_of_ble_eq_true rfl) dL_law_359 (fun r2 μ2 hv => ?_)
  refine s_icmp_eq E dL_law_362 (tgt := 1522) (by decide) (fun _ => ?_) (fun c9 => absurd ?_ c9)
  · exact l_next next (h.q (HQ.of_eq hv.2) (hu.2 ▸ QX.rf _)) (by omega) (by omega)
  · exact (hu.1.symm.trans (by rw [h.2.2.2.2.2.1, h.2.2.2.2.2.2])).trans hv.1
set_option maxHeartbeats 1000000 in
theorem lc_11 {p : Program} {l : Launch} {e : Env} {s : State} {m : MethodId} {args : Array Value} {below : List Frame} {meth : Method} {c : Code} {Q : State → Prop} {A : Nat → Prop} {D : va_G} {ret : Option FieldType} {ct : Nat → ClassId} {gt : Nat → Nat} {b L0 : Nat} {xs : Nat → Int32} {ad am : Nat → Nat} {o j n K tp : Nat} {μ σ : Nat → Nat → Int32} {pl : List KP} {f : Nat → Int64} (E : En p s m args meth c A code 7 RX0 ret D (tysA ct) gt) (hX : va_X b L0 xs s s.heap) (hbl : b < s.heap.size) (hbA : ¬ A b) (hL : L0 ≤ 384) (hj : 6 * j + 6 ≤ L0) (h : LI n K tp μ σ pl) (next : LN p l e s m args below meth c Q A D ct am b (ad 0) o j) : Sm p l e room_1 s m args below meth c Q A D 7 (76 + 10521 * j) (6340 + 83470 * j) (LW ct ad am o n (zt μ) σ μ pl f) 622 (LL b (ad 0) (am 0) o (nI (6 * j))) [] := by
  have hT : UT ad n (zt μ) (usW ad n (zt μ) ++ kpW (ad 47) ct n pl) := us_ut
  unfold LW
  refine s_aload_n E dL_law_622 (i := 1) (j := 1) rfl rfl ?_
  refine l_arg E hX hbl hbA hL (k := 1) (by omega) dL_law_623 dL_law_624 dL_law_626 (by decide) dL_law_627 dL_law_628 ?_
  refine l_x E (x1z_blocked (τ := zt μ) (σ := σ) (xs (6 * j + 1)) h.1.1 h.bb) K_X0_73 (Nat.le_of_ble_eq_true rfl) (Nat.le_of_ble_eq_true rfl) (by show _ ≤ 853071; omega) (by show _ ≤ 6529724; omega) rfl rfl (Nat.le_of_ble_eq_true rfl) dL_law_629 (fun r u hu => ?_)
  refine s_aload_n E dL_law_632 (i := 2) (j := 2) rfl rfl ?_
  refine l_arg E hX hbl hbA hL (k := 1) (by omega) dL_law_633 dL_law_634 dL_law_636 (by decide) dL_law_637 dL_law_638 ?_
  refine l_m E (mz_blocked (σ := μ) (tN (μ 3 0)) (xs (6 * j + 1)) h.b61.1 (by have := h.b61.2; omega)) K_X0_76 (Nat.le_of_ble_eq_true rfl) (Nat.le_of_ble_eq_true rfl) (by show _ ≤ 853071; omega) (by show _ ≤ 6529724; omega) rfl rfl (Nat.le_of_ble_eq_true rfl) dL_law_639 (fun r2 μ2 hv => ?_)
  refine s_icmp_eq E dL_law_642 (tgt := 1522) (by decide) (fun _ => ?_) (fun c9 => absurd ?_ c9)
  · exact l_next next (h.q (HQ.of_eq hv.2) (hu.2 ▸ QX.rf _)) (by omega) (by omega)
  · exact (hu.1.symm.trans (by rw [h.2.1.1]; rfl)).trans hv.1
set_option maxHeartbeats 1000000 in
theorem lc_22 {p : Program} {l : Launch} {e : Env} {s : State} {m : MethodId} {args : Array Value} {below : List Frame} {meth : Method} {c : Code} {Q : State → Prop} {A : Nat → Prop} {D : va_G} {ret : Option FieldType} {ct : Nat → ClassId} {gt : Nat → Nat} {b L0 : Nat} {xs : Nat → Int32} {ad am : Nat → Nat} {o j n K tp : Nat} {μ σ : Nat → Nat → Int32} {pl : List KP} {f : Nat → Int64} (E : En p s m args meth c A code 7 RX0 ret D (tysA ct) gt) (hX : va_X b L0 xs s s.heap) (hbl : b < s.heap.size) (hbA : ¬ A b) (hL : L0 ≤ 384) (hj : 6 * j + 6 ≤ L0) (h : LI n K tp μ σ pl) (next : LN p l e s m args below meth c Q A D ct am b (ad 0) o j) : Sm p l e room_1 s m args below meth c Q A D 7 (76 + 10521 * j) (6340 + 83470 * j) (LW ct ad am o n (zt μ) σ μ pl f) 933 (LL b (ad 0) (am 0) o (nI (6 * j))) [] := by
  have hT : UT ad n (zt μ) (usW ad n (zt μ) ++ kpW (ad 47) ct n pl) := us_ut
  unfold LW
  refine s_aload_n E dL_law_933 (i := 1) (j := 1) rfl rfl ?_
  refine l_arg E hX hbl hbA hL (k := 1) (by omega) dL_law_934 dL_law_935 dL_law_937 (by decide) dL_law_938 dL_law_939 ?_
  refine l_x E (x1z_planned (τ := zt μ) (σ := σ) (xs (6 * j + 1)) h.1.1 hT h.pc h.bb) K_X0_117 (Nat.le_of_ble_eq_true rfl) (Nat.le_of_ble_eq_true rfl) (by show _ ≤ 853071; omega) (by show _ ≤ 6529724; omega) rfl rfl (Nat.le_of_ble_eq_true rfl) dL_law_940 (fun r u hu => ?_)
  rw [h.vwz, h.2.1.1] at hu
  refine s_aload_n E dL_law_943 (i := 2) (j := 2) rfl rfl ?_
  refine l_arg E hX hbl hbA hL (k := 1) (by omega) dL_law_944 dL_law_945 dL_law_947 (by decide) dL_law_948 dL_law_949 ?_
  refine l_m E (mz_planned (σ := μ) n (xs (6 * j + 1)) h.cm h.lhh h.1.2.2.2) K_X0_120 (Nat.le_of_ble_eq_true rfl) (Nat.le_of_ble_eq_true rfl) (by show _ ≤ 853071; omega) (by show _ ≤ 6529724; omega) rfl rfl (Nat.le_of_ble_eq_true rfl) dL_law_950 (fun r2 μ2 hv => ?_)
  refine s_icmp_eq E dL_law_953 (tgt := 1522) (by decide) (fun _ => ?_) (fun c9 => absurd ?_ c9)
  · exact l_next next (h.q hv.2 (QX.xs hu.2)) (by omega) (by omega)
  · exact hu.1.symm.trans hv.1
set_option maxHeartbeats 1000000 in
theorem lc_30 {p : Program} {l : Launch} {e : Env} {s : State} {m : MethodId} {args : Array Value} {below : List Frame} {meth : Method} {c : Code} {Q : State → Prop} {A : Nat → Prop} {D : va_G} {ret : Option FieldType} {ct : Nat → ClassId} {gt : Nat → Nat} {b L0 : Nat} {xs : Nat → Int32} {ad am : Nat → Nat} {o j n K tp : Nat} {μ σ : Nat → Nat → Int32} {pl : List KP} {f : Nat → Int64} (E : En p s m args meth c A code 7 RX0 ret D (tysA ct) gt) (hX : va_X b L0 xs s s.heap) (hbl : b < s.heap.size) (hbA : ¬ A b) (hL : L0 ≤ 384) (hj : 6 * j + 6 ≤ L0) (h : LI n K tp μ σ pl) (next : LN p l e s m args below meth c Q A D ct am b (ad 0) o j) : Sm p l e room_1 s m args below meth c Q A D 7 (76 + 10521 * j) (6340 + 83470 * j) (LW ct ad am o n (zt μ) σ μ pl f) 1145 (LL b (ad 0) (am 0) o (nI (6 * j))) [] := by
  have hT : UT ad n (zt μ) (usW ad n (zt μ) ++ kpW (ad 47) ct n pl) := us_ut
  unfold LW
  refine s_aload_n E dL_law_1145 (i := 1) (j := 1) rfl rfl ?_
  refine l_arg E hX hbl hbA hL (k := 1) (by omega) dL_law_1146 dL_law_1147 dL_law_1149 (by decide) dL_law_1150 dL_law_1151 ?_
  refine l_x E (x1z_turned (τ := zt μ) (σ := σ) (xs (6 * j + 1)) h.1.1 hT h.pc h.bb h.pw) K_X0_150 (Nat.le_of_ble_eq_true rfl) (Nat.le_of_ble_eq_true rfl) (by show _ ≤ 853071; omega) (by show _ ≤ 6529724; omega) rfl rfl (Nat.le_of_ble_eq_true rfl) dL_law_1152 (fun r u hu => ?_)
  rw [h.vwz] at hu
  refine s_aload_n E dL_law_1155 (i := 2) (j := 2) rfl rfl ?_
  refine l_arg E hX hbl hbA hL (k := 1) (by omega) dL_law_1156 dL_law_1157 dL_law_1159 (by decide) dL_law_1160 dL_law_1161 ?_
  refine l_m E (mz_turned (σ := μ) n (xs (6 * j + 1)) h.n7 h.n6 h.st h.2.1.2.2.2.2 h.1.2.2.2) K_X0_153 (Nat.le_of_ble_eq_true rfl) (Nat.le_of_ble_eq_true rfl) (by show _ ≤ 853071; omega) (by show _ ≤ 6529724; omega) rfl rfl (Nat.le_of_ble_eq_true rfl) dL_law_1162 (fun r2 μ2 hv => ?_)
  have hce := tdF_ce (n := n) 200 (CE.as (s := zt μ))
  refine s_icmp_eq E dL_law_1165 (tgt := 1522) (by decide) (fun _ => ?_) (fun c9 => absurd ?_ c9)
  · exact l_next next (h.q hv.2 (QX.xs hu.2)) (by omega) (by omega)
  · exact (hu.1.symm.trans (by rw [hce.1, hce.2.1])).trans hv.1
set_option maxHeartbeats 1000000 in
theorem lc_31 {p : Program} {l : Launch} {e : Env} {s : State} {m : MethodId} {args : Array Value} {below : List Frame} {meth : Method} {c : Code} {Q : State → Prop} {A : Nat → Prop} {D : va_G} {ret : Option FieldType} {ct : Nat → ClassId} {gt : Nat → Nat} {b L0 : Nat} {xs : Nat → Int32} {ad am : Nat → Nat} {o j n K tp : Nat} {μ σ : Nat → Nat → Int32} {pl : List KP} {f : Nat → Int64} (E : En p s m args meth c A code 7 RX0 ret D (tysA ct) gt) (hX : va_X b L0 xs s s.heap) (hbl : b < s.heap.size) (hbA : ¬ A b) (hL : L0 ≤ 384) (hj : 6 * j + 6 ≤ L0) (h : LI n K tp μ σ pl) (next : LN p l e s m args below meth c Q A D ct am b (ad 0) o j) : Sm p l e room_1 s m args below meth c Q A D 7 (76 + 10521 * j) (6340 + 83470 * j) (LW ct ad am o n (zt μ) σ μ pl f) 1170 (LL b (ad 0) (am 0) o (nI (6 * j))) [] := by
  have hT : UT ad n (zt μ) (usW ad n (zt μ) ++ kpW (ad 47) ct n pl) := us_ut
  unfold LW
  refine s_aload_n E dL_law_1170 (i := 1) (j := 1) rfl rfl ?_
  refine l_x E (x1z_left (τ := zt μ) (σ := σ) h.1.1 hT h.pc h.bb h.pw) K_X0_154 (Nat.le_of_ble_eq_true rfl) (Nat.le_of_ble_eq_true rfl) (by show _ ≤ 853071; omega) (by show _ ≤ 6529724; omega) rfl rfl (Nat.le_of_ble_eq_true rfl) dL_law_1171 (fun r u hu => ?_)
  rw [h.vwz] at hu
  refine s_aload_n E dL_law_1174 (i := 2) (j := 2) rfl rfl ?_
  refine l_m E (mz_left (σ := μ) n h.n7 h.n6 h.st h.2.1.2.2.2.2 h.1.2.2.2) K_X0_157 (Nat.le_of_ble_eq_true rfl) (Nat.le_of_ble_eq_true rfl) (by show _ ≤ 853071; omega) (by show _ ≤ 6529724; omega) rfl rfl (Nat.le_of_ble_eq_true rfl) dL_law_1175 (fun r2 μ2 hv => ?_)
  have hce := tdF_ce (n := n) 200 (CE.as (s := zt μ))
  refine s_icmp_eq E dL_law_1178 (tgt := 1522) (by decide) (fun _ => ?_) (fun c9 => absurd ?_ c9)
  · exact l_next next (h.q hv.2 (QX.xs hu.2)) (by omega) (by omega)
  · exact (hu.1.symm.trans (by rw [hitsT_ce hce.2, prods_ce hce.2])).trans hv.1
