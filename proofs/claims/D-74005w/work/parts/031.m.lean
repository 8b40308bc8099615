/-! QuietChannelsModel -/
set_option maxRecDepth 100000
def RX5 : String := "QuietChannelsModel"
def TX5 : u_T := fun k => match k with
  | 0 => ("QuietChannelsModel", "thrown", "I", false)
  | 1 => ("QuietChannelsModel", "tape", "[I", true)
  | 2 => ("QuietChannelsModel", "taped", "I", false)
  | 3 => ("QuietChannelsModel", "number", "[I", true)
  | 4 => ("QuietChannelsModel", "isTold", "[Z", true)
  | 5 => ("QuietChannelsModel", "name", "[I", true)
  | 6 => ("QuietChannelsModel", "site", "[I", true)
  | 7 => ("QuietChannelsModel", "powerTold", "[I", true)
  | 8 => ("QuietChannelsModel", "low", "[I", true)
  | 9 => ("QuietChannelsModel", "high", "[I", true)
  | 10 => ("QuietChannelsModel", "fixed", "[I", true)
  | 11 => ("QuietChannelsModel", "slotsTold", "[I", true)
  | 12 => ("QuietChannelsModel", "linkLoss", "[I", true)
  | 13 => ("QuietChannelsModel", "isBlocked", "[Z", true)
  | 14 => ("QuietChannelsModel", "isBehind", "Z", false)
  | 15 => ("QuietChannelsModel", "lines", "I", false)
  | 16 => ("QuietChannelsModel", "size", "I", false)
  | 17 => ("QuietChannelsModel", "at", "I", false)
  | 18 => ("QuietChannelsModel", "place", "I", false)
  | 19 => ("QuietChannelsModel", "sort", "I", false)
  | 20 => ("QuietChannelsModel", "value", "I", false)
  | 21 => ("QuietChannelsModel", "fault", "I", false)
  | 22 => ("QuietChannelsModel", "faultPlace", "I", false)
  | 23 => ("QuietChannelsModel", "lastFault", "I", false)
  | 24 => ("QuietChannelsModel", "lastPlace", "I", false)
  | 25 => ("QuietChannelsModel", "s", "[I", true)
  | 26 => ("QuietChannelsModel", "kept", "[I", true)
  | 27 => ("QuietChannelsModel", "aside", "[I", true)
  | 28 => ("QuietChannelsModel", "undoable", "I", false)
  | 29 => ("QuietChannelsModel", "hasImage", "Z", false)
  | 30 => ("QuietChannelsModel", "band", "I", false)
  | 31 => ("QuietChannelsModel", "guard", "I", false)
  | 32 => ("QuietChannelsModel", "space", "I", false)
  | 33 => ("QuietChannelsModel", "orders", "I", false)
  | 34 => ("QuietChannelsModel", "pSort", "[I", true)
  | 35 => ("QuietChannelsModel", "pA", "[I", true)
  | 36 => ("QuietChannelsModel", "pB", "[I", true)
  | 37 => ("QuietChannelsModel", "pC", "[I", true)
  | 38 => ("QuietChannelsModel", "pChannel", "[I", true)
  | 39 => ("QuietChannelsModel", "pLevel", "[I", true)
  | 40 => ("QuietChannelsModel", "pSlots", "[I", true)
  | 41 => ("QuietChannelsModel", "products", "I", false)
  | 42 => ("QuietChannelsModel", "looks", "I", false)
  | 43 => ("QuietChannelsModel", "row", "[I", true)
  | 44 => ("QuietChannelsModel", "drawn", "I", false)
  | _ => ("QuietChannelsModel", "first", "[I", true)
def tyX5 : Nat → FieldType := fun k => match k with
  | 0 => .int
  | 1 => .array .int
  | 2 => .int
  | 3 => .array .int
  | 4 => .array .boolean
  | 5 => .array .int
  | 6 => .array .int
  | 7 => .array .int
  | 8 => .array .int
  | 9 => .array .int
  | 10 => .array .int
  | 11 => .array .int
  | 12 => .array .int
  | 13 => .array .boolean
  | 14 => .boolean
  | 15 => .int
  | 16 => .int
  | 17 => .int
  | 18 => .int
  | 19 => .int
  | 20 => .int
  | 21 => .int
  | 22 => .int
  | 23 => .int
  | 24 => .int
  | 25 => .array .int
  | 26 => .array .int
  | 27 => .array .int
  | 28 => .int
  | 29 => .boolean
  | 30 => .int
  | 31 => .int
  | 32 => .int
  | 33 => .int
  | 34 => .array .int
  | 35 => .array .int
  | 36 => .array .int
  | 37 => .array .int
  | 38 => .array .int
  | 39 => .array .int
  | 40 => .array .int
  | 41 => .int
  | 42 => .int
  | 43 => .array .int
  | 44 => .int
  | _ => .array .int
abbrev wsX50 : List Cond := u_ws RX5 TX5 46
set_option maxRecDepth 100000 in
theorem nmX5 : ∀ a, a < 46 → ∀ b, b < 46 → a ≠ b → (TX5 a).2.1 ≠ (TX5 b).2.1 := by decide +kernel
set_option maxRecDepth 100000 in
theorem tyX5_ok : ∀ k, k < 46 → parseFieldDescriptor (TX5 k).2.2.1 = some (tyX5 k) := by decide +kernel
abbrev cX5_init : ByteArray := prog_10_method_1_code
def yX5_init : MethodName := ⟨RX5, "<init>", "()V"⟩
def dkwX5_init_9 : List UInt8 := [182, 0, 90, 42, 182, 0, 93, 177]
abbrev dktX5_init_9 : List UInt8 := dkwX5_init_9 ++ []
def dkwX5_init_8 : List UInt8 := [181, 0, 78, 42, 16, 8, 188, 10, 181, 0, 81, 42, 16, 79, 188, 10, 181, 0, 84, 42, 182, 0, 87, 42]
abbrev dktX5_init_8 : List UInt8 := dkwX5_init_8 ++ dktX5_init_9
def dkwX5_init_7 : List UInt8 := [17, 1, 44, 188, 10, 181, 0, 72, 42, 17, 1, 44, 188, 10, 181, 0, 75, 42, 17, 1, 44, 188, 10]
abbrev dktX5_init_7 : List UInt8 := dkwX5_init_7 ++ dktX5_init_8
def dkwX5_init_6 : List UInt8 := [188, 10, 181, 0, 63, 42, 17, 1, 44, 188, 10, 181, 0, 66, 42, 17, 1, 44, 188, 10, 181, 0, 69, 42]
abbrev dktX5_init_6 : List UInt8 := dkwX5_init_6 ++ dktX5_init_7
def dkwX5_init_5 : List UInt8 := [181, 0, 54, 42, 16, 79, 188, 10, 181, 0, 57, 42, 17, 1, 44, 188, 10, 181, 0, 60, 42, 17, 1, 44]
abbrev dktX5_init_5 : List UInt8 := dkwX5_init_5 ++ dktX5_init_6
def dkwX5_init_4 : List UInt8 := [188, 4, 181, 0, 44, 42, 2, 181, 0, 47, 42, 16, 79, 188, 10, 181, 0, 51, 42, 17, 6, 123, 188, 10]
abbrev dktX5_init_4 : List UInt8 := dkwX5_init_4 ++ dktX5_init_5
def dkwX5_init_3 : List UInt8 := [188, 10, 181, 0, 35, 42, 16, 12, 188, 10, 181, 0, 38, 42, 16, 18, 188, 10, 181, 0, 41, 42, 16, 122]
abbrev dktX5_init_3 : List UInt8 := dkwX5_init_3 ++ dktX5_init_4
def dkwX5_init_2 : List UInt8 := [188, 10, 181, 0, 26, 42, 16, 12, 188, 10, 181, 0, 29, 42, 16, 12, 188, 10, 181, 0, 32, 42, 16, 12]
abbrev dktX5_init_2 : List UInt8 := dkwX5_init_2 ++ dktX5_init_3
def dkwX5_init_1 : List UInt8 := [188, 4, 181, 0, 16, 42, 16, 12, 188, 10, 181, 0, 20, 42, 16, 12, 188, 10, 181, 0, 23, 42, 16, 12]
abbrev dktX5_init_1 : List UInt8 := dkwX5_init_1 ++ dktX5_init_2
def dkwX5_init_0 : List UInt8 := [42, 183, 0, 1, 42, 17, 2, 188, 188, 10, 181, 0, 7, 42, 16, 20, 188, 10, 181, 0, 13, 42, 16, 11]
abbrev dktX5_init_0 : List UInt8 := dkwX5_init_0 ++ dktX5_init_1
theorem dksX5_init_0 : cX5_init.data.toList.drop 0 = dktX5_init_0 := by decide +kernel
theorem dksX5_init_1 : cX5_init.data.toList.drop 24 = dktX5_init_1 := dk_seg dksX5_init_0 24 rfl rfl
theorem dksX5_init_2 : cX5_init.data.toList.drop 48 = dktX5_init_2 := dk_seg dksX5_init_1 24 rfl rfl
theorem dksX5_init_3 : cX5_init.data.toList.drop 72 = dktX5_init_3 := dk_seg dksX5_init_2 24 rfl rfl
theorem dksX5_init_4 : cX5_init.data.toList.drop 96 = dktX5_init_4 := dk_seg dksX5_init_3 24 rfl rfl
theorem dksX5_init_5 : cX5_init.data.toList.drop 120 = dktX5_init_5 := dk_seg dksX5_init_4 24 rfl rfl
theorem dksX5_init_6 : cX5_init.data.toList.drop 144 = dktX5_init_6 := dk_seg dksX5_init_5 24 rfl rfl
theorem dksX5_init_7 : cX5_init.data.toList.drop 168 = dktX5_init_7 := dk_seg dksX5_init_6 24 rfl rfl
theorem dksX5_init_8 : cX5_init.data.toList.drop 191 = dktX5_init_8 := dk_seg dksX5_init_7 23 rfl rfl
theorem dksX5_init_9 : cX5_init.data.toList.drop 215 = dktX5_init_9 := dk_seg dksX5_init_8 24 rfl rfl
theorem dX5_init_0 : decode cX5_init 0 = .ok (.aload_n 0, 1) := dk_42 (dk_at dksX5_init_0 0 rfl rfl)
theorem dX5_init_1 : decode cX5_init 1 = .ok (.invokespecial 1, 3) := dk_183 0 1 (dk_at dksX5_init_0 1 rfl rfl)
theorem dX5_init_4 : decode cX5_init 4 = .ok (.aload_n 0, 1) := dk_42 (dk_at dksX5_init_0 4 rfl rfl)
theorem dX5_init_5 : decode cX5_init 5 = .ok (.sipush 700, 3) := dk_17 2 188 (dk_at dksX5_init_0 5 rfl rfl)
theorem dX5_init_8 : decode cX5_init 8 = .ok (.newarray .int, 2) := dk_188_10 (dk_at dksX5_init_0 8 rfl rfl)
theorem dX5_init_10 : decode cX5_init 10 = .ok (.putfield 7, 3) := dk_181 0 7 (dk_at dksX5_init_0 10 rfl rfl)
theorem dX5_init_13 : decode cX5_init 13 = .ok (.aload_n 0, 1) := dk_42 (dk_at dksX5_init_0 13 rfl rfl)
theorem dX5_init_14 : decode cX5_init 14 = .ok (.bipush 20, 2) := dk_16 20 (dk_at dksX5_init_0 14 rfl rfl)
theorem dX5_init_16 : decode cX5_init 16 = .ok (.newarray .int, 2) := dk_188_10 (dk_at dksX5_init_0 16 rfl rfl)
theorem dX5_init_18 : decode cX5_init 18 = .ok (.putfield 13, 3) := dk_181 0 13 (dk_at dksX5_init_0 18 rfl rfl)
theorem dX5_init_21 : decode cX5_init 21 = .ok (.aload_n 0, 1) := dk_42 (dk_at dksX5_init_0 21 rfl rfl)
theorem dX5_init_22 : decode cX5_init 22 = .ok (.bipush 11, 2) := dk_16 11 (dk_at dksX5_init_0 22 rfl rfl)
theorem dX5_init_24 : decode cX5_init 24 = .ok (.newarray .boolean, 2) := dk_188_4 (dk_at dksX5_init_1 0 rfl rfl)
theorem dX5_init_26 : decode cX5_init 26 = .ok (.putfield 16, 3) := dk_181 0 16 (dk_at dksX5_init_1 2 rfl rfl)
theorem dX5_init_29 : decode cX5_init 29 = .ok (.aload_n 0, 1) := dk_42 (dk_at dksX5_init_1 5 rfl rfl)
theorem dX5_init_30 : decode cX5_init 30 = .ok (.bipush 12, 2) := dk_16 12 (dk_at dksX5_init_1 6 rfl rfl)
theorem dX5_init_32 : decode cX5_init 32 = .ok (.newarray .int, 2) := dk_188_10 (dk_at dksX5_init_1 8 rfl rfl)
theorem dX5_init_34 : decode cX5_init 34 = .ok (.putfield 20, 3) := dk_181 0 20 (dk_at dksX5_init_1 10 rfl rfl)
theorem dX5_init_37 : decode cX5_init 37 = .ok (.aload_n 0, 1) := dk_42 (dk_at dksX5_init_1 13 rfl rfl)
theorem dX5_init_38 : decode cX5_init 38 = .ok (.bipush 12, 2) := dk_16 12 (dk_at dksX5_init_1 14 rfl rfl)
theorem dX5_init_40 : decode cX5_init 40 = .ok (.newarray .int, 2) := dk_188_10 (dk_at dksX5_init_1 16 rfl rfl)
theorem dX5_init_42 : decode cX5_init 42 = .ok (.putfield 23, 3) := dk_181 0 23 (dk_at dksX5_init_1 18 rfl rfl)
theorem dX5_init_45 : decode cX5_init 45 = .ok (.aload_n 0, 1) := dk_42 (dk_at dksX5_init_1 21 rfl rfl)
theorem dX5_init_46 : decode cX5_init 46 = .ok (.bipush 12, 2) := dk_16 12 (dk_at dksX5_init_1 22 rfl rfl)
theorem dX5_init_48 : decode cX5_init 48 = .ok (.newarray .int, 2) := dk_188_10 (dk_at dksX5_init_2 0 rfl rfl)
theorem dX5_init_50 : decode cX5_init 50 = .ok (.putfield 26, 3) := dk_181 0 26 (dk_at dksX5_init_2 2 rfl rfl)
theorem dX5_init_53 : decode cX5_init 53 = .ok (.aload_n 0, 1) := dk_42 (dk_at dksX5_init_2 5 rfl rfl)
theorem dX5_init_54 : decode cX5_init 54 = .ok (.bipush 12, 2) := dk_16 12 (dk_at dksX5_init_2 6 rfl rfl)
theorem dX5_init_56 : decode cX5_init 56 = .ok (.newarray .int, 2) := dk_188_10 (dk_at dksX5_init_2 8 rfl rfl)
theorem dX5_init_58 : decode cX5_init 58 = .ok (.putfield 29, 3) := dk_181 0 29 (dk_at dksX5_init_2 10 rfl rfl)
theorem dX5_init_61 : decode cX5_init 61 = .ok (.aload_n 0, 1) := dk_42 (dk_at dksX5_init_2 13 rfl rfl)
theorem dX5_init_62 : decode cX5_init 62 = .ok (.bipush 12, 2) := dk_16 12 (dk_at dksX5_init_2 14 rfl rfl)
theorem dX5_init_64 : decode cX5_init 64 = .ok (.newarray .int, 2) := dk_188_10 (dk_at dksX5_init_2 16 rfl rfl)
theorem dX5_init_66 : decode cX5_init 66 = .ok (.putfield 32, 3) := dk_181 0 32 (dk_at dksX5_init_2 18 rfl rfl)
theorem dX5_init_69 : decode cX5_init 69 = .ok (.aload_n 0, 1) := dk_42 (dk_at dksX5_init_2 21 rfl rfl)
theorem dX5_init_70 : decode cX5_init 70 = .ok (.bipush 12, 2) := dk_16 12 (dk_at dksX5_init_2 22 rfl rfl)
theorem dX5_init_72 : decode cX5_init 72 = .ok (.newarray .int, 2) := dk_188_10 (dk_at dksX5_init_3 0 rfl rfl)
theorem dX5_init_74 : decode cX5_init 74 = .ok (.putfield 35, 3) := dk_181 0 35 (dk_at dksX5_init_3 2 rfl rfl)
theorem dX5_init_77 : decode cX5_init 77 = .ok (.aload_n 0, 1) := dk_42 (dk_at dksX5_init_3 5 rfl rfl)
theorem dX5_init_78 : decode cX5_init 78 = .ok (.bipush 12, 2) := dk_16 12 (dk_at dksX5_init_3 6 rfl rfl)
theorem dX5_init_80 : decode cX5_init 80 = .ok (.newarray .int, 2) := dk_188_10 (dk_at dksX5_init_3 8 rfl rfl)
theorem dX5_init_82 : decode cX5_init 82 = .ok (.putfield 38, 3) := dk_181 0 38 (dk_at dksX5_init_3 10 rfl rfl)
theorem dX5_init_85 : decode cX5_init 85 = .ok (.aload_n 0, 1) := dk_42 (dk_at dksX5_init_3 13 rfl rfl)
theorem dX5_init_86 : decode cX5_init 86 = .ok (.bipush 18, 2) := dk_16 18 (dk_at dksX5_init_3 14 rfl rfl)
theorem dX5_init_88 : decode cX5_init 88 = .ok (.newarray .int, 2) := dk_188_10 (dk_at dksX5_init_3 16 rfl rfl)
theorem dX5_init_90 : decode cX5_init 90 = .ok (.putfield 41, 3) := dk_181 0 41 (dk_at dksX5_init_3 18 rfl rfl)
theorem dX5_init_93 : decode cX5_init 93 = .ok (.aload_n 0, 1) := dk_42 (dk_at dksX5_init_3 21 rfl rfl)
theorem dX5_init_94 : decode cX5_init 94 = .ok (.bipush 122, 2) := dk_16 122 (dk_at dksX5_init_3 22 rfl rfl)
theorem dX5_init_96 : decode cX5_init 96 = .ok (.newarray .boolean, 2) := dk_188_4 (dk_at dksX5_init_4 0 rfl rfl)
theorem dX5_init_98 : decode cX5_init 98 = .ok (.putfield 44, 3) := dk_181 0 44 (dk_at dksX5_init_4 2 rfl rfl)
theorem dX5_init_101 : decode cX5_init 101 = .ok (.aload_n 0, 1) := dk_42 (dk_at dksX5_init_4 5 rfl rfl)
theorem dX5_init_102 : decode cX5_init 102 = .ok (.iconst (-1), 1) := dk_2 (dk_at dksX5_init_4 6 rfl rfl)
theorem dX5_init_103 : decode cX5_init 103 = .ok (.putfield 47, 3) := dk_181 0 47 (dk_at dksX5_init_4 7 rfl rfl)
theorem dX5_init_106 : decode cX5_init 106 = .ok (.aload_n 0, 1) := dk_42 (dk_at dksX5_init_4 10 rfl rfl)
theorem dX5_init_107 : decode cX5_init 107 = .ok (.bipush 79, 2) := dk_16 79 (dk_at dksX5_init_4 11 rfl rfl)
theorem dX5_init_109 : decode cX5_init 109 = .ok (.newarray .int, 2) := dk_188_10 (dk_at dksX5_init_4 13 rfl rfl)
theorem dX5_init_111 : decode cX5_init 111 = .ok (.putfield 51, 3) := dk_181 0 51 (dk_at dksX5_init_4 15 rfl rfl)
theorem dX5_init_114 : decode cX5_init 114 = .ok (.aload_n 0, 1) := dk_42 (dk_at dksX5_init_4 18 rfl rfl)
theorem dX5_init_115 : decode cX5_init 115 = .ok (.sipush 1659, 3) := dk_17 6 123 (dk_at dksX5_init_4 19 rfl rfl)
theorem dX5_init_118 : decode cX5_init 118 = .ok (.newarray .int, 2) := dk_188_10 (dk_at dksX5_init_4 22 rfl rfl)
theorem dX5_init_120 : decode cX5_init 120 = .ok (.putfield 54, 3) := dk_181 0 54 (dk_at dksX5_init_5 0 rfl rfl)
theorem dX5_init_123 : decode cX5_init 123 = .ok (.aload_n 0, 1) := dk_42 (dk_at dksX5_init_5 3 rfl rfl)
theorem dX5_init_124 : decode cX5_init 124 = .ok (.bipush 79, 2) := dk_16 79 (dk_at dksX5_init_5 4 rfl rfl)
theorem dX5_init_126 : decode cX5_init 126 = .ok (.newarray .int, 2) := dk_188_10 (dk_at dksX5_init_5 6 rfl rfl)
theorem dX5_init_128 : decode cX5_init 128 = .ok (.putfield 57, 3) := dk_181 0 57 (dk_at dksX5_init_5 8 rfl rfl)
theorem dX5_init_131 : decode cX5_init 131 = .ok (.aload_n 0, 1) := dk_42 (dk_at dksX5_init_5 11 rfl rfl)
theorem dX5_init_132 : decode cX5_init 132 = .ok (.sipush 300, 3) := dk_17 1 44 (dk_at dksX5_init_5 12 rfl rfl)
theorem dX5_init_135 : decode cX5_init 135 = .ok (.newarray .int, 2) := dk_188_10 (dk_at dksX5_init_5 15 rfl rfl)
theorem dX5_init_137 : decode cX5_init 137 = .ok (.putfield 60, 3) := dk_181 0 60 (dk_at dksX5_init_5 17 rfl rfl)
theorem dX5_init_140 : decode cX5_init 140 = .ok (.aload_n 0, 1) := dk_42 (dk_at dksX5_init_5 20 rfl rfl)
theorem dX5_init_141 : decode cX5_init 141 = .ok (.sipush 300, 3) := dk_17 1 44 (dk_at dksX5_init_5 21 rfl rfl)
theorem dX5_init_144 : decode cX5_init 144 = .ok (.newarray .int, 2) := dk_188_10 (dk_at dksX5_init_6 0 rfl rfl)
theorem dX5_init_146 : decode cX5_init 146 = .ok (.putfield 63, 3) := dk_181 0 63 (dk_at dksX5_init_6 2 rfl rfl)
theorem dX5_init_149 : decode cX5_init 149 = .ok (.aload_n 0, 1) := dk_42 (dk_at dksX5_init_6 5 rfl rfl)
theorem dX5_init_150 : decode cX5_init 150 = .ok (.sipush 300, 3) := dk_17 1 44 (dk_at dksX5_init_6 6 rfl rfl)
theorem dX5_init_153 : decode cX5_init 153 = .ok (.newarray .int, 2) := dk_188_10 (dk_at dksX5_init_6 9 rfl rfl)
theorem dX5_init_155 : decode cX5_init 155 = .ok (.putfield 66, 3) := dk_181 0 66 (dk_at dksX5_init_6 11 rfl rfl)
theorem dX5_init_158 : decode cX5_init 158 = .ok (.aload_n 0, 1) := dk_42 (dk_at dksX5_init_6 14 rfl rfl)
theorem dX5_init_159 : decode cX5_init 159 = .ok (.sipush 300, 3) := dk_17 1 44 (dk_at dksX5_init_6 15 rfl rfl)
theorem dX5_init_162 : decode cX5_init 162 = .ok (.newarray .int, 2) := dk_188_10 (dk_at dksX5_init_6 18 rfl rfl)
theorem dX5_init_164 : decode cX5_init 164 = .ok (.putfield 69, 3) := dk_181 0 69 (dk_at dksX5_init_6 20 rfl rfl)
theorem dX5_init_167 : decode cX5_init 167 = .ok (.aload_n 0, 1) := dk_42 (dk_at dksX5_init_6 23 rfl rfl)
theorem dX5_init_168 : decode cX5_init 168 = .ok (.sipush 300, 3) := dk_17 1 44 (dk_at dksX5_init_7 0 rfl rfl)
theorem dX5_init_171 : decode cX5_init 171 = .ok (.newarray .int, 2) := dk_188_10 (dk_at dksX5_init_7 3 rfl rfl)
theorem dX5_init_173 : decode cX5_init 173 = .ok (.putfield 72, 3) := dk_181 0 72 (dk_at dksX5_init_7 5 rfl rfl)
theorem dX5_init_176 : decode cX5_init 176 = .ok (.aload_n 0, 1) := dk_42 (dk_at dksX5_init_7 8 rfl rfl)
theorem dX5_init_177 : decode cX5_init 177 = .ok (.sipush 300, 3) := dk_17 1 44 (dk_at dksX5_init_7 9 rfl rfl)
theorem dX5_init_180 : decode cX5_init 180 = .ok (.newarray .int, 2) := dk_188_10 (dk_at dksX5_init_7 12 rfl rfl)
theorem dX5_init_182 : decode cX5_init 182 = .ok (.putfield 75, 3) := dk_181 0 75 (dk_at dksX5_init_7 14 rfl rfl)
theorem dX5_init_185 : decode cX5_init 185 = .ok (.aload_n 0, 1) := dk_42 (dk_at dksX5_init_7 17 rfl rfl)
theorem dX5_init_186 : decode cX5_init 186 = .ok (.sipush 300, 3) := dk_17 1 44 (dk_at dksX5_init_7 18 rfl rfl)
theorem dX5_init_189 : decode cX5_init 189 = .ok (.newarray .int, 2) := dk_188_10 (dk_at dksX5_init_7 21 rfl rfl)
theorem dX5_init_191 : decode cX5_init 191 = .ok (.putfield 78, 3) := dk_181 0 78 (dk_at dksX5_init_8 0 rfl rfl)
theorem dX5_init_194 : decode cX5_init 194 = .ok (.aload_n 0, 1) := dk_42 (dk_at dksX5_init_8 3 rfl rfl)
theorem dX5_init_195 : decode cX5_init 195 = .ok (.bipush 8, 2) := dk_16 8 (dk_at dksX5_init_8 4 rfl rfl)
theorem dX5_init_197 : decode cX5_init 197 = .ok (.newarray .int, 2) := dk_188_10 (dk_at dksX5_init_8 6 rfl rfl)
theorem dX5_init_199 : decode cX5_init 199 = .ok (.putfield 81, 3) := dk_181 0 81 (dk_at dksX5_init_8 8 rfl rfl)
theorem dX5_init_202 : decode cX5_init 202 = .ok (.aload_n 0, 1) := dk_42 (dk_at dksX5_init_8 11 rfl rfl)
theorem dX5_init_203 : decode cX5_init 203 = .ok (.bipush 79, 2) := dk_16 79 (dk_at dksX5_init_8 12 rfl rfl)
theorem dX5_init_205 : decode cX5_init 205 = .ok (.newarray .int, 2) := dk_188_10 (dk_at dksX5_init_8 14 rfl rfl)
theorem dX5_init_207 : decode cX5_init 207 = .ok (.putfield 84, 3) := dk_181 0 84 (dk_at dksX5_init_8 16 rfl rfl)
theorem dX5_init_210 : decode cX5_init 210 = .ok (.aload_n 0, 1) := dk_42 (dk_at dksX5_init_8 19 rfl rfl)
theorem dX5_init_211 : decode cX5_init 211 = .ok (.invokevirtual 87, 3) := dk_182 0 87 (dk_at dksX5_init_8 20 rfl rfl)
theorem dX5_init_214 : decode cX5_init 214 = .ok (.aload_n 0, 1) := dk_42 (dk_at dksX5_init_8 23 rfl rfl)
theorem dX5_init_215 : decode cX5_init 215 = .ok (.invokevirtual 90, 3) := dk_182 0 90 (dk_at dksX5_init_9 0 rfl rfl)
theorem dX5_init_218 : decode cX5_init 218 = .ok (.aload_n 0, 1) := dk_42 (dk_at dksX5_init_9 3 rfl rfl)
theorem dX5_init_219 : decode cX5_init 219 = .ok (.invokevirtual 93, 3) := dk_182 0 93 (dk_at dksX5_init_9 4 rfl rfl)
theorem dX5_init_222 : decode cX5_init 222 = .ok (.return_, 1) := dk_177 (dk_at dksX5_init_9 7 rfl rfl)
abbrev cX5_freshText : ByteArray := prog_10_method_27_code
def yX5_freshText : MethodName := ⟨RX5, "freshText", "()V"⟩
def dkwX5_freshText_5 : List UInt8 := [180, 0, 44, 16, 61, 27, 96, 3, 84, 132, 1, 1, 167, 255, 237, 42, 3, 181, 0, 173, 177]
abbrev dktX5_freshText_5 : List UInt8 := dkwX5_freshText_5 ++ []
def dkwX5_freshText_4 : List UInt8 := [42, 180, 0, 16, 27, 3, 84, 132, 1, 1, 167, 255, 240, 3, 60, 27, 16, 61, 162, 0, 19, 42]
abbrev dktX5_freshText_4 : List UInt8 := dkwX5_freshText_4 ++ dktX5_freshText_5
def dkwX5_freshText_3 : List UInt8 := [180, 0, 41, 16, 9, 27, 96, 16, 254, 79, 132, 1, 1, 167, 255, 236, 3, 60, 27, 16, 11, 162, 0, 16]
abbrev dktX5_freshText_3 : List UInt8 := dkwX5_freshText_3 ++ dktX5_freshText_4
def dkwX5_freshText_2 : List UInt8 := [16, 10, 182, 0, 169, 42, 16, 6, 16, 20, 182, 0, 169, 3, 60, 27, 16, 9, 162, 0, 20, 42]
abbrev dktX5_freshText_2 : List UInt8 := dkwX5_freshText_2 ++ dktX5_freshText_3
def dkwX5_freshText_1 : List UInt8 := [182, 0, 169, 42, 5, 4, 182, 0, 169, 42, 6, 5, 182, 0, 169, 42, 7, 8, 182, 0, 169, 42, 8]
abbrev dktX5_freshText_1 : List UInt8 := dkwX5_freshText_1 ++ dktX5_freshText_2
def dkwX5_freshText_0 : List UInt8 := [3, 60, 27, 16, 10, 162, 0, 15, 42, 27, 3, 182, 0, 169, 132, 1, 1, 167, 255, 241, 42, 3, 16, 30]
abbrev dktX5_freshText_0 : List UInt8 := dkwX5_freshText_0 ++ dktX5_freshText_1
theorem dksX5_freshText_0 : cX5_freshText.data.toList.drop 0 = dktX5_freshText_0 := by decide +kernel
theorem dksX5_freshText_1 : cX5_freshText.data.toList.drop 24 = dktX5_freshText_1 := dk_seg dksX5_freshText_0 24 rfl rfl
theorem dksX5_freshText_2 : cX5_freshText.data.toList.drop 47 = dktX5_freshText_2 := dk_seg dksX5_freshText_1 23 rfl rfl
theorem dksX5_freshText_3 : cX5_freshText.data.toList.drop 69 = dktX5_freshText_3 := dk_seg dksX5_freshText_2 22 rfl rfl
theorem dksX5_freshText_4 : cX5_freshText.data.toList.drop 93 = dktX5_freshText_4 := dk_seg dksX5_freshText_3 24 rfl rfl
theorem dksX5_freshText_5 : cX5_freshText.data.toList.drop 115 = dktX5_freshText_5 := dk_seg dksX5_freshText_4 22 rfl rfl
theorem dX5_freshText_0 : decode cX5_freshText 0 = .ok (.iconst 0, 1) := dk_3 (dk_at dksX5_freshText_0 0 rfl rfl)
theorem dX5_freshText_1 : decode cX5_freshText 1 = .ok (.istore_n 1, 1) := dk_60 (dk_at dksX5_freshText_0 1 rfl rfl)
theorem dX5_freshText_2 : decode cX5_freshText 2 = .ok (.iload_n 1, 1) := dk_27 (dk_at dksX5_freshText_0 2 rfl rfl)
theorem dX5_freshText_3 : decode cX5_freshText 3 = .ok (.bipush 10, 2) := dk_16 10 (dk_at dksX5_freshText_0 3 rfl rfl)
theorem dX5_freshText_5 : decode cX5_freshText 5 = .ok (.if_icmp .ge 15, 3) := dk_162 0 15 (dk_at dksX5_freshText_0 5 rfl rfl)
theorem dX5_freshText_8 : decode cX5_freshText 8 = .ok (.aload_n 0, 1) := dk_42 (dk_at dksX5_freshText_0 8 rfl rfl)
theorem dX5_freshText_9 : decode cX5_freshText 9 = .ok (.iload_n 1, 1) := dk_27 (dk_at dksX5_freshText_0 9 rfl rfl)
theorem dX5_freshText_10 : decode cX5_freshText 10 = .ok (.iconst 0, 1) := dk_3 (dk_at dksX5_freshText_0 10 rfl rfl)
theorem dX5_freshText_11 : decode cX5_freshText 11 = .ok (.invokevirtual 169, 3) := dk_182 0 169 (dk_at dksX5_freshText_0 11 rfl rfl)
theorem dX5_freshText_14 : decode cX5_freshText 14 = .ok (.iinc 1 1, 3) := dk_132 1 1 (dk_at dksX5_freshText_0 14 rfl rfl)
theorem dX5_freshText_17 : decode cX5_freshText 17 = .ok (.goto (-15), 3) := dk_167 255 241 (dk_at dksX5_freshText_0 17 rfl rfl)
theorem dX5_freshText_20 : decode cX5_freshText 20 = .ok (.aload_n 0, 1) := dk_42 (dk_at dksX5_freshText_0 20 rfl rfl)
theorem dX5_freshText_21 : decode cX5_freshText 21 = .ok (.iconst 0, 1) := dk_3 (dk_at dksX5_freshText_0 21 rfl rfl)
theorem dX5_freshText_22 : decode cX5_freshText 22 = .ok (.bipush 30, 2) := dk_16 30 (dk_at dksX5_freshText_0 22 rfl rfl)
theorem dX5_freshText_24 : decode cX5_freshText 24 = .ok (.invokevirtual 169, 3) := dk_182 0 169 (dk_at dksX5_freshText_1 0 rfl rfl)
theorem dX5_freshText_27 : decode cX5_freshText 27 = .ok (.aload_n 0, 1) := dk_42 (dk_at dksX5_freshText_1 3 rfl rfl)
theorem dX5_freshText_28 : decode cX5_freshText 28 = .ok (.iconst 2, 1) := dk_5 (dk_at dksX5_freshText_1 4 rfl rfl)
theorem dX5_freshText_29 : decode cX5_freshText 29 = .ok (.iconst 1, 1) := dk_4 (dk_at dksX5_freshText_1 5 rfl rfl)
theorem dX5_freshText_30 : decode cX5_freshText 30 = .ok (.invokevirtual 169, 3) := dk_182 0 169 (dk_at dksX5_freshText_1 6 rfl rfl)
theorem dX5_freshText_33 : decode cX5_freshText 33 = .ok (.aload_n 0, 1) := dk_42 (dk_at dksX5_freshText_1 9 rfl rfl)
theorem dX5_freshText_34 : decode cX5_freshText 34 = .ok (.iconst 3, 1) := dk_6 (dk_at dksX5_freshText_1 10 rfl rfl)
theorem dX5_freshText_35 : decode cX5_freshText 35 = .ok (.iconst 2, 1) := dk_5 (dk_at dksX5_freshText_1 11 rfl rfl)
theorem dX5_freshText_36 : decode cX5_freshText 36 = .ok (.invokevirtual 169, 3) := dk_182 0 169 (dk_at dksX5_freshText_1 12 rfl rfl)
theorem dX5_freshText_39 : decode cX5_freshText 39 = .ok (.aload_n 0, 1) := dk_42 (dk_at dksX5_freshText_1 15 rfl rfl)
theorem dX5_freshText_40 : decode cX5_freshText 40 = .ok (.iconst 4, 1) := dk_7 (dk_at dksX5_freshText_1 16 rfl rfl)
theorem dX5_freshText_41 : decode cX5_freshText 41 = .ok (.iconst 5, 1) := dk_8 (dk_at dksX5_freshText_1 17 rfl rfl)
theorem dX5_freshText_42 : decode cX5_freshText 42 = .ok (.invokevirtual 169, 3) := dk_182 0 169 (dk_at dksX5_freshText_1 18 rfl rfl)
theorem dX5_freshText_45 : decode cX5_freshText 45 = .ok (.aload_n 0, 1) := dk_42 (dk_at dksX5_freshText_1 21 rfl rfl)
theorem dX5_freshText_46 : decode cX5_freshText 46 = .ok (.iconst 5, 1) := dk_8 (dk_at dksX5_freshText_1 22 rfl rfl)
theorem dX5_freshText_47 : decode cX5_freshText 47 = .ok (.bipush 10, 2) := dk_16 10 (dk_at dksX5_freshText_2 0 rfl rfl)
theorem dX5_freshText_49 : decode cX5_freshText 49 = .ok (.invokevirtual 169, 3) := dk_182 0 169 (dk_at dksX5_freshText_2 2 rfl rfl)
theorem dX5_freshText_52 : decode cX5_freshText 52 = .ok (.aload_n 0, 1) := dk_42 (dk_at dksX5_freshText_2 5 rfl rfl)
theorem dX5_freshText_53 : decode cX5_freshText 53 = .ok (.bipush 6, 2) := dk_16 6 (dk_at dksX5_freshText_2 6 rfl rfl)
theorem dX5_freshText_55 : decode cX5_freshText 55 = .ok (.bipush 20, 2) := dk_16 20 (dk_at dksX5_freshText_2 8 rfl rfl)
theorem dX5_freshText_57 : decode cX5_freshText 57 = .ok (.invokevirtual 169, 3) := dk_182 0 169 (dk_at dksX5_freshText_2 10 rfl rfl)
theorem dX5_freshText_60 : decode cX5_freshText 60 = .ok (.iconst 0, 1) := dk_3 (dk_at dksX5_freshText_2 13 rfl rfl)
theorem dX5_freshText_61 : decode cX5_freshText 61 = .ok (.istore_n 1, 1) := dk_60 (dk_at dksX5_freshText_2 14 rfl rfl)
theorem dX5_freshText_62 : decode cX5_freshText 62 = .ok (.iload_n 1, 1) := dk_27 (dk_at dksX5_freshText_2 15 rfl rfl)
theorem dX5_freshText_63 : decode cX5_freshText 63 = .ok (.bipush 9, 2) := dk_16 9 (dk_at dksX5_freshText_2 16 rfl rfl)
theorem dX5_freshText_65 : decode cX5_freshText 65 = .ok (.if_icmp .ge 20, 3) := dk_162 0 20 (dk_at dksX5_freshText_2 18 rfl rfl)
theorem dX5_freshText_68 : decode cX5_freshText 68 = .ok (.aload_n 0, 1) := dk_42 (dk_at dksX5_freshText_2 21 rfl rfl)
theorem dX5_freshText_69 : decode cX5_freshText 69 = .ok (.getfield 41, 3) := dk_180 0 41 (dk_at dksX5_freshText_3 0 rfl rfl)
theorem dX5_freshText_72 : decode cX5_freshText 72 = .ok (.bipush 9, 2) := dk_16 9 (dk_at dksX5_freshText_3 3 rfl rfl)
theorem dX5_freshText_74 : decode cX5_freshText 74 = .ok (.iload_n 1, 1) := dk_27 (dk_at dksX5_freshText_3 5 rfl rfl)
theorem dX5_freshText_75 : decode cX5_freshText 75 = .ok (.iadd, 1) := dk_96 (dk_at dksX5_freshText_3 6 rfl rfl)
theorem dX5_freshText_76 : decode cX5_freshText 76 = .ok (.bipush (-2), 2) := dk_16 254 (dk_at dksX5_freshText_3 7 rfl rfl)
theorem dX5_freshText_78 : decode cX5_freshText 78 = .ok (.iastore, 1) := dk_79 (dk_at dksX5_freshText_3 9 rfl rfl)
theorem dX5_freshText_79 : decode cX5_freshText 79 = .ok (.iinc 1 1, 3) := dk_132 1 1 (dk_at dksX5_freshText_3 10 rfl rfl)
theorem dX5_freshText_82 : decode cX5_freshText 82 = .ok (.goto (-20), 3) := dk_167 255 236 (dk_at dksX5_freshText_3 13 rfl rfl)
theorem dX5_freshText_85 : decode cX5_freshText 85 = .ok (.iconst 0, 1) := dk_3 (dk_at dksX5_freshText_3 16 rfl rfl)
theorem dX5_freshText_86 : decode cX5_freshText 86 = .ok (.istore_n 1, 1) := dk_60 (dk_at dksX5_freshText_3 17 rfl rfl)
theorem dX5_freshText_87 : decode cX5_freshText 87 = .ok (.iload_n 1, 1) := dk_27 (dk_at dksX5_freshText_3 18 rfl rfl)
theorem dX5_freshText_88 : decode cX5_freshText 88 = .ok (.bipush 11, 2) := dk_16 11 (dk_at dksX5_freshText_3 19 rfl rfl)
theorem dX5_freshText_90 : decode cX5_freshText 90 = .ok (.if_icmp .ge 16, 3) := dk_162 0 16 (dk_at dksX5_freshText_3 21 rfl rfl)
theorem dX5_freshText_93 : decode cX5_freshText 93 = .ok (.aload_n 0, 1) := dk_42 (dk_at dksX5_freshText_4 0 rfl rfl)
theorem dX5_freshText_94 : decode cX5_freshText 94 = .ok (.getfield 16, 3) := dk_180 0 16 (dk_at dksX5_freshText_4 1 rfl rfl)
theorem dX5_freshText_97 : decode cX5_freshText 97 = .ok (.iload_n 1, 1) := dk_27 (dk_at dksX5_freshText_4 4 rfl rfl)
theorem dX5_freshText_98 : decode cX5_freshText 98 = .ok (.iconst 0, 1) := dk_3 (dk_at dksX5_freshText_4 5 rfl rfl)
theorem dX5_freshText_99 : decode cX5_freshText 99 = .ok (.bastore, 1) := dk_84 (dk_at dksX5_freshText_4 6 rfl rfl)
theorem dX5_freshText_100 : decode cX5_freshText 100 = .ok (.iinc 1 1, 3) := dk_132 1 1 (dk_at dksX5_freshText_4 7 rfl rfl)
theorem dX5_freshText_103 : decode cX5_freshText 103 = .ok (.goto (-16), 3) := dk_167 255 240 (dk_at dksX5_freshText_4 10 rfl rfl)
theorem dX5_freshText_106 : decode cX5_freshText 106 = .ok (.iconst 0, 1) := dk_3 (dk_at dksX5_freshText_4 13 rfl rfl)
theorem dX5_freshText_107 : decode cX5_freshText 107 = .ok (.istore_n 1, 1) := dk_60 (dk_at dksX5_freshText_4 14 rfl rfl)
theorem dX5_freshText_108 : decode cX5_freshText 108 = .ok (.iload_n 1, 1) := dk_27 (dk_at dksX5_freshText_4 15 rfl rfl)
theorem dX5_freshText_109 : decode cX5_freshText 109 = .ok (.bipush 61, 2) := dk_16 61 (dk_at dksX5_freshText_4 16 rfl rfl)
theorem dX5_freshText_111 : decode cX5_freshText 111 = .ok (.if_icmp .ge 19, 3) := dk_162 0 19 (dk_at dksX5_freshText_4 18 rfl rfl)
theorem dX5_freshText_114 : decode cX5_freshText 114 = .ok (.aload_n 0, 1) := dk_42 (dk_at dksX5_freshText_4 21 rfl rfl)
theorem dX5_freshText_115 : decode cX5_freshText 115 = .ok (.getfield 44, 3) := dk_180 0 44 (dk_at dksX5_freshText_5 0 rfl rfl)
theorem dX5_freshText_118 : decode cX5_freshText 118 = .ok (.bipush 61, 2) := dk_16 61 (dk_at dksX5_freshText_5 3 rfl rfl)
theorem dX5_freshText_120 : decode cX5_freshText 120 = .ok (.iload_n 1, 1) := dk_27 (dk_at dksX5_freshText_5 5 rfl rfl)
theorem dX5_freshText_121 : decode cX5_freshText 121 = .ok (.iadd, 1) := dk_96 (dk_at dksX5_freshText_5 6 rfl rfl)
theorem dX5_freshText_122 : decode cX5_freshText 122 = .ok (.iconst 0, 1) := dk_3 (dk_at dksX5_freshText_5 7 rfl rfl)
theorem dX5_freshText_123 : decode cX5_freshText 123 = .ok (.bastore, 1) := dk_84 (dk_at dksX5_freshText_5 8 rfl rfl)
theorem dX5_freshText_124 : decode cX5_freshText 124 = .ok (.iinc 1 1, 3) := dk_132 1 1 (dk_at dksX5_freshText_5 9 rfl rfl)
theorem dX5_freshText_127 : decode cX5_freshText 127 = .ok (.goto (-19), 3) := dk_167 255 237 (dk_at dksX5_freshText_5 12 rfl rfl)
theorem dX5_freshText_130 : decode cX5_freshText 130 = .ok (.aload_n 0, 1) := dk_42 (dk_at dksX5_freshText_5 15 rfl rfl)
theorem dX5_freshText_131 : decode cX5_freshText 131 = .ok (.iconst 0, 1) := dk_3 (dk_at dksX5_freshText_5 16 rfl rfl)
theorem dX5_freshText_132 : decode cX5_freshText 132 = .ok (.putfield 173, 3) := dk_181 0 173 (dk_at dksX5_freshText_5 17 rfl rfl)
theorem dX5_freshText_135 : decode cX5_freshText 135 = .ok (.return_, 1) := dk_177 (dk_at dksX5_freshText_5 20 rfl rfl)
abbrev cX5_reads : ByteArray := prog_10_method_14_code
def yX5_reads : MethodName := ⟨RX5, "reads", "(II)V"⟩
def dkwX5_reads_0 : List UInt8 := [42, 180, 0, 13, 16, 10, 27, 96, 28, 79, 177]
abbrev dktX5_reads_0 : List UInt8 := dkwX5_reads_0 ++ []
theorem dksX5_reads_0 : cX5_reads.data.toList.drop 0 = dktX5_reads_0 := by decide +kernel
theorem dX5_reads_0 : decode cX5_reads 0 = .ok (.aload_n 0, 1) := dk_42 (dk_at dksX5_reads_0 0 rfl rfl)
theorem dX5_reads_1 : decode cX5_reads 1 = .ok (.getfield 13, 3) := dk_180 0 13 (dk_at dksX5_reads_0 1 rfl rfl)
theorem dX5_reads_4 : decode cX5_reads 4 = .ok (.bipush 10, 2) := dk_16 10 (dk_at dksX5_reads_0 4 rfl rfl)
theorem dX5_reads_6 : decode cX5_reads 6 = .ok (.iload_n 1, 1) := dk_27 (dk_at dksX5_reads_0 6 rfl rfl)
theorem dX5_reads_7 : decode cX5_reads 7 = .ok (.iadd, 1) := dk_96 (dk_at dksX5_reads_0 7 rfl rfl)
theorem dX5_reads_8 : decode cX5_reads 8 = .ok (.iload_n 2, 1) := dk_28 (dk_at dksX5_reads_0 8 rfl rfl)
theorem dX5_reads_9 : decode cX5_reads 9 = .ok (.iastore, 1) := dk_79 (dk_at dksX5_reads_0 9 rfl rfl)
theorem dX5_reads_10 : decode cX5_reads 10 = .ok (.return_, 1) := dk_177 (dk_at dksX5_reads_0 10 rfl rfl)
abbrev cX5_takeText : ByteArray := prog_10_method_29_code
def yX5_takeText : MethodName := ⟨RX5, "takeText", "()V"⟩
def dkwX5_takeText_8 : List UInt8 := [180, 0, 44, 16, 61, 27, 96, 51, 84, 132, 1, 1, 167, 255, 232, 177]
abbrev dktX5_takeText_8 : List UInt8 := dkwX5_takeText_8 ++ []
def dkwX5_takeText_7 : List UInt8 := [46, 79, 132, 1, 1, 167, 255, 232, 3, 60, 27, 16, 61, 162, 0, 24, 42, 180, 0, 44, 27, 42]
abbrev dktX5_takeText_7 : List UInt8 := dkwX5_takeText_7 ++ dktX5_takeText_8
def dkwX5_takeText_6 : List UInt8 := [167, 255, 142, 3, 60, 27, 16, 9, 162, 0, 24, 42, 180, 0, 41, 27, 42, 180, 0, 41, 16, 9, 27, 96]
abbrev dktX5_takeText_6 : List UInt8 := dkwX5_takeText_6 ++ dktX5_takeText_7
def dkwX5_takeText_5 : List UInt8 := [16, 6, 27, 96, 46, 79, 42, 180, 0, 38, 27, 42, 180, 0, 38, 16, 6, 27, 96, 46, 79, 132, 1, 1]
abbrev dktX5_takeText_5 : List UInt8 := dkwX5_takeText_5 ++ dktX5_takeText_6
def dkwX5_takeText_4 : List UInt8 := [42, 180, 0, 32, 27, 42, 180, 0, 32, 16, 6, 27, 96, 46, 79, 42, 180, 0, 35, 27, 42, 180, 0, 35]
abbrev dktX5_takeText_4 : List UInt8 := dkwX5_takeText_4 ++ dktX5_takeText_5
def dkwX5_takeText_3 : List UInt8 := [180, 0, 26, 16, 6, 27, 96, 46, 79, 42, 180, 0, 29, 27, 42, 180, 0, 29, 16, 6, 27, 96, 46, 79]
abbrev dktX5_takeText_3 : List UInt8 := dkwX5_takeText_3 ++ dktX5_takeText_4
def dkwX5_takeText_2 : List UInt8 := [46, 79, 42, 180, 0, 23, 27, 42, 180, 0, 23, 16, 6, 27, 96, 46, 79, 42, 180, 0, 26, 27, 42]
abbrev dktX5_takeText_2 : List UInt8 := dkwX5_takeText_2 ++ dktX5_takeText_3
def dkwX5_takeText_1 : List UInt8 := [167, 255, 236, 3, 60, 27, 16, 6, 162, 0, 114, 42, 180, 0, 20, 27, 42, 180, 0, 20, 16, 6, 27, 96]
abbrev dktX5_takeText_1 : List UInt8 := dkwX5_takeText_1 ++ dktX5_takeText_2
def dkwX5_takeText_0 : List UInt8 := [3, 60, 27, 16, 10, 162, 0, 20, 42, 180, 0, 13, 27, 42, 27, 182, 0, 181, 79, 132, 1, 1]
abbrev dktX5_takeText_0 : List UInt8 := dkwX5_takeText_0 ++ dktX5_takeText_1
theorem dksX5_takeText_0 : cX5_takeText.data.toList.drop 0 = dktX5_takeText_0 := by decide +kernel
theorem dksX5_takeText_1 : cX5_takeText.data.toList.drop 22 = dktX5_takeText_1 := dk_seg dksX5_takeText_0 22 rfl rfl
theorem dksX5_takeText_2 : cX5_takeText.data.toList.drop 46 = dktX5_takeText_2 := dk_seg dksX5_takeText_1 24 rfl rfl
theorem dksX5_takeText_3 : cX5_takeText.data.toList.drop 69 = dktX5_takeText_3 := dk_seg dksX5_takeText_2 23 rfl rfl
theorem dksX5_takeText_4 : cX5_takeText.data.toList.drop 93 = dktX5_takeText_4 := dk_seg dksX5_takeText_3 24 rfl rfl
theorem dksX5_takeText_5 : cX5_takeText.data.toList.drop 117 = dktX5_takeText_5 := dk_seg dksX5_takeText_4 24 rfl rfl
theorem dksX5_takeText_6 : cX5_takeText.data.toList.drop 141 = dktX5_takeText_6 := dk_seg dksX5_takeText_5 24 rfl rfl
theorem dksX5_takeText_7 : cX5_takeText.data.toList.drop 165 = dktX5_takeText_7 := dk_seg dksX5_takeText_6 24 rfl rfl
theorem dksX5_takeText_8 : cX5_takeText.data.toList.drop 187 = dktX5_takeText_8 := dk_seg dksX5_takeText_7 22 rfl rfl
theorem dX5_takeText_0 : decode cX5_takeText 0 = .ok (.iconst 0, 1) := dk_3 (dk_at dksX5_takeText_0 0 rfl rfl)
theorem dX5_takeText_1 : decode cX5_takeText 1 = .ok (.istore_n 1, 1) := dk_60 (dk_at dksX5_takeText_0 1 rfl rfl)
theorem dX5_takeText_2 : decode cX5_takeText 2 = .ok (.iload_n 1, 1) := dk_27 (dk_at dksX5_takeText_0 2 rfl rfl)
theorem dX5_takeText_3 : decode cX5_takeText 3 = .ok (.bipush 10, 2) := dk_16 10 (dk_at dksX5_takeText_0 3 rfl rfl)
theorem dX5_takeText_5 : decode cX5_takeText 5 = .ok (.if_icmp .ge 20, 3) := dk_162 0 20 (dk_at dksX5_takeText_0 5 rfl rfl)
theorem dX5_takeText_8 : decode cX5_takeText 8 = .ok (.aload_n 0, 1) := dk_42 (dk_at dksX5_takeText_0 8 rfl rfl)
theorem dX5_takeText_9 : decode cX5_takeText 9 = .ok (.getfield 13, 3) := dk_180 0 13 (dk_at dksX5_takeText_0 9 rfl rfl)
theorem dX5_takeText_12 : decode cX5_takeText 12 = .ok (.iload_n 1, 1) := dk_27 (dk_at dksX5_takeText_0 12 rfl rfl)
theorem dX5_takeText_13 : decode cX5_takeText 13 = .ok (.aload_n 0, 1) := dk_42 (dk_at dksX5_takeText_0 13 rfl rfl)
theorem dX5_takeText_14 : decode cX5_takeText 14 = .ok (.iload_n 1, 1) := dk_27 (dk_at dksX5_takeText_0 14 rfl rfl)
theorem dX5_takeText_15 : decode cX5_takeText 15 = .ok (.invokevirtual 181, 3) := dk_182 0 181 (dk_at dksX5_takeText_0 15 rfl rfl)
theorem dX5_takeText_18 : decode cX5_takeText 18 = .ok (.iastore, 1) := dk_79 (dk_at dksX5_takeText_0 18 rfl rfl)
theorem dX5_takeText_19 : decode cX5_takeText 19 = .ok (.iinc 1 1, 3) := dk_132 1 1 (dk_at dksX5_takeText_0 19 rfl rfl)
theorem dX5_takeText_22 : decode cX5_takeText 22 = .ok (.goto (-20), 3) := dk_167 255 236 (dk_at dksX5_takeText_1 0 rfl rfl)
theorem dX5_takeText_25 : decode cX5_takeText 25 = .ok (.iconst 0, 1) := dk_3 (dk_at dksX5_takeText_1 3 rfl rfl)
theorem dX5_takeText_26 : decode cX5_takeText 26 = .ok (.istore_n 1, 1) := dk_60 (dk_at dksX5_takeText_1 4 rfl rfl)
theorem dX5_takeText_27 : decode cX5_takeText 27 = .ok (.iload_n 1, 1) := dk_27 (dk_at dksX5_takeText_1 5 rfl rfl)
theorem dX5_takeText_28 : decode cX5_takeText 28 = .ok (.bipush 6, 2) := dk_16 6 (dk_at dksX5_takeText_1 6 rfl rfl)
theorem dX5_takeText_30 : decode cX5_takeText 30 = .ok (.if_icmp .ge 114, 3) := dk_162 0 114 (dk_at dksX5_takeText_1 8 rfl rfl)
theorem dX5_takeText_33 : decode cX5_takeText 33 = .ok (.aload_n 0, 1) := dk_42 (dk_at dksX5_takeText_1 11 rfl rfl)
theorem dX5_takeText_34 : decode cX5_takeText 34 = .ok (.getfield 20, 3) := dk_180 0 20 (dk_at dksX5_takeText_1 12 rfl rfl)
theorem dX5_takeText_37 : decode cX5_takeText 37 = .ok (.iload_n 1, 1) := dk_27 (dk_at dksX5_takeText_1 15 rfl rfl)
theorem dX5_takeText_38 : decode cX5_takeText 38 = .ok (.aload_n 0, 1) := dk_42 (dk_at dksX5_takeText_1 16 rfl rfl)
theorem dX5_takeText_39 : decode cX5_takeText 39 = .ok (.getfield 20, 3) := dk_180 0 20 (dk_at dksX5_takeText_1 17 rfl rfl)
theorem dX5_takeText_42 : decode cX5_takeText 42 = .ok (.bipush 6, 2) := dk_16 6 (dk_at dksX5_takeText_1 20 rfl rfl)
theorem dX5_takeText_44 : decode cX5_takeText 44 = .ok (.iload_n 1, 1) := dk_27 (dk_at dksX5_takeText_1 22 rfl rfl)
theorem dX5_takeText_45 : decode cX5_takeText 45 = .ok (.iadd, 1) := dk_96 (dk_at dksX5_takeText_1 23 rfl rfl)
theorem dX5_takeText_46 : decode cX5_takeText 46 = .ok (.iaload, 1) := dk_46 (dk_at dksX5_takeText_2 0 rfl rfl)
theorem dX5_takeText_47 : decode cX5_takeText 47 = .ok (.iastore, 1) := dk_79 (dk_at dksX5_takeText_2 1 rfl rfl)
theorem dX5_takeText_48 : decode cX5_takeText 48 = .ok (.aload_n 0, 1) := dk_42 (dk_at dksX5_takeText_2 2 rfl rfl)
theorem dX5_takeText_49 : decode cX5_takeText 49 = .ok (.getfield 23, 3) := dk_180 0 23 (dk_at dksX5_takeText_2 3 rfl rfl)
theorem dX5_takeText_52 : decode cX5_takeText 52 = .ok (.iload_n 1, 1) := dk_27 (dk_at dksX5_takeText_2 6 rfl rfl)
theorem dX5_takeText_53 : decode cX5_takeText 53 = .ok (.aload_n 0, 1) := dk_42 (dk_at dksX5_takeText_2 7 rfl rfl)
theorem dX5_takeText_54 : decode cX5_takeText 54 = .ok (.getfield 23, 3) := dk_180 0 23 (dk_at dksX5_takeText_2 8 rfl rfl)
theorem dX5_takeText_57 : decode cX5_takeText 57 = .ok (.bipush 6, 2) := dk_16 6 (dk_at dksX5_takeText_2 11 rfl rfl)
theorem dX5_takeText_59 : decode cX5_takeText 59 = .ok (.iload_n 1, 1) := dk_27 (dk_at dksX5_takeText_2 13 rfl rfl)
theorem dX5_takeText_60 : decode cX5_takeText 60 = .ok (.iadd, 1) := dk_96 (dk_at dksX5_takeText_2 14 rfl rfl)
theorem dX5_takeText_61 : decode cX5_takeText 61 = .ok (.iaload, 1) := dk_46 (dk_at dksX5_takeText_2 15 rfl rfl)
theorem dX5_takeText_62 : decode cX5_takeText 62 = .ok (.iastore, 1) := dk_79 (dk_at dksX5_takeText_2 16 rfl rfl)
theorem dX5_takeText_63 : decode cX5_takeText 63 = .ok (.aload_n 0, 1) := dk_42 (dk_at dksX5_takeText_2 17 rfl rfl)
theorem dX5_takeText_64 : decode cX5_takeText 64 = .ok (.getfield 26, 3) := dk_180 0 26 (dk_at dksX5_takeText_2 18 rfl rfl)
theorem dX5_takeText_67 : decode cX5_takeText 67 = .ok (.iload_n 1, 1) := dk_27 (dk_at dksX5_takeText_2 21 rfl rfl)
theorem dX5_takeText_68 : decode cX5_takeText 68 = .ok (.aload_n 0, 1) := dk_42 (dk_at dksX5_takeText_2 22 rfl rfl)
theorem dX5_takeText_69 : decode cX5_takeText 69 = .ok (.getfield 26, 3) := dk_180 0 26 (dk_at dksX5_takeText_3 0 rfl rfl)
theorem dX5_takeText_72 : decode cX5_takeText 72 = .ok (.bipush 6, 2) := dk_16 6 (dk_at dksX5_takeText_3 3 rfl rfl)
theorem dX5_takeText_74 : decode cX5_takeText 74 = .ok (.iload_n 1, 1) := dk_27 (dk_at dksX5_takeText_3 5 rfl rfl)
theorem dX5_takeText_75 : decode cX5_takeText 75 = .ok (.iadd, 1) := dk_96 (dk_at dksX5_takeText_3 6 rfl rfl)
theorem dX5_takeText_76 : decode cX5_takeText 76 = .ok (.iaload, 1) := dk_46 (dk_at dksX5_takeText_3 7 rfl rfl)
theorem dX5_takeText_77 : decode cX5_takeText 77 = .ok (.iastore, 1) := dk_79 (dk_at dksX5_takeText_3 8 rfl rfl)
theorem dX5_takeText_78 : decode cX5_takeText 78 = .ok (.aload_n 0, 1) := dk_42 (dk_at dksX5_takeText_3 9 rfl rfl)
theorem dX5_takeText_79 : decode cX5_takeText 79 = .ok (.getfield 29, 3) := dk_180 0 29 (dk_at dksX5_takeText_3 10 rfl rfl)
theorem dX5_takeText_82 : decode cX5_takeText 82 = .ok (.iload_n 1, 1) := dk_27 (dk_at dksX5_takeText_3 13 rfl rfl)
theorem dX5_takeText_83 : decode cX5_takeText 83 = .ok (.aload_n 0, 1) := dk_42 (dk_at dksX5_takeText_3 14 rfl rfl)
theorem dX5_takeText_84 : decode cX5_takeText 84 = .ok (.getfield 29, 3) := dk_180 0 29 (dk_at dksX5_takeText_3 15 rfl rfl)
theorem dX5_takeText_87 : decode cX5_takeText 87 = .ok (.bipush 6, 2) := dk_16 6 (dk_at dksX5_takeText_3 18 rfl rfl)
theorem dX5_takeText_89 : decode cX5_takeText 89 = .ok (.iload_n 1, 1) := dk_27 (dk_at dksX5_takeText_3 20 rfl rfl)
theorem dX5_takeText_90 : decode cX5_takeText 90 = .ok (.iadd, 1) := dk_96 (dk_at dksX5_takeText_3 21 rfl rfl)
theorem dX5_takeText_91 : decode cX5_takeText 91 = .ok (.iaload, 1) := dk_46 (dk_at dksX5_takeText_3 22 rfl rfl)
theorem dX5_takeText_92 : decode cX5_takeText 92 = .ok (.iastore, 1) := dk_79 (dk_at dksX5_takeText_3 23 rfl rfl)
theorem dX5_takeText_93 : decode cX5_takeText 93 = .ok (.aload_n 0, 1) := dk_42 (dk_at dksX5_takeText_4 0 rfl rfl)
theorem dX5_takeText_94 : decode cX5_takeText 94 = .ok (.getfield 32, 3) := dk_180 0 32 (dk_at dksX5_takeText_4 1 rfl rfl)
theorem dX5_takeText_97 : decode cX5_takeText 97 = .ok (.iload_n 1, 1) := dk_27 (dk_at dksX5_takeText_4 4 rfl rfl)
theorem dX5_takeText_98 : decode cX5_takeText 98 = .ok (.aload_n 0, 1) := dk_42 (dk_at dksX5_takeText_4 5 rfl rfl)
theorem dX5_takeText_99 : decode cX5_takeText 99 = .ok (.getfield 32, 3) := dk_180 0 32 (dk_at dksX5_takeText_4 6 rfl rfl)
theorem dX5_takeText_102 : decode cX5_takeText 102 = .ok (.bipush 6, 2) := dk_16 6 (dk_at dksX5_takeText_4 9 rfl rfl)
theorem dX5_takeText_104 : decode cX5_takeText 104 = .ok (.iload_n 1, 1) := dk_27 (dk_at dksX5_takeText_4 11 rfl rfl)
theorem dX5_takeText_105 : decode cX5_takeText 105 = .ok (.iadd, 1) := dk_96 (dk_at dksX5_takeText_4 12 rfl rfl)
theorem dX5_takeText_106 : decode cX5_takeText 106 = .ok (.iaload, 1) := dk_46 (dk_at dksX5_takeText_4 13 rfl rfl)
theorem dX5_takeText_107 : decode cX5_takeText 107 = .ok (.iastore, 1) := dk_79 (dk_at dksX5_takeText_4 14 rfl rfl)
theorem dX5_takeText_108 : decode cX5_takeText 108 = .ok (.aload_n 0, 1) := dk_42 (dk_at dksX5_takeText_4 15 rfl rfl)
theorem dX5_takeText_109 : decode cX5_takeText 109 = .ok (.getfield 35, 3) := dk_180 0 35 (dk_at dksX5_takeText_4 16 rfl rfl)
theorem dX5_takeText_112 : decode cX5_takeText 112 = .ok (.iload_n 1, 1) := dk_27 (dk_at dksX5_takeText_4 19 rfl rfl)
theorem dX5_takeText_113 : decode cX5_takeText 113 = .ok (.aload_n 0, 1) := dk_42 (dk_at dksX5_takeText_4 20 rfl rfl)
theorem dX5_takeText_114 : decode cX5_takeText 114 = .ok (.getfield 35, 3) := dk_180 0 35 (dk_at dksX5_takeText_4 21 rfl rfl)
theorem dX5_takeText_117 : decode cX5_takeText 117 = .ok (.bipush 6, 2) := dk_16 6 (dk_at dksX5_takeText_5 0 rfl rfl)
theorem dX5_takeText_119 : decode cX5_takeText 119 = .ok (.iload_n 1, 1) := dk_27 (dk_at dksX5_takeText_5 2 rfl rfl)
theorem dX5_takeText_120 : decode cX5_takeText 120 = .ok (.iadd, 1) := dk_96 (dk_at dksX5_takeText_5 3 rfl rfl)
theorem dX5_takeText_121 : decode cX5_takeText 121 = .ok (.iaload, 1) := dk_46 (dk_at dksX5_takeText_5 4 rfl rfl)
theorem dX5_takeText_122 : decode cX5_takeText 122 = .ok (.iastore, 1) := dk_79 (dk_at dksX5_takeText_5 5 rfl rfl)
theorem dX5_takeText_123 : decode cX5_takeText 123 = .ok (.aload_n 0, 1) := dk_42 (dk_at dksX5_takeText_5 6 rfl rfl)
theorem dX5_takeText_124 : decode cX5_takeText 124 = .ok (.getfield 38, 3) := dk_180 0 38 (dk_at dksX5_takeText_5 7 rfl rfl)
theorem dX5_takeText_127 : decode cX5_takeText 127 = .ok (.iload_n 1, 1) := dk_27 (dk_at dksX5_takeText_5 10 rfl rfl)
theorem dX5_takeText_128 : decode cX5_takeText 128 = .ok (.aload_n 0, 1) := dk_42 (dk_at dksX5_takeText_5 11 rfl rfl)
theorem dX5_takeText_129 : decode cX5_takeText 129 = .ok (.getfield 38, 3) := dk_180 0 38 (dk_at dksX5_takeText_5 12 rfl rfl)
theorem dX5_takeText_132 : decode cX5_takeText 132 = .ok (.bipush 6, 2) := dk_16 6 (dk_at dksX5_takeText_5 15 rfl rfl)
theorem dX5_takeText_134 : decode cX5_takeText 134 = .ok (.iload_n 1, 1) := dk_27 (dk_at dksX5_takeText_5 17 rfl rfl)
theorem dX5_takeText_135 : decode cX5_takeText 135 = .ok (.iadd, 1) := dk_96 (dk_at dksX5_takeText_5 18 rfl rfl)
theorem dX5_takeText_136 : decode cX5_takeText 136 = .ok (.iaload, 1) := dk_46 (dk_at dksX5_takeText_5 19 rfl rfl)
theorem dX5_takeText_137 : decode cX5_takeText 137 = .ok (.iastore, 1) := dk_79 (dk_at dksX5_takeText_5 20 rfl rfl)
theorem dX5_takeText_138 : decode cX5_takeText 138 = .ok (.iinc 1 1, 3) := dk_132 1 1 (dk_at dksX5_takeText_5 21 rfl rfl)
theorem dX5_takeText_141 : decode cX5_takeText 141 = .ok (.goto (-114), 3) := dk_167 255 142 (dk_at dksX5_takeText_6 0 rfl rfl)
theorem dX5_takeText_144 : decode cX5_takeText 144 = .ok (.iconst 0, 1) := dk_3 (dk_at dksX5_takeText_6 3 rfl rfl)
theorem dX5_takeText_145 : decode cX5_takeText 145 = .ok (.istore_n 1, 1) := dk_60 (dk_at dksX5_takeText_6 4 rfl rfl)
theorem dX5_takeText_146 : decode cX5_takeText 146 = .ok (.iload_n 1, 1) := dk_27 (dk_at dksX5_takeText_6 5 rfl rfl)
theorem dX5_takeText_147 : decode cX5_takeText 147 = .ok (.bipush 9, 2) := dk_16 9 (dk_at dksX5_takeText_6 6 rfl rfl)
theorem dX5_takeText_149 : decode cX5_takeText 149 = .ok (.if_icmp .ge 24, 3) := dk_162 0 24 (dk_at dksX5_takeText_6 8 rfl rfl)
theorem dX5_takeText_152 : decode cX5_takeText 152 = .ok (.aload_n 0, 1) := dk_42 (dk_at dksX5_takeText_6 11 rfl rfl)
theorem dX5_takeText_153 : decode cX5_takeText 153 = .ok (.getfield 41, 3) := dk_180 0 41 (dk_at dksX5_takeText_6 12 rfl rfl)
theorem dX5_takeText_156 : decode cX5_takeText 156 = .ok (.iload_n 1, 1) := dk_27 (dk_at dksX5_takeText_6 15 rfl rfl)
theorem dX5_takeText_157 : decode cX5_takeText 157 = .ok (.aload_n 0, 1) := dk_42 (dk_at dksX5_takeText_6 16 rfl rfl)
theorem dX5_takeText_158 : decode cX5_takeText 158 = .ok (.getfield 41, 3) := dk_180 0 41 (dk_at dksX5_takeText_6 17 rfl rfl)
theorem dX5_takeText_161 : decode cX5_takeText 161 = .ok (.bipush 9, 2) := dk_16 9 (dk_at dksX5_takeText_6 20 rfl rfl)
theorem dX5_takeText_163 : decode cX5_takeText 163 = .ok (.iload_n 1, 1) := dk_27 (dk_at dksX5_takeText_6 22 rfl rfl)
theorem dX5_takeText_164 : decode cX5_takeText 164 = .ok (.iadd, 1) := dk_96 (dk_at dksX5_takeText_6 23 rfl rfl)
theorem dX5_takeText_165 : decode cX5_takeText 165 = .ok (.iaload, 1) := dk_46 (dk_at dksX5_takeText_7 0 rfl rfl)
theorem dX5_takeText_166 : decode cX5_takeText 166 = .ok (.iastore, 1) := dk_79 (dk_at dksX5_takeText_7 1 rfl rfl)
theorem dX5_takeText_167 : decode cX5_takeText 167 = .ok (.iinc 1 1, 3) := dk_132 1 1 (dk_at dksX5_takeText_7 2 rfl rfl)
theorem dX5_takeText_170 : decode cX5_takeText 170 = .ok (.goto (-24), 3) := dk_167 255 232 (dk_at dksX5_takeText_7 5 rfl rfl)
theorem dX5_takeText_173 : decode cX5_takeText 173 = .ok (.iconst 0, 1) := dk_3 (dk_at dksX5_takeText_7 8 rfl rfl)
theorem dX5_takeText_174 : decode cX5_takeText 174 = .ok (.istore_n 1, 1) := dk_60 (dk_at dksX5_takeText_7 9 rfl rfl)
theorem dX5_takeText_175 : decode cX5_takeText 175 = .ok (.iload_n 1, 1) := dk_27 (dk_at dksX5_takeText_7 10 rfl rfl)
theorem dX5_takeText_176 : decode cX5_takeText 176 = .ok (.bipush 61, 2) := dk_16 61 (dk_at dksX5_takeText_7 11 rfl rfl)
theorem dX5_takeText_178 : decode cX5_takeText 178 = .ok (.if_icmp .ge 24, 3) := dk_162 0 24 (dk_at dksX5_takeText_7 13 rfl rfl)
theorem dX5_takeText_181 : decode cX5_takeText 181 = .ok (.aload_n 0, 1) := dk_42 (dk_at dksX5_takeText_7 16 rfl rfl)
theorem dX5_takeText_182 : decode cX5_takeText 182 = .ok (.getfield 44, 3) := dk_180 0 44 (dk_at dksX5_takeText_7 17 rfl rfl)
theorem dX5_takeText_185 : decode cX5_takeText 185 = .ok (.iload_n 1, 1) := dk_27 (dk_at dksX5_takeText_7 20 rfl rfl)
theorem dX5_takeText_186 : decode cX5_takeText 186 = .ok (.aload_n 0, 1) := dk_42 (dk_at dksX5_takeText_7 21 rfl rfl)
theorem dX5_takeText_187 : decode cX5_takeText 187 = .ok (.getfield 44, 3) := dk_180 0 44 (dk_at dksX5_takeText_8 0 rfl rfl)
theorem dX5_takeText_190 : decode cX5_takeText 190 = .ok (.bipush 61, 2) := dk_16 61 (dk_at dksX5_takeText_8 3 rfl rfl)
theorem dX5_takeText_192 : decode cX5_takeText 192 = .ok (.iload_n 1, 1) := dk_27 (dk_at dksX5_takeText_8 5 rfl rfl)
theorem dX5_takeText_193 : decode cX5_takeText 193 = .ok (.iadd, 1) := dk_96 (dk_at dksX5_takeText_8 6 rfl rfl)
theorem dX5_takeText_194 : decode cX5_takeText 194 = .ok (.baload, 1) := dk_51 (dk_at dksX5_takeText_8 7 rfl rfl)
theorem dX5_takeText_195 : decode cX5_takeText 195 = .ok (.bastore, 1) := dk_84 (dk_at dksX5_takeText_8 8 rfl rfl)
theorem dX5_takeText_196 : decode cX5_takeText 196 = .ok (.iinc 1 1, 3) := dk_132 1 1 (dk_at dksX5_takeText_8 9 rfl rfl)
theorem dX5_takeText_199 : decode cX5_takeText 199 = .ok (.goto (-24), 3) := dk_167 255 232 (dk_at dksX5_takeText_8 12 rfl rfl)
theorem dX5_takeText_202 : decode cX5_takeText 202 = .ok (.return_, 1) := dk_177 (dk_at dksX5_takeText_8 15 rfl rfl)
abbrev cX5_reading : ByteArray := prog_10_method_13_code
def yX5_reading : MethodName := ⟨RX5, "reading", "(I)I"⟩
def dkwX5_reading_0 : List UInt8 := [42, 180, 0, 13, 16, 10, 27, 96, 46, 172]
abbrev dktX5_reading_0 : List UInt8 := dkwX5_reading_0 ++ []
theorem dksX5_reading_0 : cX5_reading.data.toList.drop 0 = dktX5_reading_0 := by decide +kernel
theorem dX5_reading_0 : decode cX5_reading 0 = .ok (.aload_n 0, 1) := dk_42 (dk_at dksX5_reading_0 0 rfl rfl)
theorem dX5_reading_1 : decode cX5_reading 1 = .ok (.getfield 13, 3) := dk_180 0 13 (dk_at dksX5_reading_0 1 rfl rfl)
theorem dX5_reading_4 : decode cX5_reading 4 = .ok (.bipush 10, 2) := dk_16 10 (dk_at dksX5_reading_0 4 rfl rfl)
theorem dX5_reading_6 : decode cX5_reading 6 = .ok (.iload_n 1, 1) := dk_27 (dk_at dksX5_reading_0 6 rfl rfl)
theorem dX5_reading_7 : decode cX5_reading 7 = .ok (.iadd, 1) := dk_96 (dk_at dksX5_reading_0 7 rfl rfl)
theorem dX5_reading_8 : decode cX5_reading 8 = .ok (.iaload, 1) := dk_46 (dk_at dksX5_reading_0 8 rfl rfl)
theorem dX5_reading_9 : decode cX5_reading 9 = .ok (.ireturn, 1) := dk_172 (dk_at dksX5_reading_0 9 rfl rfl)
abbrev cX5_begins : ByteArray := prog_10_method_34_code
def yX5_begins : MethodName := ⟨RX5, "begins", "()V"⟩
def dkwX5_begins_5 : List UInt8 := [51, 153, 0, 7, 4, 167, 0, 4, 3, 79, 132, 1, 1, 167, 255, 224, 42, 182, 0, 235, 177]
abbrev dktX5_begins_5 : List UInt8 := dkwX5_begins_5 ++ []
def dkwX5_begins_4 : List UInt8 := [167, 255, 186, 4, 60, 27, 16, 60, 163, 0, 32, 42, 180, 0, 51, 16, 12, 27, 96, 42, 180, 0, 44, 27]
abbrev dktX5_begins_4 : List UInt8 := dkwX5_begins_4 ++ dktX5_begins_5
def dkwX5_begins_3 : List UInt8 := [180, 0, 38, 27, 46, 154, 0, 9, 17, 0, 255, 167, 0, 9, 42, 180, 0, 38, 27, 46, 79, 132, 1, 1]
abbrev dktX5_begins_3 : List UInt8 := dkwX5_begins_3 ++ dktX5_begins_4
def dkwX5_begins_2 : List UInt8 := [180, 0, 51, 16, 6, 27, 96, 42, 180, 0, 26, 27, 46, 79, 42, 180, 0, 51, 16, 73, 27, 96, 42]
abbrev dktX5_begins_2 : List UInt8 := dkwX5_begins_2 ++ dktX5_begins_3
def dkwX5_begins_1 : List UInt8 := [42, 182, 0, 232, 162, 0, 68, 42, 180, 0, 51, 3, 27, 96, 42, 180, 0, 35, 27, 46, 79, 42]
abbrev dktX5_begins_1 : List UInt8 := dkwX5_begins_1 ++ dktX5_begins_2
def dkwX5_begins_0 : List UInt8 := [3, 60, 27, 16, 79, 162, 0, 16, 42, 180, 0, 51, 27, 3, 79, 132, 1, 1, 167, 255, 240, 3, 60, 27]
abbrev dktX5_begins_0 : List UInt8 := dkwX5_begins_0 ++ dktX5_begins_1
theorem dksX5_begins_0 : cX5_begins.data.toList.drop 0 = dktX5_begins_0 := by decide +kernel
theorem dksX5_begins_1 : cX5_begins.data.toList.drop 24 = dktX5_begins_1 := dk_seg dksX5_begins_0 24 rfl rfl
theorem dksX5_begins_2 : cX5_begins.data.toList.drop 46 = dktX5_begins_2 := dk_seg dksX5_begins_1 22 rfl rfl
theorem dksX5_begins_3 : cX5_begins.data.toList.drop 69 = dktX5_begins_3 := dk_seg dksX5_begins_2 23 rfl rfl
theorem dksX5_begins_4 : cX5_begins.data.toList.drop 93 = dktX5_begins_4 := dk_seg dksX5_begins_3 24 rfl rfl
theorem dksX5_begins_5 : cX5_begins.data.toList.drop 117 = dktX5_begins_5 := dk_seg dksX5_begins_4 24 rfl rfl
theorem dX5_begins_0 : decode cX5_begins 0 = .ok (.iconst 0, 1) := dk_3 (dk_at dksX5_begins_0 0 rfl rfl)
theorem dX5_begins_1 : decode cX5_begins 1 = .ok (.istore_n 1, 1) := dk_60 (dk_at dksX5_begins_0 1 rfl rfl)
theorem dX5_begins_2 : decode cX5_begins 2 = .ok (.iload_n 1, 1) := dk_27 (dk_at dksX5_begins_0 2 rfl rfl)
theorem dX5_begins_3 : decode cX5_begins 3 = .ok (.bipush 79, 2) := dk_16 79 (dk_at dksX5_begins_0 3 rfl rfl)
theorem dX5_begins_5 : decode cX5_begins 5 = .ok (.if_icmp .ge 16, 3) := dk_162 0 16 (dk_at dksX5_begins_0 5 rfl rfl)
theorem dX5_begins_8 : decode cX5_begins 8 = .ok (.aload_n 0, 1) := dk_42 (dk_at dksX5_begins_0 8 rfl rfl)
theorem dX5_begins_9 : decode cX5_begins 9 = .ok (.getfield 51, 3) := dk_180 0 51 (dk_at dksX5_begins_0 9 rfl rfl)
theorem dX5_begins_12 : decode cX5_begins 12 = .ok (.iload_n 1, 1) := dk_27 (dk_at dksX5_begins_0 12 rfl rfl)
theorem dX5_begins_13 : decode cX5_begins 13 = .ok (.iconst 0, 1) := dk_3 (dk_at dksX5_begins_0 13 rfl rfl)
theorem dX5_begins_14 : decode cX5_begins 14 = .ok (.iastore, 1) := dk_79 (dk_at dksX5_begins_0 14 rfl rfl)
theorem dX5_begins_15 : decode cX5_begins 15 = .ok (.iinc 1 1, 3) := dk_132 1 1 (dk_at dksX5_begins_0 15 rfl rfl)
theorem dX5_begins_18 : decode cX5_begins 18 = .ok (.goto (-16), 3) := dk_167 255 240 (dk_at dksX5_begins_0 18 rfl rfl)
theorem dX5_begins_21 : decode cX5_begins 21 = .ok (.iconst 0, 1) := dk_3 (dk_at dksX5_begins_0 21 rfl rfl)
theorem dX5_begins_22 : decode cX5_begins 22 = .ok (.istore_n 1, 1) := dk_60 (dk_at dksX5_begins_0 22 rfl rfl)
theorem dX5_begins_23 : decode cX5_begins 23 = .ok (.iload_n 1, 1) := dk_27 (dk_at dksX5_begins_0 23 rfl rfl)
theorem dX5_begins_24 : decode cX5_begins 24 = .ok (.aload_n 0, 1) := dk_42 (dk_at dksX5_begins_1 0 rfl rfl)
theorem dX5_begins_25 : decode cX5_begins 25 = .ok (.invokevirtual 232, 3) := dk_182 0 232 (dk_at dksX5_begins_1 1 rfl rfl)
theorem dX5_begins_28 : decode cX5_begins 28 = .ok (.if_icmp .ge 68, 3) := dk_162 0 68 (dk_at dksX5_begins_1 4 rfl rfl)
theorem dX5_begins_31 : decode cX5_begins 31 = .ok (.aload_n 0, 1) := dk_42 (dk_at dksX5_begins_1 7 rfl rfl)
theorem dX5_begins_32 : decode cX5_begins 32 = .ok (.getfield 51, 3) := dk_180 0 51 (dk_at dksX5_begins_1 8 rfl rfl)
theorem dX5_begins_35 : decode cX5_begins 35 = .ok (.iconst 0, 1) := dk_3 (dk_at dksX5_begins_1 11 rfl rfl)
theorem dX5_begins_36 : decode cX5_begins 36 = .ok (.iload_n 1, 1) := dk_27 (dk_at dksX5_begins_1 12 rfl rfl)
theorem dX5_begins_37 : decode cX5_begins 37 = .ok (.iadd, 1) := dk_96 (dk_at dksX5_begins_1 13 rfl rfl)
theorem dX5_begins_38 : decode cX5_begins 38 = .ok (.aload_n 0, 1) := dk_42 (dk_at dksX5_begins_1 14 rfl rfl)
theorem dX5_begins_39 : decode cX5_begins 39 = .ok (.getfield 35, 3) := dk_180 0 35 (dk_at dksX5_begins_1 15 rfl rfl)
theorem dX5_begins_42 : decode cX5_begins 42 = .ok (.iload_n 1, 1) := dk_27 (dk_at dksX5_begins_1 18 rfl rfl)
theorem dX5_begins_43 : decode cX5_begins 43 = .ok (.iaload, 1) := dk_46 (dk_at dksX5_begins_1 19 rfl rfl)
theorem dX5_begins_44 : decode cX5_begins 44 = .ok (.iastore, 1) := dk_79 (dk_at dksX5_begins_1 20 rfl rfl)
theorem dX5_begins_45 : decode cX5_begins 45 = .ok (.aload_n 0, 1) := dk_42 (dk_at dksX5_begins_1 21 rfl rfl)
theorem dX5_begins_46 : decode cX5_begins 46 = .ok (.getfield 51, 3) := dk_180 0 51 (dk_at dksX5_begins_2 0 rfl rfl)
theorem dX5_begins_49 : decode cX5_begins 49 = .ok (.bipush 6, 2) := dk_16 6 (dk_at dksX5_begins_2 3 rfl rfl)
theorem dX5_begins_51 : decode cX5_begins 51 = .ok (.iload_n 1, 1) := dk_27 (dk_at dksX5_begins_2 5 rfl rfl)
theorem dX5_begins_52 : decode cX5_begins 52 = .ok (.iadd, 1) := dk_96 (dk_at dksX5_begins_2 6 rfl rfl)
theorem dX5_begins_53 : decode cX5_begins 53 = .ok (.aload_n 0, 1) := dk_42 (dk_at dksX5_begins_2 7 rfl rfl)
theorem dX5_begins_54 : decode cX5_begins 54 = .ok (.getfield 26, 3) := dk_180 0 26 (dk_at dksX5_begins_2 8 rfl rfl)
theorem dX5_begins_57 : decode cX5_begins 57 = .ok (.iload_n 1, 1) := dk_27 (dk_at dksX5_begins_2 11 rfl rfl)
theorem dX5_begins_58 : decode cX5_begins 58 = .ok (.iaload, 1) := dk_46 (dk_at dksX5_begins_2 12 rfl rfl)
theorem dX5_begins_59 : decode cX5_begins 59 = .ok (.iastore, 1) := dk_79 (dk_at dksX5_begins_2 13 rfl rfl)
theorem dX5_begins_60 : decode cX5_begins 60 = .ok (.aload_n 0, 1) := dk_42 (dk_at dksX5_begins_2 14 rfl rfl)
theorem dX5_begins_61 : decode cX5_begins 61 = .ok (.getfield 51, 3) := dk_180 0 51 (dk_at dksX5_begins_2 15 rfl rfl)
theorem dX5_begins_64 : decode cX5_begins 64 = .ok (.bipush 73, 2) := dk_16 73 (dk_at dksX5_begins_2 18 rfl rfl)
theorem dX5_begins_66 : decode cX5_begins 66 = .ok (.iload_n 1, 1) := dk_27 (dk_at dksX5_begins_2 20 rfl rfl)
theorem dX5_begins_67 : decode cX5_begins 67 = .ok (.iadd, 1) := dk_96 (dk_at dksX5_begins_2 21 rfl rfl)
theorem dX5_begins_68 : decode cX5_begins 68 = .ok (.aload_n 0, 1) := dk_42 (dk_at dksX5_begins_2 22 rfl rfl)
theorem dX5_begins_69 : decode cX5_begins 69 = .ok (.getfield 38, 3) := dk_180 0 38 (dk_at dksX5_begins_3 0 rfl rfl)
theorem dX5_begins_72 : decode cX5_begins 72 = .ok (.iload_n 1, 1) := dk_27 (dk_at dksX5_begins_3 3 rfl rfl)
theorem dX5_begins_73 : decode cX5_begins 73 = .ok (.iaload, 1) := dk_46 (dk_at dksX5_begins_3 4 rfl rfl)
theorem dX5_begins_74 : decode cX5_begins 74 = .ok (.ifCond .ne 9, 3) := dk_154 0 9 (dk_at dksX5_begins_3 5 rfl rfl)
theorem dX5_begins_77 : decode cX5_begins 77 = .ok (.sipush 255, 3) := dk_17 0 255 (dk_at dksX5_begins_3 8 rfl rfl)
theorem dX5_begins_80 : decode cX5_begins 80 = .ok (.goto 9, 3) := dk_167 0 9 (dk_at dksX5_begins_3 11 rfl rfl)
theorem dX5_begins_83 : decode cX5_begins 83 = .ok (.aload_n 0, 1) := dk_42 (dk_at dksX5_begins_3 14 rfl rfl)
theorem dX5_begins_84 : decode cX5_begins 84 = .ok (.getfield 38, 3) := dk_180 0 38 (dk_at dksX5_begins_3 15 rfl rfl)
theorem dX5_begins_87 : decode cX5_begins 87 = .ok (.iload_n 1, 1) := dk_27 (dk_at dksX5_begins_3 18 rfl rfl)
theorem dX5_begins_88 : decode cX5_begins 88 = .ok (.iaload, 1) := dk_46 (dk_at dksX5_begins_3 19 rfl rfl)
theorem dX5_begins_89 : decode cX5_begins 89 = .ok (.iastore, 1) := dk_79 (dk_at dksX5_begins_3 20 rfl rfl)
theorem dX5_begins_90 : decode cX5_begins 90 = .ok (.iinc 1 1, 3) := dk_132 1 1 (dk_at dksX5_begins_3 21 rfl rfl)
theorem dX5_begins_93 : decode cX5_begins 93 = .ok (.goto (-70), 3) := dk_167 255 186 (dk_at dksX5_begins_4 0 rfl rfl)
theorem dX5_begins_96 : decode cX5_begins 96 = .ok (.iconst 1, 1) := dk_4 (dk_at dksX5_begins_4 3 rfl rfl)
theorem dX5_begins_97 : decode cX5_begins 97 = .ok (.istore_n 1, 1) := dk_60 (dk_at dksX5_begins_4 4 rfl rfl)
theorem dX5_begins_98 : decode cX5_begins 98 = .ok (.iload_n 1, 1) := dk_27 (dk_at dksX5_begins_4 5 rfl rfl)
theorem dX5_begins_99 : decode cX5_begins 99 = .ok (.bipush 60, 2) := dk_16 60 (dk_at dksX5_begins_4 6 rfl rfl)
theorem dX5_begins_101 : decode cX5_begins 101 = .ok (.if_icmp .gt 32, 3) := dk_163 0 32 (dk_at dksX5_begins_4 8 rfl rfl)
theorem dX5_begins_104 : decode cX5_begins 104 = .ok (.aload_n 0, 1) := dk_42 (dk_at dksX5_begins_4 11 rfl rfl)
theorem dX5_begins_105 : decode cX5_begins 105 = .ok (.getfield 51, 3) := dk_180 0 51 (dk_at dksX5_begins_4 12 rfl rfl)
theorem dX5_begins_108 : decode cX5_begins 108 = .ok (.bipush 12, 2) := dk_16 12 (dk_at dksX5_begins_4 15 rfl rfl)
theorem dX5_begins_110 : decode cX5_begins 110 = .ok (.iload_n 1, 1) := dk_27 (dk_at dksX5_begins_4 17 rfl rfl)
theorem dX5_begins_111 : decode cX5_begins 111 = .ok (.iadd, 1) := dk_96 (dk_at dksX5_begins_4 18 rfl rfl)
theorem dX5_begins_112 : decode cX5_begins 112 = .ok (.aload_n 0, 1) := dk_42 (dk_at dksX5_begins_4 19 rfl rfl)
theorem dX5_begins_113 : decode cX5_begins 113 = .ok (.getfield 44, 3) := dk_180 0 44 (dk_at dksX5_begins_4 20 rfl rfl)
theorem dX5_begins_116 : decode cX5_begins 116 = .ok (.iload_n 1, 1) := dk_27 (dk_at dksX5_begins_4 23 rfl rfl)
theorem dX5_begins_117 : decode cX5_begins 117 = .ok (.baload, 1) := dk_51 (dk_at dksX5_begins_5 0 rfl rfl)
theorem dX5_begins_118 : decode cX5_begins 118 = .ok (.ifCond .eq 7, 3) := dk_153 0 7 (dk_at dksX5_begins_5 1 rfl rfl)
theorem dX5_begins_121 : decode cX5_begins 121 = .ok (.iconst 1, 1) := dk_4 (dk_at dksX5_begins_5 4 rfl rfl)
theorem dX5_begins_122 : decode cX5_begins 122 = .ok (.goto 4, 3) := dk_167 0 4 (dk_at dksX5_begins_5 5 rfl rfl)
theorem dX5_begins_125 : decode cX5_begins 125 = .ok (.iconst 0, 1) := dk_3 (dk_at dksX5_begins_5 8 rfl rfl)
theorem dX5_begins_126 : decode cX5_begins 126 = .ok (.iastore, 1) := dk_79 (dk_at dksX5_begins_5 9 rfl rfl)
theorem dX5_begins_127 : decode cX5_begins 127 = .ok (.iinc 1 1, 3) := dk_132 1 1 (dk_at dksX5_begins_5 10 rfl rfl)
theorem dX5_begins_130 : decode cX5_begins 130 = .ok (.goto (-32), 3) := dk_167 255 224 (dk_at dksX5_begins_5 13 rfl rfl)
theorem dX5_begins_133 : decode cX5_begins 133 = .ok (.aload_n 0, 1) := dk_42 (dk_at dksX5_begins_5 16 rfl rfl)
theorem dX5_begins_134 : decode cX5_begins 134 = .ok (.invokevirtual 235, 3) := dk_182 0 235 (dk_at dksX5_begins_5 17 rfl rfl)
theorem dX5_begins_137 : decode cX5_begins 137 = .ok (.return_, 1) := dk_177 (dk_at dksX5_begins_5 20 rfl rfl)
abbrev cX5_users : ByteArray := prog_10_method_32_code
def yX5_users : MethodName := ⟨RX5, "users", "()I"⟩
def dkwX5_users_0 : List UInt8 := [42, 180, 0, 13, 16, 7, 46, 172]
abbrev dktX5_users_0 : List UInt8 := dkwX5_users_0 ++ []
theorem dksX5_users_0 : cX5_users.data.toList.drop 0 = dktX5_users_0 := by decide +kernel
theorem dX5_users_0 : decode cX5_users 0 = .ok (.aload_n 0, 1) := dk_42 (dk_at dksX5_users_0 0 rfl rfl)
theorem dX5_users_1 : decode cX5_users 1 = .ok (.getfield 13, 3) := dk_180 0 13 (dk_at dksX5_users_0 1 rfl rfl)
theorem dX5_users_4 : decode cX5_users 4 = .ok (.bipush 7, 2) := dk_16 7 (dk_at dksX5_users_0 4 rfl rfl)
theorem dX5_users_6 : decode cX5_users 6 = .ok (.iaload, 1) := dk_46 (dk_at dksX5_users_0 6 rfl rfl)
theorem dX5_users_7 : decode cX5_users 7 = .ok (.ireturn, 1) := dk_172 (dk_at dksX5_users_0 7 rfl rfl)
abbrev cX5_asTold : ByteArray := prog_10_method_35_code
def yX5_asTold : MethodName := ⟨RX5, "asTold", "()V"⟩
def dkwX5_asTold_1 : List UInt8 := [180, 0, 13, 5, 46, 181, 0, 244, 42, 42, 180, 0, 13, 6, 46, 181, 0, 247, 177]
abbrev dktX5_asTold_1 : List UInt8 := dkwX5_asTold_1 ++ []
def dkwX5_asTold_0 : List UInt8 := [42, 42, 180, 0, 13, 3, 46, 181, 0, 238, 42, 42, 180, 0, 13, 4, 46, 181, 0, 241, 42, 42]
abbrev dktX5_asTold_0 : List UInt8 := dkwX5_asTold_0 ++ dktX5_asTold_1
theorem dksX5_asTold_0 : cX5_asTold.data.toList.drop 0 = dktX5_asTold_0 := by decide +kernel
theorem dksX5_asTold_1 : cX5_asTold.data.toList.drop 22 = dktX5_asTold_1 := dk_seg dksX5_asTold_0 22 rfl rfl
theorem dX5_asTold_0 : decode cX5_asTold 0 = .ok (.aload_n 0, 1) := dk_42 (dk_at dksX5_asTold_0 0 rfl rfl)
theorem dX5_asTold_1 : decode cX5_asTold 1 = .ok (.aload_n 0, 1) := dk_42 (dk_at dksX5_asTold_0 1 rfl rfl)
theorem dX5_asTold_2 : decode cX5_asTold 2 = .ok (.getfield 13, 3) := dk_180 0 13 (dk_at dksX5_asTold_0 2 rfl rfl)
theorem dX5_asTold_5 : decode cX5_asTold 5 = .ok (.iconst 0, 1) := dk_3 (dk_at dksX5_asTold_0 5 rfl rfl)
theorem dX5_asTold_6 : decode cX5_asTold 6 = .ok (.iaload, 1) := dk_46 (dk_at dksX5_asTold_0 6 rfl rfl)
theorem dX5_asTold_7 : decode cX5_asTold 7 = .ok (.putfield 238, 3) := dk_181 0 238 (dk_at dksX5_asTold_0 7 rfl rfl)
theorem dX5_asTold_10 : decode cX5_asTold 10 = .ok (.aload_n 0, 1) := dk_42 (dk_at dksX5_asTold_0 10 rfl rfl)
theorem dX5_asTold_11 : decode cX5_asTold 11 = .ok (.aload_n 0, 1) := dk_42 (dk_at dksX5_asTold_0 11 rfl rfl)
theorem dX5_asTold_12 : decode cX5_asTold 12 = .ok (.getfield 13, 3) := dk_180 0 13 (dk_at dksX5_asTold_0 12 rfl rfl)
theorem dX5_asTold_15 : decode cX5_asTold 15 = .ok (.iconst 1, 1) := dk_4 (dk_at dksX5_asTold_0 15 rfl rfl)
theorem dX5_asTold_16 : decode cX5_asTold 16 = .ok (.iaload, 1) := dk_46 (dk_at dksX5_asTold_0 16 rfl rfl)
theorem dX5_asTold_17 : decode cX5_asTold 17 = .ok (.putfield 241, 3) := dk_181 0 241 (dk_at dksX5_asTold_0 17 rfl rfl)
theorem dX5_asTold_20 : decode cX5_asTold 20 = .ok (.aload_n 0, 1) := dk_42 (dk_at dksX5_asTold_0 20 rfl rfl)
theorem dX5_asTold_21 : decode cX5_asTold 21 = .ok (.aload_n 0, 1) := dk_42 (dk_at dksX5_asTold_0 21 rfl rfl)
theorem dX5_asTold_22 : decode cX5_asTold 22 = .ok (.getfield 13, 3) := dk_180 0 13 (dk_at dksX5_asTold_1 0 rfl rfl)
theorem dX5_asTold_25 : decode cX5_asTold 25 = .ok (.iconst 2, 1) := dk_5 (dk_at dksX5_asTold_1 3 rfl rfl)
theorem dX5_asTold_26 : decode cX5_asTold 26 = .ok (.iaload, 1) := dk_46 (dk_at dksX5_asTold_1 4 rfl rfl)
theorem dX5_asTold_27 : decode cX5_asTold 27 = .ok (.putfield 244, 3) := dk_181 0 244 (dk_at dksX5_asTold_1 5 rfl rfl)
theorem dX5_asTold_30 : decode cX5_asTold 30 = .ok (.aload_n 0, 1) := dk_42 (dk_at dksX5_asTold_1 8 rfl rfl)
theorem dX5_asTold_31 : decode cX5_asTold 31 = .ok (.aload_n 0, 1) := dk_42 (dk_at dksX5_asTold_1 9 rfl rfl)
theorem dX5_asTold_32 : decode cX5_asTold 32 = .ok (.getfield 13, 3) := dk_180 0 13 (dk_at dksX5_asTold_1 10 rfl rfl)
theorem dX5_asTold_35 : decode cX5_asTold 35 = .ok (.iconst 3, 1) := dk_6 (dk_at dksX5_asTold_1 13 rfl rfl)
theorem dX5_asTold_36 : decode cX5_asTold 36 = .ok (.iaload, 1) := dk_46 (dk_at dksX5_asTold_1 14 rfl rfl)
theorem dX5_asTold_37 : decode cX5_asTold 37 = .ok (.putfield 247, 3) := dk_181 0 247 (dk_at dksX5_asTold_1 15 rfl rfl)
theorem dX5_asTold_40 : decode cX5_asTold 40 = .ok (.return_, 1) := dk_177 (dk_at dksX5_asTold_1 18 rfl rfl)
abbrev cX5_thrown : ByteArray := prog_10_method_2_code
def yX5_thrown : MethodName := ⟨RX5, "thrown", "()I"⟩
theorem dX5_thrown_0 : decode cX5_thrown 0 = .ok (.aload_n 0, 1) := by decide +kernel
theorem dX5_thrown_1 : decode cX5_thrown 1 = .ok (.getfield 96, 3) := by decide +kernel
theorem dX5_thrown_4 : decode cX5_thrown 4 = .ok (.ireturn, 1) := by decide +kernel
abbrev cX5_feed : ByteArray := prog_10_method_3_code
def yX5_feed : MethodName := ⟨RX5, "feed", "(IIIII)I"⟩
def dkwX5_feed_5 : List UInt8 := [181, 0, 99, 42, 180, 0, 99, 172]
abbrev dktX5_feed_5 : List UInt8 := dkwX5_feed_5 ++ []
def dkwX5_feed_4 : List UInt8 := [112, 104, 100, 122, 17, 0, 255, 126, 79, 132, 6, 1, 167, 255, 169, 42, 89, 180, 0, 99, 16, 20, 96]
abbrev dktX5_feed_4 : List UInt8 := dkwX5_feed_4 ++ dktX5_feed_5
def dkwX5_feed_3 : List UInt8 := [21, 5, 54, 7, 42, 180, 0, 7, 42, 180, 0, 99, 21, 6, 96, 21, 7, 16, 24, 16, 8, 21, 6, 7]
abbrev dktX5_feed_3 : List UInt8 := dkwX5_feed_3 ++ dktX5_feed_4
def dkwX5_feed_2 : List UInt8 := [21, 6, 16, 12, 162, 0, 7, 29, 167, 0, 17, 21, 6, 16, 16, 162, 0, 8, 21, 4, 167, 0, 5]
abbrev dktX5_feed_2 : List UInt8 := dkwX5_feed_2 ++ dktX5_feed_3
def dkwX5_feed_1 : List UInt8 := [162, 0, 86, 21, 6, 7, 162, 0, 7, 27, 167, 0, 39, 21, 6, 16, 8, 162, 0, 7, 28, 167, 0, 28]
abbrev dktX5_feed_1 : List UInt8 := dkwX5_feed_1 ++ dktX5_feed_2
def dkwX5_feed_0 : List UInt8 := [42, 3, 181, 0, 96, 42, 180, 0, 99, 17, 2, 168, 164, 0, 5, 2, 172, 3, 54, 6, 21, 6, 16, 20]
abbrev dktX5_feed_0 : List UInt8 := dkwX5_feed_0 ++ dktX5_feed_1
theorem dksX5_feed_0 : cX5_feed.data.toList.drop 0 = dktX5_feed_0 := by decide +kernel
theorem dksX5_feed_1 : cX5_feed.data.toList.drop 24 = dktX5_feed_1 := dk_seg dksX5_feed_0 24 rfl rfl
theorem dksX5_feed_2 : cX5_feed.data.toList.drop 48 = dktX5_feed_2 := dk_seg dksX5_feed_1 24 rfl rfl
theorem dksX5_feed_3 : cX5_feed.data.toList.drop 71 = dktX5_feed_3 := dk_seg dksX5_feed_2 23 rfl rfl
theorem dksX5_feed_4 : cX5_feed.data.toList.drop 95 = dktX5_feed_4 := dk_seg dksX5_feed_3 24 rfl rfl
theorem dksX5_feed_5 : cX5_feed.data.toList.drop 118 = dktX5_feed_5 := dk_seg dksX5_feed_4 23 rfl rfl
theorem dX5_feed_0 : decode cX5_feed 0 = .ok (.aload_n 0, 1) := dk_42 (dk_at dksX5_feed_0 0 rfl rfl)
theorem dX5_feed_1 : decode cX5_feed 1 = .ok (.iconst 0, 1) := dk_3 (dk_at dksX5_feed_0 1 rfl rfl)
theorem dX5_feed_2 : decode cX5_feed 2 = .ok (.putfield 96, 3) := dk_181 0 96 (dk_at dksX5_feed_0 2 rfl rfl)
theorem dX5_feed_5 : decode cX5_feed 5 = .ok (.aload_n 0, 1) := dk_42 (dk_at dksX5_feed_0 5 rfl rfl)
theorem dX5_feed_6 : decode cX5_feed 6 = .ok (.getfield 99, 3) := dk_180 0 99 (dk_at dksX5_feed_0 6 rfl rfl)
theorem dX5_feed_9 : decode cX5_feed 9 = .ok (.sipush 680, 3) := dk_17 2 168 (dk_at dksX5_feed_0 9 rfl rfl)
theorem dX5_feed_12 : decode cX5_feed 12 = .ok (.if_icmp .le 5, 3) := dk_164 0 5 (dk_at dksX5_feed_0 12 rfl rfl)
theorem dX5_feed_15 : decode cX5_feed 15 = .ok (.iconst (-1), 1) := dk_2 (dk_at dksX5_feed_0 15 rfl rfl)
theorem dX5_feed_16 : decode cX5_feed 16 = .ok (.ireturn, 1) := dk_172 (dk_at dksX5_feed_0 16 rfl rfl)
theorem dX5_feed_17 : decode cX5_feed 17 = .ok (.iconst 0, 1) := dk_3 (dk_at dksX5_feed_0 17 rfl rfl)
theorem dX5_feed_18 : decode cX5_feed 18 = .ok (.istore 6, 2) := dk_54 6 (dk_at dksX5_feed_0 18 rfl rfl)
theorem dX5_feed_20 : decode cX5_feed 20 = .ok (.iload 6, 2) := dk_21 6 (dk_at dksX5_feed_0 20 rfl rfl)
theorem dX5_feed_22 : decode cX5_feed 22 = .ok (.bipush 20, 2) := dk_16 20 (dk_at dksX5_feed_0 22 rfl rfl)
theorem dX5_feed_24 : decode cX5_feed 24 = .ok (.if_icmp .ge 86, 3) := dk_162 0 86 (dk_at dksX5_feed_1 0 rfl rfl)
theorem dX5_feed_27 : decode cX5_feed 27 = .ok (.iload 6, 2) := dk_21 6 (dk_at dksX5_feed_1 3 rfl rfl)
theorem dX5_feed_29 : decode cX5_feed 29 = .ok (.iconst 4, 1) := dk_7 (dk_at dksX5_feed_1 5 rfl rfl)
theorem dX5_feed_30 : decode cX5_feed 30 = .ok (.if_icmp .ge 7, 3) := dk_162 0 7 (dk_at dksX5_feed_1 6 rfl rfl)
theorem dX5_feed_33 : decode cX5_feed 33 = .ok (.iload_n 1, 1) := dk_27 (dk_at dksX5_feed_1 9 rfl rfl)
theorem dX5_feed_34 : decode cX5_feed 34 = .ok (.goto 39, 3) := dk_167 0 39 (dk_at dksX5_feed_1 10 rfl rfl)
theorem dX5_feed_37 : decode cX5_feed 37 = .ok (.iload 6, 2) := dk_21 6 (dk_at dksX5_feed_1 13 rfl rfl)
theorem dX5_feed_39 : decode cX5_feed 39 = .ok (.bipush 8, 2) := dk_16 8 (dk_at dksX5_feed_1 15 rfl rfl)
theorem dX5_feed_41 : decode cX5_feed 41 = .ok (.if_icmp .ge 7, 3) := dk_162 0 7 (dk_at dksX5_feed_1 17 rfl rfl)
theorem dX5_feed_44 : decode cX5_feed 44 = .ok (.iload_n 2, 1) := dk_28 (dk_at dksX5_feed_1 20 rfl rfl)
theorem dX5_feed_45 : decode cX5_feed 45 = .ok (.goto 28, 3) := dk_167 0 28 (dk_at dksX5_feed_1 21 rfl rfl)
theorem dX5_feed_48 : decode cX5_feed 48 = .ok (.iload 6, 2) := dk_21 6 (dk_at dksX5_feed_2 0 rfl rfl)
theorem dX5_feed_50 : decode cX5_feed 50 = .ok (.bipush 12, 2) := dk_16 12 (dk_at dksX5_feed_2 2 rfl rfl)
theorem dX5_feed_52 : decode cX5_feed 52 = .ok (.if_icmp .ge 7, 3) := dk_162 0 7 (dk_at dksX5_feed_2 4 rfl rfl)
theorem dX5_feed_55 : decode cX5_feed 55 = .ok (.iload_n 3, 1) := dk_29 (dk_at dksX5_feed_2 7 rfl rfl)
theorem dX5_feed_56 : decode cX5_feed 56 = .ok (.goto 17, 3) := dk_167 0 17 (dk_at dksX5_feed_2 8 rfl rfl)
theorem dX5_feed_59 : decode cX5_feed 59 = .ok (.iload 6, 2) := dk_21 6 (dk_at dksX5_feed_2 11 rfl rfl)
theorem dX5_feed_61 : decode cX5_feed 61 = .ok (.bipush 16, 2) := dk_16 16 (dk_at dksX5_feed_2 13 rfl rfl)
theorem dX5_feed_63 : decode cX5_feed 63 = .ok (.if_icmp .ge 8, 3) := dk_162 0 8 (dk_at dksX5_feed_2 15 rfl rfl)
theorem dX5_feed_66 : decode cX5_feed 66 = .ok (.iload 4, 2) := dk_21 4 (dk_at dksX5_feed_2 18 rfl rfl)
theorem dX5_feed_68 : decode cX5_feed 68 = .ok (.goto 5, 3) := dk_167 0 5 (dk_at dksX5_feed_2 20 rfl rfl)
theorem dX5_feed_71 : decode cX5_feed 71 = .ok (.iload 5, 2) := dk_21 5 (dk_at dksX5_feed_3 0 rfl rfl)
theorem dX5_feed_73 : decode cX5_feed 73 = .ok (.istore 7, 2) := dk_54 7 (dk_at dksX5_feed_3 2 rfl rfl)
theorem dX5_feed_75 : decode cX5_feed 75 = .ok (.aload_n 0, 1) := dk_42 (dk_at dksX5_feed_3 4 rfl rfl)
theorem dX5_feed_76 : decode cX5_feed 76 = .ok (.getfield 7, 3) := dk_180 0 7 (dk_at dksX5_feed_3 5 rfl rfl)
theorem dX5_feed_79 : decode cX5_feed 79 = .ok (.aload_n 0, 1) := dk_42 (dk_at dksX5_feed_3 8 rfl rfl)
theorem dX5_feed_80 : decode cX5_feed 80 = .ok (.getfield 99, 3) := dk_180 0 99 (dk_at dksX5_feed_3 9 rfl rfl)
theorem dX5_feed_83 : decode cX5_feed 83 = .ok (.iload 6, 2) := dk_21 6 (dk_at dksX5_feed_3 12 rfl rfl)
theorem dX5_feed_85 : decode cX5_feed 85 = .ok (.iadd, 1) := dk_96 (dk_at dksX5_feed_3 14 rfl rfl)
theorem dX5_feed_86 : decode cX5_feed 86 = .ok (.iload 7, 2) := dk_21 7 (dk_at dksX5_feed_3 15 rfl rfl)
theorem dX5_feed_88 : decode cX5_feed 88 = .ok (.bipush 24, 2) := dk_16 24 (dk_at dksX5_feed_3 17 rfl rfl)
theorem dX5_feed_90 : decode cX5_feed 90 = .ok (.bipush 8, 2) := dk_16 8 (dk_at dksX5_feed_3 19 rfl rfl)
theorem dX5_feed_92 : decode cX5_feed 92 = .ok (.iload 6, 2) := dk_21 6 (dk_at dksX5_feed_3 21 rfl rfl)
theorem dX5_feed_94 : decode cX5_feed 94 = .ok (.iconst 4, 1) := dk_7 (dk_at dksX5_feed_3 23 rfl rfl)
theorem dX5_feed_95 : decode cX5_feed 95 = .ok (.irem, 1) := dk_112 (dk_at dksX5_feed_4 0 rfl rfl)
theorem dX5_feed_96 : decode cX5_feed 96 = .ok (.imul, 1) := dk_104 (dk_at dksX5_feed_4 1 rfl rfl)
theorem dX5_feed_97 : decode cX5_feed 97 = .ok (.isub, 1) := dk_100 (dk_at dksX5_feed_4 2 rfl rfl)
theorem dX5_feed_98 : decode cX5_feed 98 = .ok (.ishr, 1) := dk_122 (dk_at dksX5_feed_4 3 rfl rfl)
theorem dX5_feed_99 : decode cX5_feed 99 = .ok (.sipush 255, 3) := dk_17 0 255 (dk_at dksX5_feed_4 4 rfl rfl)
theorem dX5_feed_102 : decode cX5_feed 102 = .ok (.iand, 1) := dk_126 (dk_at dksX5_feed_4 7 rfl rfl)
theorem dX5_feed_103 : decode cX5_feed 103 = .ok (.iastore, 1) := dk_79 (dk_at dksX5_feed_4 8 rfl rfl)
theorem dX5_feed_104 : decode cX5_feed 104 = .ok (.iinc 6 1, 3) := dk_132 6 1 (dk_at dksX5_feed_4 9 rfl rfl)
theorem dX5_feed_107 : decode cX5_feed 107 = .ok (.goto (-87), 3) := dk_167 255 169 (dk_at dksX5_feed_4 12 rfl rfl)
theorem dX5_feed_110 : decode cX5_feed 110 = .ok (.aload_n 0, 1) := dk_42 (dk_at dksX5_feed_4 15 rfl rfl)
theorem dX5_feed_111 : decode cX5_feed 111 = .ok (.dup, 1) := dk_89 (dk_at dksX5_feed_4 16 rfl rfl)
theorem dX5_feed_112 : decode cX5_feed 112 = .ok (.getfield 99, 3) := dk_180 0 99 (dk_at dksX5_feed_4 17 rfl rfl)
theorem dX5_feed_115 : decode cX5_feed 115 = .ok (.bipush 20, 2) := dk_16 20 (dk_at dksX5_feed_4 20 rfl rfl)
theorem dX5_feed_117 : decode cX5_feed 117 = .ok (.iadd, 1) := dk_96 (dk_at dksX5_feed_4 22 rfl rfl)
theorem dX5_feed_118 : decode cX5_feed 118 = .ok (.putfield 99, 3) := dk_181 0 99 (dk_at dksX5_feed_5 0 rfl rfl)
theorem dX5_feed_121 : decode cX5_feed 121 = .ok (.aload_n 0, 1) := dk_42 (dk_at dksX5_feed_5 3 rfl rfl)
theorem dX5_feed_122 : decode cX5_feed 122 = .ok (.getfield 99, 3) := dk_180 0 99 (dk_at dksX5_feed_5 4 rfl rfl)
theorem dX5_feed_125 : decode cX5_feed 125 = .ok (.ireturn, 1) := dk_172 (dk_at dksX5_feed_5 7 rfl rfl)
abbrev cX5_text : ByteArray := prog_10_method_30_code
def yX5_text : MethodName := ⟨RX5, "text", "(I)I"⟩
def dkwX5_text_3 : List UInt8 := [42, 182, 0, 93, 42, 3, 181, 0, 226, 42, 3, 181, 0, 229, 42, 180, 0, 214, 172]
abbrev dktX5_text_3 : List UInt8 := dkwX5_text_3 ++ []
def dkwX5_text_2 : List UInt8 := [2, 167, 0, 7, 42, 180, 0, 149, 181, 0, 47, 42, 180, 0, 146, 153, 0, 5, 2, 172, 42, 182, 0, 90]
abbrev dktX5_text_2 : List UInt8 := dkwX5_text_2 ++ dktX5_text_3
def dkwX5_text_1 : List UInt8 := [182, 0, 220, 42, 3, 181, 0, 99, 42, 42, 180, 0, 146, 181, 0, 223, 42, 42, 180, 0, 146, 154, 0, 7]
abbrev dktX5_text_1 : List UInt8 := dkwX5_text_1 ++ dktX5_text_2
def dkwX5_text_0 : List UInt8 := [42, 3, 181, 0, 96, 27, 155, 0, 11, 27, 42, 180, 0, 99, 164, 0, 6, 16, 254, 172, 42, 27]
abbrev dktX5_text_0 : List UInt8 := dkwX5_text_0 ++ dktX5_text_1
theorem dksX5_text_0 : cX5_text.data.toList.drop 0 = dktX5_text_0 := by decide +kernel
theorem dksX5_text_1 : cX5_text.data.toList.drop 22 = dktX5_text_1 := dk_seg dksX5_text_0 22 rfl rfl
theorem dksX5_text_2 : cX5_text.data.toList.drop 46 = dktX5_text_2 := dk_seg dksX5_text_1 24 rfl rfl
theorem dksX5_text_3 : cX5_text.data.toList.drop 70 = dktX5_text_3 := dk_seg dksX5_text_2 24 rfl rfl
theorem dX5_text_0 : decode cX5_text 0 = .ok (.aload_n 0, 1) := dk_42 (dk_at dksX5_text_0 0 rfl rfl)
theorem dX5_text_1 : decode cX5_text 1 = .ok (.iconst 0, 1) := dk_3 (dk_at dksX5_text_0 1 rfl rfl)
theorem dX5_text_2 : decode cX5_text 2 = .ok (.putfield 96, 3) := dk_181 0 96 (dk_at dksX5_text_0 2 rfl rfl)
theorem dX5_text_5 : decode cX5_text 5 = .ok (.iload_n 1, 1) := dk_27 (dk_at dksX5_text_0 5 rfl rfl)
theorem dX5_text_6 : decode cX5_text 6 = .ok (.ifCond .lt 11, 3) := dk_155 0 11 (dk_at dksX5_text_0 6 rfl rfl)
theorem dX5_text_9 : decode cX5_text 9 = .ok (.iload_n 1, 1) := dk_27 (dk_at dksX5_text_0 9 rfl rfl)
theorem dX5_text_10 : decode cX5_text 10 = .ok (.aload_n 0, 1) := dk_42 (dk_at dksX5_text_0 10 rfl rfl)
theorem dX5_text_11 : decode cX5_text 11 = .ok (.getfield 99, 3) := dk_180 0 99 (dk_at dksX5_text_0 11 rfl rfl)
theorem dX5_text_14 : decode cX5_text 14 = .ok (.if_icmp .le 6, 3) := dk_164 0 6 (dk_at dksX5_text_0 14 rfl rfl)
theorem dX5_text_17 : decode cX5_text 17 = .ok (.bipush (-2), 2) := dk_16 254 (dk_at dksX5_text_0 17 rfl rfl)
theorem dX5_text_19 : decode cX5_text 19 = .ok (.ireturn, 1) := dk_172 (dk_at dksX5_text_0 19 rfl rfl)
theorem dX5_text_20 : decode cX5_text 20 = .ok (.aload_n 0, 1) := dk_42 (dk_at dksX5_text_0 20 rfl rfl)
theorem dX5_text_21 : decode cX5_text 21 = .ok (.iload_n 1, 1) := dk_27 (dk_at dksX5_text_0 21 rfl rfl)
theorem dX5_text_22 : decode cX5_text 22 = .ok (.invokevirtual 220, 3) := dk_182 0 220 (dk_at dksX5_text_1 0 rfl rfl)
theorem dX5_text_25 : decode cX5_text 25 = .ok (.aload_n 0, 1) := dk_42 (dk_at dksX5_text_1 3 rfl rfl)
theorem dX5_text_26 : decode cX5_text 26 = .ok (.iconst 0, 1) := dk_3 (dk_at dksX5_text_1 4 rfl rfl)
theorem dX5_text_27 : decode cX5_text 27 = .ok (.putfield 99, 3) := dk_181 0 99 (dk_at dksX5_text_1 5 rfl rfl)
theorem dX5_text_30 : decode cX5_text 30 = .ok (.aload_n 0, 1) := dk_42 (dk_at dksX5_text_1 8 rfl rfl)
theorem dX5_text_31 : decode cX5_text 31 = .ok (.aload_n 0, 1) := dk_42 (dk_at dksX5_text_1 9 rfl rfl)
theorem dX5_text_32 : decode cX5_text 32 = .ok (.getfield 146, 3) := dk_180 0 146 (dk_at dksX5_text_1 10 rfl rfl)
theorem dX5_text_35 : decode cX5_text 35 = .ok (.putfield 223, 3) := dk_181 0 223 (dk_at dksX5_text_1 13 rfl rfl)
theorem dX5_text_38 : decode cX5_text 38 = .ok (.aload_n 0, 1) := dk_42 (dk_at dksX5_text_1 16 rfl rfl)
theorem dX5_text_39 : decode cX5_text 39 = .ok (.aload_n 0, 1) := dk_42 (dk_at dksX5_text_1 17 rfl rfl)
theorem dX5_text_40 : decode cX5_text 40 = .ok (.getfield 146, 3) := dk_180 0 146 (dk_at dksX5_text_1 18 rfl rfl)
theorem dX5_text_43 : decode cX5_text 43 = .ok (.ifCond .ne 7, 3) := dk_154 0 7 (dk_at dksX5_text_1 21 rfl rfl)
theorem dX5_text_46 : decode cX5_text 46 = .ok (.iconst (-1), 1) := dk_2 (dk_at dksX5_text_2 0 rfl rfl)
theorem dX5_text_47 : decode cX5_text 47 = .ok (.goto 7, 3) := dk_167 0 7 (dk_at dksX5_text_2 1 rfl rfl)
theorem dX5_text_50 : decode cX5_text 50 = .ok (.aload_n 0, 1) := dk_42 (dk_at dksX5_text_2 4 rfl rfl)
theorem dX5_text_51 : decode cX5_text 51 = .ok (.getfield 149, 3) := dk_180 0 149 (dk_at dksX5_text_2 5 rfl rfl)
theorem dX5_text_54 : decode cX5_text 54 = .ok (.putfield 47, 3) := dk_181 0 47 (dk_at dksX5_text_2 8 rfl rfl)
theorem dX5_text_57 : decode cX5_text 57 = .ok (.aload_n 0, 1) := dk_42 (dk_at dksX5_text_2 11 rfl rfl)
theorem dX5_text_58 : decode cX5_text 58 = .ok (.getfield 146, 3) := dk_180 0 146 (dk_at dksX5_text_2 12 rfl rfl)
theorem dX5_text_61 : decode cX5_text 61 = .ok (.ifCond .eq 5, 3) := dk_153 0 5 (dk_at dksX5_text_2 15 rfl rfl)
theorem dX5_text_64 : decode cX5_text 64 = .ok (.iconst (-1), 1) := dk_2 (dk_at dksX5_text_2 18 rfl rfl)
theorem dX5_text_65 : decode cX5_text 65 = .ok (.ireturn, 1) := dk_172 (dk_at dksX5_text_2 19 rfl rfl)
theorem dX5_text_66 : decode cX5_text 66 = .ok (.aload_n 0, 1) := dk_42 (dk_at dksX5_text_2 20 rfl rfl)
theorem dX5_text_67 : decode cX5_text 67 = .ok (.invokevirtual 90, 3) := dk_182 0 90 (dk_at dksX5_text_2 21 rfl rfl)
theorem dX5_text_70 : decode cX5_text 70 = .ok (.aload_n 0, 1) := dk_42 (dk_at dksX5_text_3 0 rfl rfl)
theorem dX5_text_71 : decode cX5_text 71 = .ok (.invokevirtual 93, 3) := dk_182 0 93 (dk_at dksX5_text_3 1 rfl rfl)
theorem dX5_text_74 : decode cX5_text 74 = .ok (.aload_n 0, 1) := dk_42 (dk_at dksX5_text_3 4 rfl rfl)
theorem dX5_text_75 : decode cX5_text 75 = .ok (.iconst 0, 1) := dk_3 (dk_at dksX5_text_3 5 rfl rfl)
theorem dX5_text_76 : decode cX5_text 76 = .ok (.putfield 226, 3) := dk_181 0 226 (dk_at dksX5_text_3 6 rfl rfl)
theorem dX5_text_79 : decode cX5_text 79 = .ok (.aload_n 0, 1) := dk_42 (dk_at dksX5_text_3 9 rfl rfl)
theorem dX5_text_80 : decode cX5_text 80 = .ok (.iconst 0, 1) := dk_3 (dk_at dksX5_text_3 10 rfl rfl)
theorem dX5_text_81 : decode cX5_text 81 = .ok (.putfield 229, 3) := dk_181 0 229 (dk_at dksX5_text_3 11 rfl rfl)
theorem dX5_text_84 : decode cX5_text 84 = .ok (.aload_n 0, 1) := dk_42 (dk_at dksX5_text_3 14 rfl rfl)
theorem dX5_text_85 : decode cX5_text 85 = .ok (.getfield 214, 3) := dk_180 0 214 (dk_at dksX5_text_3 15 rfl rfl)
theorem dX5_text_88 : decode cX5_text 88 = .ok (.ireturn, 1) := dk_172 (dk_at dksX5_text_3 18 rfl rfl)
abbrev cX5_readText : ByteArray := prog_10_method_28_code
def yX5_readText : MethodName := ⟨RX5, "readText", "(I)V"⟩
def dkwX5_readText_2 : List UInt8 := [167, 255, 237, 177]
abbrev dktX5_readText_2 : List UInt8 := dkwX5_readText_2 ++ []
def dkwX5_readText_1 : List UInt8 := [42, 182, 0, 152, 42, 180, 0, 146, 154, 0, 18, 42, 180, 0, 115, 7, 159, 0, 10, 42, 182, 0, 217]
abbrev dktX5_readText_1 : List UInt8 := dkwX5_readText_1 ++ dktX5_readText_2
def dkwX5_readText_0 : List UInt8 := [42, 27, 181, 0, 105, 42, 3, 181, 0, 102, 42, 3, 181, 0, 146, 42, 3, 181, 0, 214, 42, 182, 0, 87]
abbrev dktX5_readText_0 : List UInt8 := dkwX5_readText_0 ++ dktX5_readText_1
theorem dksX5_readText_0 : cX5_readText.data.toList.drop 0 = dktX5_readText_0 := by decide +kernel
theorem dksX5_readText_1 : cX5_readText.data.toList.drop 24 = dktX5_readText_1 := dk_seg dksX5_readText_0 24 rfl rfl
theorem dksX5_readText_2 : cX5_readText.data.toList.drop 47 = dktX5_readText_2 := dk_seg dksX5_readText_1 23 rfl rfl
theorem dX5_readText_0 : decode cX5_readText 0 = .ok (.aload_n 0, 1) := dk_42 (dk_at dksX5_readText_0 0 rfl rfl)
theorem dX5_readText_1 : decode cX5_readText 1 = .ok (.iload_n 1, 1) := dk_27 (dk_at dksX5_readText_0 1 rfl rfl)
theorem dX5_readText_2 : decode cX5_readText 2 = .ok (.putfield 105, 3) := dk_181 0 105 (dk_at dksX5_readText_0 2 rfl rfl)
theorem dX5_readText_5 : decode cX5_readText 5 = .ok (.aload_n 0, 1) := dk_42 (dk_at dksX5_readText_0 5 rfl rfl)
theorem dX5_readText_6 : decode cX5_readText 6 = .ok (.iconst 0, 1) := dk_3 (dk_at dksX5_readText_0 6 rfl rfl)
theorem dX5_readText_7 : decode cX5_readText 7 = .ok (.putfield 102, 3) := dk_181 0 102 (dk_at dksX5_readText_0 7 rfl rfl)
theorem dX5_readText_10 : decode cX5_readText 10 = .ok (.aload_n 0, 1) := dk_42 (dk_at dksX5_readText_0 10 rfl rfl)
theorem dX5_readText_11 : decode cX5_readText 11 = .ok (.iconst 0, 1) := dk_3 (dk_at dksX5_readText_0 11 rfl rfl)
theorem dX5_readText_12 : decode cX5_readText 12 = .ok (.putfield 146, 3) := dk_181 0 146 (dk_at dksX5_readText_0 12 rfl rfl)
theorem dX5_readText_15 : decode cX5_readText 15 = .ok (.aload_n 0, 1) := dk_42 (dk_at dksX5_readText_0 15 rfl rfl)
theorem dX5_readText_16 : decode cX5_readText 16 = .ok (.iconst 0, 1) := dk_3 (dk_at dksX5_readText_0 16 rfl rfl)
theorem dX5_readText_17 : decode cX5_readText 17 = .ok (.putfield 214, 3) := dk_181 0 214 (dk_at dksX5_readText_0 17 rfl rfl)
theorem dX5_readText_20 : decode cX5_readText 20 = .ok (.aload_n 0, 1) := dk_42 (dk_at dksX5_readText_0 20 rfl rfl)
theorem dX5_readText_21 : decode cX5_readText 21 = .ok (.invokevirtual 87, 3) := dk_182 0 87 (dk_at dksX5_readText_0 21 rfl rfl)
theorem dX5_readText_24 : decode cX5_readText 24 = .ok (.aload_n 0, 1) := dk_42 (dk_at dksX5_readText_1 0 rfl rfl)
theorem dX5_readText_25 : decode cX5_readText 25 = .ok (.invokevirtual 152, 3) := dk_182 0 152 (dk_at dksX5_readText_1 1 rfl rfl)
theorem dX5_readText_28 : decode cX5_readText 28 = .ok (.aload_n 0, 1) := dk_42 (dk_at dksX5_readText_1 4 rfl rfl)
theorem dX5_readText_29 : decode cX5_readText 29 = .ok (.getfield 146, 3) := dk_180 0 146 (dk_at dksX5_readText_1 5 rfl rfl)
theorem dX5_readText_32 : decode cX5_readText 32 = .ok (.ifCond .ne 18, 3) := dk_154 0 18 (dk_at dksX5_readText_1 8 rfl rfl)
theorem dX5_readText_35 : decode cX5_readText 35 = .ok (.aload_n 0, 1) := dk_42 (dk_at dksX5_readText_1 11 rfl rfl)
theorem dX5_readText_36 : decode cX5_readText 36 = .ok (.getfield 115, 3) := dk_180 0 115 (dk_at dksX5_readText_1 12 rfl rfl)
theorem dX5_readText_39 : decode cX5_readText 39 = .ok (.iconst 4, 1) := dk_7 (dk_at dksX5_readText_1 15 rfl rfl)
theorem dX5_readText_40 : decode cX5_readText 40 = .ok (.if_icmp .eq 10, 3) := dk_159 0 10 (dk_at dksX5_readText_1 16 rfl rfl)
theorem dX5_readText_43 : decode cX5_readText 43 = .ok (.aload_n 0, 1) := dk_42 (dk_at dksX5_readText_1 19 rfl rfl)
theorem dX5_readText_44 : decode cX5_readText 44 = .ok (.invokevirtual 217, 3) := dk_182 0 217 (dk_at dksX5_readText_1 20 rfl rfl)
theorem dX5_readText_47 : decode cX5_readText 47 = .ok (.goto (-19), 3) := dk_167 255 237 (dk_at dksX5_readText_2 0 rfl rfl)
theorem dX5_readText_50 : decode cX5_readText 50 = .ok (.return_, 1) := dk_177 (dk_at dksX5_readText_2 3 rfl rfl)
abbrev cX5_token : ByteArray := prog_10_method_7_code
def yX5_token : MethodName := ⟨RX5, "token", "()V"⟩
def dkwX5_token_10 : List UInt8 := [181, 0, 115, 42, 89, 180, 0, 102, 4, 96, 181, 0, 102, 177]
abbrev dktX5_token_10 : List UInt8 := dkwX5_token_10 ++ []
def dkwX5_token_9 : List UInt8 := [180, 0, 102, 4, 96, 181, 0, 102, 167, 255, 201, 42, 27, 16, 59, 160, 0, 7, 6, 167, 0, 4, 8]
abbrev dktX5_token_9 : List UInt8 := dkwX5_token_9 ++ dktX5_token_10
def dkwX5_token_8 : List UInt8 := [167, 0, 18, 16, 10, 42, 180, 0, 125, 104, 42, 182, 0, 108, 96, 16, 48, 100, 181, 0, 125, 42, 89]
abbrev dktX5_token_8 : List UInt8 := dkwX5_token_8 ++ dktX5_token_9
def dkwX5_token_7 : List UInt8 := [182, 0, 108, 184, 0, 131, 153, 0, 76, 42, 42, 180, 0, 125, 18, 134, 164, 0, 10, 42, 180, 0, 125]
abbrev dktX5_token_7 : List UInt8 := dkwX5_token_7 ++ dktX5_token_8
def dkwX5_token_6 : List UInt8 := [182, 0, 128, 167, 0, 103, 27, 184, 0, 131, 153, 0, 71, 42, 5, 181, 0, 115, 42, 3, 181, 0, 125, 42]
abbrev dktX5_token_6 : List UInt8 := dkwX5_token_6 ++ dktX5_token_7
def dkwX5_token_5 : List UInt8 := [100, 16, 6, 164, 0, 7, 8, 167, 0, 4, 4, 181, 0, 115, 42, 180, 0, 115, 4, 160, 0, 110, 42]
abbrev dktX5_token_5 : List UInt8 := dkwX5_token_5 ++ dktX5_token_6
def dkwX5_token_4 : List UInt8 := [181, 0, 125, 42, 42, 180, 0, 125, 2, 159, 0, 7, 3, 167, 0, 22, 42, 180, 0, 102, 42, 180, 0, 112]
abbrev dktX5_token_4 : List UInt8 := dkwX5_token_4 ++ dktX5_token_5
def dkwX5_token_3 : List UInt8 := [184, 0, 118, 153, 0, 16, 42, 89, 180, 0, 102, 4, 96, 181, 0, 102, 167, 255, 236, 42, 42, 182, 0, 122]
abbrev dktX5_token_3 : List UInt8 := dkwX5_token_3 ++ dktX5_token_4
def dkwX5_token_2 : List UInt8 := [160, 0, 11, 42, 7, 181, 0, 115, 167, 0, 191, 27, 184, 0, 118, 153, 0, 84, 42, 182, 0, 108]
abbrev dktX5_token_2 : List UInt8 := dkwX5_token_2 ++ dktX5_token_3
def dkwX5_token_1 : List UInt8 := [96, 181, 0, 102, 167, 255, 228, 42, 42, 180, 0, 102, 181, 0, 112, 42, 182, 0, 108, 60, 27, 2]
abbrev dktX5_token_1 : List UInt8 := dkwX5_token_1 ++ dktX5_token_2
def dkwX5_token_0 : List UInt8 := [42, 182, 0, 108, 16, 10, 159, 0, 12, 42, 182, 0, 108, 16, 32, 160, 0, 16, 42, 89, 180, 0, 102, 4]
abbrev dktX5_token_0 : List UInt8 := dkwX5_token_0 ++ dktX5_token_1
theorem dksX5_token_0 : cX5_token.data.toList.drop 0 = dktX5_token_0 := by decide +kernel
theorem dksX5_token_1 : cX5_token.data.toList.drop 24 = dktX5_token_1 := dk_seg dksX5_token_0 24 rfl rfl
theorem dksX5_token_2 : cX5_token.data.toList.drop 46 = dktX5_token_2 := dk_seg dksX5_token_1 22 rfl rfl
theorem dksX5_token_3 : cX5_token.data.toList.drop 68 = dktX5_token_3 := dk_seg dksX5_token_2 22 rfl rfl
theorem dksX5_token_4 : cX5_token.data.toList.drop 92 = dktX5_token_4 := dk_seg dksX5_token_3 24 rfl rfl
theorem dksX5_token_5 : cX5_token.data.toList.drop 116 = dktX5_token_5 := dk_seg dksX5_token_4 24 rfl rfl
theorem dksX5_token_6 : cX5_token.data.toList.drop 139 = dktX5_token_6 := dk_seg dksX5_token_5 23 rfl rfl
theorem dksX5_token_7 : cX5_token.data.toList.drop 163 = dktX5_token_7 := dk_seg dksX5_token_6 24 rfl rfl
theorem dksX5_token_8 : cX5_token.data.toList.drop 186 = dktX5_token_8 := dk_seg dksX5_token_7 23 rfl rfl
theorem dksX5_token_9 : cX5_token.data.toList.drop 209 = dktX5_token_9 := dk_seg dksX5_token_8 23 rfl rfl
theorem dksX5_token_10 : cX5_token.data.toList.drop 232 = dktX5_token_10 := dk_seg dksX5_token_9 23 rfl rfl
theorem dX5_token_0 : decode cX5_token 0 = .ok (.aload_n 0, 1) := dk_42 (dk_at dksX5_token_0 0 rfl rfl)
theorem dX5_token_1 : decode cX5_token 1 = .ok (.invokevirtual 108, 3) := dk_182 0 108 (dk_at dksX5_token_0 1 rfl rfl)
theorem dX5_token_4 : decode cX5_token 4 = .ok (.bipush 10, 2) := dk_16 10 (dk_at dksX5_token_0 4 rfl rfl)
theorem dX5_token_6 : decode cX5_token 6 = .ok (.if_icmp .eq 12, 3) := dk_159 0 12 (dk_at dksX5_token_0 6 rfl rfl)
theorem dX5_token_9 : decode cX5_token 9 = .ok (.aload_n 0, 1) := dk_42 (dk_at dksX5_token_0 9 rfl rfl)
theorem dX5_token_10 : decode cX5_token 10 = .ok (.invokevirtual 108, 3) := dk_182 0 108 (dk_at dksX5_token_0 10 rfl rfl)
theorem dX5_token_13 : decode cX5_token 13 = .ok (.bipush 32, 2) := dk_16 32 (dk_at dksX5_token_0 13 rfl rfl)
theorem dX5_token_15 : decode cX5_token 15 = .ok (.if_icmp .ne 16, 3) := dk_160 0 16 (dk_at dksX5_token_0 15 rfl rfl)
theorem dX5_token_18 : decode cX5_token 18 = .ok (.aload_n 0, 1) := dk_42 (dk_at dksX5_token_0 18 rfl rfl)
theorem dX5_token_19 : decode cX5_token 19 = .ok (.dup, 1) := dk_89 (dk_at dksX5_token_0 19 rfl rfl)
theorem dX5_token_20 : decode cX5_token 20 = .ok (.getfield 102, 3) := dk_180 0 102 (dk_at dksX5_token_0 20 rfl rfl)
theorem dX5_token_23 : decode cX5_token 23 = .ok (.iconst 1, 1) := dk_4 (dk_at dksX5_token_0 23 rfl rfl)
theorem dX5_token_24 : decode cX5_token 24 = .ok (.iadd, 1) := dk_96 (dk_at dksX5_token_1 0 rfl rfl)
theorem dX5_token_25 : decode cX5_token 25 = .ok (.putfield 102, 3) := dk_181 0 102 (dk_at dksX5_token_1 1 rfl rfl)
theorem dX5_token_28 : decode cX5_token 28 = .ok (.goto (-28), 3) := dk_167 255 228 (dk_at dksX5_token_1 4 rfl rfl)
theorem dX5_token_31 : decode cX5_token 31 = .ok (.aload_n 0, 1) := dk_42 (dk_at dksX5_token_1 7 rfl rfl)
theorem dX5_token_32 : decode cX5_token 32 = .ok (.aload_n 0, 1) := dk_42 (dk_at dksX5_token_1 8 rfl rfl)
theorem dX5_token_33 : decode cX5_token 33 = .ok (.getfield 102, 3) := dk_180 0 102 (dk_at dksX5_token_1 9 rfl rfl)
theorem dX5_token_36 : decode cX5_token 36 = .ok (.putfield 112, 3) := dk_181 0 112 (dk_at dksX5_token_1 12 rfl rfl)
theorem dX5_token_39 : decode cX5_token 39 = .ok (.aload_n 0, 1) := dk_42 (dk_at dksX5_token_1 15 rfl rfl)
theorem dX5_token_40 : decode cX5_token 40 = .ok (.invokevirtual 108, 3) := dk_182 0 108 (dk_at dksX5_token_1 16 rfl rfl)
theorem dX5_token_43 : decode cX5_token 43 = .ok (.istore_n 1, 1) := dk_60 (dk_at dksX5_token_1 19 rfl rfl)
theorem dX5_token_44 : decode cX5_token 44 = .ok (.iload_n 1, 1) := dk_27 (dk_at dksX5_token_1 20 rfl rfl)
theorem dX5_token_45 : decode cX5_token 45 = .ok (.iconst (-1), 1) := dk_2 (dk_at dksX5_token_1 21 rfl rfl)
theorem dX5_token_46 : decode cX5_token 46 = .ok (.if_icmp .ne 11, 3) := dk_160 0 11 (dk_at dksX5_token_2 0 rfl rfl)
theorem dX5_token_49 : decode cX5_token 49 = .ok (.aload_n 0, 1) := dk_42 (dk_at dksX5_token_2 3 rfl rfl)
theorem dX5_token_50 : decode cX5_token 50 = .ok (.iconst 4, 1) := dk_7 (dk_at dksX5_token_2 4 rfl rfl)
theorem dX5_token_51 : decode cX5_token 51 = .ok (.putfield 115, 3) := dk_181 0 115 (dk_at dksX5_token_2 5 rfl rfl)
theorem dX5_token_54 : decode cX5_token 54 = .ok (.goto 191, 3) := dk_167 0 191 (dk_at dksX5_token_2 8 rfl rfl)
theorem dX5_token_57 : decode cX5_token 57 = .ok (.iload_n 1, 1) := dk_27 (dk_at dksX5_token_2 11 rfl rfl)
theorem dX5_token_58 : decode cX5_token 58 = .ok (.invokestatic 118, 3) := dk_184 0 118 (dk_at dksX5_token_2 12 rfl rfl)
theorem dX5_token_61 : decode cX5_token 61 = .ok (.ifCond .eq 84, 3) := dk_153 0 84 (dk_at dksX5_token_2 15 rfl rfl)
theorem dX5_token_64 : decode cX5_token 64 = .ok (.aload_n 0, 1) := dk_42 (dk_at dksX5_token_2 18 rfl rfl)
theorem dX5_token_65 : decode cX5_token 65 = .ok (.invokevirtual 108, 3) := dk_182 0 108 (dk_at dksX5_token_2 19 rfl rfl)
theorem dX5_token_68 : decode cX5_token 68 = .ok (.invokestatic 118, 3) := dk_184 0 118 (dk_at dksX5_token_3 0 rfl rfl)
theorem dX5_token_71 : decode cX5_token 71 = .ok (.ifCond .eq 16, 3) := dk_153 0 16 (dk_at dksX5_token_3 3 rfl rfl)
theorem dX5_token_74 : decode cX5_token 74 = .ok (.aload_n 0, 1) := dk_42 (dk_at dksX5_token_3 6 rfl rfl)
theorem dX5_token_75 : decode cX5_token 75 = .ok (.dup, 1) := dk_89 (dk_at dksX5_token_3 7 rfl rfl)
theorem dX5_token_76 : decode cX5_token 76 = .ok (.getfield 102, 3) := dk_180 0 102 (dk_at dksX5_token_3 8 rfl rfl)
theorem dX5_token_79 : decode cX5_token 79 = .ok (.iconst 1, 1) := dk_4 (dk_at dksX5_token_3 11 rfl rfl)
theorem dX5_token_80 : decode cX5_token 80 = .ok (.iadd, 1) := dk_96 (dk_at dksX5_token_3 12 rfl rfl)
theorem dX5_token_81 : decode cX5_token 81 = .ok (.putfield 102, 3) := dk_181 0 102 (dk_at dksX5_token_3 13 rfl rfl)
theorem dX5_token_84 : decode cX5_token 84 = .ok (.goto (-20), 3) := dk_167 255 236 (dk_at dksX5_token_3 16 rfl rfl)
theorem dX5_token_87 : decode cX5_token 87 = .ok (.aload_n 0, 1) := dk_42 (dk_at dksX5_token_3 19 rfl rfl)
theorem dX5_token_88 : decode cX5_token 88 = .ok (.aload_n 0, 1) := dk_42 (dk_at dksX5_token_3 20 rfl rfl)
theorem dX5_token_89 : decode cX5_token 89 = .ok (.invokevirtual 122, 3) := dk_182 0 122 (dk_at dksX5_token_3 21 rfl rfl)
theorem dX5_token_92 : decode cX5_token 92 = .ok (.putfield 125, 3) := dk_181 0 125 (dk_at dksX5_token_4 0 rfl rfl)
theorem dX5_token_95 : decode cX5_token 95 = .ok (.aload_n 0, 1) := dk_42 (dk_at dksX5_token_4 3 rfl rfl)
theorem dX5_token_96 : decode cX5_token 96 = .ok (.aload_n 0, 1) := dk_42 (dk_at dksX5_token_4 4 rfl rfl)
theorem dX5_token_97 : decode cX5_token 97 = .ok (.getfield 125, 3) := dk_180 0 125 (dk_at dksX5_token_4 5 rfl rfl)
theorem dX5_token_100 : decode cX5_token 100 = .ok (.iconst (-1), 1) := dk_2 (dk_at dksX5_token_4 8 rfl rfl)
theorem dX5_token_101 : decode cX5_token 101 = .ok (.if_icmp .eq 7, 3) := dk_159 0 7 (dk_at dksX5_token_4 9 rfl rfl)
theorem dX5_token_104 : decode cX5_token 104 = .ok (.iconst 0, 1) := dk_3 (dk_at dksX5_token_4 12 rfl rfl)
theorem dX5_token_105 : decode cX5_token 105 = .ok (.goto 22, 3) := dk_167 0 22 (dk_at dksX5_token_4 13 rfl rfl)
theorem dX5_token_108 : decode cX5_token 108 = .ok (.aload_n 0, 1) := dk_42 (dk_at dksX5_token_4 16 rfl rfl)
theorem dX5_token_109 : decode cX5_token 109 = .ok (.getfield 102, 3) := dk_180 0 102 (dk_at dksX5_token_4 17 rfl rfl)
theorem dX5_token_112 : decode cX5_token 112 = .ok (.aload_n 0, 1) := dk_42 (dk_at dksX5_token_4 20 rfl rfl)
theorem dX5_token_113 : decode cX5_token 113 = .ok (.getfield 112, 3) := dk_180 0 112 (dk_at dksX5_token_4 21 rfl rfl)
theorem dX5_token_116 : decode cX5_token 116 = .ok (.isub, 1) := dk_100 (dk_at dksX5_token_5 0 rfl rfl)
theorem dX5_token_117 : decode cX5_token 117 = .ok (.bipush 6, 2) := dk_16 6 (dk_at dksX5_token_5 1 rfl rfl)
theorem dX5_token_119 : decode cX5_token 119 = .ok (.if_icmp .le 7, 3) := dk_164 0 7 (dk_at dksX5_token_5 3 rfl rfl)
theorem dX5_token_122 : decode cX5_token 122 = .ok (.iconst 5, 1) := dk_8 (dk_at dksX5_token_5 6 rfl rfl)
theorem dX5_token_123 : decode cX5_token 123 = .ok (.goto 4, 3) := dk_167 0 4 (dk_at dksX5_token_5 7 rfl rfl)
theorem dX5_token_126 : decode cX5_token 126 = .ok (.iconst 1, 1) := dk_4 (dk_at dksX5_token_5 10 rfl rfl)
theorem dX5_token_127 : decode cX5_token 127 = .ok (.putfield 115, 3) := dk_181 0 115 (dk_at dksX5_token_5 11 rfl rfl)
theorem dX5_token_130 : decode cX5_token 130 = .ok (.aload_n 0, 1) := dk_42 (dk_at dksX5_token_5 14 rfl rfl)
theorem dX5_token_131 : decode cX5_token 131 = .ok (.getfield 115, 3) := dk_180 0 115 (dk_at dksX5_token_5 15 rfl rfl)
theorem dX5_token_134 : decode cX5_token 134 = .ok (.iconst 1, 1) := dk_4 (dk_at dksX5_token_5 18 rfl rfl)
theorem dX5_token_135 : decode cX5_token 135 = .ok (.if_icmp .ne 110, 3) := dk_160 0 110 (dk_at dksX5_token_5 19 rfl rfl)
theorem dX5_token_138 : decode cX5_token 138 = .ok (.aload_n 0, 1) := dk_42 (dk_at dksX5_token_5 22 rfl rfl)
theorem dX5_token_139 : decode cX5_token 139 = .ok (.invokevirtual 128, 3) := dk_182 0 128 (dk_at dksX5_token_6 0 rfl rfl)
theorem dX5_token_142 : decode cX5_token 142 = .ok (.goto 103, 3) := dk_167 0 103 (dk_at dksX5_token_6 3 rfl rfl)
theorem dX5_token_145 : decode cX5_token 145 = .ok (.iload_n 1, 1) := dk_27 (dk_at dksX5_token_6 6 rfl rfl)
theorem dX5_token_146 : decode cX5_token 146 = .ok (.invokestatic 131, 3) := dk_184 0 131 (dk_at dksX5_token_6 7 rfl rfl)
theorem dX5_token_149 : decode cX5_token 149 = .ok (.ifCond .eq 71, 3) := dk_153 0 71 (dk_at dksX5_token_6 10 rfl rfl)
theorem dX5_token_152 : decode cX5_token 152 = .ok (.aload_n 0, 1) := dk_42 (dk_at dksX5_token_6 13 rfl rfl)
theorem dX5_token_153 : decode cX5_token 153 = .ok (.iconst 2, 1) := dk_5 (dk_at dksX5_token_6 14 rfl rfl)
theorem dX5_token_154 : decode cX5_token 154 = .ok (.putfield 115, 3) := dk_181 0 115 (dk_at dksX5_token_6 15 rfl rfl)
theorem dX5_token_157 : decode cX5_token 157 = .ok (.aload_n 0, 1) := dk_42 (dk_at dksX5_token_6 18 rfl rfl)
theorem dX5_token_158 : decode cX5_token 158 = .ok (.iconst 0, 1) := dk_3 (dk_at dksX5_token_6 19 rfl rfl)
theorem dX5_token_159 : decode cX5_token 159 = .ok (.putfield 125, 3) := dk_181 0 125 (dk_at dksX5_token_6 20 rfl rfl)
theorem dX5_token_162 : decode cX5_token 162 = .ok (.aload_n 0, 1) := dk_42 (dk_at dksX5_token_6 23 rfl rfl)
theorem dX5_token_163 : decode cX5_token 163 = .ok (.invokevirtual 108, 3) := dk_182 0 108 (dk_at dksX5_token_7 0 rfl rfl)
theorem dX5_token_166 : decode cX5_token 166 = .ok (.invokestatic 131, 3) := dk_184 0 131 (dk_at dksX5_token_7 3 rfl rfl)
theorem dX5_token_169 : decode cX5_token 169 = .ok (.ifCond .eq 76, 3) := dk_153 0 76 (dk_at dksX5_token_7 6 rfl rfl)
theorem dX5_token_172 : decode cX5_token 172 = .ok (.aload_n 0, 1) := dk_42 (dk_at dksX5_token_7 9 rfl rfl)
theorem dX5_token_173 : decode cX5_token 173 = .ok (.aload_n 0, 1) := dk_42 (dk_at dksX5_token_7 10 rfl rfl)
theorem dX5_token_174 : decode cX5_token 174 = .ok (.getfield 125, 3) := dk_180 0 125 (dk_at dksX5_token_7 11 rfl rfl)
theorem dX5_token_177 : decode cX5_token 177 = .ok (.ldc 134, 2) := dk_18 134 (dk_at dksX5_token_7 14 rfl rfl)
theorem dX5_token_179 : decode cX5_token 179 = .ok (.if_icmp .le 10, 3) := dk_164 0 10 (dk_at dksX5_token_7 16 rfl rfl)
theorem dX5_token_182 : decode cX5_token 182 = .ok (.aload_n 0, 1) := dk_42 (dk_at dksX5_token_7 19 rfl rfl)
theorem dX5_token_183 : decode cX5_token 183 = .ok (.getfield 125, 3) := dk_180 0 125 (dk_at dksX5_token_7 20 rfl rfl)
theorem dX5_token_186 : decode cX5_token 186 = .ok (.goto 18, 3) := dk_167 0 18 (dk_at dksX5_token_8 0 rfl rfl)
theorem dX5_token_189 : decode cX5_token 189 = .ok (.bipush 10, 2) := dk_16 10 (dk_at dksX5_token_8 3 rfl rfl)
theorem dX5_token_191 : decode cX5_token 191 = .ok (.aload_n 0, 1) := dk_42 (dk_at dksX5_token_8 5 rfl rfl)
theorem dX5_token_192 : decode cX5_token 192 = .ok (.getfield 125, 3) := dk_180 0 125 (dk_at dksX5_token_8 6 rfl rfl)
theorem dX5_token_195 : decode cX5_token 195 = .ok (.imul, 1) := dk_104 (dk_at dksX5_token_8 9 rfl rfl)
theorem dX5_token_196 : decode cX5_token 196 = .ok (.aload_n 0, 1) := dk_42 (dk_at dksX5_token_8 10 rfl rfl)
theorem dX5_token_197 : decode cX5_token 197 = .ok (.invokevirtual 108, 3) := dk_182 0 108 (dk_at dksX5_token_8 11 rfl rfl)
theorem dX5_token_200 : decode cX5_token 200 = .ok (.iadd, 1) := dk_96 (dk_at dksX5_token_8 14 rfl rfl)
theorem dX5_token_201 : decode cX5_token 201 = .ok (.bipush 48, 2) := dk_16 48 (dk_at dksX5_token_8 15 rfl rfl)
theorem dX5_token_203 : decode cX5_token 203 = .ok (.isub, 1) := dk_100 (dk_at dksX5_token_8 17 rfl rfl)
theorem dX5_token_204 : decode cX5_token 204 = .ok (.putfield 125, 3) := dk_181 0 125 (dk_at dksX5_token_8 18 rfl rfl)
theorem dX5_token_207 : decode cX5_token 207 = .ok (.aload_n 0, 1) := dk_42 (dk_at dksX5_token_8 21 rfl rfl)
theorem dX5_token_208 : decode cX5_token 208 = .ok (.dup, 1) := dk_89 (dk_at dksX5_token_8 22 rfl rfl)
theorem dX5_token_209 : decode cX5_token 209 = .ok (.getfield 102, 3) := dk_180 0 102 (dk_at dksX5_token_9 0 rfl rfl)
theorem dX5_token_212 : decode cX5_token 212 = .ok (.iconst 1, 1) := dk_4 (dk_at dksX5_token_9 3 rfl rfl)
theorem dX5_token_213 : decode cX5_token 213 = .ok (.iadd, 1) := dk_96 (dk_at dksX5_token_9 4 rfl rfl)
theorem dX5_token_214 : decode cX5_token 214 = .ok (.putfield 102, 3) := dk_181 0 102 (dk_at dksX5_token_9 5 rfl rfl)
theorem dX5_token_217 : decode cX5_token 217 = .ok (.goto (-55), 3) := dk_167 255 201 (dk_at dksX5_token_9 8 rfl rfl)
theorem dX5_token_220 : decode cX5_token 220 = .ok (.aload_n 0, 1) := dk_42 (dk_at dksX5_token_9 11 rfl rfl)
theorem dX5_token_221 : decode cX5_token 221 = .ok (.iload_n 1, 1) := dk_27 (dk_at dksX5_token_9 12 rfl rfl)
theorem dX5_token_222 : decode cX5_token 222 = .ok (.bipush 59, 2) := dk_16 59 (dk_at dksX5_token_9 13 rfl rfl)
theorem dX5_token_224 : decode cX5_token 224 = .ok (.if_icmp .ne 7, 3) := dk_160 0 7 (dk_at dksX5_token_9 15 rfl rfl)
theorem dX5_token_227 : decode cX5_token 227 = .ok (.iconst 3, 1) := dk_6 (dk_at dksX5_token_9 18 rfl rfl)
theorem dX5_token_228 : decode cX5_token 228 = .ok (.goto 4, 3) := dk_167 0 4 (dk_at dksX5_token_9 19 rfl rfl)
theorem dX5_token_231 : decode cX5_token 231 = .ok (.iconst 5, 1) := dk_8 (dk_at dksX5_token_9 22 rfl rfl)
theorem dX5_token_232 : decode cX5_token 232 = .ok (.putfield 115, 3) := dk_181 0 115 (dk_at dksX5_token_10 0 rfl rfl)
theorem dX5_token_235 : decode cX5_token 235 = .ok (.aload_n 0, 1) := dk_42 (dk_at dksX5_token_10 3 rfl rfl)
theorem dX5_token_236 : decode cX5_token 236 = .ok (.dup, 1) := dk_89 (dk_at dksX5_token_10 4 rfl rfl)
theorem dX5_token_237 : decode cX5_token 237 = .ok (.getfield 102, 3) := dk_180 0 102 (dk_at dksX5_token_10 5 rfl rfl)
theorem dX5_token_240 : decode cX5_token 240 = .ok (.iconst 1, 1) := dk_4 (dk_at dksX5_token_10 8 rfl rfl)
theorem dX5_token_241 : decode cX5_token 241 = .ok (.iadd, 1) := dk_96 (dk_at dksX5_token_10 9 rfl rfl)
theorem dX5_token_242 : decode cX5_token 242 = .ok (.putfield 102, 3) := dk_181 0 102 (dk_at dksX5_token_10 10 rfl rfl)
theorem dX5_token_245 : decode cX5_token 245 = .ok (.return_, 1) := dk_177 (dk_at dksX5_token_10 13 rfl rfl)
abbrev cX5_here : ByteArray := prog_10_method_4_code
def yX5_here : MethodName := ⟨RX5, "here", "()I"⟩
def dkwX5_here_1 : List UInt8 := [172]
abbrev dktX5_here_1 : List UInt8 := dkwX5_here_1 ++ []
def dkwX5_here_0 : List UInt8 := [42, 180, 0, 102, 42, 180, 0, 105, 162, 0, 15, 42, 180, 0, 7, 42, 180, 0, 102, 46, 167, 0, 4, 2]
abbrev dktX5_here_0 : List UInt8 := dkwX5_here_0 ++ dktX5_here_1
theorem dksX5_here_0 : cX5_here.data.toList.drop 0 = dktX5_here_0 := by decide +kernel
theorem dksX5_here_1 : cX5_here.data.toList.drop 24 = dktX5_here_1 := dk_seg dksX5_here_0 24 rfl rfl
theorem dX5_here_0 : decode cX5_here 0 = .ok (.aload_n 0, 1) := dk_42 (dk_at dksX5_here_0 0 rfl rfl)
theorem dX5_here_1 : decode cX5_here 1 = .ok (.getfield 102, 3) := dk_180 0 102 (dk_at dksX5_here_0 1 rfl rfl)
theorem dX5_here_4 : decode cX5_here 4 = .ok (.aload_n 0, 1) := dk_42 (dk_at dksX5_here_0 4 rfl rfl)
theorem dX5_here_5 : decode cX5_here 5 = .ok (.getfield 105, 3) := dk_180 0 105 (dk_at dksX5_here_0 5 rfl rfl)
theorem dX5_here_8 : decode cX5_here 8 = .ok (.if_icmp .ge 15, 3) := dk_162 0 15 (dk_at dksX5_here_0 8 rfl rfl)
theorem dX5_here_11 : decode cX5_here 11 = .ok (.aload_n 0, 1) := dk_42 (dk_at dksX5_here_0 11 rfl rfl)
theorem dX5_here_12 : decode cX5_here 12 = .ok (.getfield 7, 3) := dk_180 0 7 (dk_at dksX5_here_0 12 rfl rfl)
theorem dX5_here_15 : decode cX5_here 15 = .ok (.aload_n 0, 1) := dk_42 (dk_at dksX5_here_0 15 rfl rfl)
theorem dX5_here_16 : decode cX5_here 16 = .ok (.getfield 102, 3) := dk_180 0 102 (dk_at dksX5_here_0 16 rfl rfl)
theorem dX5_here_19 : decode cX5_here 19 = .ok (.iaload, 1) := dk_46 (dk_at dksX5_here_0 19 rfl rfl)
theorem dX5_here_20 : decode cX5_here 20 = .ok (.goto 4, 3) := dk_167 0 4 (dk_at dksX5_here_0 20 rfl rfl)
theorem dX5_here_23 : decode cX5_here 23 = .ok (.iconst (-1), 1) := dk_2 (dk_at dksX5_here_0 23 rfl rfl)
theorem dX5_here_24 : decode cX5_here 24 = .ok (.ireturn, 1) := dk_172 (dk_at dksX5_here_1 0 rfl rfl)
abbrev cX5_isSmall : ByteArray := prog_10_method_5_code
def yX5_isSmall : MethodName := ⟨RX5, "isSmall", "(I)Z"⟩
def dkwX5_isSmall_0 : List UInt8 := [26, 16, 97, 161, 0, 13, 26, 16, 122, 163, 0, 7, 4, 167, 0, 4, 3, 172]
abbrev dktX5_isSmall_0 : List UInt8 := dkwX5_isSmall_0 ++ []
theorem dksX5_isSmall_0 : cX5_isSmall.data.toList.drop 0 = dktX5_isSmall_0 := by decide +kernel
theorem dX5_isSmall_0 : decode cX5_isSmall 0 = .ok (.iload_n 0, 1) := dk_26 (dk_at dksX5_isSmall_0 0 rfl rfl)
theorem dX5_isSmall_1 : decode cX5_isSmall 1 = .ok (.bipush 97, 2) := dk_16 97 (dk_at dksX5_isSmall_0 1 rfl rfl)
theorem dX5_isSmall_3 : decode cX5_isSmall 3 = .ok (.if_icmp .lt 13, 3) := dk_161 0 13 (dk_at dksX5_isSmall_0 3 rfl rfl)
theorem dX5_isSmall_6 : decode cX5_isSmall 6 = .ok (.iload_n 0, 1) := dk_26 (dk_at dksX5_isSmall_0 6 rfl rfl)
theorem dX5_isSmall_7 : decode cX5_isSmall 7 = .ok (.bipush 122, 2) := dk_16 122 (dk_at dksX5_isSmall_0 7 rfl rfl)
theorem dX5_isSmall_9 : decode cX5_isSmall 9 = .ok (.if_icmp .gt 7, 3) := dk_163 0 7 (dk_at dksX5_isSmall_0 9 rfl rfl)
theorem dX5_isSmall_12 : decode cX5_isSmall 12 = .ok (.iconst 1, 1) := dk_4 (dk_at dksX5_isSmall_0 12 rfl rfl)
theorem dX5_isSmall_13 : decode cX5_isSmall 13 = .ok (.goto 4, 3) := dk_167 0 4 (dk_at dksX5_isSmall_0 13 rfl rfl)
theorem dX5_isSmall_16 : decode cX5_isSmall 16 = .ok (.iconst 0, 1) := dk_3 (dk_at dksX5_isSmall_0 16 rfl rfl)
theorem dX5_isSmall_17 : decode cX5_isSmall 17 = .ok (.ireturn, 1) := dk_172 (dk_at dksX5_isSmall_0 17 rfl rfl)
abbrev cX5_wordHere : ByteArray := prog_10_method_8_code
def yX5_wordHere : MethodName := ⟨RX5, "wordHere", "()I"⟩
def dkwX5_wordHere_5 : List UInt8 := [132, 2, 1, 132, 1, 1, 167, 255, 140, 2, 172]
abbrev dktX5_wordHere_5 : List UInt8 := dkwX5_wordHere_5 ++ []
def dkwX5_wordHere_4 : List UInt8 := [160, 0, 5, 27, 172, 18, 135, 28, 182, 0, 142, 16, 32, 159, 0, 9, 132, 2, 1, 167, 255, 242]
abbrev dktX5_wordHere_4 : List UInt8 := dkwX5_wordHere_4 ++ dktX5_wordHere_5
def dkwX5_wordHere_3 : List UInt8 := [18, 135, 28, 29, 96, 182, 0, 142, 16, 32, 160, 0, 18, 42, 180, 0, 112, 29, 96, 42, 180, 0, 102]
abbrev dktX5_wordHere_3 : List UInt8 := dkwX5_wordHere_3 ++ dktX5_wordHere_4
def dkwX5_wordHere_2 : List UInt8 := [180, 0, 112, 29, 96, 46, 18, 135, 28, 29, 96, 182, 0, 142, 160, 0, 9, 132, 3, 1, 167, 255, 205]
abbrev dktX5_wordHere_2 : List UInt8 := dkwX5_wordHere_2 ++ dktX5_wordHere_3
def dkwX5_wordHere_1 : List UInt8 := [16, 32, 159, 0, 44, 42, 180, 0, 112, 29, 96, 42, 180, 0, 102, 162, 0, 31, 42, 180, 0, 7, 42]
abbrev dktX5_wordHere_1 : List UInt8 := dkwX5_wordHere_1 ++ dktX5_wordHere_2
def dkwX5_wordHere_0 : List UInt8 := [3, 60, 3, 61, 28, 18, 135, 182, 0, 137, 162, 0, 113, 3, 62, 18, 135, 28, 29, 96, 182, 0, 142]
abbrev dktX5_wordHere_0 : List UInt8 := dkwX5_wordHere_0 ++ dktX5_wordHere_1
theorem dksX5_wordHere_0 : cX5_wordHere.data.toList.drop 0 = dktX5_wordHere_0 := by decide +kernel
theorem dksX5_wordHere_1 : cX5_wordHere.data.toList.drop 23 = dktX5_wordHere_1 := dk_seg dksX5_wordHere_0 23 rfl rfl
theorem dksX5_wordHere_2 : cX5_wordHere.data.toList.drop 46 = dktX5_wordHere_2 := dk_seg dksX5_wordHere_1 23 rfl rfl
theorem dksX5_wordHere_3 : cX5_wordHere.data.toList.drop 69 = dktX5_wordHere_3 := dk_seg dksX5_wordHere_2 23 rfl rfl
theorem dksX5_wordHere_4 : cX5_wordHere.data.toList.drop 92 = dktX5_wordHere_4 := dk_seg dksX5_wordHere_3 23 rfl rfl
theorem dksX5_wordHere_5 : cX5_wordHere.data.toList.drop 114 = dktX5_wordHere_5 := dk_seg dksX5_wordHere_4 22 rfl rfl
theorem dX5_wordHere_0 : decode cX5_wordHere 0 = .ok (.iconst 0, 1) := dk_3 (dk_at dksX5_wordHere_0 0 rfl rfl)
theorem dX5_wordHere_1 : decode cX5_wordHere 1 = .ok (.istore_n 1, 1) := dk_60 (dk_at dksX5_wordHere_0 1 rfl rfl)
theorem dX5_wordHere_2 : decode cX5_wordHere 2 = .ok (.iconst 0, 1) := dk_3 (dk_at dksX5_wordHere_0 2 rfl rfl)
theorem dX5_wordHere_3 : decode cX5_wordHere 3 = .ok (.istore_n 2, 1) := dk_61 (dk_at dksX5_wordHere_0 3 rfl rfl)
theorem dX5_wordHere_4 : decode cX5_wordHere 4 = .ok (.iload_n 2, 1) := dk_28 (dk_at dksX5_wordHere_0 4 rfl rfl)
theorem dX5_wordHere_5 : decode cX5_wordHere 5 = .ok (.ldc 135, 2) := dk_18 135 (dk_at dksX5_wordHere_0 5 rfl rfl)
theorem dX5_wordHere_7 : decode cX5_wordHere 7 = .ok (.invokevirtual 137, 3) := dk_182 0 137 (dk_at dksX5_wordHere_0 7 rfl rfl)
theorem dX5_wordHere_10 : decode cX5_wordHere 10 = .ok (.if_icmp .ge 113, 3) := dk_162 0 113 (dk_at dksX5_wordHere_0 10 rfl rfl)
theorem dX5_wordHere_13 : decode cX5_wordHere 13 = .ok (.iconst 0, 1) := dk_3 (dk_at dksX5_wordHere_0 13 rfl rfl)
theorem dX5_wordHere_14 : decode cX5_wordHere 14 = .ok (.istore_n 3, 1) := dk_62 (dk_at dksX5_wordHere_0 14 rfl rfl)
theorem dX5_wordHere_15 : decode cX5_wordHere 15 = .ok (.ldc 135, 2) := dk_18 135 (dk_at dksX5_wordHere_0 15 rfl rfl)
theorem dX5_wordHere_17 : decode cX5_wordHere 17 = .ok (.iload_n 2, 1) := dk_28 (dk_at dksX5_wordHere_0 17 rfl rfl)
theorem dX5_wordHere_18 : decode cX5_wordHere 18 = .ok (.iload_n 3, 1) := dk_29 (dk_at dksX5_wordHere_0 18 rfl rfl)
theorem dX5_wordHere_19 : decode cX5_wordHere 19 = .ok (.iadd, 1) := dk_96 (dk_at dksX5_wordHere_0 19 rfl rfl)
theorem dX5_wordHere_20 : decode cX5_wordHere 20 = .ok (.invokevirtual 142, 3) := dk_182 0 142 (dk_at dksX5_wordHere_0 20 rfl rfl)
theorem dX5_wordHere_23 : decode cX5_wordHere 23 = .ok (.bipush 32, 2) := dk_16 32 (dk_at dksX5_wordHere_1 0 rfl rfl)
theorem dX5_wordHere_25 : decode cX5_wordHere 25 = .ok (.if_icmp .eq 44, 3) := dk_159 0 44 (dk_at dksX5_wordHere_1 2 rfl rfl)
theorem dX5_wordHere_28 : decode cX5_wordHere 28 = .ok (.aload_n 0, 1) := dk_42 (dk_at dksX5_wordHere_1 5 rfl rfl)
theorem dX5_wordHere_29 : decode cX5_wordHere 29 = .ok (.getfield 112, 3) := dk_180 0 112 (dk_at dksX5_wordHere_1 6 rfl rfl)
theorem dX5_wordHere_32 : decode cX5_wordHere 32 = .ok (.iload_n 3, 1) := dk_29 (dk_at dksX5_wordHere_1 9 rfl rfl)
theorem dX5_wordHere_33 : decode cX5_wordHere 33 = .ok (.iadd, 1) := dk_96 (dk_at dksX5_wordHere_1 10 rfl rfl)
theorem dX5_wordHere_34 : decode cX5_wordHere 34 = .ok (.aload_n 0, 1) := dk_42 (dk_at dksX5_wordHere_1 11 rfl rfl)
theorem dX5_wordHere_35 : decode cX5_wordHere 35 = .ok (.getfield 102, 3) := dk_180 0 102 (dk_at dksX5_wordHere_1 12 rfl rfl)
theorem dX5_wordHere_38 : decode cX5_wordHere 38 = .ok (.if_icmp .ge 31, 3) := dk_162 0 31 (dk_at dksX5_wordHere_1 15 rfl rfl)
theorem dX5_wordHere_41 : decode cX5_wordHere 41 = .ok (.aload_n 0, 1) := dk_42 (dk_at dksX5_wordHere_1 18 rfl rfl)
theorem dX5_wordHere_42 : decode cX5_wordHere 42 = .ok (.getfield 7, 3) := dk_180 0 7 (dk_at dksX5_wordHere_1 19 rfl rfl)
theorem dX5_wordHere_45 : decode cX5_wordHere 45 = .ok (.aload_n 0, 1) := dk_42 (dk_at dksX5_wordHere_1 22 rfl rfl)
theorem dX5_wordHere_46 : decode cX5_wordHere 46 = .ok (.getfield 112, 3) := dk_180 0 112 (dk_at dksX5_wordHere_2 0 rfl rfl)
theorem dX5_wordHere_49 : decode cX5_wordHere 49 = .ok (.iload_n 3, 1) := dk_29 (dk_at dksX5_wordHere_2 3 rfl rfl)
theorem dX5_wordHere_50 : decode cX5_wordHere 50 = .ok (.iadd, 1) := dk_96 (dk_at dksX5_wordHere_2 4 rfl rfl)
theorem dX5_wordHere_51 : decode cX5_wordHere 51 = .ok (.iaload, 1) := dk_46 (dk_at dksX5_wordHere_2 5 rfl rfl)
theorem dX5_wordHere_52 : decode cX5_wordHere 52 = .ok (.ldc 135, 2) := dk_18 135 (dk_at dksX5_wordHere_2 6 rfl rfl)
theorem dX5_wordHere_54 : decode cX5_wordHere 54 = .ok (.iload_n 2, 1) := dk_28 (dk_at dksX5_wordHere_2 8 rfl rfl)
theorem dX5_wordHere_55 : decode cX5_wordHere 55 = .ok (.iload_n 3, 1) := dk_29 (dk_at dksX5_wordHere_2 9 rfl rfl)
theorem dX5_wordHere_56 : decode cX5_wordHere 56 = .ok (.iadd, 1) := dk_96 (dk_at dksX5_wordHere_2 10 rfl rfl)
theorem dX5_wordHere_57 : decode cX5_wordHere 57 = .ok (.invokevirtual 142, 3) := dk_182 0 142 (dk_at dksX5_wordHere_2 11 rfl rfl)
theorem dX5_wordHere_60 : decode cX5_wordHere 60 = .ok (.if_icmp .ne 9, 3) := dk_160 0 9 (dk_at dksX5_wordHere_2 14 rfl rfl)
theorem dX5_wordHere_63 : decode cX5_wordHere 63 = .ok (.iinc 3 1, 3) := dk_132 3 1 (dk_at dksX5_wordHere_2 17 rfl rfl)
theorem dX5_wordHere_66 : decode cX5_wordHere 66 = .ok (.goto (-51), 3) := dk_167 255 205 (dk_at dksX5_wordHere_2 20 rfl rfl)
theorem dX5_wordHere_69 : decode cX5_wordHere 69 = .ok (.ldc 135, 2) := dk_18 135 (dk_at dksX5_wordHere_3 0 rfl rfl)
theorem dX5_wordHere_71 : decode cX5_wordHere 71 = .ok (.iload_n 2, 1) := dk_28 (dk_at dksX5_wordHere_3 2 rfl rfl)
theorem dX5_wordHere_72 : decode cX5_wordHere 72 = .ok (.iload_n 3, 1) := dk_29 (dk_at dksX5_wordHere_3 3 rfl rfl)
theorem dX5_wordHere_73 : decode cX5_wordHere 73 = .ok (.iadd, 1) := dk_96 (dk_at dksX5_wordHere_3 4 rfl rfl)
theorem dX5_wordHere_74 : decode cX5_wordHere 74 = .ok (.invokevirtual 142, 3) := dk_182 0 142 (dk_at dksX5_wordHere_3 5 rfl rfl)
theorem dX5_wordHere_77 : decode cX5_wordHere 77 = .ok (.bipush 32, 2) := dk_16 32 (dk_at dksX5_wordHere_3 8 rfl rfl)
theorem dX5_wordHere_79 : decode cX5_wordHere 79 = .ok (.if_icmp .ne 18, 3) := dk_160 0 18 (dk_at dksX5_wordHere_3 10 rfl rfl)
theorem dX5_wordHere_82 : decode cX5_wordHere 82 = .ok (.aload_n 0, 1) := dk_42 (dk_at dksX5_wordHere_3 13 rfl rfl)
theorem dX5_wordHere_83 : decode cX5_wordHere 83 = .ok (.getfield 112, 3) := dk_180 0 112 (dk_at dksX5_wordHere_3 14 rfl rfl)
theorem dX5_wordHere_86 : decode cX5_wordHere 86 = .ok (.iload_n 3, 1) := dk_29 (dk_at dksX5_wordHere_3 17 rfl rfl)
theorem dX5_wordHere_87 : decode cX5_wordHere 87 = .ok (.iadd, 1) := dk_96 (dk_at dksX5_wordHere_3 18 rfl rfl)
theorem dX5_wordHere_88 : decode cX5_wordHere 88 = .ok (.aload_n 0, 1) := dk_42 (dk_at dksX5_wordHere_3 19 rfl rfl)
theorem dX5_wordHere_89 : decode cX5_wordHere 89 = .ok (.getfield 102, 3) := dk_180 0 102 (dk_at dksX5_wordHere_3 20 rfl rfl)
theorem dX5_wordHere_92 : decode cX5_wordHere 92 = .ok (.if_icmp .ne 5, 3) := dk_160 0 5 (dk_at dksX5_wordHere_4 0 rfl rfl)
theorem dX5_wordHere_95 : decode cX5_wordHere 95 = .ok (.iload_n 1, 1) := dk_27 (dk_at dksX5_wordHere_4 3 rfl rfl)
theorem dX5_wordHere_96 : decode cX5_wordHere 96 = .ok (.ireturn, 1) := dk_172 (dk_at dksX5_wordHere_4 4 rfl rfl)
theorem dX5_wordHere_97 : decode cX5_wordHere 97 = .ok (.ldc 135, 2) := dk_18 135 (dk_at dksX5_wordHere_4 5 rfl rfl)
theorem dX5_wordHere_99 : decode cX5_wordHere 99 = .ok (.iload_n 2, 1) := dk_28 (dk_at dksX5_wordHere_4 7 rfl rfl)
theorem dX5_wordHere_100 : decode cX5_wordHere 100 = .ok (.invokevirtual 142, 3) := dk_182 0 142 (dk_at dksX5_wordHere_4 8 rfl rfl)
theorem dX5_wordHere_103 : decode cX5_wordHere 103 = .ok (.bipush 32, 2) := dk_16 32 (dk_at dksX5_wordHere_4 11 rfl rfl)
theorem dX5_wordHere_105 : decode cX5_wordHere 105 = .ok (.if_icmp .eq 9, 3) := dk_159 0 9 (dk_at dksX5_wordHere_4 13 rfl rfl)
theorem dX5_wordHere_108 : decode cX5_wordHere 108 = .ok (.iinc 2 1, 3) := dk_132 2 1 (dk_at dksX5_wordHere_4 16 rfl rfl)
theorem dX5_wordHere_111 : decode cX5_wordHere 111 = .ok (.goto (-14), 3) := dk_167 255 242 (dk_at dksX5_wordHere_4 19 rfl rfl)
theorem dX5_wordHere_114 : decode cX5_wordHere 114 = .ok (.iinc 2 1, 3) := dk_132 2 1 (dk_at dksX5_wordHere_5 0 rfl rfl)
theorem dX5_wordHere_117 : decode cX5_wordHere 117 = .ok (.iinc 1 1, 3) := dk_132 1 1 (dk_at dksX5_wordHere_5 3 rfl rfl)
theorem dX5_wordHere_120 : decode cX5_wordHere 120 = .ok (.goto (-116), 3) := dk_167 255 140 (dk_at dksX5_wordHere_5 6 rfl rfl)
theorem dX5_wordHere_123 : decode cX5_wordHere 123 = .ok (.iconst (-1), 1) := dk_2 (dk_at dksX5_wordHere_5 9 rfl rfl)
theorem dX5_wordHere_124 : decode cX5_wordHere 124 = .ok (.ireturn, 1) := dk_172 (dk_at dksX5_wordHere_5 10 rfl rfl)
abbrev cX5_nameHere : ByteArray := prog_10_method_9_code
def yX5_nameHere : MethodName := ⟨RX5, "nameHere", "()V"⟩
def dkwX5_nameHere_2 : List UInt8 := [96, 167, 0, 4, 3, 128, 181, 0, 125, 132, 1, 1, 167, 255, 203, 177]
abbrev dktX5_nameHere_2 : List UInt8 := dkwX5_nameHere_2 ++ []
def dkwX5_nameHere_1 : List UInt8 := [27, 96, 42, 180, 0, 102, 162, 0, 22, 42, 180, 0, 7, 42, 180, 0, 112, 27, 96, 46, 16, 97, 100, 4]
abbrev dktX5_nameHere_1 : List UInt8 := dkwX5_nameHere_1 ++ dktX5_nameHere_2
def dkwX5_nameHere_0 : List UInt8 := [42, 3, 181, 0, 125, 3, 60, 27, 16, 6, 162, 0, 53, 42, 42, 180, 0, 125, 8, 120, 42, 180, 0, 112]
abbrev dktX5_nameHere_0 : List UInt8 := dkwX5_nameHere_0 ++ dktX5_nameHere_1
theorem dksX5_nameHere_0 : cX5_nameHere.data.toList.drop 0 = dktX5_nameHere_0 := by decide +kernel
theorem dksX5_nameHere_1 : cX5_nameHere.data.toList.drop 24 = dktX5_nameHere_1 := dk_seg dksX5_nameHere_0 24 rfl rfl
theorem dksX5_nameHere_2 : cX5_nameHere.data.toList.drop 48 = dktX5_nameHere_2 := dk_seg dksX5_nameHere_1 24 rfl rfl
theorem dX5_nameHere_0 : decode cX5_nameHere 0 = .ok (.aload_n 0, 1) := dk_42 (dk_at dksX5_nameHere_0 0 rfl rfl)
theorem dX5_nameHere_1 : decode cX5_nameHere 1 = .ok (.iconst 0, 1) := dk_3 (dk_at dksX5_nameHere_0 1 rfl rfl)
theorem dX5_nameHere_2 : decode cX5_nameHere 2 = .ok (.putfield 125, 3) := dk_181 0 125 (dk_at dksX5_nameHere_0 2 rfl rfl)
theorem dX5_nameHere_5 : decode cX5_nameHere 5 = .ok (.iconst 0, 1) := dk_3 (dk_at dksX5_nameHere_0 5 rfl rfl)
theorem dX5_nameHere_6 : decode cX5_nameHere 6 = .ok (.istore_n 1, 1) := dk_60 (dk_at dksX5_nameHere_0 6 rfl rfl)
theorem dX5_nameHere_7 : decode cX5_nameHere 7 = .ok (.iload_n 1, 1) := dk_27 (dk_at dksX5_nameHere_0 7 rfl rfl)
theorem dX5_nameHere_8 : decode cX5_nameHere 8 = .ok (.bipush 6, 2) := dk_16 6 (dk_at dksX5_nameHere_0 8 rfl rfl)
theorem dX5_nameHere_10 : decode cX5_nameHere 10 = .ok (.if_icmp .ge 53, 3) := dk_162 0 53 (dk_at dksX5_nameHere_0 10 rfl rfl)
theorem dX5_nameHere_13 : decode cX5_nameHere 13 = .ok (.aload_n 0, 1) := dk_42 (dk_at dksX5_nameHere_0 13 rfl rfl)
theorem dX5_nameHere_14 : decode cX5_nameHere 14 = .ok (.aload_n 0, 1) := dk_42 (dk_at dksX5_nameHere_0 14 rfl rfl)
theorem dX5_nameHere_15 : decode cX5_nameHere 15 = .ok (.getfield 125, 3) := dk_180 0 125 (dk_at dksX5_nameHere_0 15 rfl rfl)
theorem dX5_nameHere_18 : decode cX5_nameHere 18 = .ok (.iconst 5, 1) := dk_8 (dk_at dksX5_nameHere_0 18 rfl rfl)
theorem dX5_nameHere_19 : decode cX5_nameHere 19 = .ok (.ishl, 1) := dk_120 (dk_at dksX5_nameHere_0 19 rfl rfl)
theorem dX5_nameHere_20 : decode cX5_nameHere 20 = .ok (.aload_n 0, 1) := dk_42 (dk_at dksX5_nameHere_0 20 rfl rfl)
theorem dX5_nameHere_21 : decode cX5_nameHere 21 = .ok (.getfield 112, 3) := dk_180 0 112 (dk_at dksX5_nameHere_0 21 rfl rfl)
theorem dX5_nameHere_24 : decode cX5_nameHere 24 = .ok (.iload_n 1, 1) := dk_27 (dk_at dksX5_nameHere_1 0 rfl rfl)
theorem dX5_nameHere_25 : decode cX5_nameHere 25 = .ok (.iadd, 1) := dk_96 (dk_at dksX5_nameHere_1 1 rfl rfl)
theorem dX5_nameHere_26 : decode cX5_nameHere 26 = .ok (.aload_n 0, 1) := dk_42 (dk_at dksX5_nameHere_1 2 rfl rfl)
theorem dX5_nameHere_27 : decode cX5_nameHere 27 = .ok (.getfield 102, 3) := dk_180 0 102 (dk_at dksX5_nameHere_1 3 rfl rfl)
theorem dX5_nameHere_30 : decode cX5_nameHere 30 = .ok (.if_icmp .ge 22, 3) := dk_162 0 22 (dk_at dksX5_nameHere_1 6 rfl rfl)
theorem dX5_nameHere_33 : decode cX5_nameHere 33 = .ok (.aload_n 0, 1) := dk_42 (dk_at dksX5_nameHere_1 9 rfl rfl)
theorem dX5_nameHere_34 : decode cX5_nameHere 34 = .ok (.getfield 7, 3) := dk_180 0 7 (dk_at dksX5_nameHere_1 10 rfl rfl)
theorem dX5_nameHere_37 : decode cX5_nameHere 37 = .ok (.aload_n 0, 1) := dk_42 (dk_at dksX5_nameHere_1 13 rfl rfl)
theorem dX5_nameHere_38 : decode cX5_nameHere 38 = .ok (.getfield 112, 3) := dk_180 0 112 (dk_at dksX5_nameHere_1 14 rfl rfl)
theorem dX5_nameHere_41 : decode cX5_nameHere 41 = .ok (.iload_n 1, 1) := dk_27 (dk_at dksX5_nameHere_1 17 rfl rfl)
theorem dX5_nameHere_42 : decode cX5_nameHere 42 = .ok (.iadd, 1) := dk_96 (dk_at dksX5_nameHere_1 18 rfl rfl)
theorem dX5_nameHere_43 : decode cX5_nameHere 43 = .ok (.iaload, 1) := dk_46 (dk_at dksX5_nameHere_1 19 rfl rfl)
theorem dX5_nameHere_44 : decode cX5_nameHere 44 = .ok (.bipush 97, 2) := dk_16 97 (dk_at dksX5_nameHere_1 20 rfl rfl)
theorem dX5_nameHere_46 : decode cX5_nameHere 46 = .ok (.isub, 1) := dk_100 (dk_at dksX5_nameHere_1 22 rfl rfl)
theorem dX5_nameHere_47 : decode cX5_nameHere 47 = .ok (.iconst 1, 1) := dk_4 (dk_at dksX5_nameHere_1 23 rfl rfl)
theorem dX5_nameHere_48 : decode cX5_nameHere 48 = .ok (.iadd, 1) := dk_96 (dk_at dksX5_nameHere_2 0 rfl rfl)
theorem dX5_nameHere_49 : decode cX5_nameHere 49 = .ok (.goto 4, 3) := dk_167 0 4 (dk_at dksX5_nameHere_2 1 rfl rfl)
theorem dX5_nameHere_52 : decode cX5_nameHere 52 = .ok (.iconst 0, 1) := dk_3 (dk_at dksX5_nameHere_2 4 rfl rfl)
theorem dX5_nameHere_53 : decode cX5_nameHere 53 = .ok (.ior, 1) := dk_128 (dk_at dksX5_nameHere_2 5 rfl rfl)
theorem dX5_nameHere_54 : decode cX5_nameHere 54 = .ok (.putfield 125, 3) := dk_181 0 125 (dk_at dksX5_nameHere_2 6 rfl rfl)
theorem dX5_nameHere_57 : decode cX5_nameHere 57 = .ok (.iinc 1 1, 3) := dk_132 1 1 (dk_at dksX5_nameHere_2 9 rfl rfl)
theorem dX5_nameHere_60 : decode cX5_nameHere 60 = .ok (.goto (-53), 3) := dk_167 255 203 (dk_at dksX5_nameHere_2 12 rfl rfl)
theorem dX5_nameHere_63 : decode cX5_nameHere 63 = .ok (.return_, 1) := dk_177 (dk_at dksX5_nameHere_2 15 rfl rfl)
abbrev cX5_isDigit : ByteArray := prog_10_method_6_code
def yX5_isDigit : MethodName := ⟨RX5, "isDigit", "(I)Z"⟩
def dkwX5_isDigit_0 : List UInt8 := [26, 16, 48, 161, 0, 13, 26, 16, 57, 163, 0, 7, 4, 167, 0, 4, 3, 172]
abbrev dktX5_isDigit_0 : List UInt8 := dkwX5_isDigit_0 ++ []
theorem dksX5_isDigit_0 : cX5_isDigit.data.toList.drop 0 = dktX5_isDigit_0 := by decide +kernel
theorem dX5_isDigit_0 : decode cX5_isDigit 0 = .ok (.iload_n 0, 1) := dk_26 (dk_at dksX5_isDigit_0 0 rfl rfl)
theorem dX5_isDigit_1 : decode cX5_isDigit 1 = .ok (.bipush 48, 2) := dk_16 48 (dk_at dksX5_isDigit_0 1 rfl rfl)
theorem dX5_isDigit_3 : decode cX5_isDigit 3 = .ok (.if_icmp .lt 13, 3) := dk_161 0 13 (dk_at dksX5_isDigit_0 3 rfl rfl)
theorem dX5_isDigit_6 : decode cX5_isDigit 6 = .ok (.iload_n 0, 1) := dk_26 (dk_at dksX5_isDigit_0 6 rfl rfl)
theorem dX5_isDigit_7 : decode cX5_isDigit 7 = .ok (.bipush 57, 2) := dk_16 57 (dk_at dksX5_isDigit_0 7 rfl rfl)
theorem dX5_isDigit_9 : decode cX5_isDigit 9 = .ok (.if_icmp .gt 7, 3) := dk_163 0 7 (dk_at dksX5_isDigit_0 9 rfl rfl)
theorem dX5_isDigit_12 : decode cX5_isDigit 12 = .ok (.iconst 1, 1) := dk_4 (dk_at dksX5_isDigit_0 12 rfl rfl)
theorem dX5_isDigit_13 : decode cX5_isDigit 13 = .ok (.goto 4, 3) := dk_167 0 4 (dk_at dksX5_isDigit_0 13 rfl rfl)
theorem dX5_isDigit_16 : decode cX5_isDigit 16 = .ok (.iconst 0, 1) := dk_3 (dk_at dksX5_isDigit_0 16 rfl rfl)
theorem dX5_isDigit_17 : decode cX5_isDigit 17 = .ok (.ireturn, 1) := dk_172 (dk_at dksX5_isDigit_0 17 rfl rfl)
abbrev cX5_readLine : ByteArray := prog_10_method_26_code
def yX5_readLine : MethodName := ⟨RX5, "readLine", "()V"⟩
def dkwX5_readLine_9 : List UInt8 := [159, 0, 8, 42, 4, 182, 0, 155, 42, 182, 0, 159, 42, 89, 180, 0, 214, 4, 96, 181, 0, 214, 177]
abbrev dktX5_readLine_9 : List UInt8 := dkwX5_readLine_9 ++ []
def dkwX5_readLine_8 : List UInt8 := [16, 10, 16, 9, 3, 18, 134, 182, 0, 177, 42, 180, 0, 146, 154, 0, 16, 42, 180, 0, 115, 6]
abbrev dktX5_readLine_8 : List UInt8 := dkwX5_readLine_8 ++ dktX5_readLine_9
def dkwX5_readLine_7 : List UInt8 := [182, 0, 208, 167, 0, 30, 42, 180, 0, 125, 16, 9, 160, 0, 10, 42, 182, 0, 211, 167, 0, 14, 42]
abbrev dktX5_readLine_7 : List UInt8 := dkwX5_readLine_7 ++ dktX5_readLine_8
def dkwX5_readLine_6 : List UInt8 := [16, 7, 160, 0, 10, 42, 182, 0, 205, 167, 0, 46, 42, 180, 0, 125, 16, 8, 160, 0, 10, 42]
abbrev dktX5_readLine_6 : List UInt8 := dkwX5_readLine_6 ++ dktX5_readLine_7
def dkwX5_readLine_5 : List UInt8 := [167, 0, 78, 42, 180, 0, 125, 16, 6, 160, 0, 10, 42, 182, 0, 202, 167, 0, 62, 42, 180, 0, 125]
abbrev dktX5_readLine_5 : List UInt8 := dkwX5_readLine_5 ++ dktX5_readLine_6
def dkwX5_readLine_4 : List UInt8 := [160, 0, 10, 42, 182, 0, 196, 167, 0, 93, 42, 180, 0, 125, 8, 160, 0, 10, 42, 182, 0, 199]
abbrev dktX5_readLine_4 : List UInt8 := dkwX5_readLine_4 ++ dktX5_readLine_5
def dkwX5_readLine_3 : List UInt8 := [180, 0, 125, 6, 160, 0, 15, 42, 6, 6, 3, 16, 7, 182, 0, 177, 167, 0, 108, 42, 180, 0, 125, 7]
abbrev dktX5_readLine_3 : List UInt8 := dkwX5_readLine_3 ++ dktX5_readLine_4
def dkwX5_readLine_2 : List UInt8 := [167, 0, 148, 42, 180, 0, 125, 5, 160, 0, 15, 42, 5, 5, 4, 16, 20, 182, 0, 177, 167, 0, 128, 42]
abbrev dktX5_readLine_2 : List UInt8 := dkwX5_readLine_2 ++ dktX5_readLine_3
def dkwX5_readLine_1 : List UInt8 := [182, 0, 193, 167, 0, 167, 42, 180, 0, 125, 4, 160, 0, 14, 42, 4, 4, 3, 8, 182, 0, 177]
abbrev dktX5_readLine_1 : List UInt8 := dkwX5_readLine_1 ++ dktX5_readLine_2
def dkwX5_readLine_0 : List UInt8 := [42, 180, 0, 115, 153, 0, 11, 42, 4, 182, 0, 155, 167, 0, 181, 42, 180, 0, 125, 154, 0, 10, 42]
abbrev dktX5_readLine_0 : List UInt8 := dkwX5_readLine_0 ++ dktX5_readLine_1
theorem dksX5_readLine_0 : cX5_readLine.data.toList.drop 0 = dktX5_readLine_0 := by decide +kernel
theorem dksX5_readLine_1 : cX5_readLine.data.toList.drop 23 = dktX5_readLine_1 := dk_seg dksX5_readLine_0 23 rfl rfl
theorem dksX5_readLine_2 : cX5_readLine.data.toList.drop 45 = dktX5_readLine_2 := dk_seg dksX5_readLine_1 22 rfl rfl
theorem dksX5_readLine_3 : cX5_readLine.data.toList.drop 69 = dktX5_readLine_3 := dk_seg dksX5_readLine_2 24 rfl rfl
theorem dksX5_readLine_4 : cX5_readLine.data.toList.drop 93 = dktX5_readLine_4 := dk_seg dksX5_readLine_3 24 rfl rfl
theorem dksX5_readLine_5 : cX5_readLine.data.toList.drop 115 = dktX5_readLine_5 := dk_seg dksX5_readLine_4 22 rfl rfl
theorem dksX5_readLine_6 : cX5_readLine.data.toList.drop 138 = dktX5_readLine_6 := dk_seg dksX5_readLine_5 23 rfl rfl
theorem dksX5_readLine_7 : cX5_readLine.data.toList.drop 160 = dktX5_readLine_7 := dk_seg dksX5_readLine_6 22 rfl rfl
theorem dksX5_readLine_8 : cX5_readLine.data.toList.drop 183 = dktX5_readLine_8 := dk_seg dksX5_readLine_7 23 rfl rfl
theorem dksX5_readLine_9 : cX5_readLine.data.toList.drop 205 = dktX5_readLine_9 := dk_seg dksX5_readLine_8 22 rfl rfl
theorem dX5_readLine_0 : decode cX5_readLine 0 = .ok (.aload_n 0, 1) := dk_42 (dk_at dksX5_readLine_0 0 rfl rfl)
theorem dX5_readLine_1 : decode cX5_readLine 1 = .ok (.getfield 115, 3) := dk_180 0 115 (dk_at dksX5_readLine_0 1 rfl rfl)
theorem dX5_readLine_4 : decode cX5_readLine 4 = .ok (.ifCond .eq 11, 3) := dk_153 0 11 (dk_at dksX5_readLine_0 4 rfl rfl)
theorem dX5_readLine_7 : decode cX5_readLine 7 = .ok (.aload_n 0, 1) := dk_42 (dk_at dksX5_readLine_0 7 rfl rfl)
theorem dX5_readLine_8 : decode cX5_readLine 8 = .ok (.iconst 1, 1) := dk_4 (dk_at dksX5_readLine_0 8 rfl rfl)
theorem dX5_readLine_9 : decode cX5_readLine 9 = .ok (.invokevirtual 155, 3) := dk_182 0 155 (dk_at dksX5_readLine_0 9 rfl rfl)
theorem dX5_readLine_12 : decode cX5_readLine 12 = .ok (.goto 181, 3) := dk_167 0 181 (dk_at dksX5_readLine_0 12 rfl rfl)
theorem dX5_readLine_15 : decode cX5_readLine 15 = .ok (.aload_n 0, 1) := dk_42 (dk_at dksX5_readLine_0 15 rfl rfl)
theorem dX5_readLine_16 : decode cX5_readLine 16 = .ok (.getfield 125, 3) := dk_180 0 125 (dk_at dksX5_readLine_0 16 rfl rfl)
theorem dX5_readLine_19 : decode cX5_readLine 19 = .ok (.ifCond .ne 10, 3) := dk_154 0 10 (dk_at dksX5_readLine_0 19 rfl rfl)
theorem dX5_readLine_22 : decode cX5_readLine 22 = .ok (.aload_n 0, 1) := dk_42 (dk_at dksX5_readLine_0 22 rfl rfl)
theorem dX5_readLine_23 : decode cX5_readLine 23 = .ok (.invokevirtual 193, 3) := dk_182 0 193 (dk_at dksX5_readLine_1 0 rfl rfl)
theorem dX5_readLine_26 : decode cX5_readLine 26 = .ok (.goto 167, 3) := dk_167 0 167 (dk_at dksX5_readLine_1 3 rfl rfl)
theorem dX5_readLine_29 : decode cX5_readLine 29 = .ok (.aload_n 0, 1) := dk_42 (dk_at dksX5_readLine_1 6 rfl rfl)
theorem dX5_readLine_30 : decode cX5_readLine 30 = .ok (.getfield 125, 3) := dk_180 0 125 (dk_at dksX5_readLine_1 7 rfl rfl)
theorem dX5_readLine_33 : decode cX5_readLine 33 = .ok (.iconst 1, 1) := dk_4 (dk_at dksX5_readLine_1 10 rfl rfl)
theorem dX5_readLine_34 : decode cX5_readLine 34 = .ok (.if_icmp .ne 14, 3) := dk_160 0 14 (dk_at dksX5_readLine_1 11 rfl rfl)
theorem dX5_readLine_37 : decode cX5_readLine 37 = .ok (.aload_n 0, 1) := dk_42 (dk_at dksX5_readLine_1 14 rfl rfl)
theorem dX5_readLine_38 : decode cX5_readLine 38 = .ok (.iconst 1, 1) := dk_4 (dk_at dksX5_readLine_1 15 rfl rfl)
theorem dX5_readLine_39 : decode cX5_readLine 39 = .ok (.iconst 1, 1) := dk_4 (dk_at dksX5_readLine_1 16 rfl rfl)
theorem dX5_readLine_40 : decode cX5_readLine 40 = .ok (.iconst 0, 1) := dk_3 (dk_at dksX5_readLine_1 17 rfl rfl)
theorem dX5_readLine_41 : decode cX5_readLine 41 = .ok (.iconst 5, 1) := dk_8 (dk_at dksX5_readLine_1 18 rfl rfl)
theorem dX5_readLine_42 : decode cX5_readLine 42 = .ok (.invokevirtual 177, 3) := dk_182 0 177 (dk_at dksX5_readLine_1 19 rfl rfl)
theorem dX5_readLine_45 : decode cX5_readLine 45 = .ok (.goto 148, 3) := dk_167 0 148 (dk_at dksX5_readLine_2 0 rfl rfl)
theorem dX5_readLine_48 : decode cX5_readLine 48 = .ok (.aload_n 0, 1) := dk_42 (dk_at dksX5_readLine_2 3 rfl rfl)
theorem dX5_readLine_49 : decode cX5_readLine 49 = .ok (.getfield 125, 3) := dk_180 0 125 (dk_at dksX5_readLine_2 4 rfl rfl)
theorem dX5_readLine_52 : decode cX5_readLine 52 = .ok (.iconst 2, 1) := dk_5 (dk_at dksX5_readLine_2 7 rfl rfl)
theorem dX5_readLine_53 : decode cX5_readLine 53 = .ok (.if_icmp .ne 15, 3) := dk_160 0 15 (dk_at dksX5_readLine_2 8 rfl rfl)
theorem dX5_readLine_56 : decode cX5_readLine 56 = .ok (.aload_n 0, 1) := dk_42 (dk_at dksX5_readLine_2 11 rfl rfl)
theorem dX5_readLine_57 : decode cX5_readLine 57 = .ok (.iconst 2, 1) := dk_5 (dk_at dksX5_readLine_2 12 rfl rfl)
theorem dX5_readLine_58 : decode cX5_readLine 58 = .ok (.iconst 2, 1) := dk_5 (dk_at dksX5_readLine_2 13 rfl rfl)
theorem dX5_readLine_59 : decode cX5_readLine 59 = .ok (.iconst 1, 1) := dk_4 (dk_at dksX5_readLine_2 14 rfl rfl)
theorem dX5_readLine_60 : decode cX5_readLine 60 = .ok (.bipush 20, 2) := dk_16 20 (dk_at dksX5_readLine_2 15 rfl rfl)
theorem dX5_readLine_62 : decode cX5_readLine 62 = .ok (.invokevirtual 177, 3) := dk_182 0 177 (dk_at dksX5_readLine_2 17 rfl rfl)
theorem dX5_readLine_65 : decode cX5_readLine 65 = .ok (.goto 128, 3) := dk_167 0 128 (dk_at dksX5_readLine_2 20 rfl rfl)
theorem dX5_readLine_68 : decode cX5_readLine 68 = .ok (.aload_n 0, 1) := dk_42 (dk_at dksX5_readLine_2 23 rfl rfl)
theorem dX5_readLine_69 : decode cX5_readLine 69 = .ok (.getfield 125, 3) := dk_180 0 125 (dk_at dksX5_readLine_3 0 rfl rfl)
theorem dX5_readLine_72 : decode cX5_readLine 72 = .ok (.iconst 3, 1) := dk_6 (dk_at dksX5_readLine_3 3 rfl rfl)
theorem dX5_readLine_73 : decode cX5_readLine 73 = .ok (.if_icmp .ne 15, 3) := dk_160 0 15 (dk_at dksX5_readLine_3 4 rfl rfl)
theorem dX5_readLine_76 : decode cX5_readLine 76 = .ok (.aload_n 0, 1) := dk_42 (dk_at dksX5_readLine_3 7 rfl rfl)
theorem dX5_readLine_77 : decode cX5_readLine 77 = .ok (.iconst 3, 1) := dk_6 (dk_at dksX5_readLine_3 8 rfl rfl)
theorem dX5_readLine_78 : decode cX5_readLine 78 = .ok (.iconst 3, 1) := dk_6 (dk_at dksX5_readLine_3 9 rfl rfl)
theorem dX5_readLine_79 : decode cX5_readLine 79 = .ok (.iconst 0, 1) := dk_3 (dk_at dksX5_readLine_3 10 rfl rfl)
theorem dX5_readLine_80 : decode cX5_readLine 80 = .ok (.bipush 7, 2) := dk_16 7 (dk_at dksX5_readLine_3 11 rfl rfl)
theorem dX5_readLine_82 : decode cX5_readLine 82 = .ok (.invokevirtual 177, 3) := dk_182 0 177 (dk_at dksX5_readLine_3 13 rfl rfl)
theorem dX5_readLine_85 : decode cX5_readLine 85 = .ok (.goto 108, 3) := dk_167 0 108 (dk_at dksX5_readLine_3 16 rfl rfl)
theorem dX5_readLine_88 : decode cX5_readLine 88 = .ok (.aload_n 0, 1) := dk_42 (dk_at dksX5_readLine_3 19 rfl rfl)
theorem dX5_readLine_89 : decode cX5_readLine 89 = .ok (.getfield 125, 3) := dk_180 0 125 (dk_at dksX5_readLine_3 20 rfl rfl)
theorem dX5_readLine_92 : decode cX5_readLine 92 = .ok (.iconst 4, 1) := dk_7 (dk_at dksX5_readLine_3 23 rfl rfl)
theorem dX5_readLine_93 : decode cX5_readLine 93 = .ok (.if_icmp .ne 10, 3) := dk_160 0 10 (dk_at dksX5_readLine_4 0 rfl rfl)
theorem dX5_readLine_96 : decode cX5_readLine 96 = .ok (.aload_n 0, 1) := dk_42 (dk_at dksX5_readLine_4 3 rfl rfl)
theorem dX5_readLine_97 : decode cX5_readLine 97 = .ok (.invokevirtual 196, 3) := dk_182 0 196 (dk_at dksX5_readLine_4 4 rfl rfl)
theorem dX5_readLine_100 : decode cX5_readLine 100 = .ok (.goto 93, 3) := dk_167 0 93 (dk_at dksX5_readLine_4 7 rfl rfl)
theorem dX5_readLine_103 : decode cX5_readLine 103 = .ok (.aload_n 0, 1) := dk_42 (dk_at dksX5_readLine_4 10 rfl rfl)
theorem dX5_readLine_104 : decode cX5_readLine 104 = .ok (.getfield 125, 3) := dk_180 0 125 (dk_at dksX5_readLine_4 11 rfl rfl)
theorem dX5_readLine_107 : decode cX5_readLine 107 = .ok (.iconst 5, 1) := dk_8 (dk_at dksX5_readLine_4 14 rfl rfl)
theorem dX5_readLine_108 : decode cX5_readLine 108 = .ok (.if_icmp .ne 10, 3) := dk_160 0 10 (dk_at dksX5_readLine_4 15 rfl rfl)
theorem dX5_readLine_111 : decode cX5_readLine 111 = .ok (.aload_n 0, 1) := dk_42 (dk_at dksX5_readLine_4 18 rfl rfl)
theorem dX5_readLine_112 : decode cX5_readLine 112 = .ok (.invokevirtual 199, 3) := dk_182 0 199 (dk_at dksX5_readLine_4 19 rfl rfl)
theorem dX5_readLine_115 : decode cX5_readLine 115 = .ok (.goto 78, 3) := dk_167 0 78 (dk_at dksX5_readLine_5 0 rfl rfl)
theorem dX5_readLine_118 : decode cX5_readLine 118 = .ok (.aload_n 0, 1) := dk_42 (dk_at dksX5_readLine_5 3 rfl rfl)
theorem dX5_readLine_119 : decode cX5_readLine 119 = .ok (.getfield 125, 3) := dk_180 0 125 (dk_at dksX5_readLine_5 4 rfl rfl)
theorem dX5_readLine_122 : decode cX5_readLine 122 = .ok (.bipush 6, 2) := dk_16 6 (dk_at dksX5_readLine_5 7 rfl rfl)
theorem dX5_readLine_124 : decode cX5_readLine 124 = .ok (.if_icmp .ne 10, 3) := dk_160 0 10 (dk_at dksX5_readLine_5 9 rfl rfl)
theorem dX5_readLine_127 : decode cX5_readLine 127 = .ok (.aload_n 0, 1) := dk_42 (dk_at dksX5_readLine_5 12 rfl rfl)
theorem dX5_readLine_128 : decode cX5_readLine 128 = .ok (.invokevirtual 202, 3) := dk_182 0 202 (dk_at dksX5_readLine_5 13 rfl rfl)
theorem dX5_readLine_131 : decode cX5_readLine 131 = .ok (.goto 62, 3) := dk_167 0 62 (dk_at dksX5_readLine_5 16 rfl rfl)
theorem dX5_readLine_134 : decode cX5_readLine 134 = .ok (.aload_n 0, 1) := dk_42 (dk_at dksX5_readLine_5 19 rfl rfl)
theorem dX5_readLine_135 : decode cX5_readLine 135 = .ok (.getfield 125, 3) := dk_180 0 125 (dk_at dksX5_readLine_5 20 rfl rfl)
theorem dX5_readLine_138 : decode cX5_readLine 138 = .ok (.bipush 7, 2) := dk_16 7 (dk_at dksX5_readLine_6 0 rfl rfl)
theorem dX5_readLine_140 : decode cX5_readLine 140 = .ok (.if_icmp .ne 10, 3) := dk_160 0 10 (dk_at dksX5_readLine_6 2 rfl rfl)
theorem dX5_readLine_143 : decode cX5_readLine 143 = .ok (.aload_n 0, 1) := dk_42 (dk_at dksX5_readLine_6 5 rfl rfl)
theorem dX5_readLine_144 : decode cX5_readLine 144 = .ok (.invokevirtual 205, 3) := dk_182 0 205 (dk_at dksX5_readLine_6 6 rfl rfl)
theorem dX5_readLine_147 : decode cX5_readLine 147 = .ok (.goto 46, 3) := dk_167 0 46 (dk_at dksX5_readLine_6 9 rfl rfl)
theorem dX5_readLine_150 : decode cX5_readLine 150 = .ok (.aload_n 0, 1) := dk_42 (dk_at dksX5_readLine_6 12 rfl rfl)
theorem dX5_readLine_151 : decode cX5_readLine 151 = .ok (.getfield 125, 3) := dk_180 0 125 (dk_at dksX5_readLine_6 13 rfl rfl)
theorem dX5_readLine_154 : decode cX5_readLine 154 = .ok (.bipush 8, 2) := dk_16 8 (dk_at dksX5_readLine_6 16 rfl rfl)
theorem dX5_readLine_156 : decode cX5_readLine 156 = .ok (.if_icmp .ne 10, 3) := dk_160 0 10 (dk_at dksX5_readLine_6 18 rfl rfl)
theorem dX5_readLine_159 : decode cX5_readLine 159 = .ok (.aload_n 0, 1) := dk_42 (dk_at dksX5_readLine_6 21 rfl rfl)
theorem dX5_readLine_160 : decode cX5_readLine 160 = .ok (.invokevirtual 208, 3) := dk_182 0 208 (dk_at dksX5_readLine_7 0 rfl rfl)
theorem dX5_readLine_163 : decode cX5_readLine 163 = .ok (.goto 30, 3) := dk_167 0 30 (dk_at dksX5_readLine_7 3 rfl rfl)
theorem dX5_readLine_166 : decode cX5_readLine 166 = .ok (.aload_n 0, 1) := dk_42 (dk_at dksX5_readLine_7 6 rfl rfl)
theorem dX5_readLine_167 : decode cX5_readLine 167 = .ok (.getfield 125, 3) := dk_180 0 125 (dk_at dksX5_readLine_7 7 rfl rfl)
theorem dX5_readLine_170 : decode cX5_readLine 170 = .ok (.bipush 9, 2) := dk_16 9 (dk_at dksX5_readLine_7 10 rfl rfl)
theorem dX5_readLine_172 : decode cX5_readLine 172 = .ok (.if_icmp .ne 10, 3) := dk_160 0 10 (dk_at dksX5_readLine_7 12 rfl rfl)
theorem dX5_readLine_175 : decode cX5_readLine 175 = .ok (.aload_n 0, 1) := dk_42 (dk_at dksX5_readLine_7 15 rfl rfl)
theorem dX5_readLine_176 : decode cX5_readLine 176 = .ok (.invokevirtual 211, 3) := dk_182 0 211 (dk_at dksX5_readLine_7 16 rfl rfl)
theorem dX5_readLine_179 : decode cX5_readLine 179 = .ok (.goto 14, 3) := dk_167 0 14 (dk_at dksX5_readLine_7 19 rfl rfl)
theorem dX5_readLine_182 : decode cX5_readLine 182 = .ok (.aload_n 0, 1) := dk_42 (dk_at dksX5_readLine_7 22 rfl rfl)
theorem dX5_readLine_183 : decode cX5_readLine 183 = .ok (.bipush 10, 2) := dk_16 10 (dk_at dksX5_readLine_8 0 rfl rfl)
theorem dX5_readLine_185 : decode cX5_readLine 185 = .ok (.bipush 9, 2) := dk_16 9 (dk_at dksX5_readLine_8 2 rfl rfl)
theorem dX5_readLine_187 : decode cX5_readLine 187 = .ok (.iconst 0, 1) := dk_3 (dk_at dksX5_readLine_8 4 rfl rfl)
theorem dX5_readLine_188 : decode cX5_readLine 188 = .ok (.ldc 134, 2) := dk_18 134 (dk_at dksX5_readLine_8 5 rfl rfl)
theorem dX5_readLine_190 : decode cX5_readLine 190 = .ok (.invokevirtual 177, 3) := dk_182 0 177 (dk_at dksX5_readLine_8 7 rfl rfl)
theorem dX5_readLine_193 : decode cX5_readLine 193 = .ok (.aload_n 0, 1) := dk_42 (dk_at dksX5_readLine_8 10 rfl rfl)
theorem dX5_readLine_194 : decode cX5_readLine 194 = .ok (.getfield 146, 3) := dk_180 0 146 (dk_at dksX5_readLine_8 11 rfl rfl)
theorem dX5_readLine_197 : decode cX5_readLine 197 = .ok (.ifCond .ne 16, 3) := dk_154 0 16 (dk_at dksX5_readLine_8 14 rfl rfl)
theorem dX5_readLine_200 : decode cX5_readLine 200 = .ok (.aload_n 0, 1) := dk_42 (dk_at dksX5_readLine_8 17 rfl rfl)
theorem dX5_readLine_201 : decode cX5_readLine 201 = .ok (.getfield 115, 3) := dk_180 0 115 (dk_at dksX5_readLine_8 18 rfl rfl)
theorem dX5_readLine_204 : decode cX5_readLine 204 = .ok (.iconst 3, 1) := dk_6 (dk_at dksX5_readLine_8 21 rfl rfl)
theorem dX5_readLine_205 : decode cX5_readLine 205 = .ok (.if_icmp .eq 8, 3) := dk_159 0 8 (dk_at dksX5_readLine_9 0 rfl rfl)
theorem dX5_readLine_208 : decode cX5_readLine 208 = .ok (.aload_n 0, 1) := dk_42 (dk_at dksX5_readLine_9 3 rfl rfl)
theorem dX5_readLine_209 : decode cX5_readLine 209 = .ok (.iconst 1, 1) := dk_4 (dk_at dksX5_readLine_9 4 rfl rfl)
theorem dX5_readLine_210 : decode cX5_readLine 210 = .ok (.invokevirtual 155, 3) := dk_182 0 155 (dk_at dksX5_readLine_9 5 rfl rfl)
theorem dX5_readLine_213 : decode cX5_readLine 213 = .ok (.aload_n 0, 1) := dk_42 (dk_at dksX5_readLine_9 8 rfl rfl)
theorem dX5_readLine_214 : decode cX5_readLine 214 = .ok (.invokevirtual 159, 3) := dk_182 0 159 (dk_at dksX5_readLine_9 9 rfl rfl)
theorem dX5_readLine_217 : decode cX5_readLine 217 = .ok (.aload_n 0, 1) := dk_42 (dk_at dksX5_readLine_9 12 rfl rfl)
theorem dX5_readLine_218 : decode cX5_readLine 218 = .ok (.dup, 1) := dk_89 (dk_at dksX5_readLine_9 13 rfl rfl)
theorem dX5_readLine_219 : decode cX5_readLine 219 = .ok (.getfield 214, 3) := dk_180 0 214 (dk_at dksX5_readLine_9 14 rfl rfl)
theorem dX5_readLine_222 : decode cX5_readLine 222 = .ok (.iconst 1, 1) := dk_4 (dk_at dksX5_readLine_9 17 rfl rfl)
theorem dX5_readLine_223 : decode cX5_readLine 223 = .ok (.iadd, 1) := dk_96 (dk_at dksX5_readLine_9 18 rfl rfl)
theorem dX5_readLine_224 : decode cX5_readLine 224 = .ok (.putfield 214, 3) := dk_181 0 214 (dk_at dksX5_readLine_9 19 rfl rfl)
theorem dX5_readLine_227 : decode cX5_readLine 227 = .ok (.return_, 1) := dk_177 (dk_at dksX5_readLine_9 22 rfl rfl)
abbrev cX5_wrong : ByteArray := prog_10_method_10_code
def yX5_wrong : MethodName := ⟨RX5, "wrong", "(I)V"⟩
def dkwX5_wrong_0 : List UInt8 := [42, 180, 0, 146, 153, 0, 4, 177, 42, 27, 181, 0, 146, 42, 42, 180, 0, 112, 181, 0, 149, 177]
abbrev dktX5_wrong_0 : List UInt8 := dkwX5_wrong_0 ++ []
theorem dksX5_wrong_0 : cX5_wrong.data.toList.drop 0 = dktX5_wrong_0 := by decide +kernel
theorem dX5_wrong_0 : decode cX5_wrong 0 = .ok (.aload_n 0, 1) := dk_42 (dk_at dksX5_wrong_0 0 rfl rfl)
theorem dX5_wrong_1 : decode cX5_wrong 1 = .ok (.getfield 146, 3) := dk_180 0 146 (dk_at dksX5_wrong_0 1 rfl rfl)
theorem dX5_wrong_4 : decode cX5_wrong 4 = .ok (.ifCond .eq 4, 3) := dk_153 0 4 (dk_at dksX5_wrong_0 4 rfl rfl)
theorem dX5_wrong_7 : decode cX5_wrong 7 = .ok (.return_, 1) := dk_177 (dk_at dksX5_wrong_0 7 rfl rfl)
theorem dX5_wrong_8 : decode cX5_wrong 8 = .ok (.aload_n 0, 1) := dk_42 (dk_at dksX5_wrong_0 8 rfl rfl)
theorem dX5_wrong_9 : decode cX5_wrong 9 = .ok (.iload_n 1, 1) := dk_27 (dk_at dksX5_wrong_0 9 rfl rfl)
theorem dX5_wrong_10 : decode cX5_wrong 10 = .ok (.putfield 146, 3) := dk_181 0 146 (dk_at dksX5_wrong_0 10 rfl rfl)
theorem dX5_wrong_13 : decode cX5_wrong 13 = .ok (.aload_n 0, 1) := dk_42 (dk_at dksX5_wrong_0 13 rfl rfl)
theorem dX5_wrong_14 : decode cX5_wrong 14 = .ok (.aload_n 0, 1) := dk_42 (dk_at dksX5_wrong_0 14 rfl rfl)
theorem dX5_wrong_15 : decode cX5_wrong 15 = .ok (.getfield 112, 3) := dk_180 0 112 (dk_at dksX5_wrong_0 15 rfl rfl)
theorem dX5_wrong_18 : decode cX5_wrong 18 = .ok (.putfield 149, 3) := dk_181 0 149 (dk_at dksX5_wrong_0 18 rfl rfl)
theorem dX5_wrong_21 : decode cX5_wrong 21 = .ok (.return_, 1) := dk_177 (dk_at dksX5_wrong_0 21 rfl rfl)
abbrev cX5_readBand : ByteArray := prog_10_method_18_code
def yX5_readBand : MethodName := ⟨RX5, "readBand", "()V"⟩
def dkwX5_readBand_0 : List UInt8 := [42, 180, 0, 173, 153, 0, 8, 42, 4, 182, 0, 155, 42, 3, 3, 7, 16, 60, 182, 0, 177, 177]
abbrev dktX5_readBand_0 : List UInt8 := dkwX5_readBand_0 ++ []
theorem dksX5_readBand_0 : cX5_readBand.data.toList.drop 0 = dktX5_readBand_0 := by decide +kernel
theorem dX5_readBand_0 : decode cX5_readBand 0 = .ok (.aload_n 0, 1) := dk_42 (dk_at dksX5_readBand_0 0 rfl rfl)
theorem dX5_readBand_1 : decode cX5_readBand 1 = .ok (.getfield 173, 3) := dk_180 0 173 (dk_at dksX5_readBand_0 1 rfl rfl)
theorem dX5_readBand_4 : decode cX5_readBand 4 = .ok (.ifCond .eq 8, 3) := dk_153 0 8 (dk_at dksX5_readBand_0 4 rfl rfl)
theorem dX5_readBand_7 : decode cX5_readBand 7 = .ok (.aload_n 0, 1) := dk_42 (dk_at dksX5_readBand_0 7 rfl rfl)
theorem dX5_readBand_8 : decode cX5_readBand 8 = .ok (.iconst 1, 1) := dk_4 (dk_at dksX5_readBand_0 8 rfl rfl)
theorem dX5_readBand_9 : decode cX5_readBand 9 = .ok (.invokevirtual 155, 3) := dk_182 0 155 (dk_at dksX5_readBand_0 9 rfl rfl)
theorem dX5_readBand_12 : decode cX5_readBand 12 = .ok (.aload_n 0, 1) := dk_42 (dk_at dksX5_readBand_0 12 rfl rfl)
theorem dX5_readBand_13 : decode cX5_readBand 13 = .ok (.iconst 0, 1) := dk_3 (dk_at dksX5_readBand_0 13 rfl rfl)
theorem dX5_readBand_14 : decode cX5_readBand 14 = .ok (.iconst 0, 1) := dk_3 (dk_at dksX5_readBand_0 14 rfl rfl)
theorem dX5_readBand_15 : decode cX5_readBand 15 = .ok (.iconst 4, 1) := dk_7 (dk_at dksX5_readBand_0 15 rfl rfl)
theorem dX5_readBand_16 : decode cX5_readBand 16 = .ok (.bipush 60, 2) := dk_16 60 (dk_at dksX5_readBand_0 16 rfl rfl)
theorem dX5_readBand_18 : decode cX5_readBand 18 = .ok (.invokevirtual 177, 3) := dk_182 0 177 (dk_at dksX5_readBand_0 18 rfl rfl)
theorem dX5_readBand_21 : decode cX5_readBand 21 = .ok (.return_, 1) := dk_177 (dk_at dksX5_readBand_0 21 rfl rfl)
abbrev cX5_readOnce : ByteArray := prog_10_method_16_code
def yX5_readOnce : MethodName := ⟨RX5, "readOnce", "(IIII)V"⟩
def dkwX5_readOnce_0 : List UInt8 := [42, 27, 182, 0, 162, 42, 28, 42, 29, 21, 4, 182, 0, 165, 182, 0, 169, 177]
abbrev dktX5_readOnce_0 : List UInt8 := dkwX5_readOnce_0 ++ []
theorem dksX5_readOnce_0 : cX5_readOnce.data.toList.drop 0 = dktX5_readOnce_0 := by decide +kernel
theorem dX5_readOnce_0 : decode cX5_readOnce 0 = .ok (.aload_n 0, 1) := dk_42 (dk_at dksX5_readOnce_0 0 rfl rfl)
theorem dX5_readOnce_1 : decode cX5_readOnce 1 = .ok (.iload_n 1, 1) := dk_27 (dk_at dksX5_readOnce_0 1 rfl rfl)
theorem dX5_readOnce_2 : decode cX5_readOnce 2 = .ok (.invokevirtual 162, 3) := dk_182 0 162 (dk_at dksX5_readOnce_0 2 rfl rfl)
theorem dX5_readOnce_5 : decode cX5_readOnce 5 = .ok (.aload_n 0, 1) := dk_42 (dk_at dksX5_readOnce_0 5 rfl rfl)
theorem dX5_readOnce_6 : decode cX5_readOnce 6 = .ok (.iload_n 2, 1) := dk_28 (dk_at dksX5_readOnce_0 6 rfl rfl)
theorem dX5_readOnce_7 : decode cX5_readOnce 7 = .ok (.aload_n 0, 1) := dk_42 (dk_at dksX5_readOnce_0 7 rfl rfl)
theorem dX5_readOnce_8 : decode cX5_readOnce 8 = .ok (.iload_n 3, 1) := dk_29 (dk_at dksX5_readOnce_0 8 rfl rfl)
theorem dX5_readOnce_9 : decode cX5_readOnce 9 = .ok (.iload 4, 2) := dk_21 4 (dk_at dksX5_readOnce_0 9 rfl rfl)
theorem dX5_readOnce_11 : decode cX5_readOnce 11 = .ok (.invokevirtual 165, 3) := dk_182 0 165 (dk_at dksX5_readOnce_0 11 rfl rfl)
theorem dX5_readOnce_14 : decode cX5_readOnce 14 = .ok (.invokevirtual 169, 3) := dk_182 0 169 (dk_at dksX5_readOnce_0 14 rfl rfl)
theorem dX5_readOnce_17 : decode cX5_readOnce 17 = .ok (.return_, 1) := dk_177 (dk_at dksX5_readOnce_0 17 rfl rfl)
abbrev cX5_once : ByteArray := prog_10_method_15_code
def yX5_once : MethodName := ⟨RX5, "once", "(I)V"⟩
def dkwX5_once_1 : List UInt8 := [182, 0, 159, 177]
abbrev dktX5_once_1 : List UInt8 := dkwX5_once_1 ++ []
def dkwX5_once_0 : List UInt8 := [42, 180, 0, 16, 27, 51, 153, 0, 8, 42, 6, 182, 0, 155, 42, 180, 0, 16, 27, 4, 84, 42]
abbrev dktX5_once_0 : List UInt8 := dkwX5_once_0 ++ dktX5_once_1
theorem dksX5_once_0 : cX5_once.data.toList.drop 0 = dktX5_once_0 := by decide +kernel
theorem dksX5_once_1 : cX5_once.data.toList.drop 22 = dktX5_once_1 := dk_seg dksX5_once_0 22 rfl rfl
theorem dX5_once_0 : decode cX5_once 0 = .ok (.aload_n 0, 1) := dk_42 (dk_at dksX5_once_0 0 rfl rfl)
theorem dX5_once_1 : decode cX5_once 1 = .ok (.getfield 16, 3) := dk_180 0 16 (dk_at dksX5_once_0 1 rfl rfl)
theorem dX5_once_4 : decode cX5_once 4 = .ok (.iload_n 1, 1) := dk_27 (dk_at dksX5_once_0 4 rfl rfl)
theorem dX5_once_5 : decode cX5_once 5 = .ok (.baload, 1) := dk_51 (dk_at dksX5_once_0 5 rfl rfl)
theorem dX5_once_6 : decode cX5_once 6 = .ok (.ifCond .eq 8, 3) := dk_153 0 8 (dk_at dksX5_once_0 6 rfl rfl)
theorem dX5_once_9 : decode cX5_once 9 = .ok (.aload_n 0, 1) := dk_42 (dk_at dksX5_once_0 9 rfl rfl)
theorem dX5_once_10 : decode cX5_once 10 = .ok (.iconst 3, 1) := dk_6 (dk_at dksX5_once_0 10 rfl rfl)
theorem dX5_once_11 : decode cX5_once 11 = .ok (.invokevirtual 155, 3) := dk_182 0 155 (dk_at dksX5_once_0 11 rfl rfl)
theorem dX5_once_14 : decode cX5_once 14 = .ok (.aload_n 0, 1) := dk_42 (dk_at dksX5_once_0 14 rfl rfl)
theorem dX5_once_15 : decode cX5_once 15 = .ok (.getfield 16, 3) := dk_180 0 16 (dk_at dksX5_once_0 15 rfl rfl)
theorem dX5_once_18 : decode cX5_once 18 = .ok (.iload_n 1, 1) := dk_27 (dk_at dksX5_once_0 18 rfl rfl)
theorem dX5_once_19 : decode cX5_once 19 = .ok (.iconst 1, 1) := dk_4 (dk_at dksX5_once_0 19 rfl rfl)
theorem dX5_once_20 : decode cX5_once 20 = .ok (.bastore, 1) := dk_84 (dk_at dksX5_once_0 20 rfl rfl)
theorem dX5_once_21 : decode cX5_once 21 = .ok (.aload_n 0, 1) := dk_42 (dk_at dksX5_once_0 21 rfl rfl)
theorem dX5_once_22 : decode cX5_once 22 = .ok (.invokevirtual 159, 3) := dk_182 0 159 (dk_at dksX5_once_1 0 rfl rfl)
theorem dX5_once_25 : decode cX5_once 25 = .ok (.return_, 1) := dk_177 (dk_at dksX5_once_1 3 rfl rfl)
abbrev cX5_goOn : ByteArray := prog_10_method_11_code
def yX5_goOn : MethodName := ⟨RX5, "goOn", "()V"⟩
def dkwX5_goOn_0 : List UInt8 := [42, 180, 0, 146, 154, 0, 7, 42, 182, 0, 152, 177]
abbrev dktX5_goOn_0 : List UInt8 := dkwX5_goOn_0 ++ []
theorem dksX5_goOn_0 : cX5_goOn.data.toList.drop 0 = dktX5_goOn_0 := by decide +kernel
theorem dX5_goOn_0 : decode cX5_goOn 0 = .ok (.aload_n 0, 1) := dk_42 (dk_at dksX5_goOn_0 0 rfl rfl)
theorem dX5_goOn_1 : decode cX5_goOn 1 = .ok (.getfield 146, 3) := dk_180 0 146 (dk_at dksX5_goOn_0 1 rfl rfl)
theorem dX5_goOn_4 : decode cX5_goOn 4 = .ok (.ifCond .ne 7, 3) := dk_154 0 7 (dk_at dksX5_goOn_0 4 rfl rfl)
theorem dX5_goOn_7 : decode cX5_goOn 7 = .ok (.aload_n 0, 1) := dk_42 (dk_at dksX5_goOn_0 7 rfl rfl)
theorem dX5_goOn_8 : decode cX5_goOn 8 = .ok (.invokevirtual 152, 3) := dk_182 0 152 (dk_at dksX5_goOn_0 8 rfl rfl)
theorem dX5_goOn_11 : decode cX5_goOn 11 = .ok (.return_, 1) := dk_177 (dk_at dksX5_goOn_0 11 rfl rfl)
abbrev cX5_numeral : ByteArray := prog_10_method_12_code
def yX5_numeral : MethodName := ⟨RX5, "numeral", "(II)I"⟩
def dkwX5_numeral_2 : List UInt8 := [42, 180, 0, 146, 154, 0, 10, 42, 180, 0, 125, 167, 0, 4, 27, 62, 42, 182, 0, 159, 29, 172]
abbrev dktX5_numeral_2 : List UInt8 := dkwX5_numeral_2 ++ []
def dkwX5_numeral_1 : List UInt8 := [167, 0, 24, 42, 180, 0, 125, 27, 161, 0, 11, 42, 180, 0, 125, 28, 164, 0, 8, 42, 5, 182, 0, 155]
abbrev dktX5_numeral_1 : List UInt8 := dkwX5_numeral_1 ++ dktX5_numeral_2
def dkwX5_numeral_0 : List UInt8 := [42, 180, 0, 146, 153, 0, 5, 27, 172, 42, 180, 0, 115, 5, 159, 0, 11, 42, 4, 182, 0, 155]
abbrev dktX5_numeral_0 : List UInt8 := dkwX5_numeral_0 ++ dktX5_numeral_1
theorem dksX5_numeral_0 : cX5_numeral.data.toList.drop 0 = dktX5_numeral_0 := by decide +kernel
theorem dksX5_numeral_1 : cX5_numeral.data.toList.drop 22 = dktX5_numeral_1 := dk_seg dksX5_numeral_0 22 rfl rfl
theorem dksX5_numeral_2 : cX5_numeral.data.toList.drop 46 = dktX5_numeral_2 := dk_seg dksX5_numeral_1 24 rfl rfl
theorem dX5_numeral_0 : decode cX5_numeral 0 = .ok (.aload_n 0, 1) := dk_42 (dk_at dksX5_numeral_0 0 rfl rfl)
theorem dX5_numeral_1 : decode cX5_numeral 1 = .ok (.getfield 146, 3) := dk_180 0 146 (dk_at dksX5_numeral_0 1 rfl rfl)
theorem dX5_numeral_4 : decode cX5_numeral 4 = .ok (.ifCond .eq 5, 3) := dk_153 0 5 (dk_at dksX5_numeral_0 4 rfl rfl)
theorem dX5_numeral_7 : decode cX5_numeral 7 = .ok (.iload_n 1, 1) := dk_27 (dk_at dksX5_numeral_0 7 rfl rfl)
theorem dX5_numeral_8 : decode cX5_numeral 8 = .ok (.ireturn, 1) := dk_172 (dk_at dksX5_numeral_0 8 rfl rfl)
theorem dX5_numeral_9 : decode cX5_numeral 9 = .ok (.aload_n 0, 1) := dk_42 (dk_at dksX5_numeral_0 9 rfl rfl)
theorem dX5_numeral_10 : decode cX5_numeral 10 = .ok (.getfield 115, 3) := dk_180 0 115 (dk_at dksX5_numeral_0 10 rfl rfl)
theorem dX5_numeral_13 : decode cX5_numeral 13 = .ok (.iconst 2, 1) := dk_5 (dk_at dksX5_numeral_0 13 rfl rfl)
theorem dX5_numeral_14 : decode cX5_numeral 14 = .ok (.if_icmp .eq 11, 3) := dk_159 0 11 (dk_at dksX5_numeral_0 14 rfl rfl)
theorem dX5_numeral_17 : decode cX5_numeral 17 = .ok (.aload_n 0, 1) := dk_42 (dk_at dksX5_numeral_0 17 rfl rfl)
theorem dX5_numeral_18 : decode cX5_numeral 18 = .ok (.iconst 1, 1) := dk_4 (dk_at dksX5_numeral_0 18 rfl rfl)
theorem dX5_numeral_19 : decode cX5_numeral 19 = .ok (.invokevirtual 155, 3) := dk_182 0 155 (dk_at dksX5_numeral_0 19 rfl rfl)
theorem dX5_numeral_22 : decode cX5_numeral 22 = .ok (.goto 24, 3) := dk_167 0 24 (dk_at dksX5_numeral_1 0 rfl rfl)
theorem dX5_numeral_25 : decode cX5_numeral 25 = .ok (.aload_n 0, 1) := dk_42 (dk_at dksX5_numeral_1 3 rfl rfl)
theorem dX5_numeral_26 : decode cX5_numeral 26 = .ok (.getfield 125, 3) := dk_180 0 125 (dk_at dksX5_numeral_1 4 rfl rfl)
theorem dX5_numeral_29 : decode cX5_numeral 29 = .ok (.iload_n 1, 1) := dk_27 (dk_at dksX5_numeral_1 7 rfl rfl)
theorem dX5_numeral_30 : decode cX5_numeral 30 = .ok (.if_icmp .lt 11, 3) := dk_161 0 11 (dk_at dksX5_numeral_1 8 rfl rfl)
theorem dX5_numeral_33 : decode cX5_numeral 33 = .ok (.aload_n 0, 1) := dk_42 (dk_at dksX5_numeral_1 11 rfl rfl)
theorem dX5_numeral_34 : decode cX5_numeral 34 = .ok (.getfield 125, 3) := dk_180 0 125 (dk_at dksX5_numeral_1 12 rfl rfl)
theorem dX5_numeral_37 : decode cX5_numeral 37 = .ok (.iload_n 2, 1) := dk_28 (dk_at dksX5_numeral_1 15 rfl rfl)
theorem dX5_numeral_38 : decode cX5_numeral 38 = .ok (.if_icmp .le 8, 3) := dk_164 0 8 (dk_at dksX5_numeral_1 16 rfl rfl)
theorem dX5_numeral_41 : decode cX5_numeral 41 = .ok (.aload_n 0, 1) := dk_42 (dk_at dksX5_numeral_1 19 rfl rfl)
theorem dX5_numeral_42 : decode cX5_numeral 42 = .ok (.iconst 2, 1) := dk_5 (dk_at dksX5_numeral_1 20 rfl rfl)
theorem dX5_numeral_43 : decode cX5_numeral 43 = .ok (.invokevirtual 155, 3) := dk_182 0 155 (dk_at dksX5_numeral_1 21 rfl rfl)
theorem dX5_numeral_46 : decode cX5_numeral 46 = .ok (.aload_n 0, 1) := dk_42 (dk_at dksX5_numeral_2 0 rfl rfl)
theorem dX5_numeral_47 : decode cX5_numeral 47 = .ok (.getfield 146, 3) := dk_180 0 146 (dk_at dksX5_numeral_2 1 rfl rfl)
theorem dX5_numeral_50 : decode cX5_numeral 50 = .ok (.ifCond .ne 10, 3) := dk_154 0 10 (dk_at dksX5_numeral_2 4 rfl rfl)
theorem dX5_numeral_53 : decode cX5_numeral 53 = .ok (.aload_n 0, 1) := dk_42 (dk_at dksX5_numeral_2 7 rfl rfl)
theorem dX5_numeral_54 : decode cX5_numeral 54 = .ok (.getfield 125, 3) := dk_180 0 125 (dk_at dksX5_numeral_2 8 rfl rfl)
theorem dX5_numeral_57 : decode cX5_numeral 57 = .ok (.goto 4, 3) := dk_167 0 4 (dk_at dksX5_numeral_2 11 rfl rfl)
theorem dX5_numeral_60 : decode cX5_numeral 60 = .ok (.iload_n 1, 1) := dk_27 (dk_at dksX5_numeral_2 14 rfl rfl)
theorem dX5_numeral_61 : decode cX5_numeral 61 = .ok (.istore_n 3, 1) := dk_62 (dk_at dksX5_numeral_2 15 rfl rfl)
theorem dX5_numeral_62 : decode cX5_numeral 62 = .ok (.aload_n 0, 1) := dk_42 (dk_at dksX5_numeral_2 16 rfl rfl)
theorem dX5_numeral_63 : decode cX5_numeral 63 = .ok (.invokevirtual 159, 3) := dk_182 0 159 (dk_at dksX5_numeral_2 17 rfl rfl)
theorem dX5_numeral_66 : decode cX5_numeral 66 = .ok (.iload_n 3, 1) := dk_29 (dk_at dksX5_numeral_2 20 rfl rfl)
theorem dX5_numeral_67 : decode cX5_numeral 67 = .ok (.ireturn, 1) := dk_172 (dk_at dksX5_numeral_2 21 rfl rfl)
abbrev cX5_readLoss : ByteArray := prog_10_method_19_code
def yX5_readLoss : MethodName := ⟨RX5, "readLoss", "()V"⟩
def dkwX5_readLoss_1 : List UInt8 := [182, 0, 169, 132, 1, 1, 167, 255, 234, 177]
abbrev dktX5_readLoss_1 : List UInt8 := dkwX5_readLoss_1 ++ []
def dkwX5_readLoss_0 : List UInt8 := [42, 7, 182, 0, 162, 3, 60, 27, 6, 162, 0, 23, 42, 7, 27, 96, 42, 3, 16, 99, 182, 0, 165]
abbrev dktX5_readLoss_0 : List UInt8 := dkwX5_readLoss_0 ++ dktX5_readLoss_1
theorem dksX5_readLoss_0 : cX5_readLoss.data.toList.drop 0 = dktX5_readLoss_0 := by decide +kernel
theorem dksX5_readLoss_1 : cX5_readLoss.data.toList.drop 23 = dktX5_readLoss_1 := dk_seg dksX5_readLoss_0 23 rfl rfl
theorem dX5_readLoss_0 : decode cX5_readLoss 0 = .ok (.aload_n 0, 1) := dk_42 (dk_at dksX5_readLoss_0 0 rfl rfl)
theorem dX5_readLoss_1 : decode cX5_readLoss 1 = .ok (.iconst 4, 1) := dk_7 (dk_at dksX5_readLoss_0 1 rfl rfl)
theorem dX5_readLoss_2 : decode cX5_readLoss 2 = .ok (.invokevirtual 162, 3) := dk_182 0 162 (dk_at dksX5_readLoss_0 2 rfl rfl)
theorem dX5_readLoss_5 : decode cX5_readLoss 5 = .ok (.iconst 0, 1) := dk_3 (dk_at dksX5_readLoss_0 5 rfl rfl)
theorem dX5_readLoss_6 : decode cX5_readLoss 6 = .ok (.istore_n 1, 1) := dk_60 (dk_at dksX5_readLoss_0 6 rfl rfl)
theorem dX5_readLoss_7 : decode cX5_readLoss 7 = .ok (.iload_n 1, 1) := dk_27 (dk_at dksX5_readLoss_0 7 rfl rfl)
theorem dX5_readLoss_8 : decode cX5_readLoss 8 = .ok (.iconst 3, 1) := dk_6 (dk_at dksX5_readLoss_0 8 rfl rfl)
theorem dX5_readLoss_9 : decode cX5_readLoss 9 = .ok (.if_icmp .ge 23, 3) := dk_162 0 23 (dk_at dksX5_readLoss_0 9 rfl rfl)
theorem dX5_readLoss_12 : decode cX5_readLoss 12 = .ok (.aload_n 0, 1) := dk_42 (dk_at dksX5_readLoss_0 12 rfl rfl)
theorem dX5_readLoss_13 : decode cX5_readLoss 13 = .ok (.iconst 4, 1) := dk_7 (dk_at dksX5_readLoss_0 13 rfl rfl)
theorem dX5_readLoss_14 : decode cX5_readLoss 14 = .ok (.iload_n 1, 1) := dk_27 (dk_at dksX5_readLoss_0 14 rfl rfl)
theorem dX5_readLoss_15 : decode cX5_readLoss 15 = .ok (.iadd, 1) := dk_96 (dk_at dksX5_readLoss_0 15 rfl rfl)
theorem dX5_readLoss_16 : decode cX5_readLoss 16 = .ok (.aload_n 0, 1) := dk_42 (dk_at dksX5_readLoss_0 16 rfl rfl)
theorem dX5_readLoss_17 : decode cX5_readLoss 17 = .ok (.iconst 0, 1) := dk_3 (dk_at dksX5_readLoss_0 17 rfl rfl)
theorem dX5_readLoss_18 : decode cX5_readLoss 18 = .ok (.bipush 99, 2) := dk_16 99 (dk_at dksX5_readLoss_0 18 rfl rfl)
theorem dX5_readLoss_20 : decode cX5_readLoss 20 = .ok (.invokevirtual 165, 3) := dk_182 0 165 (dk_at dksX5_readLoss_0 20 rfl rfl)
theorem dX5_readLoss_23 : decode cX5_readLoss 23 = .ok (.invokevirtual 169, 3) := dk_182 0 169 (dk_at dksX5_readLoss_1 0 rfl rfl)
theorem dX5_readLoss_26 : decode cX5_readLoss 26 = .ok (.iinc 1 1, 3) := dk_132 1 1 (dk_at dksX5_readLoss_1 3 rfl rfl)
theorem dX5_readLoss_29 : decode cX5_readLoss 29 = .ok (.goto (-22), 3) := dk_167 255 234 (dk_at dksX5_readLoss_1 6 rfl rfl)
theorem dX5_readLoss_32 : decode cX5_readLoss 32 = .ok (.return_, 1) := dk_177 (dk_at dksX5_readLoss_1 9 rfl rfl)
abbrev cX5_readUser : ByteArray := prog_10_method_20_code
def yX5_readUser : MethodName := ⟨RX5, "readUser", "()V"⟩
def dkwX5_readUser_8 : List UInt8 := [182, 0, 169, 177]
abbrev dktX5_readUser_8 : List UInt8 := dkwX5_readUser_8 ++ []
def dkwX5_readUser_7 : List UInt8 := [180, 0, 35, 27, 3, 79, 42, 180, 0, 38, 27, 3, 79, 42, 16, 7, 42, 16, 7, 182, 0, 181, 4, 96]
abbrev dktX5_readUser_7 : List UInt8 := dkwX5_readUser_7 ++ dktX5_readUser_8
def dkwX5_readUser_6 : List UInt8 := [79, 42, 180, 0, 32, 27, 42, 42, 180, 0, 29, 27, 46, 42, 3, 182, 0, 181, 182, 0, 165, 79, 42]
abbrev dktX5_readUser_6 : List UInt8 := dkwX5_readUser_6 ++ dktX5_readUser_7
def dkwX5_readUser_5 : List UInt8 := [27, 42, 3, 16, 30, 182, 0, 165, 79, 42, 180, 0, 29, 27, 42, 4, 42, 3, 182, 0, 181, 182, 0, 165]
abbrev dktX5_readUser_5 : List UInt8 := dkwX5_readUser_5 ++ dktX5_readUser_6
def dkwX5_readUser_4 : List UInt8 := [180, 0, 125, 79, 42, 182, 0, 152, 42, 180, 0, 23, 27, 42, 3, 5, 182, 0, 165, 79, 42, 180, 0, 26]
abbrev dktX5_readUser_4 : List UInt8 := dkwX5_readUser_4 ++ dktX5_readUser_5
def dkwX5_readUser_3 : List UInt8 := [159, 0, 8, 42, 6, 182, 0, 155, 42, 180, 0, 146, 153, 0, 4, 177, 42, 180, 0, 20, 27, 42]
abbrev dktX5_readUser_3 : List UInt8 := dkwX5_readUser_3 ++ dktX5_readUser_4
def dkwX5_readUser_2 : List UInt8 := [4, 182, 0, 155, 167, 0, 28, 42, 16, 6, 42, 16, 7, 182, 0, 181, 42, 180, 0, 125, 182, 0, 185, 2]
abbrev dktX5_readUser_2 : List UInt8 := dkwX5_readUser_2 ++ dktX5_readUser_3
def dkwX5_readUser_1 : List UInt8 := [182, 0, 155, 42, 182, 0, 159, 42, 180, 0, 146, 153, 0, 4, 177, 42, 180, 0, 115, 4, 159, 0, 11, 42]
abbrev dktX5_readUser_1 : List UInt8 := dkwX5_readUser_1 ++ dktX5_readUser_2
def dkwX5_readUser_0 : List UInt8 := [42, 4, 181, 0, 173, 16, 6, 42, 16, 7, 182, 0, 181, 96, 60, 27, 16, 12, 160, 0, 8, 42, 5]
abbrev dktX5_readUser_0 : List UInt8 := dkwX5_readUser_0 ++ dktX5_readUser_1
theorem dksX5_readUser_0 : cX5_readUser.data.toList.drop 0 = dktX5_readUser_0 := by decide +kernel
theorem dksX5_readUser_1 : cX5_readUser.data.toList.drop 23 = dktX5_readUser_1 := dk_seg dksX5_readUser_0 23 rfl rfl
theorem dksX5_readUser_2 : cX5_readUser.data.toList.drop 47 = dktX5_readUser_2 := dk_seg dksX5_readUser_1 24 rfl rfl
theorem dksX5_readUser_3 : cX5_readUser.data.toList.drop 71 = dktX5_readUser_3 := dk_seg dksX5_readUser_2 24 rfl rfl
theorem dksX5_readUser_4 : cX5_readUser.data.toList.drop 93 = dktX5_readUser_4 := dk_seg dksX5_readUser_3 22 rfl rfl
theorem dksX5_readUser_5 : cX5_readUser.data.toList.drop 117 = dktX5_readUser_5 := dk_seg dksX5_readUser_4 24 rfl rfl
theorem dksX5_readUser_6 : cX5_readUser.data.toList.drop 141 = dktX5_readUser_6 := dk_seg dksX5_readUser_5 24 rfl rfl
theorem dksX5_readUser_7 : cX5_readUser.data.toList.drop 164 = dktX5_readUser_7 := dk_seg dksX5_readUser_6 23 rfl rfl
theorem dksX5_readUser_8 : cX5_readUser.data.toList.drop 188 = dktX5_readUser_8 := dk_seg dksX5_readUser_7 24 rfl rfl
theorem dX5_readUser_0 : decode cX5_readUser 0 = .ok (.aload_n 0, 1) := dk_42 (dk_at dksX5_readUser_0 0 rfl rfl)
theorem dX5_readUser_1 : decode cX5_readUser 1 = .ok (.iconst 1, 1) := dk_4 (dk_at dksX5_readUser_0 1 rfl rfl)
theorem dX5_readUser_2 : decode cX5_readUser 2 = .ok (.putfield 173, 3) := dk_181 0 173 (dk_at dksX5_readUser_0 2 rfl rfl)
theorem dX5_readUser_5 : decode cX5_readUser 5 = .ok (.bipush 6, 2) := dk_16 6 (dk_at dksX5_readUser_0 5 rfl rfl)
theorem dX5_readUser_7 : decode cX5_readUser 7 = .ok (.aload_n 0, 1) := dk_42 (dk_at dksX5_readUser_0 7 rfl rfl)
theorem dX5_readUser_8 : decode cX5_readUser 8 = .ok (.bipush 7, 2) := dk_16 7 (dk_at dksX5_readUser_0 8 rfl rfl)
theorem dX5_readUser_10 : decode cX5_readUser 10 = .ok (.invokevirtual 181, 3) := dk_182 0 181 (dk_at dksX5_readUser_0 10 rfl rfl)
theorem dX5_readUser_13 : decode cX5_readUser 13 = .ok (.iadd, 1) := dk_96 (dk_at dksX5_readUser_0 13 rfl rfl)
theorem dX5_readUser_14 : decode cX5_readUser 14 = .ok (.istore_n 1, 1) := dk_60 (dk_at dksX5_readUser_0 14 rfl rfl)
theorem dX5_readUser_15 : decode cX5_readUser 15 = .ok (.iload_n 1, 1) := dk_27 (dk_at dksX5_readUser_0 15 rfl rfl)
theorem dX5_readUser_16 : decode cX5_readUser 16 = .ok (.bipush 12, 2) := dk_16 12 (dk_at dksX5_readUser_0 16 rfl rfl)
theorem dX5_readUser_18 : decode cX5_readUser 18 = .ok (.if_icmp .ne 8, 3) := dk_160 0 8 (dk_at dksX5_readUser_0 18 rfl rfl)
theorem dX5_readUser_21 : decode cX5_readUser 21 = .ok (.aload_n 0, 1) := dk_42 (dk_at dksX5_readUser_0 21 rfl rfl)
theorem dX5_readUser_22 : decode cX5_readUser 22 = .ok (.iconst 2, 1) := dk_5 (dk_at dksX5_readUser_0 22 rfl rfl)
theorem dX5_readUser_23 : decode cX5_readUser 23 = .ok (.invokevirtual 155, 3) := dk_182 0 155 (dk_at dksX5_readUser_1 0 rfl rfl)
theorem dX5_readUser_26 : decode cX5_readUser 26 = .ok (.aload_n 0, 1) := dk_42 (dk_at dksX5_readUser_1 3 rfl rfl)
theorem dX5_readUser_27 : decode cX5_readUser 27 = .ok (.invokevirtual 159, 3) := dk_182 0 159 (dk_at dksX5_readUser_1 4 rfl rfl)
theorem dX5_readUser_30 : decode cX5_readUser 30 = .ok (.aload_n 0, 1) := dk_42 (dk_at dksX5_readUser_1 7 rfl rfl)
theorem dX5_readUser_31 : decode cX5_readUser 31 = .ok (.getfield 146, 3) := dk_180 0 146 (dk_at dksX5_readUser_1 8 rfl rfl)
theorem dX5_readUser_34 : decode cX5_readUser 34 = .ok (.ifCond .eq 4, 3) := dk_153 0 4 (dk_at dksX5_readUser_1 11 rfl rfl)
theorem dX5_readUser_37 : decode cX5_readUser 37 = .ok (.return_, 1) := dk_177 (dk_at dksX5_readUser_1 14 rfl rfl)
theorem dX5_readUser_38 : decode cX5_readUser 38 = .ok (.aload_n 0, 1) := dk_42 (dk_at dksX5_readUser_1 15 rfl rfl)
theorem dX5_readUser_39 : decode cX5_readUser 39 = .ok (.getfield 115, 3) := dk_180 0 115 (dk_at dksX5_readUser_1 16 rfl rfl)
theorem dX5_readUser_42 : decode cX5_readUser 42 = .ok (.iconst 1, 1) := dk_4 (dk_at dksX5_readUser_1 19 rfl rfl)
theorem dX5_readUser_43 : decode cX5_readUser 43 = .ok (.if_icmp .eq 11, 3) := dk_159 0 11 (dk_at dksX5_readUser_1 20 rfl rfl)
theorem dX5_readUser_46 : decode cX5_readUser 46 = .ok (.aload_n 0, 1) := dk_42 (dk_at dksX5_readUser_1 23 rfl rfl)
theorem dX5_readUser_47 : decode cX5_readUser 47 = .ok (.iconst 1, 1) := dk_4 (dk_at dksX5_readUser_2 0 rfl rfl)
theorem dX5_readUser_48 : decode cX5_readUser 48 = .ok (.invokevirtual 155, 3) := dk_182 0 155 (dk_at dksX5_readUser_2 1 rfl rfl)
theorem dX5_readUser_51 : decode cX5_readUser 51 = .ok (.goto 28, 3) := dk_167 0 28 (dk_at dksX5_readUser_2 4 rfl rfl)
theorem dX5_readUser_54 : decode cX5_readUser 54 = .ok (.aload_n 0, 1) := dk_42 (dk_at dksX5_readUser_2 7 rfl rfl)
theorem dX5_readUser_55 : decode cX5_readUser 55 = .ok (.bipush 6, 2) := dk_16 6 (dk_at dksX5_readUser_2 8 rfl rfl)
theorem dX5_readUser_57 : decode cX5_readUser 57 = .ok (.aload_n 0, 1) := dk_42 (dk_at dksX5_readUser_2 10 rfl rfl)
theorem dX5_readUser_58 : decode cX5_readUser 58 = .ok (.bipush 7, 2) := dk_16 7 (dk_at dksX5_readUser_2 11 rfl rfl)
theorem dX5_readUser_60 : decode cX5_readUser 60 = .ok (.invokevirtual 181, 3) := dk_182 0 181 (dk_at dksX5_readUser_2 13 rfl rfl)
theorem dX5_readUser_63 : decode cX5_readUser 63 = .ok (.aload_n 0, 1) := dk_42 (dk_at dksX5_readUser_2 16 rfl rfl)
theorem dX5_readUser_64 : decode cX5_readUser 64 = .ok (.getfield 125, 3) := dk_180 0 125 (dk_at dksX5_readUser_2 17 rfl rfl)
theorem dX5_readUser_67 : decode cX5_readUser 67 = .ok (.invokevirtual 185, 3) := dk_182 0 185 (dk_at dksX5_readUser_2 20 rfl rfl)
theorem dX5_readUser_70 : decode cX5_readUser 70 = .ok (.iconst (-1), 1) := dk_2 (dk_at dksX5_readUser_2 23 rfl rfl)
theorem dX5_readUser_71 : decode cX5_readUser 71 = .ok (.if_icmp .eq 8, 3) := dk_159 0 8 (dk_at dksX5_readUser_3 0 rfl rfl)
theorem dX5_readUser_74 : decode cX5_readUser 74 = .ok (.aload_n 0, 1) := dk_42 (dk_at dksX5_readUser_3 3 rfl rfl)
theorem dX5_readUser_75 : decode cX5_readUser 75 = .ok (.iconst 3, 1) := dk_6 (dk_at dksX5_readUser_3 4 rfl rfl)
theorem dX5_readUser_76 : decode cX5_readUser 76 = .ok (.invokevirtual 155, 3) := dk_182 0 155 (dk_at dksX5_readUser_3 5 rfl rfl)
theorem dX5_readUser_79 : decode cX5_readUser 79 = .ok (.aload_n 0, 1) := dk_42 (dk_at dksX5_readUser_3 8 rfl rfl)
theorem dX5_readUser_80 : decode cX5_readUser 80 = .ok (.getfield 146, 3) := dk_180 0 146 (dk_at dksX5_readUser_3 9 rfl rfl)
theorem dX5_readUser_83 : decode cX5_readUser 83 = .ok (.ifCond .eq 4, 3) := dk_153 0 4 (dk_at dksX5_readUser_3 12 rfl rfl)
theorem dX5_readUser_86 : decode cX5_readUser 86 = .ok (.return_, 1) := dk_177 (dk_at dksX5_readUser_3 15 rfl rfl)
theorem dX5_readUser_87 : decode cX5_readUser 87 = .ok (.aload_n 0, 1) := dk_42 (dk_at dksX5_readUser_3 16 rfl rfl)
theorem dX5_readUser_88 : decode cX5_readUser 88 = .ok (.getfield 20, 3) := dk_180 0 20 (dk_at dksX5_readUser_3 17 rfl rfl)
theorem dX5_readUser_91 : decode cX5_readUser 91 = .ok (.iload_n 1, 1) := dk_27 (dk_at dksX5_readUser_3 20 rfl rfl)
theorem dX5_readUser_92 : decode cX5_readUser 92 = .ok (.aload_n 0, 1) := dk_42 (dk_at dksX5_readUser_3 21 rfl rfl)
theorem dX5_readUser_93 : decode cX5_readUser 93 = .ok (.getfield 125, 3) := dk_180 0 125 (dk_at dksX5_readUser_4 0 rfl rfl)
theorem dX5_readUser_96 : decode cX5_readUser 96 = .ok (.iastore, 1) := dk_79 (dk_at dksX5_readUser_4 3 rfl rfl)
theorem dX5_readUser_97 : decode cX5_readUser 97 = .ok (.aload_n 0, 1) := dk_42 (dk_at dksX5_readUser_4 4 rfl rfl)
theorem dX5_readUser_98 : decode cX5_readUser 98 = .ok (.invokevirtual 152, 3) := dk_182 0 152 (dk_at dksX5_readUser_4 5 rfl rfl)
theorem dX5_readUser_101 : decode cX5_readUser 101 = .ok (.aload_n 0, 1) := dk_42 (dk_at dksX5_readUser_4 8 rfl rfl)
theorem dX5_readUser_102 : decode cX5_readUser 102 = .ok (.getfield 23, 3) := dk_180 0 23 (dk_at dksX5_readUser_4 9 rfl rfl)
theorem dX5_readUser_105 : decode cX5_readUser 105 = .ok (.iload_n 1, 1) := dk_27 (dk_at dksX5_readUser_4 12 rfl rfl)
theorem dX5_readUser_106 : decode cX5_readUser 106 = .ok (.aload_n 0, 1) := dk_42 (dk_at dksX5_readUser_4 13 rfl rfl)
theorem dX5_readUser_107 : decode cX5_readUser 107 = .ok (.iconst 0, 1) := dk_3 (dk_at dksX5_readUser_4 14 rfl rfl)
theorem dX5_readUser_108 : decode cX5_readUser 108 = .ok (.iconst 2, 1) := dk_5 (dk_at dksX5_readUser_4 15 rfl rfl)
theorem dX5_readUser_109 : decode cX5_readUser 109 = .ok (.invokevirtual 165, 3) := dk_182 0 165 (dk_at dksX5_readUser_4 16 rfl rfl)
theorem dX5_readUser_112 : decode cX5_readUser 112 = .ok (.iastore, 1) := dk_79 (dk_at dksX5_readUser_4 19 rfl rfl)
theorem dX5_readUser_113 : decode cX5_readUser 113 = .ok (.aload_n 0, 1) := dk_42 (dk_at dksX5_readUser_4 20 rfl rfl)
theorem dX5_readUser_114 : decode cX5_readUser 114 = .ok (.getfield 26, 3) := dk_180 0 26 (dk_at dksX5_readUser_4 21 rfl rfl)
theorem dX5_readUser_117 : decode cX5_readUser 117 = .ok (.iload_n 1, 1) := dk_27 (dk_at dksX5_readUser_5 0 rfl rfl)
theorem dX5_readUser_118 : decode cX5_readUser 118 = .ok (.aload_n 0, 1) := dk_42 (dk_at dksX5_readUser_5 1 rfl rfl)
theorem dX5_readUser_119 : decode cX5_readUser 119 = .ok (.iconst 0, 1) := dk_3 (dk_at dksX5_readUser_5 2 rfl rfl)
theorem dX5_readUser_120 : decode cX5_readUser 120 = .ok (.bipush 30, 2) := dk_16 30 (dk_at dksX5_readUser_5 3 rfl rfl)
theorem dX5_readUser_122 : decode cX5_readUser 122 = .ok (.invokevirtual 165, 3) := dk_182 0 165 (dk_at dksX5_readUser_5 5 rfl rfl)
theorem dX5_readUser_125 : decode cX5_readUser 125 = .ok (.iastore, 1) := dk_79 (dk_at dksX5_readUser_5 8 rfl rfl)
theorem dX5_readUser_126 : decode cX5_readUser 126 = .ok (.aload_n 0, 1) := dk_42 (dk_at dksX5_readUser_5 9 rfl rfl)
theorem dX5_readUser_127 : decode cX5_readUser 127 = .ok (.getfield 29, 3) := dk_180 0 29 (dk_at dksX5_readUser_5 10 rfl rfl)
theorem dX5_readUser_130 : decode cX5_readUser 130 = .ok (.iload_n 1, 1) := dk_27 (dk_at dksX5_readUser_5 13 rfl rfl)
theorem dX5_readUser_131 : decode cX5_readUser 131 = .ok (.aload_n 0, 1) := dk_42 (dk_at dksX5_readUser_5 14 rfl rfl)
theorem dX5_readUser_132 : decode cX5_readUser 132 = .ok (.iconst 1, 1) := dk_4 (dk_at dksX5_readUser_5 15 rfl rfl)
theorem dX5_readUser_133 : decode cX5_readUser 133 = .ok (.aload_n 0, 1) := dk_42 (dk_at dksX5_readUser_5 16 rfl rfl)
theorem dX5_readUser_134 : decode cX5_readUser 134 = .ok (.iconst 0, 1) := dk_3 (dk_at dksX5_readUser_5 17 rfl rfl)
theorem dX5_readUser_135 : decode cX5_readUser 135 = .ok (.invokevirtual 181, 3) := dk_182 0 181 (dk_at dksX5_readUser_5 18 rfl rfl)
theorem dX5_readUser_138 : decode cX5_readUser 138 = .ok (.invokevirtual 165, 3) := dk_182 0 165 (dk_at dksX5_readUser_5 21 rfl rfl)
theorem dX5_readUser_141 : decode cX5_readUser 141 = .ok (.iastore, 1) := dk_79 (dk_at dksX5_readUser_6 0 rfl rfl)
theorem dX5_readUser_142 : decode cX5_readUser 142 = .ok (.aload_n 0, 1) := dk_42 (dk_at dksX5_readUser_6 1 rfl rfl)
theorem dX5_readUser_143 : decode cX5_readUser 143 = .ok (.getfield 32, 3) := dk_180 0 32 (dk_at dksX5_readUser_6 2 rfl rfl)
theorem dX5_readUser_146 : decode cX5_readUser 146 = .ok (.iload_n 1, 1) := dk_27 (dk_at dksX5_readUser_6 5 rfl rfl)
theorem dX5_readUser_147 : decode cX5_readUser 147 = .ok (.aload_n 0, 1) := dk_42 (dk_at dksX5_readUser_6 6 rfl rfl)
theorem dX5_readUser_148 : decode cX5_readUser 148 = .ok (.aload_n 0, 1) := dk_42 (dk_at dksX5_readUser_6 7 rfl rfl)
theorem dX5_readUser_149 : decode cX5_readUser 149 = .ok (.getfield 29, 3) := dk_180 0 29 (dk_at dksX5_readUser_6 8 rfl rfl)
theorem dX5_readUser_152 : decode cX5_readUser 152 = .ok (.iload_n 1, 1) := dk_27 (dk_at dksX5_readUser_6 11 rfl rfl)
theorem dX5_readUser_153 : decode cX5_readUser 153 = .ok (.iaload, 1) := dk_46 (dk_at dksX5_readUser_6 12 rfl rfl)
theorem dX5_readUser_154 : decode cX5_readUser 154 = .ok (.aload_n 0, 1) := dk_42 (dk_at dksX5_readUser_6 13 rfl rfl)
theorem dX5_readUser_155 : decode cX5_readUser 155 = .ok (.iconst 0, 1) := dk_3 (dk_at dksX5_readUser_6 14 rfl rfl)
theorem dX5_readUser_156 : decode cX5_readUser 156 = .ok (.invokevirtual 181, 3) := dk_182 0 181 (dk_at dksX5_readUser_6 15 rfl rfl)
theorem dX5_readUser_159 : decode cX5_readUser 159 = .ok (.invokevirtual 165, 3) := dk_182 0 165 (dk_at dksX5_readUser_6 18 rfl rfl)
theorem dX5_readUser_162 : decode cX5_readUser 162 = .ok (.iastore, 1) := dk_79 (dk_at dksX5_readUser_6 21 rfl rfl)
theorem dX5_readUser_163 : decode cX5_readUser 163 = .ok (.aload_n 0, 1) := dk_42 (dk_at dksX5_readUser_6 22 rfl rfl)
theorem dX5_readUser_164 : decode cX5_readUser 164 = .ok (.getfield 35, 3) := dk_180 0 35 (dk_at dksX5_readUser_7 0 rfl rfl)
theorem dX5_readUser_167 : decode cX5_readUser 167 = .ok (.iload_n 1, 1) := dk_27 (dk_at dksX5_readUser_7 3 rfl rfl)
theorem dX5_readUser_168 : decode cX5_readUser 168 = .ok (.iconst 0, 1) := dk_3 (dk_at dksX5_readUser_7 4 rfl rfl)
theorem dX5_readUser_169 : decode cX5_readUser 169 = .ok (.iastore, 1) := dk_79 (dk_at dksX5_readUser_7 5 rfl rfl)
theorem dX5_readUser_170 : decode cX5_readUser 170 = .ok (.aload_n 0, 1) := dk_42 (dk_at dksX5_readUser_7 6 rfl rfl)
theorem dX5_readUser_171 : decode cX5_readUser 171 = .ok (.getfield 38, 3) := dk_180 0 38 (dk_at dksX5_readUser_7 7 rfl rfl)
theorem dX5_readUser_174 : decode cX5_readUser 174 = .ok (.iload_n 1, 1) := dk_27 (dk_at dksX5_readUser_7 10 rfl rfl)
theorem dX5_readUser_175 : decode cX5_readUser 175 = .ok (.iconst 0, 1) := dk_3 (dk_at dksX5_readUser_7 11 rfl rfl)
theorem dX5_readUser_176 : decode cX5_readUser 176 = .ok (.iastore, 1) := dk_79 (dk_at dksX5_readUser_7 12 rfl rfl)
theorem dX5_readUser_177 : decode cX5_readUser 177 = .ok (.aload_n 0, 1) := dk_42 (dk_at dksX5_readUser_7 13 rfl rfl)
theorem dX5_readUser_178 : decode cX5_readUser 178 = .ok (.bipush 7, 2) := dk_16 7 (dk_at dksX5_readUser_7 14 rfl rfl)
theorem dX5_readUser_180 : decode cX5_readUser 180 = .ok (.aload_n 0, 1) := dk_42 (dk_at dksX5_readUser_7 16 rfl rfl)
theorem dX5_readUser_181 : decode cX5_readUser 181 = .ok (.bipush 7, 2) := dk_16 7 (dk_at dksX5_readUser_7 17 rfl rfl)
theorem dX5_readUser_183 : decode cX5_readUser 183 = .ok (.invokevirtual 181, 3) := dk_182 0 181 (dk_at dksX5_readUser_7 19 rfl rfl)
theorem dX5_readUser_186 : decode cX5_readUser 186 = .ok (.iconst 1, 1) := dk_4 (dk_at dksX5_readUser_7 22 rfl rfl)
theorem dX5_readUser_187 : decode cX5_readUser 187 = .ok (.iadd, 1) := dk_96 (dk_at dksX5_readUser_7 23 rfl rfl)
theorem dX5_readUser_188 : decode cX5_readUser 188 = .ok (.invokevirtual 169, 3) := dk_182 0 169 (dk_at dksX5_readUser_8 0 rfl rfl)
theorem dX5_readUser_191 : decode cX5_readUser 191 = .ok (.return_, 1) := dk_177 (dk_at dksX5_readUser_8 3 rfl rfl)
abbrev cX5_namedAt : ByteArray := prog_10_method_17_code
def yX5_namedAt : MethodName := ⟨RX5, "namedAt", "(III)I"⟩
def dkwX5_namedAt_1 : List UInt8 := [172, 132, 4, 1, 167, 255, 231, 2, 172]
abbrev dktX5_namedAt_1 : List UInt8 := dkwX5_namedAt_1 ++ []
def dkwX5_namedAt_0 : List UInt8 := [3, 54, 4, 21, 4, 28, 162, 0, 25, 42, 180, 0, 20, 27, 21, 4, 96, 46, 29, 160, 0, 6, 21, 4]
abbrev dktX5_namedAt_0 : List UInt8 := dkwX5_namedAt_0 ++ dktX5_namedAt_1
theorem dksX5_namedAt_0 : cX5_namedAt.data.toList.drop 0 = dktX5_namedAt_0 := by decide +kernel
theorem dksX5_namedAt_1 : cX5_namedAt.data.toList.drop 24 = dktX5_namedAt_1 := dk_seg dksX5_namedAt_0 24 rfl rfl
theorem dX5_namedAt_0 : decode cX5_namedAt 0 = .ok (.iconst 0, 1) := dk_3 (dk_at dksX5_namedAt_0 0 rfl rfl)
theorem dX5_namedAt_1 : decode cX5_namedAt 1 = .ok (.istore 4, 2) := dk_54 4 (dk_at dksX5_namedAt_0 1 rfl rfl)
theorem dX5_namedAt_3 : decode cX5_namedAt 3 = .ok (.iload 4, 2) := dk_21 4 (dk_at dksX5_namedAt_0 3 rfl rfl)
theorem dX5_namedAt_5 : decode cX5_namedAt 5 = .ok (.iload_n 2, 1) := dk_28 (dk_at dksX5_namedAt_0 5 rfl rfl)
theorem dX5_namedAt_6 : decode cX5_namedAt 6 = .ok (.if_icmp .ge 25, 3) := dk_162 0 25 (dk_at dksX5_namedAt_0 6 rfl rfl)
theorem dX5_namedAt_9 : decode cX5_namedAt 9 = .ok (.aload_n 0, 1) := dk_42 (dk_at dksX5_namedAt_0 9 rfl rfl)
theorem dX5_namedAt_10 : decode cX5_namedAt 10 = .ok (.getfield 20, 3) := dk_180 0 20 (dk_at dksX5_namedAt_0 10 rfl rfl)
theorem dX5_namedAt_13 : decode cX5_namedAt 13 = .ok (.iload_n 1, 1) := dk_27 (dk_at dksX5_namedAt_0 13 rfl rfl)
theorem dX5_namedAt_14 : decode cX5_namedAt 14 = .ok (.iload 4, 2) := dk_21 4 (dk_at dksX5_namedAt_0 14 rfl rfl)
theorem dX5_namedAt_16 : decode cX5_namedAt 16 = .ok (.iadd, 1) := dk_96 (dk_at dksX5_namedAt_0 16 rfl rfl)
theorem dX5_namedAt_17 : decode cX5_namedAt 17 = .ok (.iaload, 1) := dk_46 (dk_at dksX5_namedAt_0 17 rfl rfl)
theorem dX5_namedAt_18 : decode cX5_namedAt 18 = .ok (.iload_n 3, 1) := dk_29 (dk_at dksX5_namedAt_0 18 rfl rfl)
theorem dX5_namedAt_19 : decode cX5_namedAt 19 = .ok (.if_icmp .ne 6, 3) := dk_160 0 6 (dk_at dksX5_namedAt_0 19 rfl rfl)
theorem dX5_namedAt_22 : decode cX5_namedAt 22 = .ok (.iload 4, 2) := dk_21 4 (dk_at dksX5_namedAt_0 22 rfl rfl)
theorem dX5_namedAt_24 : decode cX5_namedAt 24 = .ok (.ireturn, 1) := dk_172 (dk_at dksX5_namedAt_1 0 rfl rfl)
theorem dX5_namedAt_25 : decode cX5_namedAt 25 = .ok (.iinc 4 1, 3) := dk_132 4 1 (dk_at dksX5_namedAt_1 1 rfl rfl)
theorem dX5_namedAt_28 : decode cX5_namedAt 28 = .ok (.goto (-25), 3) := dk_167 255 231 (dk_at dksX5_namedAt_1 4 rfl rfl)
theorem dX5_namedAt_31 : decode cX5_namedAt 31 = .ok (.iconst (-1), 1) := dk_2 (dk_at dksX5_namedAt_1 7 rfl rfl)
theorem dX5_namedAt_32 : decode cX5_namedAt 32 = .ok (.ireturn, 1) := dk_172 (dk_at dksX5_namedAt_1 8 rfl rfl)
abbrev cX5_readFixed : ByteArray := prog_10_method_22_code
def yX5_readFixed : MethodName := ⟨RX5, "readFixed", "()V"⟩
def dkwX5_readFixed_1 : List UInt8 := [61, 42, 180, 0, 146, 154, 0, 13, 42, 180, 0, 35, 16, 6, 27, 96, 28, 79, 177]
abbrev dktX5_readFixed_1 : List UInt8 := dkwX5_readFixed_1 ++ []
def dkwX5_readFixed_0 : List UInt8 := [42, 4, 181, 0, 173, 42, 42, 180, 0, 35, 182, 0, 189, 60, 42, 4, 42, 3, 182, 0, 181, 182, 0, 165]
abbrev dktX5_readFixed_0 : List UInt8 := dkwX5_readFixed_0 ++ dktX5_readFixed_1
theorem dksX5_readFixed_0 : cX5_readFixed.data.toList.drop 0 = dktX5_readFixed_0 := by decide +kernel
theorem dksX5_readFixed_1 : cX5_readFixed.data.toList.drop 24 = dktX5_readFixed_1 := dk_seg dksX5_readFixed_0 24 rfl rfl
theorem dX5_readFixed_0 : decode cX5_readFixed 0 = .ok (.aload_n 0, 1) := dk_42 (dk_at dksX5_readFixed_0 0 rfl rfl)
theorem dX5_readFixed_1 : decode cX5_readFixed 1 = .ok (.iconst 1, 1) := dk_4 (dk_at dksX5_readFixed_0 1 rfl rfl)
theorem dX5_readFixed_2 : decode cX5_readFixed 2 = .ok (.putfield 173, 3) := dk_181 0 173 (dk_at dksX5_readFixed_0 2 rfl rfl)
theorem dX5_readFixed_5 : decode cX5_readFixed 5 = .ok (.aload_n 0, 1) := dk_42 (dk_at dksX5_readFixed_0 5 rfl rfl)
theorem dX5_readFixed_6 : decode cX5_readFixed 6 = .ok (.aload_n 0, 1) := dk_42 (dk_at dksX5_readFixed_0 6 rfl rfl)
theorem dX5_readFixed_7 : decode cX5_readFixed 7 = .ok (.getfield 35, 3) := dk_180 0 35 (dk_at dksX5_readFixed_0 7 rfl rfl)
theorem dX5_readFixed_10 : decode cX5_readFixed 10 = .ok (.invokevirtual 189, 3) := dk_182 0 189 (dk_at dksX5_readFixed_0 10 rfl rfl)
theorem dX5_readFixed_13 : decode cX5_readFixed 13 = .ok (.istore_n 1, 1) := dk_60 (dk_at dksX5_readFixed_0 13 rfl rfl)
theorem dX5_readFixed_14 : decode cX5_readFixed 14 = .ok (.aload_n 0, 1) := dk_42 (dk_at dksX5_readFixed_0 14 rfl rfl)
theorem dX5_readFixed_15 : decode cX5_readFixed 15 = .ok (.iconst 1, 1) := dk_4 (dk_at dksX5_readFixed_0 15 rfl rfl)
theorem dX5_readFixed_16 : decode cX5_readFixed 16 = .ok (.aload_n 0, 1) := dk_42 (dk_at dksX5_readFixed_0 16 rfl rfl)
theorem dX5_readFixed_17 : decode cX5_readFixed 17 = .ok (.iconst 0, 1) := dk_3 (dk_at dksX5_readFixed_0 17 rfl rfl)
theorem dX5_readFixed_18 : decode cX5_readFixed 18 = .ok (.invokevirtual 181, 3) := dk_182 0 181 (dk_at dksX5_readFixed_0 18 rfl rfl)
theorem dX5_readFixed_21 : decode cX5_readFixed 21 = .ok (.invokevirtual 165, 3) := dk_182 0 165 (dk_at dksX5_readFixed_0 21 rfl rfl)
theorem dX5_readFixed_24 : decode cX5_readFixed 24 = .ok (.istore_n 2, 1) := dk_61 (dk_at dksX5_readFixed_1 0 rfl rfl)
theorem dX5_readFixed_25 : decode cX5_readFixed 25 = .ok (.aload_n 0, 1) := dk_42 (dk_at dksX5_readFixed_1 1 rfl rfl)
theorem dX5_readFixed_26 : decode cX5_readFixed 26 = .ok (.getfield 146, 3) := dk_180 0 146 (dk_at dksX5_readFixed_1 2 rfl rfl)
theorem dX5_readFixed_29 : decode cX5_readFixed 29 = .ok (.ifCond .ne 13, 3) := dk_154 0 13 (dk_at dksX5_readFixed_1 5 rfl rfl)
theorem dX5_readFixed_32 : decode cX5_readFixed 32 = .ok (.aload_n 0, 1) := dk_42 (dk_at dksX5_readFixed_1 8 rfl rfl)
theorem dX5_readFixed_33 : decode cX5_readFixed 33 = .ok (.getfield 35, 3) := dk_180 0 35 (dk_at dksX5_readFixed_1 9 rfl rfl)
theorem dX5_readFixed_36 : decode cX5_readFixed 36 = .ok (.bipush 6, 2) := dk_16 6 (dk_at dksX5_readFixed_1 12 rfl rfl)
theorem dX5_readFixed_38 : decode cX5_readFixed 38 = .ok (.iload_n 1, 1) := dk_27 (dk_at dksX5_readFixed_1 14 rfl rfl)
theorem dX5_readFixed_39 : decode cX5_readFixed 39 = .ok (.iadd, 1) := dk_96 (dk_at dksX5_readFixed_1 15 rfl rfl)
theorem dX5_readFixed_40 : decode cX5_readFixed 40 = .ok (.iload_n 2, 1) := dk_28 (dk_at dksX5_readFixed_1 16 rfl rfl)
theorem dX5_readFixed_41 : decode cX5_readFixed 41 = .ok (.iastore, 1) := dk_79 (dk_at dksX5_readFixed_1 17 rfl rfl)
theorem dX5_readFixed_42 : decode cX5_readFixed 42 = .ok (.return_, 1) := dk_177 (dk_at dksX5_readFixed_1 18 rfl rfl)
abbrev cX5_userOnce : ByteArray := prog_10_method_21_code
def yX5_userOnce : MethodName := ⟨RX5, "userOnce", "([I)I"⟩
def dkwX5_userOnce_4 : List UInt8 := [28, 2, 160, 0, 7, 3, 167, 0, 4, 28, 172]
abbrev dktX5_userOnce_4 : List UInt8 := dkwX5_userOnce_4 ++ []
def dkwX5_userOnce_3 : List UInt8 := [180, 0, 146, 154, 0, 17, 43, 16, 6, 28, 96, 46, 158, 0, 8, 42, 6, 182, 0, 155, 42, 182, 0, 159]
abbrev dktX5_userOnce_3 : List UInt8 := dkwX5_userOnce_3 ++ dktX5_userOnce_4
def dkwX5_userOnce_2 : List UInt8 := [182, 0, 185, 167, 0, 4, 3, 61, 28, 2, 160, 0, 11, 42, 7, 182, 0, 155, 167, 0, 24, 42]
abbrev dktX5_userOnce_2 : List UInt8 := dkwX5_userOnce_2 ++ dktX5_userOnce_3
def dkwX5_userOnce_1 : List UInt8 := [182, 0, 155, 42, 180, 0, 146, 154, 0, 22, 42, 16, 6, 42, 16, 7, 182, 0, 181, 42, 180, 0, 125]
abbrev dktX5_userOnce_1 : List UInt8 := dkwX5_userOnce_1 ++ dktX5_userOnce_2
def dkwX5_userOnce_0 : List UInt8 := [42, 182, 0, 159, 42, 180, 0, 146, 153, 0, 5, 3, 172, 42, 180, 0, 115, 4, 159, 0, 8, 42, 4]
abbrev dktX5_userOnce_0 : List UInt8 := dkwX5_userOnce_0 ++ dktX5_userOnce_1
theorem dksX5_userOnce_0 : cX5_userOnce.data.toList.drop 0 = dktX5_userOnce_0 := by decide +kernel
theorem dksX5_userOnce_1 : cX5_userOnce.data.toList.drop 23 = dktX5_userOnce_1 := dk_seg dksX5_userOnce_0 23 rfl rfl
theorem dksX5_userOnce_2 : cX5_userOnce.data.toList.drop 46 = dktX5_userOnce_2 := dk_seg dksX5_userOnce_1 23 rfl rfl
theorem dksX5_userOnce_3 : cX5_userOnce.data.toList.drop 68 = dktX5_userOnce_3 := dk_seg dksX5_userOnce_2 22 rfl rfl
theorem dksX5_userOnce_4 : cX5_userOnce.data.toList.drop 92 = dktX5_userOnce_4 := dk_seg dksX5_userOnce_3 24 rfl rfl
theorem dX5_userOnce_0 : decode cX5_userOnce 0 = .ok (.aload_n 0, 1) := dk_42 (dk_at dksX5_userOnce_0 0 rfl rfl)
theorem dX5_userOnce_1 : decode cX5_userOnce 1 = .ok (.invokevirtual 159, 3) := dk_182 0 159 (dk_at dksX5_userOnce_0 1 rfl rfl)
theorem dX5_userOnce_4 : decode cX5_userOnce 4 = .ok (.aload_n 0, 1) := dk_42 (dk_at dksX5_userOnce_0 4 rfl rfl)
theorem dX5_userOnce_5 : decode cX5_userOnce 5 = .ok (.getfield 146, 3) := dk_180 0 146 (dk_at dksX5_userOnce_0 5 rfl rfl)
theorem dX5_userOnce_8 : decode cX5_userOnce 8 = .ok (.ifCond .eq 5, 3) := dk_153 0 5 (dk_at dksX5_userOnce_0 8 rfl rfl)
theorem dX5_userOnce_11 : decode cX5_userOnce 11 = .ok (.iconst 0, 1) := dk_3 (dk_at dksX5_userOnce_0 11 rfl rfl)
theorem dX5_userOnce_12 : decode cX5_userOnce 12 = .ok (.ireturn, 1) := dk_172 (dk_at dksX5_userOnce_0 12 rfl rfl)
theorem dX5_userOnce_13 : decode cX5_userOnce 13 = .ok (.aload_n 0, 1) := dk_42 (dk_at dksX5_userOnce_0 13 rfl rfl)
theorem dX5_userOnce_14 : decode cX5_userOnce 14 = .ok (.getfield 115, 3) := dk_180 0 115 (dk_at dksX5_userOnce_0 14 rfl rfl)
theorem dX5_userOnce_17 : decode cX5_userOnce 17 = .ok (.iconst 1, 1) := dk_4 (dk_at dksX5_userOnce_0 17 rfl rfl)
theorem dX5_userOnce_18 : decode cX5_userOnce 18 = .ok (.if_icmp .eq 8, 3) := dk_159 0 8 (dk_at dksX5_userOnce_0 18 rfl rfl)
theorem dX5_userOnce_21 : decode cX5_userOnce 21 = .ok (.aload_n 0, 1) := dk_42 (dk_at dksX5_userOnce_0 21 rfl rfl)
theorem dX5_userOnce_22 : decode cX5_userOnce 22 = .ok (.iconst 1, 1) := dk_4 (dk_at dksX5_userOnce_0 22 rfl rfl)
theorem dX5_userOnce_23 : decode cX5_userOnce 23 = .ok (.invokevirtual 155, 3) := dk_182 0 155 (dk_at dksX5_userOnce_1 0 rfl rfl)
theorem dX5_userOnce_26 : decode cX5_userOnce 26 = .ok (.aload_n 0, 1) := dk_42 (dk_at dksX5_userOnce_1 3 rfl rfl)
theorem dX5_userOnce_27 : decode cX5_userOnce 27 = .ok (.getfield 146, 3) := dk_180 0 146 (dk_at dksX5_userOnce_1 4 rfl rfl)
theorem dX5_userOnce_30 : decode cX5_userOnce 30 = .ok (.ifCond .ne 22, 3) := dk_154 0 22 (dk_at dksX5_userOnce_1 7 rfl rfl)
theorem dX5_userOnce_33 : decode cX5_userOnce 33 = .ok (.aload_n 0, 1) := dk_42 (dk_at dksX5_userOnce_1 10 rfl rfl)
theorem dX5_userOnce_34 : decode cX5_userOnce 34 = .ok (.bipush 6, 2) := dk_16 6 (dk_at dksX5_userOnce_1 11 rfl rfl)
theorem dX5_userOnce_36 : decode cX5_userOnce 36 = .ok (.aload_n 0, 1) := dk_42 (dk_at dksX5_userOnce_1 13 rfl rfl)
theorem dX5_userOnce_37 : decode cX5_userOnce 37 = .ok (.bipush 7, 2) := dk_16 7 (dk_at dksX5_userOnce_1 14 rfl rfl)
theorem dX5_userOnce_39 : decode cX5_userOnce 39 = .ok (.invokevirtual 181, 3) := dk_182 0 181 (dk_at dksX5_userOnce_1 16 rfl rfl)
theorem dX5_userOnce_42 : decode cX5_userOnce 42 = .ok (.aload_n 0, 1) := dk_42 (dk_at dksX5_userOnce_1 19 rfl rfl)
theorem dX5_userOnce_43 : decode cX5_userOnce 43 = .ok (.getfield 125, 3) := dk_180 0 125 (dk_at dksX5_userOnce_1 20 rfl rfl)
theorem dX5_userOnce_46 : decode cX5_userOnce 46 = .ok (.invokevirtual 185, 3) := dk_182 0 185 (dk_at dksX5_userOnce_2 0 rfl rfl)
theorem dX5_userOnce_49 : decode cX5_userOnce 49 = .ok (.goto 4, 3) := dk_167 0 4 (dk_at dksX5_userOnce_2 3 rfl rfl)
theorem dX5_userOnce_52 : decode cX5_userOnce 52 = .ok (.iconst 0, 1) := dk_3 (dk_at dksX5_userOnce_2 6 rfl rfl)
theorem dX5_userOnce_53 : decode cX5_userOnce 53 = .ok (.istore_n 2, 1) := dk_61 (dk_at dksX5_userOnce_2 7 rfl rfl)
theorem dX5_userOnce_54 : decode cX5_userOnce 54 = .ok (.iload_n 2, 1) := dk_28 (dk_at dksX5_userOnce_2 8 rfl rfl)
theorem dX5_userOnce_55 : decode cX5_userOnce 55 = .ok (.iconst (-1), 1) := dk_2 (dk_at dksX5_userOnce_2 9 rfl rfl)
theorem dX5_userOnce_56 : decode cX5_userOnce 56 = .ok (.if_icmp .ne 11, 3) := dk_160 0 11 (dk_at dksX5_userOnce_2 10 rfl rfl)
theorem dX5_userOnce_59 : decode cX5_userOnce 59 = .ok (.aload_n 0, 1) := dk_42 (dk_at dksX5_userOnce_2 13 rfl rfl)
theorem dX5_userOnce_60 : decode cX5_userOnce 60 = .ok (.iconst 4, 1) := dk_7 (dk_at dksX5_userOnce_2 14 rfl rfl)
theorem dX5_userOnce_61 : decode cX5_userOnce 61 = .ok (.invokevirtual 155, 3) := dk_182 0 155 (dk_at dksX5_userOnce_2 15 rfl rfl)
theorem dX5_userOnce_64 : decode cX5_userOnce 64 = .ok (.goto 24, 3) := dk_167 0 24 (dk_at dksX5_userOnce_2 18 rfl rfl)
theorem dX5_userOnce_67 : decode cX5_userOnce 67 = .ok (.aload_n 0, 1) := dk_42 (dk_at dksX5_userOnce_2 21 rfl rfl)
theorem dX5_userOnce_68 : decode cX5_userOnce 68 = .ok (.getfield 146, 3) := dk_180 0 146 (dk_at dksX5_userOnce_3 0 rfl rfl)
theorem dX5_userOnce_71 : decode cX5_userOnce 71 = .ok (.ifCond .ne 17, 3) := dk_154 0 17 (dk_at dksX5_userOnce_3 3 rfl rfl)
theorem dX5_userOnce_74 : decode cX5_userOnce 74 = .ok (.aload_n 1, 1) := dk_43 (dk_at dksX5_userOnce_3 6 rfl rfl)
theorem dX5_userOnce_75 : decode cX5_userOnce 75 = .ok (.bipush 6, 2) := dk_16 6 (dk_at dksX5_userOnce_3 7 rfl rfl)
theorem dX5_userOnce_77 : decode cX5_userOnce 77 = .ok (.iload_n 2, 1) := dk_28 (dk_at dksX5_userOnce_3 9 rfl rfl)
theorem dX5_userOnce_78 : decode cX5_userOnce 78 = .ok (.iadd, 1) := dk_96 (dk_at dksX5_userOnce_3 10 rfl rfl)
theorem dX5_userOnce_79 : decode cX5_userOnce 79 = .ok (.iaload, 1) := dk_46 (dk_at dksX5_userOnce_3 11 rfl rfl)
theorem dX5_userOnce_80 : decode cX5_userOnce 80 = .ok (.ifCond .le 8, 3) := dk_158 0 8 (dk_at dksX5_userOnce_3 12 rfl rfl)
theorem dX5_userOnce_83 : decode cX5_userOnce 83 = .ok (.aload_n 0, 1) := dk_42 (dk_at dksX5_userOnce_3 15 rfl rfl)
theorem dX5_userOnce_84 : decode cX5_userOnce 84 = .ok (.iconst 3, 1) := dk_6 (dk_at dksX5_userOnce_3 16 rfl rfl)
theorem dX5_userOnce_85 : decode cX5_userOnce 85 = .ok (.invokevirtual 155, 3) := dk_182 0 155 (dk_at dksX5_userOnce_3 17 rfl rfl)
theorem dX5_userOnce_88 : decode cX5_userOnce 88 = .ok (.aload_n 0, 1) := dk_42 (dk_at dksX5_userOnce_3 20 rfl rfl)
theorem dX5_userOnce_89 : decode cX5_userOnce 89 = .ok (.invokevirtual 159, 3) := dk_182 0 159 (dk_at dksX5_userOnce_3 21 rfl rfl)
theorem dX5_userOnce_92 : decode cX5_userOnce 92 = .ok (.iload_n 2, 1) := dk_28 (dk_at dksX5_userOnce_4 0 rfl rfl)
theorem dX5_userOnce_93 : decode cX5_userOnce 93 = .ok (.iconst (-1), 1) := dk_2 (dk_at dksX5_userOnce_4 1 rfl rfl)
theorem dX5_userOnce_94 : decode cX5_userOnce 94 = .ok (.if_icmp .ne 7, 3) := dk_160 0 7 (dk_at dksX5_userOnce_4 2 rfl rfl)
theorem dX5_userOnce_97 : decode cX5_userOnce 97 = .ok (.iconst 0, 1) := dk_3 (dk_at dksX5_userOnce_4 5 rfl rfl)
theorem dX5_userOnce_98 : decode cX5_userOnce 98 = .ok (.goto 4, 3) := dk_167 0 4 (dk_at dksX5_userOnce_4 6 rfl rfl)
theorem dX5_userOnce_101 : decode cX5_userOnce 101 = .ok (.iload_n 2, 1) := dk_28 (dk_at dksX5_userOnce_4 9 rfl rfl)
theorem dX5_userOnce_102 : decode cX5_userOnce 102 = .ok (.ireturn, 1) := dk_172 (dk_at dksX5_userOnce_4 10 rfl rfl)
abbrev cX5_readBlock : ByteArray := prog_10_method_25_code
def yX5_readBlock : MethodName := ⟨RX5, "readBlock", "()V"⟩
def dkwX5_readBlock_3 : List UInt8 := [4, 84, 132, 3, 1, 167, 255, 238, 42, 16, 8, 42, 16, 8, 182, 0, 181, 4, 96, 182, 0, 169, 177]
abbrev dktX5_readBlock_3 : List UInt8 := dkwX5_readBlock_3 ++ []
def dkwX5_readBlock_2 : List UInt8 := [61, 42, 180, 0, 146, 153, 0, 4, 177, 27, 62, 29, 28, 163, 0, 19, 42, 180, 0, 44, 16, 61, 29, 96]
abbrev dktX5_readBlock_2 : List UInt8 := dkwX5_readBlock_2 ++ dktX5_readBlock_3
def dkwX5_readBlock_1 : List UInt8 := [182, 0, 159, 42, 4, 42, 3, 182, 0, 181, 182, 0, 165, 60, 42, 27, 42, 3, 182, 0, 181, 182, 0, 165]
abbrev dktX5_readBlock_1 : List UInt8 := dkwX5_readBlock_1 ++ dktX5_readBlock_2
def dkwX5_readBlock_0 : List UInt8 := [42, 4, 181, 0, 173, 42, 16, 8, 182, 0, 181, 16, 6, 160, 0, 8, 42, 5, 182, 0, 155, 42]
abbrev dktX5_readBlock_0 : List UInt8 := dkwX5_readBlock_0 ++ dktX5_readBlock_1
theorem dksX5_readBlock_0 : cX5_readBlock.data.toList.drop 0 = dktX5_readBlock_0 := by decide +kernel
theorem dksX5_readBlock_1 : cX5_readBlock.data.toList.drop 22 = dktX5_readBlock_1 := dk_seg dksX5_readBlock_0 22 rfl rfl
theorem dksX5_readBlock_2 : cX5_readBlock.data.toList.drop 46 = dktX5_readBlock_2 := dk_seg dksX5_readBlock_1 24 rfl rfl
theorem dksX5_readBlock_3 : cX5_readBlock.data.toList.drop 70 = dktX5_readBlock_3 := dk_seg dksX5_readBlock_2 24 rfl rfl
theorem dX5_readBlock_0 : decode cX5_readBlock 0 = .ok (.aload_n 0, 1) := dk_42 (dk_at dksX5_readBlock_0 0 rfl rfl)
theorem dX5_readBlock_1 : decode cX5_readBlock 1 = .ok (.iconst 1, 1) := dk_4 (dk_at dksX5_readBlock_0 1 rfl rfl)
theorem dX5_readBlock_2 : decode cX5_readBlock 2 = .ok (.putfield 173, 3) := dk_181 0 173 (dk_at dksX5_readBlock_0 2 rfl rfl)
theorem dX5_readBlock_5 : decode cX5_readBlock 5 = .ok (.aload_n 0, 1) := dk_42 (dk_at dksX5_readBlock_0 5 rfl rfl)
theorem dX5_readBlock_6 : decode cX5_readBlock 6 = .ok (.bipush 8, 2) := dk_16 8 (dk_at dksX5_readBlock_0 6 rfl rfl)
theorem dX5_readBlock_8 : decode cX5_readBlock 8 = .ok (.invokevirtual 181, 3) := dk_182 0 181 (dk_at dksX5_readBlock_0 8 rfl rfl)
theorem dX5_readBlock_11 : decode cX5_readBlock 11 = .ok (.bipush 6, 2) := dk_16 6 (dk_at dksX5_readBlock_0 11 rfl rfl)
theorem dX5_readBlock_13 : decode cX5_readBlock 13 = .ok (.if_icmp .ne 8, 3) := dk_160 0 8 (dk_at dksX5_readBlock_0 13 rfl rfl)
theorem dX5_readBlock_16 : decode cX5_readBlock 16 = .ok (.aload_n 0, 1) := dk_42 (dk_at dksX5_readBlock_0 16 rfl rfl)
theorem dX5_readBlock_17 : decode cX5_readBlock 17 = .ok (.iconst 2, 1) := dk_5 (dk_at dksX5_readBlock_0 17 rfl rfl)
theorem dX5_readBlock_18 : decode cX5_readBlock 18 = .ok (.invokevirtual 155, 3) := dk_182 0 155 (dk_at dksX5_readBlock_0 18 rfl rfl)
theorem dX5_readBlock_21 : decode cX5_readBlock 21 = .ok (.aload_n 0, 1) := dk_42 (dk_at dksX5_readBlock_0 21 rfl rfl)
theorem dX5_readBlock_22 : decode cX5_readBlock 22 = .ok (.invokevirtual 159, 3) := dk_182 0 159 (dk_at dksX5_readBlock_1 0 rfl rfl)
theorem dX5_readBlock_25 : decode cX5_readBlock 25 = .ok (.aload_n 0, 1) := dk_42 (dk_at dksX5_readBlock_1 3 rfl rfl)
theorem dX5_readBlock_26 : decode cX5_readBlock 26 = .ok (.iconst 1, 1) := dk_4 (dk_at dksX5_readBlock_1 4 rfl rfl)
theorem dX5_readBlock_27 : decode cX5_readBlock 27 = .ok (.aload_n 0, 1) := dk_42 (dk_at dksX5_readBlock_1 5 rfl rfl)
theorem dX5_readBlock_28 : decode cX5_readBlock 28 = .ok (.iconst 0, 1) := dk_3 (dk_at dksX5_readBlock_1 6 rfl rfl)
theorem dX5_readBlock_29 : decode cX5_readBlock 29 = .ok (.invokevirtual 181, 3) := dk_182 0 181 (dk_at dksX5_readBlock_1 7 rfl rfl)
theorem dX5_readBlock_32 : decode cX5_readBlock 32 = .ok (.invokevirtual 165, 3) := dk_182 0 165 (dk_at dksX5_readBlock_1 10 rfl rfl)
theorem dX5_readBlock_35 : decode cX5_readBlock 35 = .ok (.istore_n 1, 1) := dk_60 (dk_at dksX5_readBlock_1 13 rfl rfl)
theorem dX5_readBlock_36 : decode cX5_readBlock 36 = .ok (.aload_n 0, 1) := dk_42 (dk_at dksX5_readBlock_1 14 rfl rfl)
theorem dX5_readBlock_37 : decode cX5_readBlock 37 = .ok (.iload_n 1, 1) := dk_27 (dk_at dksX5_readBlock_1 15 rfl rfl)
theorem dX5_readBlock_38 : decode cX5_readBlock 38 = .ok (.aload_n 0, 1) := dk_42 (dk_at dksX5_readBlock_1 16 rfl rfl)
theorem dX5_readBlock_39 : decode cX5_readBlock 39 = .ok (.iconst 0, 1) := dk_3 (dk_at dksX5_readBlock_1 17 rfl rfl)
theorem dX5_readBlock_40 : decode cX5_readBlock 40 = .ok (.invokevirtual 181, 3) := dk_182 0 181 (dk_at dksX5_readBlock_1 18 rfl rfl)
theorem dX5_readBlock_43 : decode cX5_readBlock 43 = .ok (.invokevirtual 165, 3) := dk_182 0 165 (dk_at dksX5_readBlock_1 21 rfl rfl)
theorem dX5_readBlock_46 : decode cX5_readBlock 46 = .ok (.istore_n 2, 1) := dk_61 (dk_at dksX5_readBlock_2 0 rfl rfl)
theorem dX5_readBlock_47 : decode cX5_readBlock 47 = .ok (.aload_n 0, 1) := dk_42 (dk_at dksX5_readBlock_2 1 rfl rfl)
theorem dX5_readBlock_48 : decode cX5_readBlock 48 = .ok (.getfield 146, 3) := dk_180 0 146 (dk_at dksX5_readBlock_2 2 rfl rfl)
theorem dX5_readBlock_51 : decode cX5_readBlock 51 = .ok (.ifCond .eq 4, 3) := dk_153 0 4 (dk_at dksX5_readBlock_2 5 rfl rfl)
theorem dX5_readBlock_54 : decode cX5_readBlock 54 = .ok (.return_, 1) := dk_177 (dk_at dksX5_readBlock_2 8 rfl rfl)
theorem dX5_readBlock_55 : decode cX5_readBlock 55 = .ok (.iload_n 1, 1) := dk_27 (dk_at dksX5_readBlock_2 9 rfl rfl)
theorem dX5_readBlock_56 : decode cX5_readBlock 56 = .ok (.istore_n 3, 1) := dk_62 (dk_at dksX5_readBlock_2 10 rfl rfl)
theorem dX5_readBlock_57 : decode cX5_readBlock 57 = .ok (.iload_n 3, 1) := dk_29 (dk_at dksX5_readBlock_2 11 rfl rfl)
theorem dX5_readBlock_58 : decode cX5_readBlock 58 = .ok (.iload_n 2, 1) := dk_28 (dk_at dksX5_readBlock_2 12 rfl rfl)
theorem dX5_readBlock_59 : decode cX5_readBlock 59 = .ok (.if_icmp .gt 19, 3) := dk_163 0 19 (dk_at dksX5_readBlock_2 13 rfl rfl)
theorem dX5_readBlock_62 : decode cX5_readBlock 62 = .ok (.aload_n 0, 1) := dk_42 (dk_at dksX5_readBlock_2 16 rfl rfl)
theorem dX5_readBlock_63 : decode cX5_readBlock 63 = .ok (.getfield 44, 3) := dk_180 0 44 (dk_at dksX5_readBlock_2 17 rfl rfl)
theorem dX5_readBlock_66 : decode cX5_readBlock 66 = .ok (.bipush 61, 2) := dk_16 61 (dk_at dksX5_readBlock_2 20 rfl rfl)
theorem dX5_readBlock_68 : decode cX5_readBlock 68 = .ok (.iload_n 3, 1) := dk_29 (dk_at dksX5_readBlock_2 22 rfl rfl)
theorem dX5_readBlock_69 : decode cX5_readBlock 69 = .ok (.iadd, 1) := dk_96 (dk_at dksX5_readBlock_2 23 rfl rfl)
theorem dX5_readBlock_70 : decode cX5_readBlock 70 = .ok (.iconst 1, 1) := dk_4 (dk_at dksX5_readBlock_3 0 rfl rfl)
theorem dX5_readBlock_71 : decode cX5_readBlock 71 = .ok (.bastore, 1) := dk_84 (dk_at dksX5_readBlock_3 1 rfl rfl)
theorem dX5_readBlock_72 : decode cX5_readBlock 72 = .ok (.iinc 3 1, 3) := dk_132 3 1 (dk_at dksX5_readBlock_3 2 rfl rfl)
theorem dX5_readBlock_75 : decode cX5_readBlock 75 = .ok (.goto (-18), 3) := dk_167 255 238 (dk_at dksX5_readBlock_3 5 rfl rfl)
theorem dX5_readBlock_78 : decode cX5_readBlock 78 = .ok (.aload_n 0, 1) := dk_42 (dk_at dksX5_readBlock_3 8 rfl rfl)
theorem dX5_readBlock_79 : decode cX5_readBlock 79 = .ok (.bipush 8, 2) := dk_16 8 (dk_at dksX5_readBlock_3 9 rfl rfl)
theorem dX5_readBlock_81 : decode cX5_readBlock 81 = .ok (.aload_n 0, 1) := dk_42 (dk_at dksX5_readBlock_3 11 rfl rfl)
theorem dX5_readBlock_82 : decode cX5_readBlock 82 = .ok (.bipush 8, 2) := dk_16 8 (dk_at dksX5_readBlock_3 12 rfl rfl)
theorem dX5_readBlock_84 : decode cX5_readBlock 84 = .ok (.invokevirtual 181, 3) := dk_182 0 181 (dk_at dksX5_readBlock_3 14 rfl rfl)
theorem dX5_readBlock_87 : decode cX5_readBlock 87 = .ok (.iconst 1, 1) := dk_4 (dk_at dksX5_readBlock_3 17 rfl rfl)
theorem dX5_readBlock_88 : decode cX5_readBlock 88 = .ok (.iadd, 1) := dk_96 (dk_at dksX5_readBlock_3 18 rfl rfl)
theorem dX5_readBlock_89 : decode cX5_readBlock 89 = .ok (.invokevirtual 169, 3) := dk_182 0 169 (dk_at dksX5_readBlock_3 19 rfl rfl)
theorem dX5_readBlock_92 : decode cX5_readBlock 92 = .ok (.return_, 1) := dk_177 (dk_at dksX5_readBlock_3 22 rfl rfl)
abbrev cX5_readLink : ByteArray := prog_10_method_24_code
def yX5_readLink : MethodName := ⟨RX5, "readLink", "()V"⟩
def dkwX5_readLink_6 : List UInt8 := [180, 0, 41, 16, 9, 6, 28, 104, 96, 27, 96, 29, 79, 177]
abbrev dktX5_readLink_6 : List UInt8 := dkwX5_readLink_6 ++ []
def dkwX5_readLink_5 : List UInt8 := [180, 0, 146, 153, 0, 4, 177, 42, 180, 0, 41, 16, 9, 6, 27, 104, 96, 28, 96, 29, 79, 42]
abbrev dktX5_readLink_5 : List UInt8 := dkwX5_readLink_5 ++ dktX5_readLink_6
def dkwX5_readLink_4 : List UInt8 := [46, 16, 254, 159, 0, 8, 42, 6, 182, 0, 155, 42, 182, 0, 159, 42, 3, 16, 99, 182, 0, 165, 62, 42]
abbrev dktX5_readLink_4 : List UInt8 := dkwX5_readLink_4 ++ dktX5_readLink_5
def dkwX5_readLink_3 : List UInt8 := [167, 0, 4, 3, 61, 42, 180, 0, 146, 154, 0, 26, 42, 180, 0, 41, 16, 9, 6, 27, 104, 96, 28, 96]
abbrev dktX5_readLink_3 : List UInt8 := dkwX5_readLink_3 ++ dktX5_readLink_4
def dkwX5_readLink_2 : List UInt8 := [180, 0, 125, 27, 160, 0, 8, 42, 5, 182, 0, 155, 42, 180, 0, 146, 154, 0, 10, 42, 180, 0, 125]
abbrev dktX5_readLink_2 : List UInt8 := dkwX5_readLink_2 ++ dktX5_readLink_3
def dkwX5_readLink_1 : List UInt8 := [159, 0, 8, 42, 4, 182, 0, 155, 42, 180, 0, 146, 154, 0, 24, 42, 180, 0, 125, 5, 163, 0, 11, 42]
abbrev dktX5_readLink_1 : List UInt8 := dkwX5_readLink_1 ++ dktX5_readLink_2
def dkwX5_readLink_0 : List UInt8 := [42, 182, 0, 159, 42, 3, 5, 182, 0, 165, 60, 42, 180, 0, 146, 154, 0, 16, 42, 180, 0, 115, 5]
abbrev dktX5_readLink_0 : List UInt8 := dkwX5_readLink_0 ++ dktX5_readLink_1
theorem dksX5_readLink_0 : cX5_readLink.data.toList.drop 0 = dktX5_readLink_0 := by decide +kernel
theorem dksX5_readLink_1 : cX5_readLink.data.toList.drop 23 = dktX5_readLink_1 := dk_seg dksX5_readLink_0 23 rfl rfl
theorem dksX5_readLink_2 : cX5_readLink.data.toList.drop 47 = dktX5_readLink_2 := dk_seg dksX5_readLink_1 24 rfl rfl
theorem dksX5_readLink_3 : cX5_readLink.data.toList.drop 70 = dktX5_readLink_3 := dk_seg dksX5_readLink_2 23 rfl rfl
theorem dksX5_readLink_4 : cX5_readLink.data.toList.drop 94 = dktX5_readLink_4 := dk_seg dksX5_readLink_3 24 rfl rfl
theorem dksX5_readLink_5 : cX5_readLink.data.toList.drop 118 = dktX5_readLink_5 := dk_seg dksX5_readLink_4 24 rfl rfl
theorem dksX5_readLink_6 : cX5_readLink.data.toList.drop 140 = dktX5_readLink_6 := dk_seg dksX5_readLink_5 22 rfl rfl
theorem dX5_readLink_0 : decode cX5_readLink 0 = .ok (.aload_n 0, 1) := dk_42 (dk_at dksX5_readLink_0 0 rfl rfl)
theorem dX5_readLink_1 : decode cX5_readLink 1 = .ok (.invokevirtual 159, 3) := dk_182 0 159 (dk_at dksX5_readLink_0 1 rfl rfl)
theorem dX5_readLink_4 : decode cX5_readLink 4 = .ok (.aload_n 0, 1) := dk_42 (dk_at dksX5_readLink_0 4 rfl rfl)
theorem dX5_readLink_5 : decode cX5_readLink 5 = .ok (.iconst 0, 1) := dk_3 (dk_at dksX5_readLink_0 5 rfl rfl)
theorem dX5_readLink_6 : decode cX5_readLink 6 = .ok (.iconst 2, 1) := dk_5 (dk_at dksX5_readLink_0 6 rfl rfl)
theorem dX5_readLink_7 : decode cX5_readLink 7 = .ok (.invokevirtual 165, 3) := dk_182 0 165 (dk_at dksX5_readLink_0 7 rfl rfl)
theorem dX5_readLink_10 : decode cX5_readLink 10 = .ok (.istore_n 1, 1) := dk_60 (dk_at dksX5_readLink_0 10 rfl rfl)
theorem dX5_readLink_11 : decode cX5_readLink 11 = .ok (.aload_n 0, 1) := dk_42 (dk_at dksX5_readLink_0 11 rfl rfl)
theorem dX5_readLink_12 : decode cX5_readLink 12 = .ok (.getfield 146, 3) := dk_180 0 146 (dk_at dksX5_readLink_0 12 rfl rfl)
theorem dX5_readLink_15 : decode cX5_readLink 15 = .ok (.ifCond .ne 16, 3) := dk_154 0 16 (dk_at dksX5_readLink_0 15 rfl rfl)
theorem dX5_readLink_18 : decode cX5_readLink 18 = .ok (.aload_n 0, 1) := dk_42 (dk_at dksX5_readLink_0 18 rfl rfl)
theorem dX5_readLink_19 : decode cX5_readLink 19 = .ok (.getfield 115, 3) := dk_180 0 115 (dk_at dksX5_readLink_0 19 rfl rfl)
theorem dX5_readLink_22 : decode cX5_readLink 22 = .ok (.iconst 2, 1) := dk_5 (dk_at dksX5_readLink_0 22 rfl rfl)
theorem dX5_readLink_23 : decode cX5_readLink 23 = .ok (.if_icmp .eq 8, 3) := dk_159 0 8 (dk_at dksX5_readLink_1 0 rfl rfl)
theorem dX5_readLink_26 : decode cX5_readLink 26 = .ok (.aload_n 0, 1) := dk_42 (dk_at dksX5_readLink_1 3 rfl rfl)
theorem dX5_readLink_27 : decode cX5_readLink 27 = .ok (.iconst 1, 1) := dk_4 (dk_at dksX5_readLink_1 4 rfl rfl)
theorem dX5_readLink_28 : decode cX5_readLink 28 = .ok (.invokevirtual 155, 3) := dk_182 0 155 (dk_at dksX5_readLink_1 5 rfl rfl)
theorem dX5_readLink_31 : decode cX5_readLink 31 = .ok (.aload_n 0, 1) := dk_42 (dk_at dksX5_readLink_1 8 rfl rfl)
theorem dX5_readLink_32 : decode cX5_readLink 32 = .ok (.getfield 146, 3) := dk_180 0 146 (dk_at dksX5_readLink_1 9 rfl rfl)
theorem dX5_readLink_35 : decode cX5_readLink 35 = .ok (.ifCond .ne 24, 3) := dk_154 0 24 (dk_at dksX5_readLink_1 12 rfl rfl)
theorem dX5_readLink_38 : decode cX5_readLink 38 = .ok (.aload_n 0, 1) := dk_42 (dk_at dksX5_readLink_1 15 rfl rfl)
theorem dX5_readLink_39 : decode cX5_readLink 39 = .ok (.getfield 125, 3) := dk_180 0 125 (dk_at dksX5_readLink_1 16 rfl rfl)
theorem dX5_readLink_42 : decode cX5_readLink 42 = .ok (.iconst 2, 1) := dk_5 (dk_at dksX5_readLink_1 19 rfl rfl)
theorem dX5_readLink_43 : decode cX5_readLink 43 = .ok (.if_icmp .gt 11, 3) := dk_163 0 11 (dk_at dksX5_readLink_1 20 rfl rfl)
theorem dX5_readLink_46 : decode cX5_readLink 46 = .ok (.aload_n 0, 1) := dk_42 (dk_at dksX5_readLink_1 23 rfl rfl)
theorem dX5_readLink_47 : decode cX5_readLink 47 = .ok (.getfield 125, 3) := dk_180 0 125 (dk_at dksX5_readLink_2 0 rfl rfl)
theorem dX5_readLink_50 : decode cX5_readLink 50 = .ok (.iload_n 1, 1) := dk_27 (dk_at dksX5_readLink_2 3 rfl rfl)
theorem dX5_readLink_51 : decode cX5_readLink 51 = .ok (.if_icmp .ne 8, 3) := dk_160 0 8 (dk_at dksX5_readLink_2 4 rfl rfl)
theorem dX5_readLink_54 : decode cX5_readLink 54 = .ok (.aload_n 0, 1) := dk_42 (dk_at dksX5_readLink_2 7 rfl rfl)
theorem dX5_readLink_55 : decode cX5_readLink 55 = .ok (.iconst 2, 1) := dk_5 (dk_at dksX5_readLink_2 8 rfl rfl)
theorem dX5_readLink_56 : decode cX5_readLink 56 = .ok (.invokevirtual 155, 3) := dk_182 0 155 (dk_at dksX5_readLink_2 9 rfl rfl)
theorem dX5_readLink_59 : decode cX5_readLink 59 = .ok (.aload_n 0, 1) := dk_42 (dk_at dksX5_readLink_2 12 rfl rfl)
theorem dX5_readLink_60 : decode cX5_readLink 60 = .ok (.getfield 146, 3) := dk_180 0 146 (dk_at dksX5_readLink_2 13 rfl rfl)
theorem dX5_readLink_63 : decode cX5_readLink 63 = .ok (.ifCond .ne 10, 3) := dk_154 0 10 (dk_at dksX5_readLink_2 16 rfl rfl)
theorem dX5_readLink_66 : decode cX5_readLink 66 = .ok (.aload_n 0, 1) := dk_42 (dk_at dksX5_readLink_2 19 rfl rfl)
theorem dX5_readLink_67 : decode cX5_readLink 67 = .ok (.getfield 125, 3) := dk_180 0 125 (dk_at dksX5_readLink_2 20 rfl rfl)
theorem dX5_readLink_70 : decode cX5_readLink 70 = .ok (.goto 4, 3) := dk_167 0 4 (dk_at dksX5_readLink_3 0 rfl rfl)
theorem dX5_readLink_73 : decode cX5_readLink 73 = .ok (.iconst 0, 1) := dk_3 (dk_at dksX5_readLink_3 3 rfl rfl)
theorem dX5_readLink_74 : decode cX5_readLink 74 = .ok (.istore_n 2, 1) := dk_61 (dk_at dksX5_readLink_3 4 rfl rfl)
theorem dX5_readLink_75 : decode cX5_readLink 75 = .ok (.aload_n 0, 1) := dk_42 (dk_at dksX5_readLink_3 5 rfl rfl)
theorem dX5_readLink_76 : decode cX5_readLink 76 = .ok (.getfield 146, 3) := dk_180 0 146 (dk_at dksX5_readLink_3 6 rfl rfl)
theorem dX5_readLink_79 : decode cX5_readLink 79 = .ok (.ifCond .ne 26, 3) := dk_154 0 26 (dk_at dksX5_readLink_3 9 rfl rfl)
theorem dX5_readLink_82 : decode cX5_readLink 82 = .ok (.aload_n 0, 1) := dk_42 (dk_at dksX5_readLink_3 12 rfl rfl)
theorem dX5_readLink_83 : decode cX5_readLink 83 = .ok (.getfield 41, 3) := dk_180 0 41 (dk_at dksX5_readLink_3 13 rfl rfl)
theorem dX5_readLink_86 : decode cX5_readLink 86 = .ok (.bipush 9, 2) := dk_16 9 (dk_at dksX5_readLink_3 16 rfl rfl)
theorem dX5_readLink_88 : decode cX5_readLink 88 = .ok (.iconst 3, 1) := dk_6 (dk_at dksX5_readLink_3 18 rfl rfl)
theorem dX5_readLink_89 : decode cX5_readLink 89 = .ok (.iload_n 1, 1) := dk_27 (dk_at dksX5_readLink_3 19 rfl rfl)
theorem dX5_readLink_90 : decode cX5_readLink 90 = .ok (.imul, 1) := dk_104 (dk_at dksX5_readLink_3 20 rfl rfl)
theorem dX5_readLink_91 : decode cX5_readLink 91 = .ok (.iadd, 1) := dk_96 (dk_at dksX5_readLink_3 21 rfl rfl)
theorem dX5_readLink_92 : decode cX5_readLink 92 = .ok (.iload_n 2, 1) := dk_28 (dk_at dksX5_readLink_3 22 rfl rfl)
theorem dX5_readLink_93 : decode cX5_readLink 93 = .ok (.iadd, 1) := dk_96 (dk_at dksX5_readLink_3 23 rfl rfl)
theorem dX5_readLink_94 : decode cX5_readLink 94 = .ok (.iaload, 1) := dk_46 (dk_at dksX5_readLink_4 0 rfl rfl)
theorem dX5_readLink_95 : decode cX5_readLink 95 = .ok (.bipush (-2), 2) := dk_16 254 (dk_at dksX5_readLink_4 1 rfl rfl)
theorem dX5_readLink_97 : decode cX5_readLink 97 = .ok (.if_icmp .eq 8, 3) := dk_159 0 8 (dk_at dksX5_readLink_4 3 rfl rfl)
theorem dX5_readLink_100 : decode cX5_readLink 100 = .ok (.aload_n 0, 1) := dk_42 (dk_at dksX5_readLink_4 6 rfl rfl)
theorem dX5_readLink_101 : decode cX5_readLink 101 = .ok (.iconst 3, 1) := dk_6 (dk_at dksX5_readLink_4 7 rfl rfl)
theorem dX5_readLink_102 : decode cX5_readLink 102 = .ok (.invokevirtual 155, 3) := dk_182 0 155 (dk_at dksX5_readLink_4 8 rfl rfl)
theorem dX5_readLink_105 : decode cX5_readLink 105 = .ok (.aload_n 0, 1) := dk_42 (dk_at dksX5_readLink_4 11 rfl rfl)
theorem dX5_readLink_106 : decode cX5_readLink 106 = .ok (.invokevirtual 159, 3) := dk_182 0 159 (dk_at dksX5_readLink_4 12 rfl rfl)
theorem dX5_readLink_109 : decode cX5_readLink 109 = .ok (.aload_n 0, 1) := dk_42 (dk_at dksX5_readLink_4 15 rfl rfl)
theorem dX5_readLink_110 : decode cX5_readLink 110 = .ok (.iconst 0, 1) := dk_3 (dk_at dksX5_readLink_4 16 rfl rfl)
theorem dX5_readLink_111 : decode cX5_readLink 111 = .ok (.bipush 99, 2) := dk_16 99 (dk_at dksX5_readLink_4 17 rfl rfl)
theorem dX5_readLink_113 : decode cX5_readLink 113 = .ok (.invokevirtual 165, 3) := dk_182 0 165 (dk_at dksX5_readLink_4 19 rfl rfl)
theorem dX5_readLink_116 : decode cX5_readLink 116 = .ok (.istore_n 3, 1) := dk_62 (dk_at dksX5_readLink_4 22 rfl rfl)
theorem dX5_readLink_117 : decode cX5_readLink 117 = .ok (.aload_n 0, 1) := dk_42 (dk_at dksX5_readLink_4 23 rfl rfl)
theorem dX5_readLink_118 : decode cX5_readLink 118 = .ok (.getfield 146, 3) := dk_180 0 146 (dk_at dksX5_readLink_5 0 rfl rfl)
theorem dX5_readLink_121 : decode cX5_readLink 121 = .ok (.ifCond .eq 4, 3) := dk_153 0 4 (dk_at dksX5_readLink_5 3 rfl rfl)
theorem dX5_readLink_124 : decode cX5_readLink 124 = .ok (.return_, 1) := dk_177 (dk_at dksX5_readLink_5 6 rfl rfl)
theorem dX5_readLink_125 : decode cX5_readLink 125 = .ok (.aload_n 0, 1) := dk_42 (dk_at dksX5_readLink_5 7 rfl rfl)
theorem dX5_readLink_126 : decode cX5_readLink 126 = .ok (.getfield 41, 3) := dk_180 0 41 (dk_at dksX5_readLink_5 8 rfl rfl)
theorem dX5_readLink_129 : decode cX5_readLink 129 = .ok (.bipush 9, 2) := dk_16 9 (dk_at dksX5_readLink_5 11 rfl rfl)
theorem dX5_readLink_131 : decode cX5_readLink 131 = .ok (.iconst 3, 1) := dk_6 (dk_at dksX5_readLink_5 13 rfl rfl)
theorem dX5_readLink_132 : decode cX5_readLink 132 = .ok (.iload_n 1, 1) := dk_27 (dk_at dksX5_readLink_5 14 rfl rfl)
theorem dX5_readLink_133 : decode cX5_readLink 133 = .ok (.imul, 1) := dk_104 (dk_at dksX5_readLink_5 15 rfl rfl)
theorem dX5_readLink_134 : decode cX5_readLink 134 = .ok (.iadd, 1) := dk_96 (dk_at dksX5_readLink_5 16 rfl rfl)
theorem dX5_readLink_135 : decode cX5_readLink 135 = .ok (.iload_n 2, 1) := dk_28 (dk_at dksX5_readLink_5 17 rfl rfl)
theorem dX5_readLink_136 : decode cX5_readLink 136 = .ok (.iadd, 1) := dk_96 (dk_at dksX5_readLink_5 18 rfl rfl)
theorem dX5_readLink_137 : decode cX5_readLink 137 = .ok (.iload_n 3, 1) := dk_29 (dk_at dksX5_readLink_5 19 rfl rfl)
theorem dX5_readLink_138 : decode cX5_readLink 138 = .ok (.iastore, 1) := dk_79 (dk_at dksX5_readLink_5 20 rfl rfl)
theorem dX5_readLink_139 : decode cX5_readLink 139 = .ok (.aload_n 0, 1) := dk_42 (dk_at dksX5_readLink_5 21 rfl rfl)
theorem dX5_readLink_140 : decode cX5_readLink 140 = .ok (.getfield 41, 3) := dk_180 0 41 (dk_at dksX5_readLink_6 0 rfl rfl)
theorem dX5_readLink_143 : decode cX5_readLink 143 = .ok (.bipush 9, 2) := dk_16 9 (dk_at dksX5_readLink_6 3 rfl rfl)
theorem dX5_readLink_145 : decode cX5_readLink 145 = .ok (.iconst 3, 1) := dk_6 (dk_at dksX5_readLink_6 5 rfl rfl)
theorem dX5_readLink_146 : decode cX5_readLink 146 = .ok (.iload_n 2, 1) := dk_28 (dk_at dksX5_readLink_6 6 rfl rfl)
theorem dX5_readLink_147 : decode cX5_readLink 147 = .ok (.imul, 1) := dk_104 (dk_at dksX5_readLink_6 7 rfl rfl)
theorem dX5_readLink_148 : decode cX5_readLink 148 = .ok (.iadd, 1) := dk_96 (dk_at dksX5_readLink_6 8 rfl rfl)
theorem dX5_readLink_149 : decode cX5_readLink 149 = .ok (.iload_n 1, 1) := dk_27 (dk_at dksX5_readLink_6 9 rfl rfl)
theorem dX5_readLink_150 : decode cX5_readLink 150 = .ok (.iadd, 1) := dk_96 (dk_at dksX5_readLink_6 10 rfl rfl)
theorem dX5_readLink_151 : decode cX5_readLink 151 = .ok (.iload_n 3, 1) := dk_29 (dk_at dksX5_readLink_6 11 rfl rfl)
theorem dX5_readLink_152 : decode cX5_readLink 152 = .ok (.iastore, 1) := dk_79 (dk_at dksX5_readLink_6 12 rfl rfl)
theorem dX5_readLink_153 : decode cX5_readLink 153 = .ok (.return_, 1) := dk_177 (dk_at dksX5_readLink_6 13 rfl rfl)
abbrev cX5_readSlots : ByteArray := prog_10_method_23_code
def yX5_readSlots : MethodName := ⟨RX5, "readSlots", "()V"⟩
def dkwX5_readSlots_1 : List UInt8 := [154, 0, 13, 42, 180, 0, 38, 16, 6, 27, 96, 28, 79, 177]
abbrev dktX5_readSlots_1 : List UInt8 := dkwX5_readSlots_1 ++ []
def dkwX5_readSlots_0 : List UInt8 := [42, 42, 180, 0, 38, 182, 0, 189, 60, 42, 4, 17, 0, 255, 182, 0, 165, 61, 42, 180, 0, 146]
abbrev dktX5_readSlots_0 : List UInt8 := dkwX5_readSlots_0 ++ dktX5_readSlots_1
theorem dksX5_readSlots_0 : cX5_readSlots.data.toList.drop 0 = dktX5_readSlots_0 := by decide +kernel
theorem dksX5_readSlots_1 : cX5_readSlots.data.toList.drop 22 = dktX5_readSlots_1 := dk_seg dksX5_readSlots_0 22 rfl rfl
theorem dX5_readSlots_0 : decode cX5_readSlots 0 = .ok (.aload_n 0, 1) := dk_42 (dk_at dksX5_readSlots_0 0 rfl rfl)
theorem dX5_readSlots_1 : decode cX5_readSlots 1 = .ok (.aload_n 0, 1) := dk_42 (dk_at dksX5_readSlots_0 1 rfl rfl)
theorem dX5_readSlots_2 : decode cX5_readSlots 2 = .ok (.getfield 38, 3) := dk_180 0 38 (dk_at dksX5_readSlots_0 2 rfl rfl)
theorem dX5_readSlots_5 : decode cX5_readSlots 5 = .ok (.invokevirtual 189, 3) := dk_182 0 189 (dk_at dksX5_readSlots_0 5 rfl rfl)
theorem dX5_readSlots_8 : decode cX5_readSlots 8 = .ok (.istore_n 1, 1) := dk_60 (dk_at dksX5_readSlots_0 8 rfl rfl)
theorem dX5_readSlots_9 : decode cX5_readSlots 9 = .ok (.aload_n 0, 1) := dk_42 (dk_at dksX5_readSlots_0 9 rfl rfl)
theorem dX5_readSlots_10 : decode cX5_readSlots 10 = .ok (.iconst 1, 1) := dk_4 (dk_at dksX5_readSlots_0 10 rfl rfl)
theorem dX5_readSlots_11 : decode cX5_readSlots 11 = .ok (.sipush 255, 3) := dk_17 0 255 (dk_at dksX5_readSlots_0 11 rfl rfl)
theorem dX5_readSlots_14 : decode cX5_readSlots 14 = .ok (.invokevirtual 165, 3) := dk_182 0 165 (dk_at dksX5_readSlots_0 14 rfl rfl)
theorem dX5_readSlots_17 : decode cX5_readSlots 17 = .ok (.istore_n 2, 1) := dk_61 (dk_at dksX5_readSlots_0 17 rfl rfl)
theorem dX5_readSlots_18 : decode cX5_readSlots 18 = .ok (.aload_n 0, 1) := dk_42 (dk_at dksX5_readSlots_0 18 rfl rfl)
theorem dX5_readSlots_19 : decode cX5_readSlots 19 = .ok (.getfield 146, 3) := dk_180 0 146 (dk_at dksX5_readSlots_0 19 rfl rfl)
theorem dX5_readSlots_22 : decode cX5_readSlots 22 = .ok (.ifCond .ne 13, 3) := dk_154 0 13 (dk_at dksX5_readSlots_1 0 rfl rfl)
theorem dX5_readSlots_25 : decode cX5_readSlots 25 = .ok (.aload_n 0, 1) := dk_42 (dk_at dksX5_readSlots_1 3 rfl rfl)
theorem dX5_readSlots_26 : decode cX5_readSlots 26 = .ok (.getfield 38, 3) := dk_180 0 38 (dk_at dksX5_readSlots_1 4 rfl rfl)
theorem dX5_readSlots_29 : decode cX5_readSlots 29 = .ok (.bipush 6, 2) := dk_16 6 (dk_at dksX5_readSlots_1 7 rfl rfl)
theorem dX5_readSlots_31 : decode cX5_readSlots 31 = .ok (.iload_n 1, 1) := dk_27 (dk_at dksX5_readSlots_1 9 rfl rfl)
theorem dX5_readSlots_32 : decode cX5_readSlots 32 = .ok (.iadd, 1) := dk_96 (dk_at dksX5_readSlots_1 10 rfl rfl)
theorem dX5_readSlots_33 : decode cX5_readSlots 33 = .ok (.iload_n 2, 1) := dk_28 (dk_at dksX5_readSlots_1 11 rfl rfl)
theorem dX5_readSlots_34 : decode cX5_readSlots 34 = .ok (.iastore, 1) := dk_79 (dk_at dksX5_readSlots_1 12 rfl rfl)
theorem dX5_readSlots_35 : decode cX5_readSlots 35 = .ok (.return_, 1) := dk_177 (dk_at dksX5_readSlots_1 13 rfl rfl)
abbrev cX5_fault : ByteArray := prog_10_method_31_code
def yX5_fault : MethodName := ⟨RX5, "fault", "(I)I"⟩
def dkwX5_fault_1 : List UInt8 := [180, 0, 47, 167, 0, 4, 2, 172]
abbrev dktX5_fault_1 : List UInt8 := dkwX5_fault_1 ++ []
def dkwX5_fault_0 : List UInt8 := [42, 3, 181, 0, 96, 27, 154, 0, 10, 42, 180, 0, 223, 167, 0, 16, 27, 4, 160, 0, 10, 42]
abbrev dktX5_fault_0 : List UInt8 := dkwX5_fault_0 ++ dktX5_fault_1
theorem dksX5_fault_0 : cX5_fault.data.toList.drop 0 = dktX5_fault_0 := by decide +kernel
theorem dksX5_fault_1 : cX5_fault.data.toList.drop 22 = dktX5_fault_1 := dk_seg dksX5_fault_0 22 rfl rfl
theorem dX5_fault_0 : decode cX5_fault 0 = .ok (.aload_n 0, 1) := dk_42 (dk_at dksX5_fault_0 0 rfl rfl)
theorem dX5_fault_1 : decode cX5_fault 1 = .ok (.iconst 0, 1) := dk_3 (dk_at dksX5_fault_0 1 rfl rfl)
theorem dX5_fault_2 : decode cX5_fault 2 = .ok (.putfield 96, 3) := dk_181 0 96 (dk_at dksX5_fault_0 2 rfl rfl)
theorem dX5_fault_5 : decode cX5_fault 5 = .ok (.iload_n 1, 1) := dk_27 (dk_at dksX5_fault_0 5 rfl rfl)
theorem dX5_fault_6 : decode cX5_fault 6 = .ok (.ifCond .ne 10, 3) := dk_154 0 10 (dk_at dksX5_fault_0 6 rfl rfl)
theorem dX5_fault_9 : decode cX5_fault 9 = .ok (.aload_n 0, 1) := dk_42 (dk_at dksX5_fault_0 9 rfl rfl)
theorem dX5_fault_10 : decode cX5_fault 10 = .ok (.getfield 223, 3) := dk_180 0 223 (dk_at dksX5_fault_0 10 rfl rfl)
theorem dX5_fault_13 : decode cX5_fault 13 = .ok (.goto 16, 3) := dk_167 0 16 (dk_at dksX5_fault_0 13 rfl rfl)
theorem dX5_fault_16 : decode cX5_fault 16 = .ok (.iload_n 1, 1) := dk_27 (dk_at dksX5_fault_0 16 rfl rfl)
theorem dX5_fault_17 : decode cX5_fault 17 = .ok (.iconst 1, 1) := dk_4 (dk_at dksX5_fault_0 17 rfl rfl)
theorem dX5_fault_18 : decode cX5_fault 18 = .ok (.if_icmp .ne 10, 3) := dk_160 0 10 (dk_at dksX5_fault_0 18 rfl rfl)
theorem dX5_fault_21 : decode cX5_fault 21 = .ok (.aload_n 0, 1) := dk_42 (dk_at dksX5_fault_0 21 rfl rfl)
theorem dX5_fault_22 : decode cX5_fault 22 = .ok (.getfield 47, 3) := dk_180 0 47 (dk_at dksX5_fault_1 0 rfl rfl)
theorem dX5_fault_25 : decode cX5_fault 25 = .ok (.goto 4, 3) := dk_167 0 4 (dk_at dksX5_fault_1 3 rfl rfl)
theorem dX5_fault_28 : decode cX5_fault 28 = .ok (.iconst (-1), 1) := dk_2 (dk_at dksX5_fault_1 6 rfl rfl)
theorem dX5_fault_29 : decode cX5_fault 29 = .ok (.ireturn, 1) := dk_172 (dk_at dksX5_fault_1 7 rfl rfl)
abbrev cX5_named : ByteArray := prog_10_method_33_code
def yX5_named : MethodName := ⟨RX5, "named", "(I)I"⟩
def dkwX5_named_0 : List UInt8 := [42, 3, 181, 0, 96, 42, 3, 42, 182, 0, 232, 27, 182, 0, 185, 172]
abbrev dktX5_named_0 : List UInt8 := dkwX5_named_0 ++ []
theorem dksX5_named_0 : cX5_named.data.toList.drop 0 = dktX5_named_0 := by decide +kernel
theorem dX5_named_0 : decode cX5_named 0 = .ok (.aload_n 0, 1) := dk_42 (dk_at dksX5_named_0 0 rfl rfl)
theorem dX5_named_1 : decode cX5_named 1 = .ok (.iconst 0, 1) := dk_3 (dk_at dksX5_named_0 1 rfl rfl)
theorem dX5_named_2 : decode cX5_named 2 = .ok (.putfield 96, 3) := dk_181 0 96 (dk_at dksX5_named_0 2 rfl rfl)
theorem dX5_named_5 : decode cX5_named 5 = .ok (.aload_n 0, 1) := dk_42 (dk_at dksX5_named_0 5 rfl rfl)
theorem dX5_named_6 : decode cX5_named 6 = .ok (.iconst 0, 1) := dk_3 (dk_at dksX5_named_0 6 rfl rfl)
theorem dX5_named_7 : decode cX5_named 7 = .ok (.aload_n 0, 1) := dk_42 (dk_at dksX5_named_0 7 rfl rfl)
theorem dX5_named_8 : decode cX5_named 8 = .ok (.invokevirtual 232, 3) := dk_182 0 232 (dk_at dksX5_named_0 8 rfl rfl)
theorem dX5_named_11 : decode cX5_named 11 = .ok (.iload_n 1, 1) := dk_27 (dk_at dksX5_named_0 11 rfl rfl)
theorem dX5_named_12 : decode cX5_named 12 = .ok (.invokevirtual 185, 3) := dk_182 0 185 (dk_at dksX5_named_0 12 rfl rfl)
theorem dX5_named_15 : decode cX5_named 15 = .ok (.ireturn, 1) := dk_172 (dk_at dksX5_named_0 15 rfl rfl)
abbrev cX5_undo : ByteArray := prog_10_method_41_code
def yX5_undo : MethodName := ⟨RX5, "undo", "()I"⟩
def dkwX5_undo_1 : List UInt8 := [42, 42, 180, 0, 226, 182, 0, 253, 42, 180, 0, 226, 172]
abbrev dktX5_undo_1 : List UInt8 := dkwX5_undo_1 ++ []
def dkwX5_undo_0 : List UInt8 := [42, 3, 181, 0, 96, 42, 180, 0, 226, 154, 0, 5, 2, 172, 42, 89, 180, 0, 226, 4, 100, 181, 0, 226]
abbrev dktX5_undo_0 : List UInt8 := dkwX5_undo_0 ++ dktX5_undo_1
theorem dksX5_undo_0 : cX5_undo.data.toList.drop 0 = dktX5_undo_0 := by decide +kernel
theorem dksX5_undo_1 : cX5_undo.data.toList.drop 24 = dktX5_undo_1 := dk_seg dksX5_undo_0 24 rfl rfl
theorem dX5_undo_0 : decode cX5_undo 0 = .ok (.aload_n 0, 1) := dk_42 (dk_at dksX5_undo_0 0 rfl rfl)
theorem dX5_undo_1 : decode cX5_undo 1 = .ok (.iconst 0, 1) := dk_3 (dk_at dksX5_undo_0 1 rfl rfl)
theorem dX5_undo_2 : decode cX5_undo 2 = .ok (.putfield 96, 3) := dk_181 0 96 (dk_at dksX5_undo_0 2 rfl rfl)
theorem dX5_undo_5 : decode cX5_undo 5 = .ok (.aload_n 0, 1) := dk_42 (dk_at dksX5_undo_0 5 rfl rfl)
theorem dX5_undo_6 : decode cX5_undo 6 = .ok (.getfield 226, 3) := dk_180 0 226 (dk_at dksX5_undo_0 6 rfl rfl)
theorem dX5_undo_9 : decode cX5_undo 9 = .ok (.ifCond .ne 5, 3) := dk_154 0 5 (dk_at dksX5_undo_0 9 rfl rfl)
theorem dX5_undo_12 : decode cX5_undo 12 = .ok (.iconst (-1), 1) := dk_2 (dk_at dksX5_undo_0 12 rfl rfl)
theorem dX5_undo_13 : decode cX5_undo 13 = .ok (.ireturn, 1) := dk_172 (dk_at dksX5_undo_0 13 rfl rfl)
theorem dX5_undo_14 : decode cX5_undo 14 = .ok (.aload_n 0, 1) := dk_42 (dk_at dksX5_undo_0 14 rfl rfl)
theorem dX5_undo_15 : decode cX5_undo 15 = .ok (.dup, 1) := dk_89 (dk_at dksX5_undo_0 15 rfl rfl)
theorem dX5_undo_16 : decode cX5_undo 16 = .ok (.getfield 226, 3) := dk_180 0 226 (dk_at dksX5_undo_0 16 rfl rfl)
theorem dX5_undo_19 : decode cX5_undo 19 = .ok (.iconst 1, 1) := dk_4 (dk_at dksX5_undo_0 19 rfl rfl)
theorem dX5_undo_20 : decode cX5_undo 20 = .ok (.isub, 1) := dk_100 (dk_at dksX5_undo_0 20 rfl rfl)
theorem dX5_undo_21 : decode cX5_undo 21 = .ok (.putfield 226, 3) := dk_181 0 226 (dk_at dksX5_undo_0 21 rfl rfl)
theorem dX5_undo_24 : decode cX5_undo 24 = .ok (.aload_n 0, 1) := dk_42 (dk_at dksX5_undo_1 0 rfl rfl)
theorem dX5_undo_25 : decode cX5_undo 25 = .ok (.aload_n 0, 1) := dk_42 (dk_at dksX5_undo_1 1 rfl rfl)
theorem dX5_undo_26 : decode cX5_undo 26 = .ok (.getfield 226, 3) := dk_180 0 226 (dk_at dksX5_undo_1 2 rfl rfl)
theorem dX5_undo_29 : decode cX5_undo 29 = .ok (.invokevirtual 253, 3) := dk_182 0 253 (dk_at dksX5_undo_1 5 rfl rfl)
theorem dX5_undo_32 : decode cX5_undo 32 = .ok (.aload_n 0, 1) := dk_42 (dk_at dksX5_undo_1 8 rfl rfl)
theorem dX5_undo_33 : decode cX5_undo 33 = .ok (.getfield 226, 3) := dk_180 0 226 (dk_at dksX5_undo_1 9 rfl rfl)
theorem dX5_undo_36 : decode cX5_undo 36 = .ok (.ireturn, 1) := dk_172 (dk_at dksX5_undo_1 12 rfl rfl)
abbrev cX5_laysBack : ByteArray := prog_10_method_37_code
def yX5_laysBack : MethodName := ⟨RX5, "laysBack", "(I)V"⟩
def dkwX5_laysBack_1 : List UInt8 := [79, 132, 2, 1, 167, 255, 230, 177]
abbrev dktX5_laysBack_1 : List UInt8 := dkwX5_laysBack_1 ++ []
def dkwX5_laysBack_0 : List UInt8 := [3, 61, 28, 16, 79, 162, 0, 26, 42, 180, 0, 51, 28, 42, 180, 0, 54, 16, 79, 27, 104, 28, 96, 46]
abbrev dktX5_laysBack_0 : List UInt8 := dkwX5_laysBack_0 ++ dktX5_laysBack_1
theorem dksX5_laysBack_0 : cX5_laysBack.data.toList.drop 0 = dktX5_laysBack_0 := by decide +kernel
theorem dksX5_laysBack_1 : cX5_laysBack.data.toList.drop 24 = dktX5_laysBack_1 := dk_seg dksX5_laysBack_0 24 rfl rfl
theorem dX5_laysBack_0 : decode cX5_laysBack 0 = .ok (.iconst 0, 1) := dk_3 (dk_at dksX5_laysBack_0 0 rfl rfl)
theorem dX5_laysBack_1 : decode cX5_laysBack 1 = .ok (.istore_n 2, 1) := dk_61 (dk_at dksX5_laysBack_0 1 rfl rfl)
theorem dX5_laysBack_2 : decode cX5_laysBack 2 = .ok (.iload_n 2, 1) := dk_28 (dk_at dksX5_laysBack_0 2 rfl rfl)
theorem dX5_laysBack_3 : decode cX5_laysBack 3 = .ok (.bipush 79, 2) := dk_16 79 (dk_at dksX5_laysBack_0 3 rfl rfl)
theorem dX5_laysBack_5 : decode cX5_laysBack 5 = .ok (.if_icmp .ge 26, 3) := dk_162 0 26 (dk_at dksX5_laysBack_0 5 rfl rfl)
theorem dX5_laysBack_8 : decode cX5_laysBack 8 = .ok (.aload_n 0, 1) := dk_42 (dk_at dksX5_laysBack_0 8 rfl rfl)
theorem dX5_laysBack_9 : decode cX5_laysBack 9 = .ok (.getfield 51, 3) := dk_180 0 51 (dk_at dksX5_laysBack_0 9 rfl rfl)
theorem dX5_laysBack_12 : decode cX5_laysBack 12 = .ok (.iload_n 2, 1) := dk_28 (dk_at dksX5_laysBack_0 12 rfl rfl)
theorem dX5_laysBack_13 : decode cX5_laysBack 13 = .ok (.aload_n 0, 1) := dk_42 (dk_at dksX5_laysBack_0 13 rfl rfl)
theorem dX5_laysBack_14 : decode cX5_laysBack 14 = .ok (.getfield 54, 3) := dk_180 0 54 (dk_at dksX5_laysBack_0 14 rfl rfl)
theorem dX5_laysBack_17 : decode cX5_laysBack 17 = .ok (.bipush 79, 2) := dk_16 79 (dk_at dksX5_laysBack_0 17 rfl rfl)
theorem dX5_laysBack_19 : decode cX5_laysBack 19 = .ok (.iload_n 1, 1) := dk_27 (dk_at dksX5_laysBack_0 19 rfl rfl)
theorem dX5_laysBack_20 : decode cX5_laysBack 20 = .ok (.imul, 1) := dk_104 (dk_at dksX5_laysBack_0 20 rfl rfl)
theorem dX5_laysBack_21 : decode cX5_laysBack 21 = .ok (.iload_n 2, 1) := dk_28 (dk_at dksX5_laysBack_0 21 rfl rfl)
theorem dX5_laysBack_22 : decode cX5_laysBack 22 = .ok (.iadd, 1) := dk_96 (dk_at dksX5_laysBack_0 22 rfl rfl)
theorem dX5_laysBack_23 : decode cX5_laysBack 23 = .ok (.iaload, 1) := dk_46 (dk_at dksX5_laysBack_0 23 rfl rfl)
theorem dX5_laysBack_24 : decode cX5_laysBack 24 = .ok (.iastore, 1) := dk_79 (dk_at dksX5_laysBack_1 0 rfl rfl)
theorem dX5_laysBack_25 : decode cX5_laysBack 25 = .ok (.iinc 2 1, 3) := dk_132 2 1 (dk_at dksX5_laysBack_1 1 rfl rfl)
theorem dX5_laysBack_28 : decode cX5_laysBack 28 = .ok (.goto (-26), 3) := dk_167 255 230 (dk_at dksX5_laysBack_1 4 rfl rfl)
theorem dX5_laysBack_31 : decode cX5_laysBack 31 = .ok (.return_, 1) := dk_177 (dk_at dksX5_laysBack_1 7 rfl rfl)
abbrev cX5_keep : ByteArray := prog_10_method_43_code
def yX5_keep : MethodName := ⟨RX5, "keep", "()I"⟩
def dkwX5_keep_0 : List UInt8 := [42, 3, 181, 0, 96, 42, 16, 20, 182, 0, 250, 42, 4, 181, 0, 229, 42, 182, 1, 0, 172]
abbrev dktX5_keep_0 : List UInt8 := dkwX5_keep_0 ++ []
theorem dksX5_keep_0 : cX5_keep.data.toList.drop 0 = dktX5_keep_0 := by decide +kernel
theorem dX5_keep_0 : decode cX5_keep 0 = .ok (.aload_n 0, 1) := dk_42 (dk_at dksX5_keep_0 0 rfl rfl)
theorem dX5_keep_1 : decode cX5_keep 1 = .ok (.iconst 0, 1) := dk_3 (dk_at dksX5_keep_0 1 rfl rfl)
theorem dX5_keep_2 : decode cX5_keep 2 = .ok (.putfield 96, 3) := dk_181 0 96 (dk_at dksX5_keep_0 2 rfl rfl)
theorem dX5_keep_5 : decode cX5_keep 5 = .ok (.aload_n 0, 1) := dk_42 (dk_at dksX5_keep_0 5 rfl rfl)
theorem dX5_keep_6 : decode cX5_keep 6 = .ok (.bipush 20, 2) := dk_16 20 (dk_at dksX5_keep_0 6 rfl rfl)
theorem dX5_keep_8 : decode cX5_keep 8 = .ok (.invokevirtual 250, 3) := dk_182 0 250 (dk_at dksX5_keep_0 8 rfl rfl)
theorem dX5_keep_11 : decode cX5_keep 11 = .ok (.aload_n 0, 1) := dk_42 (dk_at dksX5_keep_0 11 rfl rfl)
theorem dX5_keep_12 : decode cX5_keep 12 = .ok (.iconst 1, 1) := dk_4 (dk_at dksX5_keep_0 12 rfl rfl)
theorem dX5_keep_13 : decode cX5_keep 13 = .ok (.putfield 229, 3) := dk_181 0 229 (dk_at dksX5_keep_0 13 rfl rfl)
theorem dX5_keep_16 : decode cX5_keep 16 = .ok (.aload_n 0, 1) := dk_42 (dk_at dksX5_keep_0 16 rfl rfl)
theorem dX5_keep_17 : decode cX5_keep 17 = .ok (.invokevirtual 256, 3) := dk_182 1 0 (dk_at dksX5_keep_0 17 rfl rfl)
theorem dX5_keep_20 : decode cX5_keep 20 = .ok (.ireturn, 1) := dk_172 (dk_at dksX5_keep_0 20 rfl rfl)
abbrev cX5_lays : ByteArray := prog_10_method_36_code
def yX5_lays : MethodName := ⟨RX5, "lays", "(I)V"⟩
def dkwX5_lays_1 : List UInt8 := [79, 132, 2, 1, 167, 255, 230, 177]
abbrev dktX5_lays_1 : List UInt8 := dkwX5_lays_1 ++ []
def dkwX5_lays_0 : List UInt8 := [3, 61, 28, 16, 79, 162, 0, 26, 42, 180, 0, 54, 16, 79, 27, 104, 28, 96, 42, 180, 0, 51, 28, 46]
abbrev dktX5_lays_0 : List UInt8 := dkwX5_lays_0 ++ dktX5_lays_1
theorem dksX5_lays_0 : cX5_lays.data.toList.drop 0 = dktX5_lays_0 := by decide +kernel
theorem dksX5_lays_1 : cX5_lays.data.toList.drop 24 = dktX5_lays_1 := dk_seg dksX5_lays_0 24 rfl rfl
theorem dX5_lays_0 : decode cX5_lays 0 = .ok (.iconst 0, 1) := dk_3 (dk_at dksX5_lays_0 0 rfl rfl)
theorem dX5_lays_1 : decode cX5_lays 1 = .ok (.istore_n 2, 1) := dk_61 (dk_at dksX5_lays_0 1 rfl rfl)
theorem dX5_lays_2 : decode cX5_lays 2 = .ok (.iload_n 2, 1) := dk_28 (dk_at dksX5_lays_0 2 rfl rfl)
theorem dX5_lays_3 : decode cX5_lays 3 = .ok (.bipush 79, 2) := dk_16 79 (dk_at dksX5_lays_0 3 rfl rfl)
theorem dX5_lays_5 : decode cX5_lays 5 = .ok (.if_icmp .ge 26, 3) := dk_162 0 26 (dk_at dksX5_lays_0 5 rfl rfl)
theorem dX5_lays_8 : decode cX5_lays 8 = .ok (.aload_n 0, 1) := dk_42 (dk_at dksX5_lays_0 8 rfl rfl)
theorem dX5_lays_9 : decode cX5_lays 9 = .ok (.getfield 54, 3) := dk_180 0 54 (dk_at dksX5_lays_0 9 rfl rfl)
theorem dX5_lays_12 : decode cX5_lays 12 = .ok (.bipush 79, 2) := dk_16 79 (dk_at dksX5_lays_0 12 rfl rfl)
theorem dX5_lays_14 : decode cX5_lays 14 = .ok (.iload_n 1, 1) := dk_27 (dk_at dksX5_lays_0 14 rfl rfl)
theorem dX5_lays_15 : decode cX5_lays 15 = .ok (.imul, 1) := dk_104 (dk_at dksX5_lays_0 15 rfl rfl)
theorem dX5_lays_16 : decode cX5_lays 16 = .ok (.iload_n 2, 1) := dk_28 (dk_at dksX5_lays_0 16 rfl rfl)
theorem dX5_lays_17 : decode cX5_lays 17 = .ok (.iadd, 1) := dk_96 (dk_at dksX5_lays_0 17 rfl rfl)
theorem dX5_lays_18 : decode cX5_lays 18 = .ok (.aload_n 0, 1) := dk_42 (dk_at dksX5_lays_0 18 rfl rfl)
theorem dX5_lays_19 : decode cX5_lays 19 = .ok (.getfield 51, 3) := dk_180 0 51 (dk_at dksX5_lays_0 19 rfl rfl)
theorem dX5_lays_22 : decode cX5_lays 22 = .ok (.iload_n 2, 1) := dk_28 (dk_at dksX5_lays_0 22 rfl rfl)
theorem dX5_lays_23 : decode cX5_lays 23 = .ok (.iaload, 1) := dk_46 (dk_at dksX5_lays_0 23 rfl rfl)
theorem dX5_lays_24 : decode cX5_lays 24 = .ok (.iastore, 1) := dk_79 (dk_at dksX5_lays_1 0 rfl rfl)
theorem dX5_lays_25 : decode cX5_lays 25 = .ok (.iinc 2 1, 3) := dk_132 2 1 (dk_at dksX5_lays_1 1 rfl rfl)
theorem dX5_lays_28 : decode cX5_lays 28 = .ok (.goto (-26), 3) := dk_167 255 230 (dk_at dksX5_lays_1 4 rfl rfl)
theorem dX5_lays_31 : decode cX5_lays 31 = .ok (.return_, 1) := dk_177 (dk_at dksX5_lays_1 7 rfl rfl)
abbrev cX5_tuned : ByteArray := prog_10_method_42_code
def yX5_tuned : MethodName := ⟨RX5, "tuned", "()I"⟩
def dkwX5_tuned_1 : List UInt8 := [4, 167, 0, 4, 3, 96, 60, 132, 2, 1, 167, 255, 226, 27, 172]
abbrev dktX5_tuned_1 : List UInt8 := dkwX5_tuned_1 ++ []
def dkwX5_tuned_0 : List UInt8 := [3, 60, 3, 61, 28, 42, 182, 0, 232, 162, 0, 28, 27, 42, 180, 0, 51, 3, 28, 96, 46, 158, 0, 7]
abbrev dktX5_tuned_0 : List UInt8 := dkwX5_tuned_0 ++ dktX5_tuned_1
theorem dksX5_tuned_0 : cX5_tuned.data.toList.drop 0 = dktX5_tuned_0 := by decide +kernel
theorem dksX5_tuned_1 : cX5_tuned.data.toList.drop 24 = dktX5_tuned_1 := dk_seg dksX5_tuned_0 24 rfl rfl
theorem dX5_tuned_0 : decode cX5_tuned 0 = .ok (.iconst 0, 1) := dk_3 (dk_at dksX5_tuned_0 0 rfl rfl)
theorem dX5_tuned_1 : decode cX5_tuned 1 = .ok (.istore_n 1, 1) := dk_60 (dk_at dksX5_tuned_0 1 rfl rfl)
theorem dX5_tuned_2 : decode cX5_tuned 2 = .ok (.iconst 0, 1) := dk_3 (dk_at dksX5_tuned_0 2 rfl rfl)
theorem dX5_tuned_3 : decode cX5_tuned 3 = .ok (.istore_n 2, 1) := dk_61 (dk_at dksX5_tuned_0 3 rfl rfl)
theorem dX5_tuned_4 : decode cX5_tuned 4 = .ok (.iload_n 2, 1) := dk_28 (dk_at dksX5_tuned_0 4 rfl rfl)
theorem dX5_tuned_5 : decode cX5_tuned 5 = .ok (.aload_n 0, 1) := dk_42 (dk_at dksX5_tuned_0 5 rfl rfl)
theorem dX5_tuned_6 : decode cX5_tuned 6 = .ok (.invokevirtual 232, 3) := dk_182 0 232 (dk_at dksX5_tuned_0 6 rfl rfl)
theorem dX5_tuned_9 : decode cX5_tuned 9 = .ok (.if_icmp .ge 28, 3) := dk_162 0 28 (dk_at dksX5_tuned_0 9 rfl rfl)
theorem dX5_tuned_12 : decode cX5_tuned 12 = .ok (.iload_n 1, 1) := dk_27 (dk_at dksX5_tuned_0 12 rfl rfl)
theorem dX5_tuned_13 : decode cX5_tuned 13 = .ok (.aload_n 0, 1) := dk_42 (dk_at dksX5_tuned_0 13 rfl rfl)
theorem dX5_tuned_14 : decode cX5_tuned 14 = .ok (.getfield 51, 3) := dk_180 0 51 (dk_at dksX5_tuned_0 14 rfl rfl)
theorem dX5_tuned_17 : decode cX5_tuned 17 = .ok (.iconst 0, 1) := dk_3 (dk_at dksX5_tuned_0 17 rfl rfl)
theorem dX5_tuned_18 : decode cX5_tuned 18 = .ok (.iload_n 2, 1) := dk_28 (dk_at dksX5_tuned_0 18 rfl rfl)
theorem dX5_tuned_19 : decode cX5_tuned 19 = .ok (.iadd, 1) := dk_96 (dk_at dksX5_tuned_0 19 rfl rfl)
theorem dX5_tuned_20 : decode cX5_tuned 20 = .ok (.iaload, 1) := dk_46 (dk_at dksX5_tuned_0 20 rfl rfl)
theorem dX5_tuned_21 : decode cX5_tuned 21 = .ok (.ifCond .le 7, 3) := dk_158 0 7 (dk_at dksX5_tuned_0 21 rfl rfl)
theorem dX5_tuned_24 : decode cX5_tuned 24 = .ok (.iconst 1, 1) := dk_4 (dk_at dksX5_tuned_1 0 rfl rfl)
theorem dX5_tuned_25 : decode cX5_tuned 25 = .ok (.goto 4, 3) := dk_167 0 4 (dk_at dksX5_tuned_1 1 rfl rfl)
theorem dX5_tuned_28 : decode cX5_tuned 28 = .ok (.iconst 0, 1) := dk_3 (dk_at dksX5_tuned_1 4 rfl rfl)
theorem dX5_tuned_29 : decode cX5_tuned 29 = .ok (.iadd, 1) := dk_96 (dk_at dksX5_tuned_1 5 rfl rfl)
theorem dX5_tuned_30 : decode cX5_tuned 30 = .ok (.istore_n 1, 1) := dk_60 (dk_at dksX5_tuned_1 6 rfl rfl)
theorem dX5_tuned_31 : decode cX5_tuned 31 = .ok (.iinc 2 1, 3) := dk_132 2 1 (dk_at dksX5_tuned_1 7 rfl rfl)
theorem dX5_tuned_34 : decode cX5_tuned 34 = .ok (.goto (-30), 3) := dk_167 255 226 (dk_at dksX5_tuned_1 10 rfl rfl)
theorem dX5_tuned_37 : decode cX5_tuned 37 = .ok (.iload_n 1, 1) := dk_27 (dk_at dksX5_tuned_1 13 rfl rfl)
theorem dX5_tuned_38 : decode cX5_tuned 38 = .ok (.ireturn, 1) := dk_172 (dk_at dksX5_tuned_1 14 rfl rfl)
abbrev cX5_back : ByteArray := prog_10_method_44_code
def yX5_back : MethodName := ⟨RX5, "back", "()I"⟩
def dkwX5_back_1 : List UInt8 := [181, 0, 226, 42, 182, 1, 0, 172]
abbrev dktX5_back_1 : List UInt8 := dkwX5_back_1 ++ []
def dkwX5_back_0 : List UInt8 := [42, 3, 181, 0, 96, 42, 180, 0, 229, 154, 0, 5, 2, 172, 42, 16, 20, 182, 0, 253, 42, 3]
abbrev dktX5_back_0 : List UInt8 := dkwX5_back_0 ++ dktX5_back_1
theorem dksX5_back_0 : cX5_back.data.toList.drop 0 = dktX5_back_0 := by decide +kernel
theorem dksX5_back_1 : cX5_back.data.toList.drop 22 = dktX5_back_1 := dk_seg dksX5_back_0 22 rfl rfl
theorem dX5_back_0 : decode cX5_back 0 = .ok (.aload_n 0, 1) := dk_42 (dk_at dksX5_back_0 0 rfl rfl)
theorem dX5_back_1 : decode cX5_back 1 = .ok (.iconst 0, 1) := dk_3 (dk_at dksX5_back_0 1 rfl rfl)
theorem dX5_back_2 : decode cX5_back 2 = .ok (.putfield 96, 3) := dk_181 0 96 (dk_at dksX5_back_0 2 rfl rfl)
theorem dX5_back_5 : decode cX5_back 5 = .ok (.aload_n 0, 1) := dk_42 (dk_at dksX5_back_0 5 rfl rfl)
theorem dX5_back_6 : decode cX5_back 6 = .ok (.getfield 229, 3) := dk_180 0 229 (dk_at dksX5_back_0 6 rfl rfl)
theorem dX5_back_9 : decode cX5_back 9 = .ok (.ifCond .ne 5, 3) := dk_154 0 5 (dk_at dksX5_back_0 9 rfl rfl)
theorem dX5_back_12 : decode cX5_back 12 = .ok (.iconst (-1), 1) := dk_2 (dk_at dksX5_back_0 12 rfl rfl)
theorem dX5_back_13 : decode cX5_back 13 = .ok (.ireturn, 1) := dk_172 (dk_at dksX5_back_0 13 rfl rfl)
theorem dX5_back_14 : decode cX5_back 14 = .ok (.aload_n 0, 1) := dk_42 (dk_at dksX5_back_0 14 rfl rfl)
theorem dX5_back_15 : decode cX5_back 15 = .ok (.bipush 20, 2) := dk_16 20 (dk_at dksX5_back_0 15 rfl rfl)
theorem dX5_back_17 : decode cX5_back 17 = .ok (.invokevirtual 253, 3) := dk_182 0 253 (dk_at dksX5_back_0 17 rfl rfl)
theorem dX5_back_20 : decode cX5_back 20 = .ok (.aload_n 0, 1) := dk_42 (dk_at dksX5_back_0 20 rfl rfl)
theorem dX5_back_21 : decode cX5_back 21 = .ok (.iconst 0, 1) := dk_3 (dk_at dksX5_back_0 21 rfl rfl)
theorem dX5_back_22 : decode cX5_back 22 = .ok (.putfield 226, 3) := dk_181 0 226 (dk_at dksX5_back_1 0 rfl rfl)
theorem dX5_back_25 : decode cX5_back 25 = .ok (.aload_n 0, 1) := dk_42 (dk_at dksX5_back_1 3 rfl rfl)
theorem dX5_back_26 : decode cX5_back 26 = .ok (.invokevirtual 256, 3) := dk_182 1 0 (dk_at dksX5_back_1 4 rfl rfl)
theorem dX5_back_29 : decode cX5_back 29 = .ok (.ireturn, 1) := dk_172 (dk_at dksX5_back_1 7 rfl rfl)
abbrev cX5_tune : ByteArray := prog_10_method_47_code
def yX5_tune : MethodName := ⟨RX5, "tune", "(II)I"⟩
def dkwX5_tune_2 : List UInt8 := [96, 28, 79, 29, 172]
abbrev dktX5_tune_2 : List UInt8 := dkwX5_tune_2 ++ []
def dkwX5_tune_1 : List UInt8 := [154, 0, 5, 2, 172, 42, 180, 0, 51, 3, 27, 96, 46, 62, 42, 182, 1, 9, 42, 180, 0, 51, 3, 27]
abbrev dktX5_tune_1 : List UInt8 := dkwX5_tune_1 ++ dktX5_tune_2
def dkwX5_tune_0 : List UInt8 := [42, 3, 181, 0, 96, 42, 27, 182, 1, 3, 153, 0, 15, 28, 153, 0, 13, 42, 28, 182, 1, 6]
abbrev dktX5_tune_0 : List UInt8 := dkwX5_tune_0 ++ dktX5_tune_1
theorem dksX5_tune_0 : cX5_tune.data.toList.drop 0 = dktX5_tune_0 := by decide +kernel
theorem dksX5_tune_1 : cX5_tune.data.toList.drop 22 = dktX5_tune_1 := dk_seg dksX5_tune_0 22 rfl rfl
theorem dksX5_tune_2 : cX5_tune.data.toList.drop 46 = dktX5_tune_2 := dk_seg dksX5_tune_1 24 rfl rfl
theorem dX5_tune_0 : decode cX5_tune 0 = .ok (.aload_n 0, 1) := dk_42 (dk_at dksX5_tune_0 0 rfl rfl)
theorem dX5_tune_1 : decode cX5_tune 1 = .ok (.iconst 0, 1) := dk_3 (dk_at dksX5_tune_0 1 rfl rfl)
theorem dX5_tune_2 : decode cX5_tune 2 = .ok (.putfield 96, 3) := dk_181 0 96 (dk_at dksX5_tune_0 2 rfl rfl)
theorem dX5_tune_5 : decode cX5_tune 5 = .ok (.aload_n 0, 1) := dk_42 (dk_at dksX5_tune_0 5 rfl rfl)
theorem dX5_tune_6 : decode cX5_tune 6 = .ok (.iload_n 1, 1) := dk_27 (dk_at dksX5_tune_0 6 rfl rfl)
theorem dX5_tune_7 : decode cX5_tune 7 = .ok (.invokevirtual 259, 3) := dk_182 1 3 (dk_at dksX5_tune_0 7 rfl rfl)
theorem dX5_tune_10 : decode cX5_tune 10 = .ok (.ifCond .eq 15, 3) := dk_153 0 15 (dk_at dksX5_tune_0 10 rfl rfl)
theorem dX5_tune_13 : decode cX5_tune 13 = .ok (.iload_n 2, 1) := dk_28 (dk_at dksX5_tune_0 13 rfl rfl)
theorem dX5_tune_14 : decode cX5_tune 14 = .ok (.ifCond .eq 13, 3) := dk_153 0 13 (dk_at dksX5_tune_0 14 rfl rfl)
theorem dX5_tune_17 : decode cX5_tune 17 = .ok (.aload_n 0, 1) := dk_42 (dk_at dksX5_tune_0 17 rfl rfl)
theorem dX5_tune_18 : decode cX5_tune 18 = .ok (.iload_n 2, 1) := dk_28 (dk_at dksX5_tune_0 18 rfl rfl)
theorem dX5_tune_19 : decode cX5_tune 19 = .ok (.invokevirtual 262, 3) := dk_182 1 6 (dk_at dksX5_tune_0 19 rfl rfl)
theorem dX5_tune_22 : decode cX5_tune 22 = .ok (.ifCond .ne 5, 3) := dk_154 0 5 (dk_at dksX5_tune_1 0 rfl rfl)
theorem dX5_tune_25 : decode cX5_tune 25 = .ok (.iconst (-1), 1) := dk_2 (dk_at dksX5_tune_1 3 rfl rfl)
theorem dX5_tune_26 : decode cX5_tune 26 = .ok (.ireturn, 1) := dk_172 (dk_at dksX5_tune_1 4 rfl rfl)
theorem dX5_tune_27 : decode cX5_tune 27 = .ok (.aload_n 0, 1) := dk_42 (dk_at dksX5_tune_1 5 rfl rfl)
theorem dX5_tune_28 : decode cX5_tune 28 = .ok (.getfield 51, 3) := dk_180 0 51 (dk_at dksX5_tune_1 6 rfl rfl)
theorem dX5_tune_31 : decode cX5_tune 31 = .ok (.iconst 0, 1) := dk_3 (dk_at dksX5_tune_1 9 rfl rfl)
theorem dX5_tune_32 : decode cX5_tune 32 = .ok (.iload_n 1, 1) := dk_27 (dk_at dksX5_tune_1 10 rfl rfl)
theorem dX5_tune_33 : decode cX5_tune 33 = .ok (.iadd, 1) := dk_96 (dk_at dksX5_tune_1 11 rfl rfl)
theorem dX5_tune_34 : decode cX5_tune 34 = .ok (.iaload, 1) := dk_46 (dk_at dksX5_tune_1 12 rfl rfl)
theorem dX5_tune_35 : decode cX5_tune 35 = .ok (.istore_n 3, 1) := dk_62 (dk_at dksX5_tune_1 13 rfl rfl)
theorem dX5_tune_36 : decode cX5_tune 36 = .ok (.aload_n 0, 1) := dk_42 (dk_at dksX5_tune_1 14 rfl rfl)
theorem dX5_tune_37 : decode cX5_tune 37 = .ok (.invokevirtual 265, 3) := dk_182 1 9 (dk_at dksX5_tune_1 15 rfl rfl)
theorem dX5_tune_40 : decode cX5_tune 40 = .ok (.aload_n 0, 1) := dk_42 (dk_at dksX5_tune_1 18 rfl rfl)
theorem dX5_tune_41 : decode cX5_tune 41 = .ok (.getfield 51, 3) := dk_180 0 51 (dk_at dksX5_tune_1 19 rfl rfl)
theorem dX5_tune_44 : decode cX5_tune 44 = .ok (.iconst 0, 1) := dk_3 (dk_at dksX5_tune_1 22 rfl rfl)
theorem dX5_tune_45 : decode cX5_tune 45 = .ok (.iload_n 1, 1) := dk_27 (dk_at dksX5_tune_1 23 rfl rfl)
theorem dX5_tune_46 : decode cX5_tune 46 = .ok (.iadd, 1) := dk_96 (dk_at dksX5_tune_2 0 rfl rfl)
theorem dX5_tune_47 : decode cX5_tune 47 = .ok (.iload_n 2, 1) := dk_28 (dk_at dksX5_tune_2 1 rfl rfl)
theorem dX5_tune_48 : decode cX5_tune 48 = .ok (.iastore, 1) := dk_79 (dk_at dksX5_tune_2 2 rfl rfl)
theorem dX5_tune_49 : decode cX5_tune 49 = .ok (.iload_n 3, 1) := dk_29 (dk_at dksX5_tune_2 3 rfl rfl)
theorem dX5_tune_50 : decode cX5_tune 50 = .ok (.ireturn, 1) := dk_172 (dk_at dksX5_tune_2 4 rfl rfl)
abbrev cX5_isUser : ByteArray := prog_10_method_45_code
def yX5_isUser : MethodName := ⟨RX5, "isUser", "(I)Z"⟩
def dkwX5_isUser_0 : List UInt8 := [27, 155, 0, 15, 27, 42, 182, 0, 232, 162, 0, 7, 4, 167, 0, 4, 3, 172]
abbrev dktX5_isUser_0 : List UInt8 := dkwX5_isUser_0 ++ []
theorem dksX5_isUser_0 : cX5_isUser.data.toList.drop 0 = dktX5_isUser_0 := by decide +kernel
theorem dX5_isUser_0 : decode cX5_isUser 0 = .ok (.iload_n 1, 1) := dk_27 (dk_at dksX5_isUser_0 0 rfl rfl)
theorem dX5_isUser_1 : decode cX5_isUser 1 = .ok (.ifCond .lt 15, 3) := dk_155 0 15 (dk_at dksX5_isUser_0 1 rfl rfl)
theorem dX5_isUser_4 : decode cX5_isUser 4 = .ok (.iload_n 1, 1) := dk_27 (dk_at dksX5_isUser_0 4 rfl rfl)
theorem dX5_isUser_5 : decode cX5_isUser 5 = .ok (.aload_n 0, 1) := dk_42 (dk_at dksX5_isUser_0 5 rfl rfl)
theorem dX5_isUser_6 : decode cX5_isUser 6 = .ok (.invokevirtual 232, 3) := dk_182 0 232 (dk_at dksX5_isUser_0 6 rfl rfl)
theorem dX5_isUser_9 : decode cX5_isUser 9 = .ok (.if_icmp .ge 7, 3) := dk_162 0 7 (dk_at dksX5_isUser_0 9 rfl rfl)
theorem dX5_isUser_12 : decode cX5_isUser 12 = .ok (.iconst 1, 1) := dk_4 (dk_at dksX5_isUser_0 12 rfl rfl)
theorem dX5_isUser_13 : decode cX5_isUser 13 = .ok (.goto 4, 3) := dk_167 0 4 (dk_at dksX5_isUser_0 13 rfl rfl)
theorem dX5_isUser_16 : decode cX5_isUser 16 = .ok (.iconst 0, 1) := dk_3 (dk_at dksX5_isUser_0 16 rfl rfl)
theorem dX5_isUser_17 : decode cX5_isUser 17 = .ok (.ireturn, 1) := dk_172 (dk_at dksX5_isUser_0 17 rfl rfl)
abbrev cX5_isChannel : ByteArray := prog_10_method_46_code
def yX5_isChannel : MethodName := ⟨RX5, "isChannel", "(I)Z"⟩
def dkwX5_isChannel_0 : List UInt8 := [27, 4, 161, 0, 17, 27, 42, 180, 0, 13, 3, 46, 163, 0, 7, 4, 167, 0, 4, 3, 172]
abbrev dktX5_isChannel_0 : List UInt8 := dkwX5_isChannel_0 ++ []
theorem dksX5_isChannel_0 : cX5_isChannel.data.toList.drop 0 = dktX5_isChannel_0 := by decide +kernel
theorem dX5_isChannel_0 : decode cX5_isChannel 0 = .ok (.iload_n 1, 1) := dk_27 (dk_at dksX5_isChannel_0 0 rfl rfl)
theorem dX5_isChannel_1 : decode cX5_isChannel 1 = .ok (.iconst 1, 1) := dk_4 (dk_at dksX5_isChannel_0 1 rfl rfl)
theorem dX5_isChannel_2 : decode cX5_isChannel 2 = .ok (.if_icmp .lt 17, 3) := dk_161 0 17 (dk_at dksX5_isChannel_0 2 rfl rfl)
theorem dX5_isChannel_5 : decode cX5_isChannel 5 = .ok (.iload_n 1, 1) := dk_27 (dk_at dksX5_isChannel_0 5 rfl rfl)
theorem dX5_isChannel_6 : decode cX5_isChannel 6 = .ok (.aload_n 0, 1) := dk_42 (dk_at dksX5_isChannel_0 6 rfl rfl)
theorem dX5_isChannel_7 : decode cX5_isChannel 7 = .ok (.getfield 13, 3) := dk_180 0 13 (dk_at dksX5_isChannel_0 7 rfl rfl)
theorem dX5_isChannel_10 : decode cX5_isChannel 10 = .ok (.iconst 0, 1) := dk_3 (dk_at dksX5_isChannel_0 10 rfl rfl)
theorem dX5_isChannel_11 : decode cX5_isChannel 11 = .ok (.iaload, 1) := dk_46 (dk_at dksX5_isChannel_0 11 rfl rfl)
theorem dX5_isChannel_12 : decode cX5_isChannel 12 = .ok (.if_icmp .gt 7, 3) := dk_163 0 7 (dk_at dksX5_isChannel_0 12 rfl rfl)
theorem dX5_isChannel_15 : decode cX5_isChannel 15 = .ok (.iconst 1, 1) := dk_4 (dk_at dksX5_isChannel_0 15 rfl rfl)
theorem dX5_isChannel_16 : decode cX5_isChannel 16 = .ok (.goto 4, 3) := dk_167 0 4 (dk_at dksX5_isChannel_0 16 rfl rfl)
theorem dX5_isChannel_19 : decode cX5_isChannel 19 = .ok (.iconst 0, 1) := dk_3 (dk_at dksX5_isChannel_0 19 rfl rfl)
theorem dX5_isChannel_20 : decode cX5_isChannel 20 = .ok (.ireturn, 1) := dk_172 (dk_at dksX5_isChannel_0 20 rfl rfl)
abbrev cX5_remembers : ByteArray := prog_10_method_40_code
def yX5_remembers : MethodName := ⟨RX5, "remembers", "()V"⟩
def dkwX5_remembers_2 : List UInt8 := [181, 0, 226, 42, 42, 180, 0, 226, 182, 0, 250, 42, 89, 180, 0, 226, 4, 96, 181, 0, 226, 177]
abbrev dktX5_remembers_2 : List UInt8 := dkwX5_remembers_2 ++ []
def dkwX5_remembers_1 : List UInt8 := [180, 0, 54, 16, 79, 27, 96, 46, 79, 132, 1, 1, 167, 255, 231, 42, 89, 180, 0, 226, 4, 100]
abbrev dktX5_remembers_1 : List UInt8 := dkwX5_remembers_1 ++ dktX5_remembers_2
def dkwX5_remembers_0 : List UInt8 := [42, 180, 0, 226, 16, 20, 160, 0, 43, 3, 60, 27, 17, 5, 221, 162, 0, 24, 42, 180, 0, 54, 27, 42]
abbrev dktX5_remembers_0 : List UInt8 := dkwX5_remembers_0 ++ dktX5_remembers_1
theorem dksX5_remembers_0 : cX5_remembers.data.toList.drop 0 = dktX5_remembers_0 := by decide +kernel
theorem dksX5_remembers_1 : cX5_remembers.data.toList.drop 24 = dktX5_remembers_1 := dk_seg dksX5_remembers_0 24 rfl rfl
theorem dksX5_remembers_2 : cX5_remembers.data.toList.drop 46 = dktX5_remembers_2 := dk_seg dksX5_remembers_1 22 rfl rfl
theorem dX5_remembers_0 : decode cX5_remembers 0 = .ok (.aload_n 0, 1) := dk_42 (dk_at dksX5_remembers_0 0 rfl rfl)
theorem dX5_remembers_1 : decode cX5_remembers 1 = .ok (.getfield 226, 3) := dk_180 0 226 (dk_at dksX5_remembers_0 1 rfl rfl)
theorem dX5_remembers_4 : decode cX5_remembers 4 = .ok (.bipush 20, 2) := dk_16 20 (dk_at dksX5_remembers_0 4 rfl rfl)
theorem dX5_remembers_6 : decode cX5_remembers 6 = .ok (.if_icmp .ne 43, 3) := dk_160 0 43 (dk_at dksX5_remembers_0 6 rfl rfl)
theorem dX5_remembers_9 : decode cX5_remembers 9 = .ok (.iconst 0, 1) := dk_3 (dk_at dksX5_remembers_0 9 rfl rfl)
theorem dX5_remembers_10 : decode cX5_remembers 10 = .ok (.istore_n 1, 1) := dk_60 (dk_at dksX5_remembers_0 10 rfl rfl)
theorem dX5_remembers_11 : decode cX5_remembers 11 = .ok (.iload_n 1, 1) := dk_27 (dk_at dksX5_remembers_0 11 rfl rfl)
theorem dX5_remembers_12 : decode cX5_remembers 12 = .ok (.sipush 1501, 3) := dk_17 5 221 (dk_at dksX5_remembers_0 12 rfl rfl)
theorem dX5_remembers_15 : decode cX5_remembers 15 = .ok (.if_icmp .ge 24, 3) := dk_162 0 24 (dk_at dksX5_remembers_0 15 rfl rfl)
theorem dX5_remembers_18 : decode cX5_remembers 18 = .ok (.aload_n 0, 1) := dk_42 (dk_at dksX5_remembers_0 18 rfl rfl)
theorem dX5_remembers_19 : decode cX5_remembers 19 = .ok (.getfield 54, 3) := dk_180 0 54 (dk_at dksX5_remembers_0 19 rfl rfl)
theorem dX5_remembers_22 : decode cX5_remembers 22 = .ok (.iload_n 1, 1) := dk_27 (dk_at dksX5_remembers_0 22 rfl rfl)
theorem dX5_remembers_23 : decode cX5_remembers 23 = .ok (.aload_n 0, 1) := dk_42 (dk_at dksX5_remembers_0 23 rfl rfl)
theorem dX5_remembers_24 : decode cX5_remembers 24 = .ok (.getfield 54, 3) := dk_180 0 54 (dk_at dksX5_remembers_1 0 rfl rfl)
theorem dX5_remembers_27 : decode cX5_remembers 27 = .ok (.bipush 79, 2) := dk_16 79 (dk_at dksX5_remembers_1 3 rfl rfl)
theorem dX5_remembers_29 : decode cX5_remembers 29 = .ok (.iload_n 1, 1) := dk_27 (dk_at dksX5_remembers_1 5 rfl rfl)
theorem dX5_remembers_30 : decode cX5_remembers 30 = .ok (.iadd, 1) := dk_96 (dk_at dksX5_remembers_1 6 rfl rfl)
theorem dX5_remembers_31 : decode cX5_remembers 31 = .ok (.iaload, 1) := dk_46 (dk_at dksX5_remembers_1 7 rfl rfl)
theorem dX5_remembers_32 : decode cX5_remembers 32 = .ok (.iastore, 1) := dk_79 (dk_at dksX5_remembers_1 8 rfl rfl)
theorem dX5_remembers_33 : decode cX5_remembers 33 = .ok (.iinc 1 1, 3) := dk_132 1 1 (dk_at dksX5_remembers_1 9 rfl rfl)
theorem dX5_remembers_36 : decode cX5_remembers 36 = .ok (.goto (-25), 3) := dk_167 255 231 (dk_at dksX5_remembers_1 12 rfl rfl)
theorem dX5_remembers_39 : decode cX5_remembers 39 = .ok (.aload_n 0, 1) := dk_42 (dk_at dksX5_remembers_1 15 rfl rfl)
theorem dX5_remembers_40 : decode cX5_remembers 40 = .ok (.dup, 1) := dk_89 (dk_at dksX5_remembers_1 16 rfl rfl)
theorem dX5_remembers_41 : decode cX5_remembers 41 = .ok (.getfield 226, 3) := dk_180 0 226 (dk_at dksX5_remembers_1 17 rfl rfl)
theorem dX5_remembers_44 : decode cX5_remembers 44 = .ok (.iconst 1, 1) := dk_4 (dk_at dksX5_remembers_1 20 rfl rfl)
theorem dX5_remembers_45 : decode cX5_remembers 45 = .ok (.isub, 1) := dk_100 (dk_at dksX5_remembers_1 21 rfl rfl)
theorem dX5_remembers_46 : decode cX5_remembers 46 = .ok (.putfield 226, 3) := dk_181 0 226 (dk_at dksX5_remembers_2 0 rfl rfl)
theorem dX5_remembers_49 : decode cX5_remembers 49 = .ok (.aload_n 0, 1) := dk_42 (dk_at dksX5_remembers_2 3 rfl rfl)
theorem dX5_remembers_50 : decode cX5_remembers 50 = .ok (.aload_n 0, 1) := dk_42 (dk_at dksX5_remembers_2 4 rfl rfl)
theorem dX5_remembers_51 : decode cX5_remembers 51 = .ok (.getfield 226, 3) := dk_180 0 226 (dk_at dksX5_remembers_2 5 rfl rfl)
theorem dX5_remembers_54 : decode cX5_remembers 54 = .ok (.invokevirtual 250, 3) := dk_182 0 250 (dk_at dksX5_remembers_2 8 rfl rfl)
theorem dX5_remembers_57 : decode cX5_remembers 57 = .ok (.aload_n 0, 1) := dk_42 (dk_at dksX5_remembers_2 11 rfl rfl)
theorem dX5_remembers_58 : decode cX5_remembers 58 = .ok (.dup, 1) := dk_89 (dk_at dksX5_remembers_2 12 rfl rfl)
theorem dX5_remembers_59 : decode cX5_remembers 59 = .ok (.getfield 226, 3) := dk_180 0 226 (dk_at dksX5_remembers_2 13 rfl rfl)
theorem dX5_remembers_62 : decode cX5_remembers 62 = .ok (.iconst 1, 1) := dk_4 (dk_at dksX5_remembers_2 16 rfl rfl)
theorem dX5_remembers_63 : decode cX5_remembers 63 = .ok (.iadd, 1) := dk_96 (dk_at dksX5_remembers_2 17 rfl rfl)
theorem dX5_remembers_64 : decode cX5_remembers 64 = .ok (.putfield 226, 3) := dk_181 0 226 (dk_at dksX5_remembers_2 18 rfl rfl)
theorem dX5_remembers_67 : decode cX5_remembers 67 = .ok (.return_, 1) := dk_177 (dk_at dksX5_remembers_2 21 rfl rfl)
abbrev cX5_block : ByteArray := prog_10_method_48_code
def yX5_block : MethodName := ⟨RX5, "block", "(I)I"⟩
def dkwX5_block_2 : List UInt8 := [46, 172]
abbrev dktX5_block_2 : List UInt8 := dkwX5_block_2 ++ []
def dkwX5_block_1 : List UInt8 := [16, 12, 27, 96, 4, 42, 180, 0, 51, 16, 12, 27, 96, 46, 100, 79, 42, 180, 0, 51, 16, 12, 27, 96]
abbrev dktX5_block_1 : List UInt8 := dkwX5_block_1 ++ dktX5_block_2
def dkwX5_block_0 : List UInt8 := [42, 3, 181, 0, 96, 42, 27, 182, 1, 6, 154, 0, 5, 2, 172, 42, 182, 1, 9, 42, 180, 0, 51]
abbrev dktX5_block_0 : List UInt8 := dkwX5_block_0 ++ dktX5_block_1
theorem dksX5_block_0 : cX5_block.data.toList.drop 0 = dktX5_block_0 := by decide +kernel
theorem dksX5_block_1 : cX5_block.data.toList.drop 23 = dktX5_block_1 := dk_seg dksX5_block_0 23 rfl rfl
theorem dksX5_block_2 : cX5_block.data.toList.drop 47 = dktX5_block_2 := dk_seg dksX5_block_1 24 rfl rfl
theorem dX5_block_0 : decode cX5_block 0 = .ok (.aload_n 0, 1) := dk_42 (dk_at dksX5_block_0 0 rfl rfl)
theorem dX5_block_1 : decode cX5_block 1 = .ok (.iconst 0, 1) := dk_3 (dk_at dksX5_block_0 1 rfl rfl)
theorem dX5_block_2 : decode cX5_block 2 = .ok (.putfield 96, 3) := dk_181 0 96 (dk_at dksX5_block_0 2 rfl rfl)
theorem dX5_block_5 : decode cX5_block 5 = .ok (.aload_n 0, 1) := dk_42 (dk_at dksX5_block_0 5 rfl rfl)
theorem dX5_block_6 : decode cX5_block 6 = .ok (.iload_n 1, 1) := dk_27 (dk_at dksX5_block_0 6 rfl rfl)
theorem dX5_block_7 : decode cX5_block 7 = .ok (.invokevirtual 262, 3) := dk_182 1 6 (dk_at dksX5_block_0 7 rfl rfl)
theorem dX5_block_10 : decode cX5_block 10 = .ok (.ifCond .ne 5, 3) := dk_154 0 5 (dk_at dksX5_block_0 10 rfl rfl)
theorem dX5_block_13 : decode cX5_block 13 = .ok (.iconst (-1), 1) := dk_2 (dk_at dksX5_block_0 13 rfl rfl)
theorem dX5_block_14 : decode cX5_block 14 = .ok (.ireturn, 1) := dk_172 (dk_at dksX5_block_0 14 rfl rfl)
theorem dX5_block_15 : decode cX5_block 15 = .ok (.aload_n 0, 1) := dk_42 (dk_at dksX5_block_0 15 rfl rfl)
theorem dX5_block_16 : decode cX5_block 16 = .ok (.invokevirtual 265, 3) := dk_182 1 9 (dk_at dksX5_block_0 16 rfl rfl)
theorem dX5_block_19 : decode cX5_block 19 = .ok (.aload_n 0, 1) := dk_42 (dk_at dksX5_block_0 19 rfl rfl)
theorem dX5_block_20 : decode cX5_block 20 = .ok (.getfield 51, 3) := dk_180 0 51 (dk_at dksX5_block_0 20 rfl rfl)
theorem dX5_block_23 : decode cX5_block 23 = .ok (.bipush 12, 2) := dk_16 12 (dk_at dksX5_block_1 0 rfl rfl)
theorem dX5_block_25 : decode cX5_block 25 = .ok (.iload_n 1, 1) := dk_27 (dk_at dksX5_block_1 2 rfl rfl)
theorem dX5_block_26 : decode cX5_block 26 = .ok (.iadd, 1) := dk_96 (dk_at dksX5_block_1 3 rfl rfl)
theorem dX5_block_27 : decode cX5_block 27 = .ok (.iconst 1, 1) := dk_4 (dk_at dksX5_block_1 4 rfl rfl)
theorem dX5_block_28 : decode cX5_block 28 = .ok (.aload_n 0, 1) := dk_42 (dk_at dksX5_block_1 5 rfl rfl)
theorem dX5_block_29 : decode cX5_block 29 = .ok (.getfield 51, 3) := dk_180 0 51 (dk_at dksX5_block_1 6 rfl rfl)
theorem dX5_block_32 : decode cX5_block 32 = .ok (.bipush 12, 2) := dk_16 12 (dk_at dksX5_block_1 9 rfl rfl)
theorem dX5_block_34 : decode cX5_block 34 = .ok (.iload_n 1, 1) := dk_27 (dk_at dksX5_block_1 11 rfl rfl)
theorem dX5_block_35 : decode cX5_block 35 = .ok (.iadd, 1) := dk_96 (dk_at dksX5_block_1 12 rfl rfl)
theorem dX5_block_36 : decode cX5_block 36 = .ok (.iaload, 1) := dk_46 (dk_at dksX5_block_1 13 rfl rfl)
theorem dX5_block_37 : decode cX5_block 37 = .ok (.isub, 1) := dk_100 (dk_at dksX5_block_1 14 rfl rfl)
theorem dX5_block_38 : decode cX5_block 38 = .ok (.iastore, 1) := dk_79 (dk_at dksX5_block_1 15 rfl rfl)
theorem dX5_block_39 : decode cX5_block 39 = .ok (.aload_n 0, 1) := dk_42 (dk_at dksX5_block_1 16 rfl rfl)
theorem dX5_block_40 : decode cX5_block 40 = .ok (.getfield 51, 3) := dk_180 0 51 (dk_at dksX5_block_1 17 rfl rfl)
theorem dX5_block_43 : decode cX5_block 43 = .ok (.bipush 12, 2) := dk_16 12 (dk_at dksX5_block_1 20 rfl rfl)
theorem dX5_block_45 : decode cX5_block 45 = .ok (.iload_n 1, 1) := dk_27 (dk_at dksX5_block_1 22 rfl rfl)
theorem dX5_block_46 : decode cX5_block 46 = .ok (.iadd, 1) := dk_96 (dk_at dksX5_block_1 23 rfl rfl)
theorem dX5_block_47 : decode cX5_block 47 = .ok (.iaload, 1) := dk_46 (dk_at dksX5_block_2 0 rfl rfl)
theorem dX5_block_48 : decode cX5_block 48 = .ok (.ireturn, 1) := dk_172 (dk_at dksX5_block_2 1 rfl rfl)
abbrev cX5_power : ByteArray := prog_10_method_49_code
def yX5_power : MethodName := ⟨RX5, "power", "(II)I"⟩
def dkwX5_power_2 : List UInt8 := [79, 29, 172]
abbrev dktX5_power_2 : List UInt8 := dkwX5_power_2 ++ []
def dkwX5_power_1 : List UInt8 := [172, 42, 180, 0, 51, 16, 6, 27, 96, 46, 62, 42, 182, 1, 9, 42, 180, 0, 51, 16, 6, 27, 96, 28]
abbrev dktX5_power_1 : List UInt8 := dkwX5_power_1 ++ dktX5_power_2
def dkwX5_power_0 : List UInt8 := [42, 3, 181, 0, 96, 42, 27, 182, 1, 3, 153, 0, 13, 28, 155, 0, 9, 28, 16, 30, 164, 0, 5, 2]
abbrev dktX5_power_0 : List UInt8 := dkwX5_power_0 ++ dktX5_power_1
theorem dksX5_power_0 : cX5_power.data.toList.drop 0 = dktX5_power_0 := by decide +kernel
theorem dksX5_power_1 : cX5_power.data.toList.drop 24 = dktX5_power_1 := dk_seg dksX5_power_0 24 rfl rfl
theorem dksX5_power_2 : cX5_power.data.toList.drop 48 = dktX5_power_2 := dk_seg dksX5_power_1 24 rfl rfl
theorem dX5_power_0 : decode cX5_power 0 = .ok (.aload_n 0, 1) := dk_42 (dk_at dksX5_power_0 0 rfl rfl)
theorem dX5_power_1 : decode cX5_power 1 = .ok (.iconst 0, 1) := dk_3 (dk_at dksX5_power_0 1 rfl rfl)
theorem dX5_power_2 : decode cX5_power 2 = .ok (.putfield 96, 3) := dk_181 0 96 (dk_at dksX5_power_0 2 rfl rfl)
theorem dX5_power_5 : decode cX5_power 5 = .ok (.aload_n 0, 1) := dk_42 (dk_at dksX5_power_0 5 rfl rfl)
theorem dX5_power_6 : decode cX5_power 6 = .ok (.iload_n 1, 1) := dk_27 (dk_at dksX5_power_0 6 rfl rfl)
theorem dX5_power_7 : decode cX5_power 7 = .ok (.invokevirtual 259, 3) := dk_182 1 3 (dk_at dksX5_power_0 7 rfl rfl)
theorem dX5_power_10 : decode cX5_power 10 = .ok (.ifCond .eq 13, 3) := dk_153 0 13 (dk_at dksX5_power_0 10 rfl rfl)
theorem dX5_power_13 : decode cX5_power 13 = .ok (.iload_n 2, 1) := dk_28 (dk_at dksX5_power_0 13 rfl rfl)
theorem dX5_power_14 : decode cX5_power 14 = .ok (.ifCond .lt 9, 3) := dk_155 0 9 (dk_at dksX5_power_0 14 rfl rfl)
theorem dX5_power_17 : decode cX5_power 17 = .ok (.iload_n 2, 1) := dk_28 (dk_at dksX5_power_0 17 rfl rfl)
theorem dX5_power_18 : decode cX5_power 18 = .ok (.bipush 30, 2) := dk_16 30 (dk_at dksX5_power_0 18 rfl rfl)
theorem dX5_power_20 : decode cX5_power 20 = .ok (.if_icmp .le 5, 3) := dk_164 0 5 (dk_at dksX5_power_0 20 rfl rfl)
theorem dX5_power_23 : decode cX5_power 23 = .ok (.iconst (-1), 1) := dk_2 (dk_at dksX5_power_0 23 rfl rfl)
theorem dX5_power_24 : decode cX5_power 24 = .ok (.ireturn, 1) := dk_172 (dk_at dksX5_power_1 0 rfl rfl)
theorem dX5_power_25 : decode cX5_power 25 = .ok (.aload_n 0, 1) := dk_42 (dk_at dksX5_power_1 1 rfl rfl)
theorem dX5_power_26 : decode cX5_power 26 = .ok (.getfield 51, 3) := dk_180 0 51 (dk_at dksX5_power_1 2 rfl rfl)
theorem dX5_power_29 : decode cX5_power 29 = .ok (.bipush 6, 2) := dk_16 6 (dk_at dksX5_power_1 5 rfl rfl)
theorem dX5_power_31 : decode cX5_power 31 = .ok (.iload_n 1, 1) := dk_27 (dk_at dksX5_power_1 7 rfl rfl)
theorem dX5_power_32 : decode cX5_power 32 = .ok (.iadd, 1) := dk_96 (dk_at dksX5_power_1 8 rfl rfl)
theorem dX5_power_33 : decode cX5_power 33 = .ok (.iaload, 1) := dk_46 (dk_at dksX5_power_1 9 rfl rfl)
theorem dX5_power_34 : decode cX5_power 34 = .ok (.istore_n 3, 1) := dk_62 (dk_at dksX5_power_1 10 rfl rfl)
theorem dX5_power_35 : decode cX5_power 35 = .ok (.aload_n 0, 1) := dk_42 (dk_at dksX5_power_1 11 rfl rfl)
theorem dX5_power_36 : decode cX5_power 36 = .ok (.invokevirtual 265, 3) := dk_182 1 9 (dk_at dksX5_power_1 12 rfl rfl)
theorem dX5_power_39 : decode cX5_power 39 = .ok (.aload_n 0, 1) := dk_42 (dk_at dksX5_power_1 15 rfl rfl)
theorem dX5_power_40 : decode cX5_power 40 = .ok (.getfield 51, 3) := dk_180 0 51 (dk_at dksX5_power_1 16 rfl rfl)
theorem dX5_power_43 : decode cX5_power 43 = .ok (.bipush 6, 2) := dk_16 6 (dk_at dksX5_power_1 19 rfl rfl)
theorem dX5_power_45 : decode cX5_power 45 = .ok (.iload_n 1, 1) := dk_27 (dk_at dksX5_power_1 21 rfl rfl)
theorem dX5_power_46 : decode cX5_power 46 = .ok (.iadd, 1) := dk_96 (dk_at dksX5_power_1 22 rfl rfl)
theorem dX5_power_47 : decode cX5_power 47 = .ok (.iload_n 2, 1) := dk_28 (dk_at dksX5_power_1 23 rfl rfl)
theorem dX5_power_48 : decode cX5_power 48 = .ok (.iastore, 1) := dk_79 (dk_at dksX5_power_2 0 rfl rfl)
theorem dX5_power_49 : decode cX5_power 49 = .ok (.iload_n 3, 1) := dk_29 (dk_at dksX5_power_2 1 rfl rfl)
theorem dX5_power_50 : decode cX5_power 50 = .ok (.ireturn, 1) := dk_172 (dk_at dksX5_power_2 2 rfl rfl)
abbrev cX5_slots : ByteArray := prog_10_method_50_code
def yX5_slots : MethodName := ⟨RX5, "slots", "(II)I"⟩
def dkwX5_slots_2 : List UInt8 := [16, 73, 27, 96, 28, 79, 29, 172]
abbrev dktX5_slots_2 : List UInt8 := dkwX5_slots_2 ++ []
def dkwX5_slots_1 : List UInt8 := [164, 0, 5, 2, 172, 42, 180, 0, 51, 16, 73, 27, 96, 46, 62, 42, 182, 1, 9, 42, 180, 0, 51]
abbrev dktX5_slots_1 : List UInt8 := dkwX5_slots_1 ++ dktX5_slots_2
def dkwX5_slots_0 : List UInt8 := [42, 3, 181, 0, 96, 42, 27, 182, 1, 3, 153, 0, 15, 28, 4, 161, 0, 10, 28, 17, 0, 255]
abbrev dktX5_slots_0 : List UInt8 := dkwX5_slots_0 ++ dktX5_slots_1
theorem dksX5_slots_0 : cX5_slots.data.toList.drop 0 = dktX5_slots_0 := by decide +kernel
theorem dksX5_slots_1 : cX5_slots.data.toList.drop 22 = dktX5_slots_1 := dk_seg dksX5_slots_0 22 rfl rfl
theorem dksX5_slots_2 : cX5_slots.data.toList.drop 45 = dktX5_slots_2 := dk_seg dksX5_slots_1 23 rfl rfl
theorem dX5_slots_0 : decode cX5_slots 0 = .ok (.aload_n 0, 1) := dk_42 (dk_at dksX5_slots_0 0 rfl rfl)
theorem dX5_slots_1 : decode cX5_slots 1 = .ok (.iconst 0, 1) := dk_3 (dk_at dksX5_slots_0 1 rfl rfl)
theorem dX5_slots_2 : decode cX5_slots 2 = .ok (.putfield 96, 3) := dk_181 0 96 (dk_at dksX5_slots_0 2 rfl rfl)
theorem dX5_slots_5 : decode cX5_slots 5 = .ok (.aload_n 0, 1) := dk_42 (dk_at dksX5_slots_0 5 rfl rfl)
theorem dX5_slots_6 : decode cX5_slots 6 = .ok (.iload_n 1, 1) := dk_27 (dk_at dksX5_slots_0 6 rfl rfl)
theorem dX5_slots_7 : decode cX5_slots 7 = .ok (.invokevirtual 259, 3) := dk_182 1 3 (dk_at dksX5_slots_0 7 rfl rfl)
theorem dX5_slots_10 : decode cX5_slots 10 = .ok (.ifCond .eq 15, 3) := dk_153 0 15 (dk_at dksX5_slots_0 10 rfl rfl)
theorem dX5_slots_13 : decode cX5_slots 13 = .ok (.iload_n 2, 1) := dk_28 (dk_at dksX5_slots_0 13 rfl rfl)
theorem dX5_slots_14 : decode cX5_slots 14 = .ok (.iconst 1, 1) := dk_4 (dk_at dksX5_slots_0 14 rfl rfl)
theorem dX5_slots_15 : decode cX5_slots 15 = .ok (.if_icmp .lt 10, 3) := dk_161 0 10 (dk_at dksX5_slots_0 15 rfl rfl)
theorem dX5_slots_18 : decode cX5_slots 18 = .ok (.iload_n 2, 1) := dk_28 (dk_at dksX5_slots_0 18 rfl rfl)
theorem dX5_slots_19 : decode cX5_slots 19 = .ok (.sipush 255, 3) := dk_17 0 255 (dk_at dksX5_slots_0 19 rfl rfl)
theorem dX5_slots_22 : decode cX5_slots 22 = .ok (.if_icmp .le 5, 3) := dk_164 0 5 (dk_at dksX5_slots_1 0 rfl rfl)
theorem dX5_slots_25 : decode cX5_slots 25 = .ok (.iconst (-1), 1) := dk_2 (dk_at dksX5_slots_1 3 rfl rfl)
theorem dX5_slots_26 : decode cX5_slots 26 = .ok (.ireturn, 1) := dk_172 (dk_at dksX5_slots_1 4 rfl rfl)
theorem dX5_slots_27 : decode cX5_slots 27 = .ok (.aload_n 0, 1) := dk_42 (dk_at dksX5_slots_1 5 rfl rfl)
theorem dX5_slots_28 : decode cX5_slots 28 = .ok (.getfield 51, 3) := dk_180 0 51 (dk_at dksX5_slots_1 6 rfl rfl)
theorem dX5_slots_31 : decode cX5_slots 31 = .ok (.bipush 73, 2) := dk_16 73 (dk_at dksX5_slots_1 9 rfl rfl)
theorem dX5_slots_33 : decode cX5_slots 33 = .ok (.iload_n 1, 1) := dk_27 (dk_at dksX5_slots_1 11 rfl rfl)
theorem dX5_slots_34 : decode cX5_slots 34 = .ok (.iadd, 1) := dk_96 (dk_at dksX5_slots_1 12 rfl rfl)
theorem dX5_slots_35 : decode cX5_slots 35 = .ok (.iaload, 1) := dk_46 (dk_at dksX5_slots_1 13 rfl rfl)
theorem dX5_slots_36 : decode cX5_slots 36 = .ok (.istore_n 3, 1) := dk_62 (dk_at dksX5_slots_1 14 rfl rfl)
theorem dX5_slots_37 : decode cX5_slots 37 = .ok (.aload_n 0, 1) := dk_42 (dk_at dksX5_slots_1 15 rfl rfl)
theorem dX5_slots_38 : decode cX5_slots 38 = .ok (.invokevirtual 265, 3) := dk_182 1 9 (dk_at dksX5_slots_1 16 rfl rfl)
theorem dX5_slots_41 : decode cX5_slots 41 = .ok (.aload_n 0, 1) := dk_42 (dk_at dksX5_slots_1 19 rfl rfl)
theorem dX5_slots_42 : decode cX5_slots 42 = .ok (.getfield 51, 3) := dk_180 0 51 (dk_at dksX5_slots_1 20 rfl rfl)
theorem dX5_slots_45 : decode cX5_slots 45 = .ok (.bipush 73, 2) := dk_16 73 (dk_at dksX5_slots_2 0 rfl rfl)
theorem dX5_slots_47 : decode cX5_slots 47 = .ok (.iload_n 1, 1) := dk_27 (dk_at dksX5_slots_2 2 rfl rfl)
theorem dX5_slots_48 : decode cX5_slots 48 = .ok (.iadd, 1) := dk_96 (dk_at dksX5_slots_2 3 rfl rfl)
theorem dX5_slots_49 : decode cX5_slots 49 = .ok (.iload_n 2, 1) := dk_28 (dk_at dksX5_slots_2 4 rfl rfl)
theorem dX5_slots_50 : decode cX5_slots 50 = .ok (.iastore, 1) := dk_79 (dk_at dksX5_slots_2 5 rfl rfl)
theorem dX5_slots_51 : decode cX5_slots 51 = .ok (.iload_n 3, 1) := dk_29 (dk_at dksX5_slots_2 6 rfl rfl)
theorem dX5_slots_52 : decode cX5_slots 52 = .ok (.ireturn, 1) := dk_172 (dk_at dksX5_slots_2 7 rfl rfl)
abbrev cX5_complete : ByteArray := prog_10_method_79_code
def yX5_complete : MethodName := ⟨RX5, "complete", "()I"⟩
def dkwX5_complete_1 : List UInt8 := [182, 1, 101, 27, 172, 42, 182, 1, 104, 27, 172]
abbrev dktX5_complete_1 : List UInt8 := dkwX5_complete_1 ++ []
def dkwX5_complete_0 : List UInt8 := [42, 3, 181, 0, 96, 42, 182, 1, 92, 42, 42, 182, 1, 95, 182, 1, 98, 60, 27, 157, 0, 9, 42]
abbrev dktX5_complete_0 : List UInt8 := dkwX5_complete_0 ++ dktX5_complete_1
theorem dksX5_complete_0 : cX5_complete.data.toList.drop 0 = dktX5_complete_0 := by decide +kernel
theorem dksX5_complete_1 : cX5_complete.data.toList.drop 23 = dktX5_complete_1 := dk_seg dksX5_complete_0 23 rfl rfl
theorem dX5_complete_0 : decode cX5_complete 0 = .ok (.aload_n 0, 1) := dk_42 (dk_at dksX5_complete_0 0 rfl rfl)
theorem dX5_complete_1 : decode cX5_complete 1 = .ok (.iconst 0, 1) := dk_3 (dk_at dksX5_complete_0 1 rfl rfl)
theorem dX5_complete_2 : decode cX5_complete 2 = .ok (.putfield 96, 3) := dk_181 0 96 (dk_at dksX5_complete_0 2 rfl rfl)
theorem dX5_complete_5 : decode cX5_complete 5 = .ok (.aload_n 0, 1) := dk_42 (dk_at dksX5_complete_0 5 rfl rfl)
theorem dX5_complete_6 : decode cX5_complete 6 = .ok (.invokevirtual 348, 3) := dk_182 1 92 (dk_at dksX5_complete_0 6 rfl rfl)
theorem dX5_complete_9 : decode cX5_complete 9 = .ok (.aload_n 0, 1) := dk_42 (dk_at dksX5_complete_0 9 rfl rfl)
theorem dX5_complete_10 : decode cX5_complete 10 = .ok (.aload_n 0, 1) := dk_42 (dk_at dksX5_complete_0 10 rfl rfl)
theorem dX5_complete_11 : decode cX5_complete 11 = .ok (.invokevirtual 351, 3) := dk_182 1 95 (dk_at dksX5_complete_0 11 rfl rfl)
theorem dX5_complete_14 : decode cX5_complete 14 = .ok (.invokevirtual 354, 3) := dk_182 1 98 (dk_at dksX5_complete_0 14 rfl rfl)
theorem dX5_complete_17 : decode cX5_complete 17 = .ok (.istore_n 1, 1) := dk_60 (dk_at dksX5_complete_0 17 rfl rfl)
theorem dX5_complete_18 : decode cX5_complete 18 = .ok (.iload_n 1, 1) := dk_27 (dk_at dksX5_complete_0 18 rfl rfl)
theorem dX5_complete_19 : decode cX5_complete 19 = .ok (.ifCond .gt 9, 3) := dk_157 0 9 (dk_at dksX5_complete_0 19 rfl rfl)
theorem dX5_complete_22 : decode cX5_complete 22 = .ok (.aload_n 0, 1) := dk_42 (dk_at dksX5_complete_0 22 rfl rfl)
theorem dX5_complete_23 : decode cX5_complete 23 = .ok (.invokevirtual 357, 3) := dk_182 1 101 (dk_at dksX5_complete_1 0 rfl rfl)
theorem dX5_complete_26 : decode cX5_complete 26 = .ok (.iload_n 1, 1) := dk_27 (dk_at dksX5_complete_1 3 rfl rfl)
theorem dX5_complete_27 : decode cX5_complete 27 = .ok (.ireturn, 1) := dk_172 (dk_at dksX5_complete_1 4 rfl rfl)
theorem dX5_complete_28 : decode cX5_complete 28 = .ok (.aload_n 0, 1) := dk_42 (dk_at dksX5_complete_1 5 rfl rfl)
theorem dX5_complete_29 : decode cX5_complete 29 = .ok (.invokevirtual 360, 3) := dk_182 1 104 (dk_at dksX5_complete_1 6 rfl rfl)
theorem dX5_complete_32 : decode cX5_complete 32 = .ok (.iload_n 1, 1) := dk_27 (dk_at dksX5_complete_1 9 rfl rfl)
theorem dX5_complete_33 : decode cX5_complete 33 = .ok (.ireturn, 1) := dk_172 (dk_at dksX5_complete_1 10 rfl rfl)
abbrev cX5_goesAside : ByteArray := prog_10_method_38_code
def yX5_goesAside : MethodName := ⟨RX5, "goesAside", "()V"⟩
def dkwX5_goesAside_1 : List UInt8 := [167, 255, 235, 177]
abbrev dktX5_goesAside_1 : List UInt8 := dkwX5_goesAside_1 ++ []
def dkwX5_goesAside_0 : List UInt8 := [3, 60, 27, 16, 79, 162, 0, 21, 42, 180, 0, 57, 27, 42, 180, 0, 51, 27, 46, 79, 132, 1, 1]
abbrev dktX5_goesAside_0 : List UInt8 := dkwX5_goesAside_0 ++ dktX5_goesAside_1
theorem dksX5_goesAside_0 : cX5_goesAside.data.toList.drop 0 = dktX5_goesAside_0 := by decide +kernel
theorem dksX5_goesAside_1 : cX5_goesAside.data.toList.drop 23 = dktX5_goesAside_1 := dk_seg dksX5_goesAside_0 23 rfl rfl
theorem dX5_goesAside_0 : decode cX5_goesAside 0 = .ok (.iconst 0, 1) := dk_3 (dk_at dksX5_goesAside_0 0 rfl rfl)
theorem dX5_goesAside_1 : decode cX5_goesAside 1 = .ok (.istore_n 1, 1) := dk_60 (dk_at dksX5_goesAside_0 1 rfl rfl)
theorem dX5_goesAside_2 : decode cX5_goesAside 2 = .ok (.iload_n 1, 1) := dk_27 (dk_at dksX5_goesAside_0 2 rfl rfl)
theorem dX5_goesAside_3 : decode cX5_goesAside 3 = .ok (.bipush 79, 2) := dk_16 79 (dk_at dksX5_goesAside_0 3 rfl rfl)
theorem dX5_goesAside_5 : decode cX5_goesAside 5 = .ok (.if_icmp .ge 21, 3) := dk_162 0 21 (dk_at dksX5_goesAside_0 5 rfl rfl)
theorem dX5_goesAside_8 : decode cX5_goesAside 8 = .ok (.aload_n 0, 1) := dk_42 (dk_at dksX5_goesAside_0 8 rfl rfl)
theorem dX5_goesAside_9 : decode cX5_goesAside 9 = .ok (.getfield 57, 3) := dk_180 0 57 (dk_at dksX5_goesAside_0 9 rfl rfl)
theorem dX5_goesAside_12 : decode cX5_goesAside 12 = .ok (.iload_n 1, 1) := dk_27 (dk_at dksX5_goesAside_0 12 rfl rfl)
theorem dX5_goesAside_13 : decode cX5_goesAside 13 = .ok (.aload_n 0, 1) := dk_42 (dk_at dksX5_goesAside_0 13 rfl rfl)
theorem dX5_goesAside_14 : decode cX5_goesAside 14 = .ok (.getfield 51, 3) := dk_180 0 51 (dk_at dksX5_goesAside_0 14 rfl rfl)
theorem dX5_goesAside_17 : decode cX5_goesAside 17 = .ok (.iload_n 1, 1) := dk_27 (dk_at dksX5_goesAside_0 17 rfl rfl)
theorem dX5_goesAside_18 : decode cX5_goesAside 18 = .ok (.iaload, 1) := dk_46 (dk_at dksX5_goesAside_0 18 rfl rfl)
theorem dX5_goesAside_19 : decode cX5_goesAside 19 = .ok (.iastore, 1) := dk_79 (dk_at dksX5_goesAside_0 19 rfl rfl)
theorem dX5_goesAside_20 : decode cX5_goesAside 20 = .ok (.iinc 1 1, 3) := dk_132 1 1 (dk_at dksX5_goesAside_0 20 rfl rfl)
theorem dX5_goesAside_23 : decode cX5_goesAside 23 = .ok (.goto (-21), 3) := dk_167 255 235 (dk_at dksX5_goesAside_1 0 rfl rfl)
theorem dX5_goesAside_26 : decode cX5_goesAside 26 = .ok (.return_, 1) := dk_177 (dk_at dksX5_goesAside_1 3 rfl rfl)
abbrev cX5_withoutChannels : ByteArray := prog_10_method_78_code
def yX5_withoutChannels : MethodName := ⟨RX5, "withoutChannels", "()I"⟩
def dkwX5_withoutChannels_1 : List UInt8 := [4, 28, 120, 128, 60, 132, 2, 1, 167, 255, 228, 27, 172]
abbrev dktX5_withoutChannels_1 : List UInt8 := dkwX5_withoutChannels_1 ++ []
def dkwX5_withoutChannels_0 : List UInt8 := [3, 60, 3, 61, 28, 42, 182, 0, 232, 162, 0, 26, 42, 180, 0, 51, 3, 28, 96, 46, 154, 0, 9, 27]
abbrev dktX5_withoutChannels_0 : List UInt8 := dkwX5_withoutChannels_0 ++ dktX5_withoutChannels_1
theorem dksX5_withoutChannels_0 : cX5_withoutChannels.data.toList.drop 0 = dktX5_withoutChannels_0 := by decide +kernel
theorem dksX5_withoutChannels_1 : cX5_withoutChannels.data.toList.drop 24 = dktX5_withoutChannels_1 := dk_seg dksX5_withoutChannels_0 24 rfl rfl
theorem dX5_withoutChannels_0 : decode cX5_withoutChannels 0 = .ok (.iconst 0, 1) := dk_3 (dk_at dksX5_withoutChannels_0 0 rfl rfl)
theorem dX5_withoutChannels_1 : decode cX5_withoutChannels 1 = .ok (.istore_n 1, 1) := dk_60 (dk_at dksX5_withoutChannels_0 1 rfl rfl)
theorem dX5_withoutChannels_2 : decode cX5_withoutChannels 2 = .ok (.iconst 0, 1) := dk_3 (dk_at dksX5_withoutChannels_0 2 rfl rfl)
theorem dX5_withoutChannels_3 : decode cX5_withoutChannels 3 = .ok (.istore_n 2, 1) := dk_61 (dk_at dksX5_withoutChannels_0 3 rfl rfl)
theorem dX5_withoutChannels_4 : decode cX5_withoutChannels 4 = .ok (.iload_n 2, 1) := dk_28 (dk_at dksX5_withoutChannels_0 4 rfl rfl)
theorem dX5_withoutChannels_5 : decode cX5_withoutChannels 5 = .ok (.aload_n 0, 1) := dk_42 (dk_at dksX5_withoutChannels_0 5 rfl rfl)
theorem dX5_withoutChannels_6 : decode cX5_withoutChannels 6 = .ok (.invokevirtual 232, 3) := dk_182 0 232 (dk_at dksX5_withoutChannels_0 6 rfl rfl)
theorem dX5_withoutChannels_9 : decode cX5_withoutChannels 9 = .ok (.if_icmp .ge 26, 3) := dk_162 0 26 (dk_at dksX5_withoutChannels_0 9 rfl rfl)
theorem dX5_withoutChannels_12 : decode cX5_withoutChannels 12 = .ok (.aload_n 0, 1) := dk_42 (dk_at dksX5_withoutChannels_0 12 rfl rfl)
theorem dX5_withoutChannels_13 : decode cX5_withoutChannels 13 = .ok (.getfield 51, 3) := dk_180 0 51 (dk_at dksX5_withoutChannels_0 13 rfl rfl)
theorem dX5_withoutChannels_16 : decode cX5_withoutChannels 16 = .ok (.iconst 0, 1) := dk_3 (dk_at dksX5_withoutChannels_0 16 rfl rfl)
theorem dX5_withoutChannels_17 : decode cX5_withoutChannels 17 = .ok (.iload_n 2, 1) := dk_28 (dk_at dksX5_withoutChannels_0 17 rfl rfl)
theorem dX5_withoutChannels_18 : decode cX5_withoutChannels 18 = .ok (.iadd, 1) := dk_96 (dk_at dksX5_withoutChannels_0 18 rfl rfl)
theorem dX5_withoutChannels_19 : decode cX5_withoutChannels 19 = .ok (.iaload, 1) := dk_46 (dk_at dksX5_withoutChannels_0 19 rfl rfl)
theorem dX5_withoutChannels_20 : decode cX5_withoutChannels 20 = .ok (.ifCond .ne 9, 3) := dk_154 0 9 (dk_at dksX5_withoutChannels_0 20 rfl rfl)
theorem dX5_withoutChannels_23 : decode cX5_withoutChannels 23 = .ok (.iload_n 1, 1) := dk_27 (dk_at dksX5_withoutChannels_0 23 rfl rfl)
theorem dX5_withoutChannels_24 : decode cX5_withoutChannels 24 = .ok (.iconst 1, 1) := dk_4 (dk_at dksX5_withoutChannels_1 0 rfl rfl)
theorem dX5_withoutChannels_25 : decode cX5_withoutChannels 25 = .ok (.iload_n 2, 1) := dk_28 (dk_at dksX5_withoutChannels_1 1 rfl rfl)
theorem dX5_withoutChannels_26 : decode cX5_withoutChannels 26 = .ok (.ishl, 1) := dk_120 (dk_at dksX5_withoutChannels_1 2 rfl rfl)
theorem dX5_withoutChannels_27 : decode cX5_withoutChannels 27 = .ok (.ior, 1) := dk_128 (dk_at dksX5_withoutChannels_1 3 rfl rfl)
theorem dX5_withoutChannels_28 : decode cX5_withoutChannels 28 = .ok (.istore_n 1, 1) := dk_60 (dk_at dksX5_withoutChannels_1 4 rfl rfl)
theorem dX5_withoutChannels_29 : decode cX5_withoutChannels 29 = .ok (.iinc 2 1, 3) := dk_132 2 1 (dk_at dksX5_withoutChannels_1 5 rfl rfl)
theorem dX5_withoutChannels_32 : decode cX5_withoutChannels 32 = .ok (.goto (-28), 3) := dk_167 255 228 (dk_at dksX5_withoutChannels_1 8 rfl rfl)
theorem dX5_withoutChannels_35 : decode cX5_withoutChannels 35 = .ok (.iload_n 1, 1) := dk_27 (dk_at dksX5_withoutChannels_1 11 rfl rfl)
theorem dX5_withoutChannels_36 : decode cX5_withoutChannels 36 = .ok (.ireturn, 1) := dk_172 (dk_at dksX5_withoutChannels_1 12 rfl rfl)
abbrev cX5_searches : ByteArray := prog_10_method_73_code
def yX5_searches : MethodName := ⟨RX5, "searches", "(I)I"⟩
def dkwX5_searches_5 : List UInt8 := [27, 28, 182, 1, 80, 61, 167, 255, 196, 28, 2, 160, 0, 8, 16, 254, 167, 0, 7, 42, 180, 1, 73, 172]
abbrev dktX5_searches_5 : List UInt8 := dkwX5_searches_5 ++ []
def dkwX5_searches_4 : List UInt8 := [172, 42, 180, 0, 51, 3, 28, 96, 29, 79, 29, 154, 0, 12, 42, 27, 28, 182, 1, 89, 167, 0, 9, 42]
abbrev dktX5_searches_4 : List UInt8 := dkwX5_searches_4 ++ dktX5_searches_5
def dkwX5_searches_3 : List UInt8 := [16, 6, 162, 0, 55, 42, 28, 182, 1, 83, 62, 29, 16, 253, 160, 0, 11, 42, 27, 182, 1, 86, 16, 253]
abbrev dktX5_searches_3 : List UInt8 := dkwX5_searches_3 ++ dktX5_searches_4
def dkwX5_searches_2 : List UInt8 := [160, 0, 12, 42, 180, 0, 51, 3, 29, 96, 3, 79, 132, 3, 1, 167, 255, 227, 28, 2, 159, 0, 61, 28]
abbrev dktX5_searches_2 : List UInt8 := dkwX5_searches_2 ++ dktX5_searches_3
def dkwX5_searches_1 : List UInt8 := [27, 2, 182, 1, 80, 61, 3, 62, 29, 42, 182, 0, 232, 162, 0, 27, 27, 29, 122, 4, 126, 4]
abbrev dktX5_searches_1 : List UInt8 := dkwX5_searches_1 ++ dktX5_searches_2
def dkwX5_searches_0 : List UInt8 := [42, 3, 181, 1, 73, 27, 154, 0, 17, 42, 182, 1, 76, 153, 0, 7, 3, 167, 0, 5, 16, 254, 172, 42]
abbrev dktX5_searches_0 : List UInt8 := dkwX5_searches_0 ++ dktX5_searches_1
theorem dksX5_searches_0 : cX5_searches.data.toList.drop 0 = dktX5_searches_0 := by decide +kernel
theorem dksX5_searches_1 : cX5_searches.data.toList.drop 24 = dktX5_searches_1 := dk_seg dksX5_searches_0 24 rfl rfl
theorem dksX5_searches_2 : cX5_searches.data.toList.drop 46 = dktX5_searches_2 := dk_seg dksX5_searches_1 22 rfl rfl
theorem dksX5_searches_3 : cX5_searches.data.toList.drop 70 = dktX5_searches_3 := dk_seg dksX5_searches_2 24 rfl rfl
theorem dksX5_searches_4 : cX5_searches.data.toList.drop 94 = dktX5_searches_4 := dk_seg dksX5_searches_3 24 rfl rfl
theorem dksX5_searches_5 : cX5_searches.data.toList.drop 118 = dktX5_searches_5 := dk_seg dksX5_searches_4 24 rfl rfl
theorem dX5_searches_0 : decode cX5_searches 0 = .ok (.aload_n 0, 1) := dk_42 (dk_at dksX5_searches_0 0 rfl rfl)
theorem dX5_searches_1 : decode cX5_searches 1 = .ok (.iconst 0, 1) := dk_3 (dk_at dksX5_searches_0 1 rfl rfl)
theorem dX5_searches_2 : decode cX5_searches 2 = .ok (.putfield 329, 3) := dk_181 1 73 (dk_at dksX5_searches_0 2 rfl rfl)
theorem dX5_searches_5 : decode cX5_searches 5 = .ok (.iload_n 1, 1) := dk_27 (dk_at dksX5_searches_0 5 rfl rfl)
theorem dX5_searches_6 : decode cX5_searches 6 = .ok (.ifCond .ne 17, 3) := dk_154 0 17 (dk_at dksX5_searches_0 6 rfl rfl)
theorem dX5_searches_9 : decode cX5_searches 9 = .ok (.aload_n 0, 1) := dk_42 (dk_at dksX5_searches_0 9 rfl rfl)
theorem dX5_searches_10 : decode cX5_searches 10 = .ok (.invokevirtual 332, 3) := dk_182 1 76 (dk_at dksX5_searches_0 10 rfl rfl)
theorem dX5_searches_13 : decode cX5_searches 13 = .ok (.ifCond .eq 7, 3) := dk_153 0 7 (dk_at dksX5_searches_0 13 rfl rfl)
theorem dX5_searches_16 : decode cX5_searches 16 = .ok (.iconst 0, 1) := dk_3 (dk_at dksX5_searches_0 16 rfl rfl)
theorem dX5_searches_17 : decode cX5_searches 17 = .ok (.goto 5, 3) := dk_167 0 5 (dk_at dksX5_searches_0 17 rfl rfl)
theorem dX5_searches_20 : decode cX5_searches 20 = .ok (.bipush (-2), 2) := dk_16 254 (dk_at dksX5_searches_0 20 rfl rfl)
theorem dX5_searches_22 : decode cX5_searches 22 = .ok (.ireturn, 1) := dk_172 (dk_at dksX5_searches_0 22 rfl rfl)
theorem dX5_searches_23 : decode cX5_searches 23 = .ok (.aload_n 0, 1) := dk_42 (dk_at dksX5_searches_0 23 rfl rfl)
theorem dX5_searches_24 : decode cX5_searches 24 = .ok (.iload_n 1, 1) := dk_27 (dk_at dksX5_searches_1 0 rfl rfl)
theorem dX5_searches_25 : decode cX5_searches 25 = .ok (.iconst (-1), 1) := dk_2 (dk_at dksX5_searches_1 1 rfl rfl)
theorem dX5_searches_26 : decode cX5_searches 26 = .ok (.invokevirtual 336, 3) := dk_182 1 80 (dk_at dksX5_searches_1 2 rfl rfl)
theorem dX5_searches_29 : decode cX5_searches 29 = .ok (.istore_n 2, 1) := dk_61 (dk_at dksX5_searches_1 5 rfl rfl)
theorem dX5_searches_30 : decode cX5_searches 30 = .ok (.iconst 0, 1) := dk_3 (dk_at dksX5_searches_1 6 rfl rfl)
theorem dX5_searches_31 : decode cX5_searches 31 = .ok (.istore_n 3, 1) := dk_62 (dk_at dksX5_searches_1 7 rfl rfl)
theorem dX5_searches_32 : decode cX5_searches 32 = .ok (.iload_n 3, 1) := dk_29 (dk_at dksX5_searches_1 8 rfl rfl)
theorem dX5_searches_33 : decode cX5_searches 33 = .ok (.aload_n 0, 1) := dk_42 (dk_at dksX5_searches_1 9 rfl rfl)
theorem dX5_searches_34 : decode cX5_searches 34 = .ok (.invokevirtual 232, 3) := dk_182 0 232 (dk_at dksX5_searches_1 10 rfl rfl)
theorem dX5_searches_37 : decode cX5_searches 37 = .ok (.if_icmp .ge 27, 3) := dk_162 0 27 (dk_at dksX5_searches_1 13 rfl rfl)
theorem dX5_searches_40 : decode cX5_searches 40 = .ok (.iload_n 1, 1) := dk_27 (dk_at dksX5_searches_1 16 rfl rfl)
theorem dX5_searches_41 : decode cX5_searches 41 = .ok (.iload_n 3, 1) := dk_29 (dk_at dksX5_searches_1 17 rfl rfl)
theorem dX5_searches_42 : decode cX5_searches 42 = .ok (.ishr, 1) := dk_122 (dk_at dksX5_searches_1 18 rfl rfl)
theorem dX5_searches_43 : decode cX5_searches 43 = .ok (.iconst 1, 1) := dk_4 (dk_at dksX5_searches_1 19 rfl rfl)
theorem dX5_searches_44 : decode cX5_searches 44 = .ok (.iand, 1) := dk_126 (dk_at dksX5_searches_1 20 rfl rfl)
theorem dX5_searches_45 : decode cX5_searches 45 = .ok (.iconst 1, 1) := dk_4 (dk_at dksX5_searches_1 21 rfl rfl)
theorem dX5_searches_46 : decode cX5_searches 46 = .ok (.if_icmp .ne 12, 3) := dk_160 0 12 (dk_at dksX5_searches_2 0 rfl rfl)
theorem dX5_searches_49 : decode cX5_searches 49 = .ok (.aload_n 0, 1) := dk_42 (dk_at dksX5_searches_2 3 rfl rfl)
theorem dX5_searches_50 : decode cX5_searches 50 = .ok (.getfield 51, 3) := dk_180 0 51 (dk_at dksX5_searches_2 4 rfl rfl)
theorem dX5_searches_53 : decode cX5_searches 53 = .ok (.iconst 0, 1) := dk_3 (dk_at dksX5_searches_2 7 rfl rfl)
theorem dX5_searches_54 : decode cX5_searches 54 = .ok (.iload_n 3, 1) := dk_29 (dk_at dksX5_searches_2 8 rfl rfl)
theorem dX5_searches_55 : decode cX5_searches 55 = .ok (.iadd, 1) := dk_96 (dk_at dksX5_searches_2 9 rfl rfl)
theorem dX5_searches_56 : decode cX5_searches 56 = .ok (.iconst 0, 1) := dk_3 (dk_at dksX5_searches_2 10 rfl rfl)
theorem dX5_searches_57 : decode cX5_searches 57 = .ok (.iastore, 1) := dk_79 (dk_at dksX5_searches_2 11 rfl rfl)
theorem dX5_searches_58 : decode cX5_searches 58 = .ok (.iinc 3 1, 3) := dk_132 3 1 (dk_at dksX5_searches_2 12 rfl rfl)
theorem dX5_searches_61 : decode cX5_searches 61 = .ok (.goto (-29), 3) := dk_167 255 227 (dk_at dksX5_searches_2 15 rfl rfl)
theorem dX5_searches_64 : decode cX5_searches 64 = .ok (.iload_n 2, 1) := dk_28 (dk_at dksX5_searches_2 18 rfl rfl)
theorem dX5_searches_65 : decode cX5_searches 65 = .ok (.iconst (-1), 1) := dk_2 (dk_at dksX5_searches_2 19 rfl rfl)
theorem dX5_searches_66 : decode cX5_searches 66 = .ok (.if_icmp .eq 61, 3) := dk_159 0 61 (dk_at dksX5_searches_2 20 rfl rfl)
theorem dX5_searches_69 : decode cX5_searches 69 = .ok (.iload_n 2, 1) := dk_28 (dk_at dksX5_searches_2 23 rfl rfl)
theorem dX5_searches_70 : decode cX5_searches 70 = .ok (.bipush 6, 2) := dk_16 6 (dk_at dksX5_searches_3 0 rfl rfl)
theorem dX5_searches_72 : decode cX5_searches 72 = .ok (.if_icmp .ge 55, 3) := dk_162 0 55 (dk_at dksX5_searches_3 2 rfl rfl)
theorem dX5_searches_75 : decode cX5_searches 75 = .ok (.aload_n 0, 1) := dk_42 (dk_at dksX5_searches_3 5 rfl rfl)
theorem dX5_searches_76 : decode cX5_searches 76 = .ok (.iload_n 2, 1) := dk_28 (dk_at dksX5_searches_3 6 rfl rfl)
theorem dX5_searches_77 : decode cX5_searches 77 = .ok (.invokevirtual 339, 3) := dk_182 1 83 (dk_at dksX5_searches_3 7 rfl rfl)
theorem dX5_searches_80 : decode cX5_searches 80 = .ok (.istore_n 3, 1) := dk_62 (dk_at dksX5_searches_3 10 rfl rfl)
theorem dX5_searches_81 : decode cX5_searches 81 = .ok (.iload_n 3, 1) := dk_29 (dk_at dksX5_searches_3 11 rfl rfl)
theorem dX5_searches_82 : decode cX5_searches 82 = .ok (.bipush (-3), 2) := dk_16 253 (dk_at dksX5_searches_3 12 rfl rfl)
theorem dX5_searches_84 : decode cX5_searches 84 = .ok (.if_icmp .ne 11, 3) := dk_160 0 11 (dk_at dksX5_searches_3 14 rfl rfl)
theorem dX5_searches_87 : decode cX5_searches 87 = .ok (.aload_n 0, 1) := dk_42 (dk_at dksX5_searches_3 17 rfl rfl)
theorem dX5_searches_88 : decode cX5_searches 88 = .ok (.iload_n 1, 1) := dk_27 (dk_at dksX5_searches_3 18 rfl rfl)
theorem dX5_searches_89 : decode cX5_searches 89 = .ok (.invokevirtual 342, 3) := dk_182 1 86 (dk_at dksX5_searches_3 19 rfl rfl)
theorem dX5_searches_92 : decode cX5_searches 92 = .ok (.bipush (-3), 2) := dk_16 253 (dk_at dksX5_searches_3 22 rfl rfl)
theorem dX5_searches_94 : decode cX5_searches 94 = .ok (.ireturn, 1) := dk_172 (dk_at dksX5_searches_4 0 rfl rfl)
theorem dX5_searches_95 : decode cX5_searches 95 = .ok (.aload_n 0, 1) := dk_42 (dk_at dksX5_searches_4 1 rfl rfl)
theorem dX5_searches_96 : decode cX5_searches 96 = .ok (.getfield 51, 3) := dk_180 0 51 (dk_at dksX5_searches_4 2 rfl rfl)
theorem dX5_searches_99 : decode cX5_searches 99 = .ok (.iconst 0, 1) := dk_3 (dk_at dksX5_searches_4 5 rfl rfl)
theorem dX5_searches_100 : decode cX5_searches 100 = .ok (.iload_n 2, 1) := dk_28 (dk_at dksX5_searches_4 6 rfl rfl)
theorem dX5_searches_101 : decode cX5_searches 101 = .ok (.iadd, 1) := dk_96 (dk_at dksX5_searches_4 7 rfl rfl)
theorem dX5_searches_102 : decode cX5_searches 102 = .ok (.iload_n 3, 1) := dk_29 (dk_at dksX5_searches_4 8 rfl rfl)
theorem dX5_searches_103 : decode cX5_searches 103 = .ok (.iastore, 1) := dk_79 (dk_at dksX5_searches_4 9 rfl rfl)
theorem dX5_searches_104 : decode cX5_searches 104 = .ok (.iload_n 3, 1) := dk_29 (dk_at dksX5_searches_4 10 rfl rfl)
theorem dX5_searches_105 : decode cX5_searches 105 = .ok (.ifCond .ne 12, 3) := dk_154 0 12 (dk_at dksX5_searches_4 11 rfl rfl)
theorem dX5_searches_108 : decode cX5_searches 108 = .ok (.aload_n 0, 1) := dk_42 (dk_at dksX5_searches_4 14 rfl rfl)
theorem dX5_searches_109 : decode cX5_searches 109 = .ok (.iload_n 1, 1) := dk_27 (dk_at dksX5_searches_4 15 rfl rfl)
theorem dX5_searches_110 : decode cX5_searches 110 = .ok (.iload_n 2, 1) := dk_28 (dk_at dksX5_searches_4 16 rfl rfl)
theorem dX5_searches_111 : decode cX5_searches 111 = .ok (.invokevirtual 345, 3) := dk_182 1 89 (dk_at dksX5_searches_4 17 rfl rfl)
theorem dX5_searches_114 : decode cX5_searches 114 = .ok (.goto 9, 3) := dk_167 0 9 (dk_at dksX5_searches_4 20 rfl rfl)
theorem dX5_searches_117 : decode cX5_searches 117 = .ok (.aload_n 0, 1) := dk_42 (dk_at dksX5_searches_4 23 rfl rfl)
theorem dX5_searches_118 : decode cX5_searches 118 = .ok (.iload_n 1, 1) := dk_27 (dk_at dksX5_searches_5 0 rfl rfl)
theorem dX5_searches_119 : decode cX5_searches 119 = .ok (.iload_n 2, 1) := dk_28 (dk_at dksX5_searches_5 1 rfl rfl)
theorem dX5_searches_120 : decode cX5_searches 120 = .ok (.invokevirtual 336, 3) := dk_182 1 80 (dk_at dksX5_searches_5 2 rfl rfl)
theorem dX5_searches_123 : decode cX5_searches 123 = .ok (.istore_n 2, 1) := dk_61 (dk_at dksX5_searches_5 5 rfl rfl)
theorem dX5_searches_124 : decode cX5_searches 124 = .ok (.goto (-60), 3) := dk_167 255 196 (dk_at dksX5_searches_5 6 rfl rfl)
theorem dX5_searches_127 : decode cX5_searches 127 = .ok (.iload_n 2, 1) := dk_28 (dk_at dksX5_searches_5 9 rfl rfl)
theorem dX5_searches_128 : decode cX5_searches 128 = .ok (.iconst (-1), 1) := dk_2 (dk_at dksX5_searches_5 10 rfl rfl)
theorem dX5_searches_129 : decode cX5_searches 129 = .ok (.if_icmp .ne 8, 3) := dk_160 0 8 (dk_at dksX5_searches_5 11 rfl rfl)
theorem dX5_searches_132 : decode cX5_searches 132 = .ok (.bipush (-2), 2) := dk_16 254 (dk_at dksX5_searches_5 14 rfl rfl)
theorem dX5_searches_134 : decode cX5_searches 134 = .ok (.goto 7, 3) := dk_167 0 7 (dk_at dksX5_searches_5 16 rfl rfl)
theorem dX5_searches_137 : decode cX5_searches 137 = .ok (.aload_n 0, 1) := dk_42 (dk_at dksX5_searches_5 19 rfl rfl)
theorem dX5_searches_138 : decode cX5_searches 138 = .ok (.getfield 329, 3) := dk_180 1 73 (dk_at dksX5_searches_5 20 rfl rfl)
theorem dX5_searches_141 : decode cX5_searches 141 = .ok (.ireturn, 1) := dk_172 (dk_at dksX5_searches_5 23 rfl rfl)
abbrev cX5_isClean : ByteArray := prog_10_method_72_code
def yX5_isClean : MethodName := ⟨RX5, "isClean", "()Z"⟩
def dkwX5_isClean_3 : List UInt8 := [132, 1, 1, 167, 255, 235, 4, 172]
abbrev dktX5_isClean_3 : List UInt8 := dkwX5_isClean_3 ++ []
def dkwX5_isClean_2 : List UInt8 := [182, 1, 70, 3, 60, 27, 42, 180, 1, 24, 162, 0, 19, 42, 27, 182, 1, 52, 153, 0, 5, 3, 172]
abbrev dktX5_isClean_2 : List UInt8 := dkwX5_isClean_2 ++ dktX5_isClean_3
def dkwX5_isClean_1 : List UInt8 := [182, 1, 67, 153, 0, 11, 42, 27, 182, 1, 61, 153, 0, 5, 3, 172, 132, 1, 1, 167, 255, 216, 42]
abbrev dktX5_isClean_1 : List UInt8 := dkwX5_isClean_1 ++ dktX5_isClean_2
def dkwX5_isClean_0 : List UInt8 := [3, 60, 27, 42, 182, 0, 232, 162, 0, 38, 42, 180, 0, 51, 3, 27, 96, 46, 158, 0, 21, 42, 27]
abbrev dktX5_isClean_0 : List UInt8 := dkwX5_isClean_0 ++ dktX5_isClean_1
theorem dksX5_isClean_0 : cX5_isClean.data.toList.drop 0 = dktX5_isClean_0 := by decide +kernel
theorem dksX5_isClean_1 : cX5_isClean.data.toList.drop 23 = dktX5_isClean_1 := dk_seg dksX5_isClean_0 23 rfl rfl
theorem dksX5_isClean_2 : cX5_isClean.data.toList.drop 46 = dktX5_isClean_2 := dk_seg dksX5_isClean_1 23 rfl rfl
theorem dksX5_isClean_3 : cX5_isClean.data.toList.drop 69 = dktX5_isClean_3 := dk_seg dksX5_isClean_2 23 rfl rfl
theorem dX5_isClean_0 : decode cX5_isClean 0 = .ok (.iconst 0, 1) := dk_3 (dk_at dksX5_isClean_0 0 rfl rfl)
theorem dX5_isClean_1 : decode cX5_isClean 1 = .ok (.istore_n 1, 1) := dk_60 (dk_at dksX5_isClean_0 1 rfl rfl)
theorem dX5_isClean_2 : decode cX5_isClean 2 = .ok (.iload_n 1, 1) := dk_27 (dk_at dksX5_isClean_0 2 rfl rfl)
theorem dX5_isClean_3 : decode cX5_isClean 3 = .ok (.aload_n 0, 1) := dk_42 (dk_at dksX5_isClean_0 3 rfl rfl)
theorem dX5_isClean_4 : decode cX5_isClean 4 = .ok (.invokevirtual 232, 3) := dk_182 0 232 (dk_at dksX5_isClean_0 4 rfl rfl)
theorem dX5_isClean_7 : decode cX5_isClean 7 = .ok (.if_icmp .ge 38, 3) := dk_162 0 38 (dk_at dksX5_isClean_0 7 rfl rfl)
theorem dX5_isClean_10 : decode cX5_isClean 10 = .ok (.aload_n 0, 1) := dk_42 (dk_at dksX5_isClean_0 10 rfl rfl)
theorem dX5_isClean_11 : decode cX5_isClean 11 = .ok (.getfield 51, 3) := dk_180 0 51 (dk_at dksX5_isClean_0 11 rfl rfl)
theorem dX5_isClean_14 : decode cX5_isClean 14 = .ok (.iconst 0, 1) := dk_3 (dk_at dksX5_isClean_0 14 rfl rfl)
theorem dX5_isClean_15 : decode cX5_isClean 15 = .ok (.iload_n 1, 1) := dk_27 (dk_at dksX5_isClean_0 15 rfl rfl)
theorem dX5_isClean_16 : decode cX5_isClean 16 = .ok (.iadd, 1) := dk_96 (dk_at dksX5_isClean_0 16 rfl rfl)
theorem dX5_isClean_17 : decode cX5_isClean 17 = .ok (.iaload, 1) := dk_46 (dk_at dksX5_isClean_0 17 rfl rfl)
theorem dX5_isClean_18 : decode cX5_isClean 18 = .ok (.ifCond .le 21, 3) := dk_158 0 21 (dk_at dksX5_isClean_0 18 rfl rfl)
theorem dX5_isClean_21 : decode cX5_isClean 21 = .ok (.aload_n 0, 1) := dk_42 (dk_at dksX5_isClean_0 21 rfl rfl)
theorem dX5_isClean_22 : decode cX5_isClean 22 = .ok (.iload_n 1, 1) := dk_27 (dk_at dksX5_isClean_0 22 rfl rfl)
theorem dX5_isClean_23 : decode cX5_isClean 23 = .ok (.invokevirtual 323, 3) := dk_182 1 67 (dk_at dksX5_isClean_1 0 rfl rfl)
theorem dX5_isClean_26 : decode cX5_isClean 26 = .ok (.ifCond .eq 11, 3) := dk_153 0 11 (dk_at dksX5_isClean_1 3 rfl rfl)
theorem dX5_isClean_29 : decode cX5_isClean 29 = .ok (.aload_n 0, 1) := dk_42 (dk_at dksX5_isClean_1 6 rfl rfl)
theorem dX5_isClean_30 : decode cX5_isClean 30 = .ok (.iload_n 1, 1) := dk_27 (dk_at dksX5_isClean_1 7 rfl rfl)
theorem dX5_isClean_31 : decode cX5_isClean 31 = .ok (.invokevirtual 317, 3) := dk_182 1 61 (dk_at dksX5_isClean_1 8 rfl rfl)
theorem dX5_isClean_34 : decode cX5_isClean 34 = .ok (.ifCond .eq 5, 3) := dk_153 0 5 (dk_at dksX5_isClean_1 11 rfl rfl)
theorem dX5_isClean_37 : decode cX5_isClean 37 = .ok (.iconst 0, 1) := dk_3 (dk_at dksX5_isClean_1 14 rfl rfl)
theorem dX5_isClean_38 : decode cX5_isClean 38 = .ok (.ireturn, 1) := dk_172 (dk_at dksX5_isClean_1 15 rfl rfl)
theorem dX5_isClean_39 : decode cX5_isClean 39 = .ok (.iinc 1 1, 3) := dk_132 1 1 (dk_at dksX5_isClean_1 16 rfl rfl)
theorem dX5_isClean_42 : decode cX5_isClean 42 = .ok (.goto (-40), 3) := dk_167 255 216 (dk_at dksX5_isClean_1 19 rfl rfl)
theorem dX5_isClean_45 : decode cX5_isClean 45 = .ok (.aload_n 0, 1) := dk_42 (dk_at dksX5_isClean_1 22 rfl rfl)
theorem dX5_isClean_46 : decode cX5_isClean 46 = .ok (.invokevirtual 326, 3) := dk_182 1 70 (dk_at dksX5_isClean_2 0 rfl rfl)
theorem dX5_isClean_49 : decode cX5_isClean 49 = .ok (.iconst 0, 1) := dk_3 (dk_at dksX5_isClean_2 3 rfl rfl)
theorem dX5_isClean_50 : decode cX5_isClean 50 = .ok (.istore_n 1, 1) := dk_60 (dk_at dksX5_isClean_2 4 rfl rfl)
theorem dX5_isClean_51 : decode cX5_isClean 51 = .ok (.iload_n 1, 1) := dk_27 (dk_at dksX5_isClean_2 5 rfl rfl)
theorem dX5_isClean_52 : decode cX5_isClean 52 = .ok (.aload_n 0, 1) := dk_42 (dk_at dksX5_isClean_2 6 rfl rfl)
theorem dX5_isClean_53 : decode cX5_isClean 53 = .ok (.getfield 280, 3) := dk_180 1 24 (dk_at dksX5_isClean_2 7 rfl rfl)
theorem dX5_isClean_56 : decode cX5_isClean 56 = .ok (.if_icmp .ge 19, 3) := dk_162 0 19 (dk_at dksX5_isClean_2 10 rfl rfl)
theorem dX5_isClean_59 : decode cX5_isClean 59 = .ok (.aload_n 0, 1) := dk_42 (dk_at dksX5_isClean_2 13 rfl rfl)
theorem dX5_isClean_60 : decode cX5_isClean 60 = .ok (.iload_n 1, 1) := dk_27 (dk_at dksX5_isClean_2 14 rfl rfl)
theorem dX5_isClean_61 : decode cX5_isClean 61 = .ok (.invokevirtual 308, 3) := dk_182 1 52 (dk_at dksX5_isClean_2 15 rfl rfl)
theorem dX5_isClean_64 : decode cX5_isClean 64 = .ok (.ifCond .eq 5, 3) := dk_153 0 5 (dk_at dksX5_isClean_2 18 rfl rfl)
theorem dX5_isClean_67 : decode cX5_isClean 67 = .ok (.iconst 0, 1) := dk_3 (dk_at dksX5_isClean_2 21 rfl rfl)
theorem dX5_isClean_68 : decode cX5_isClean 68 = .ok (.ireturn, 1) := dk_172 (dk_at dksX5_isClean_2 22 rfl rfl)
theorem dX5_isClean_69 : decode cX5_isClean 69 = .ok (.iinc 1 1, 3) := dk_132 1 1 (dk_at dksX5_isClean_3 0 rfl rfl)
theorem dX5_isClean_72 : decode cX5_isClean 72 = .ok (.goto (-21), 3) := dk_167 255 235 (dk_at dksX5_isClean_3 3 rfl rfl)
theorem dX5_isClean_75 : decode cX5_isClean 75 = .ok (.iconst 1, 1) := dk_4 (dk_at dksX5_isClean_3 6 rfl rfl)
theorem dX5_isClean_76 : decode cX5_isClean 76 = .ok (.ireturn, 1) := dk_172 (dk_at dksX5_isClean_3 7 rfl rfl)
abbrev cX5_isRight : ByteArray := prog_10_method_71_code
def yX5_isRight : MethodName := ⟨RX5, "isRight", "(I)Z"⟩
def dkwX5_isRight_1 : List UInt8 := [182, 1, 64, 163, 0, 19, 42, 180, 0, 51, 16, 12, 28, 96, 46, 154, 0, 7, 4, 167, 0, 4, 3, 172]
abbrev dktX5_isRight_1 : List UInt8 := dkwX5_isRight_1 ++ []
def dkwX5_isRight_0 : List UInt8 := [42, 180, 0, 51, 3, 27, 96, 46, 61, 28, 42, 180, 0, 29, 27, 46, 161, 0, 28, 28, 42, 27]
abbrev dktX5_isRight_0 : List UInt8 := dkwX5_isRight_0 ++ dktX5_isRight_1
theorem dksX5_isRight_0 : cX5_isRight.data.toList.drop 0 = dktX5_isRight_0 := by decide +kernel
theorem dksX5_isRight_1 : cX5_isRight.data.toList.drop 22 = dktX5_isRight_1 := dk_seg dksX5_isRight_0 22 rfl rfl
theorem dX5_isRight_0 : decode cX5_isRight 0 = .ok (.aload_n 0, 1) := dk_42 (dk_at dksX5_isRight_0 0 rfl rfl)
theorem dX5_isRight_1 : decode cX5_isRight 1 = .ok (.getfield 51, 3) := dk_180 0 51 (dk_at dksX5_isRight_0 1 rfl rfl)
theorem dX5_isRight_4 : decode cX5_isRight 4 = .ok (.iconst 0, 1) := dk_3 (dk_at dksX5_isRight_0 4 rfl rfl)
theorem dX5_isRight_5 : decode cX5_isRight 5 = .ok (.iload_n 1, 1) := dk_27 (dk_at dksX5_isRight_0 5 rfl rfl)
theorem dX5_isRight_6 : decode cX5_isRight 6 = .ok (.iadd, 1) := dk_96 (dk_at dksX5_isRight_0 6 rfl rfl)
theorem dX5_isRight_7 : decode cX5_isRight 7 = .ok (.iaload, 1) := dk_46 (dk_at dksX5_isRight_0 7 rfl rfl)
theorem dX5_isRight_8 : decode cX5_isRight 8 = .ok (.istore_n 2, 1) := dk_61 (dk_at dksX5_isRight_0 8 rfl rfl)
theorem dX5_isRight_9 : decode cX5_isRight 9 = .ok (.iload_n 2, 1) := dk_28 (dk_at dksX5_isRight_0 9 rfl rfl)
theorem dX5_isRight_10 : decode cX5_isRight 10 = .ok (.aload_n 0, 1) := dk_42 (dk_at dksX5_isRight_0 10 rfl rfl)
theorem dX5_isRight_11 : decode cX5_isRight 11 = .ok (.getfield 29, 3) := dk_180 0 29 (dk_at dksX5_isRight_0 11 rfl rfl)
theorem dX5_isRight_14 : decode cX5_isRight 14 = .ok (.iload_n 1, 1) := dk_27 (dk_at dksX5_isRight_0 14 rfl rfl)
theorem dX5_isRight_15 : decode cX5_isRight 15 = .ok (.iaload, 1) := dk_46 (dk_at dksX5_isRight_0 15 rfl rfl)
theorem dX5_isRight_16 : decode cX5_isRight 16 = .ok (.if_icmp .lt 28, 3) := dk_161 0 28 (dk_at dksX5_isRight_0 16 rfl rfl)
theorem dX5_isRight_19 : decode cX5_isRight 19 = .ok (.iload_n 2, 1) := dk_28 (dk_at dksX5_isRight_0 19 rfl rfl)
theorem dX5_isRight_20 : decode cX5_isRight 20 = .ok (.aload_n 0, 1) := dk_42 (dk_at dksX5_isRight_0 20 rfl rfl)
theorem dX5_isRight_21 : decode cX5_isRight 21 = .ok (.iload_n 1, 1) := dk_27 (dk_at dksX5_isRight_0 21 rfl rfl)
theorem dX5_isRight_22 : decode cX5_isRight 22 = .ok (.invokevirtual 320, 3) := dk_182 1 64 (dk_at dksX5_isRight_1 0 rfl rfl)
theorem dX5_isRight_25 : decode cX5_isRight 25 = .ok (.if_icmp .gt 19, 3) := dk_163 0 19 (dk_at dksX5_isRight_1 3 rfl rfl)
theorem dX5_isRight_28 : decode cX5_isRight 28 = .ok (.aload_n 0, 1) := dk_42 (dk_at dksX5_isRight_1 6 rfl rfl)
theorem dX5_isRight_29 : decode cX5_isRight 29 = .ok (.getfield 51, 3) := dk_180 0 51 (dk_at dksX5_isRight_1 7 rfl rfl)
theorem dX5_isRight_32 : decode cX5_isRight 32 = .ok (.bipush 12, 2) := dk_16 12 (dk_at dksX5_isRight_1 10 rfl rfl)
theorem dX5_isRight_34 : decode cX5_isRight 34 = .ok (.iload_n 2, 1) := dk_28 (dk_at dksX5_isRight_1 12 rfl rfl)
theorem dX5_isRight_35 : decode cX5_isRight 35 = .ok (.iadd, 1) := dk_96 (dk_at dksX5_isRight_1 13 rfl rfl)
theorem dX5_isRight_36 : decode cX5_isRight 36 = .ok (.iaload, 1) := dk_46 (dk_at dksX5_isRight_1 14 rfl rfl)
theorem dX5_isRight_37 : decode cX5_isRight 37 = .ok (.ifCond .ne 7, 3) := dk_154 0 7 (dk_at dksX5_isRight_1 15 rfl rfl)
theorem dX5_isRight_40 : decode cX5_isRight 40 = .ok (.iconst 1, 1) := dk_4 (dk_at dksX5_isRight_1 18 rfl rfl)
theorem dX5_isRight_41 : decode cX5_isRight 41 = .ok (.goto 4, 3) := dk_167 0 4 (dk_at dksX5_isRight_1 19 rfl rfl)
theorem dX5_isRight_44 : decode cX5_isRight 44 = .ok (.iconst 0, 1) := dk_3 (dk_at dksX5_isRight_1 22 rfl rfl)
theorem dX5_isRight_45 : decode cX5_isRight 45 = .ok (.ireturn, 1) := dk_172 (dk_at dksX5_isRight_1 23 rfl rfl)
abbrev cX5_highOf : ByteArray := prog_10_method_70_code
def yX5_highOf : MethodName := ⟨RX5, "highOf", "(I)I"⟩
def dkwX5_highOf_1 : List UInt8 := [180, 0, 238, 172]
abbrev dktX5_highOf_1 : List UInt8 := dkwX5_highOf_1 ++ []
def dkwX5_highOf_0 : List UInt8 := [42, 180, 0, 32, 27, 46, 42, 180, 0, 238, 162, 0, 12, 42, 180, 0, 32, 27, 46, 167, 0, 7, 42]
abbrev dktX5_highOf_0 : List UInt8 := dkwX5_highOf_0 ++ dktX5_highOf_1
theorem dksX5_highOf_0 : cX5_highOf.data.toList.drop 0 = dktX5_highOf_0 := by decide +kernel
theorem dksX5_highOf_1 : cX5_highOf.data.toList.drop 23 = dktX5_highOf_1 := dk_seg dksX5_highOf_0 23 rfl rfl
theorem dX5_highOf_0 : decode cX5_highOf 0 = .ok (.aload_n 0, 1) := dk_42 (dk_at dksX5_highOf_0 0 rfl rfl)
theorem dX5_highOf_1 : decode cX5_highOf 1 = .ok (.getfield 32, 3) := dk_180 0 32 (dk_at dksX5_highOf_0 1 rfl rfl)
theorem dX5_highOf_4 : decode cX5_highOf 4 = .ok (.iload_n 1, 1) := dk_27 (dk_at dksX5_highOf_0 4 rfl rfl)
theorem dX5_highOf_5 : decode cX5_highOf 5 = .ok (.iaload, 1) := dk_46 (dk_at dksX5_highOf_0 5 rfl rfl)
theorem dX5_highOf_6 : decode cX5_highOf 6 = .ok (.aload_n 0, 1) := dk_42 (dk_at dksX5_highOf_0 6 rfl rfl)
theorem dX5_highOf_7 : decode cX5_highOf 7 = .ok (.getfield 238, 3) := dk_180 0 238 (dk_at dksX5_highOf_0 7 rfl rfl)
theorem dX5_highOf_10 : decode cX5_highOf 10 = .ok (.if_icmp .ge 12, 3) := dk_162 0 12 (dk_at dksX5_highOf_0 10 rfl rfl)
theorem dX5_highOf_13 : decode cX5_highOf 13 = .ok (.aload_n 0, 1) := dk_42 (dk_at dksX5_highOf_0 13 rfl rfl)
theorem dX5_highOf_14 : decode cX5_highOf 14 = .ok (.getfield 32, 3) := dk_180 0 32 (dk_at dksX5_highOf_0 14 rfl rfl)
theorem dX5_highOf_17 : decode cX5_highOf 17 = .ok (.iload_n 1, 1) := dk_27 (dk_at dksX5_highOf_0 17 rfl rfl)
theorem dX5_highOf_18 : decode cX5_highOf 18 = .ok (.iaload, 1) := dk_46 (dk_at dksX5_highOf_0 18 rfl rfl)
theorem dX5_highOf_19 : decode cX5_highOf 19 = .ok (.goto 7, 3) := dk_167 0 7 (dk_at dksX5_highOf_0 19 rfl rfl)
theorem dX5_highOf_22 : decode cX5_highOf 22 = .ok (.aload_n 0, 1) := dk_42 (dk_at dksX5_highOf_0 22 rfl rfl)
theorem dX5_highOf_23 : decode cX5_highOf 23 = .ok (.getfield 238, 3) := dk_180 0 238 (dk_at dksX5_highOf_1 0 rfl rfl)
theorem dX5_highOf_26 : decode cX5_highOf 26 = .ok (.ireturn, 1) := dk_172 (dk_at dksX5_highOf_1 3 rfl rfl)
abbrev cX5_crowdsOf : ByteArray := prog_10_method_68_code
def yX5_crowdsOf : MethodName := ⟨RX5, "crowdsOf", "(I)I"⟩
def dkwX5_crowdsOf_1 : List UInt8 := [120, 128, 61, 132, 3, 1, 167, 255, 230, 28, 172]
abbrev dktX5_crowdsOf_1 : List UInt8 := dkwX5_crowdsOf_1 ++ []
def dkwX5_crowdsOf_0 : List UInt8 := [3, 61, 3, 62, 29, 42, 182, 0, 232, 162, 0, 24, 42, 27, 29, 182, 1, 58, 153, 0, 9, 28, 4, 29]
abbrev dktX5_crowdsOf_0 : List UInt8 := dkwX5_crowdsOf_0 ++ dktX5_crowdsOf_1
theorem dksX5_crowdsOf_0 : cX5_crowdsOf.data.toList.drop 0 = dktX5_crowdsOf_0 := by decide +kernel
theorem dksX5_crowdsOf_1 : cX5_crowdsOf.data.toList.drop 24 = dktX5_crowdsOf_1 := dk_seg dksX5_crowdsOf_0 24 rfl rfl
theorem dX5_crowdsOf_0 : decode cX5_crowdsOf 0 = .ok (.iconst 0, 1) := dk_3 (dk_at dksX5_crowdsOf_0 0 rfl rfl)
theorem dX5_crowdsOf_1 : decode cX5_crowdsOf 1 = .ok (.istore_n 2, 1) := dk_61 (dk_at dksX5_crowdsOf_0 1 rfl rfl)
theorem dX5_crowdsOf_2 : decode cX5_crowdsOf 2 = .ok (.iconst 0, 1) := dk_3 (dk_at dksX5_crowdsOf_0 2 rfl rfl)
theorem dX5_crowdsOf_3 : decode cX5_crowdsOf 3 = .ok (.istore_n 3, 1) := dk_62 (dk_at dksX5_crowdsOf_0 3 rfl rfl)
theorem dX5_crowdsOf_4 : decode cX5_crowdsOf 4 = .ok (.iload_n 3, 1) := dk_29 (dk_at dksX5_crowdsOf_0 4 rfl rfl)
theorem dX5_crowdsOf_5 : decode cX5_crowdsOf 5 = .ok (.aload_n 0, 1) := dk_42 (dk_at dksX5_crowdsOf_0 5 rfl rfl)
theorem dX5_crowdsOf_6 : decode cX5_crowdsOf 6 = .ok (.invokevirtual 232, 3) := dk_182 0 232 (dk_at dksX5_crowdsOf_0 6 rfl rfl)
theorem dX5_crowdsOf_9 : decode cX5_crowdsOf 9 = .ok (.if_icmp .ge 24, 3) := dk_162 0 24 (dk_at dksX5_crowdsOf_0 9 rfl rfl)
theorem dX5_crowdsOf_12 : decode cX5_crowdsOf 12 = .ok (.aload_n 0, 1) := dk_42 (dk_at dksX5_crowdsOf_0 12 rfl rfl)
theorem dX5_crowdsOf_13 : decode cX5_crowdsOf 13 = .ok (.iload_n 1, 1) := dk_27 (dk_at dksX5_crowdsOf_0 13 rfl rfl)
theorem dX5_crowdsOf_14 : decode cX5_crowdsOf 14 = .ok (.iload_n 3, 1) := dk_29 (dk_at dksX5_crowdsOf_0 14 rfl rfl)
theorem dX5_crowdsOf_15 : decode cX5_crowdsOf 15 = .ok (.invokevirtual 314, 3) := dk_182 1 58 (dk_at dksX5_crowdsOf_0 15 rfl rfl)
theorem dX5_crowdsOf_18 : decode cX5_crowdsOf 18 = .ok (.ifCond .eq 9, 3) := dk_153 0 9 (dk_at dksX5_crowdsOf_0 18 rfl rfl)
theorem dX5_crowdsOf_21 : decode cX5_crowdsOf 21 = .ok (.iload_n 2, 1) := dk_28 (dk_at dksX5_crowdsOf_0 21 rfl rfl)
theorem dX5_crowdsOf_22 : decode cX5_crowdsOf 22 = .ok (.iconst 1, 1) := dk_4 (dk_at dksX5_crowdsOf_0 22 rfl rfl)
theorem dX5_crowdsOf_23 : decode cX5_crowdsOf 23 = .ok (.iload_n 3, 1) := dk_29 (dk_at dksX5_crowdsOf_0 23 rfl rfl)
theorem dX5_crowdsOf_24 : decode cX5_crowdsOf 24 = .ok (.ishl, 1) := dk_120 (dk_at dksX5_crowdsOf_1 0 rfl rfl)
theorem dX5_crowdsOf_25 : decode cX5_crowdsOf 25 = .ok (.ior, 1) := dk_128 (dk_at dksX5_crowdsOf_1 1 rfl rfl)
theorem dX5_crowdsOf_26 : decode cX5_crowdsOf 26 = .ok (.istore_n 2, 1) := dk_61 (dk_at dksX5_crowdsOf_1 2 rfl rfl)
theorem dX5_crowdsOf_27 : decode cX5_crowdsOf 27 = .ok (.iinc 3 1, 3) := dk_132 3 1 (dk_at dksX5_crowdsOf_1 3 rfl rfl)
theorem dX5_crowdsOf_30 : decode cX5_crowdsOf 30 = .ok (.goto (-26), 3) := dk_167 255 230 (dk_at dksX5_crowdsOf_1 6 rfl rfl)
theorem dX5_crowdsOf_33 : decode cX5_crowdsOf 33 = .ok (.iload_n 2, 1) := dk_28 (dk_at dksX5_crowdsOf_1 9 rfl rfl)
theorem dX5_crowdsOf_34 : decode cX5_crowdsOf 34 = .ok (.ireturn, 1) := dk_172 (dk_at dksX5_crowdsOf_1 10 rfl rfl)
abbrev cX5_crowd : ByteArray := prog_10_method_67_code
def yX5_crowd : MethodName := ⟨RX5, "crowd", "(II)Z"⟩
def dkwX5_crowd_4 : List UInt8 := [172]
abbrev dktX5_crowd_4 : List UInt8 := dkwX5_crowd_4 ++ []
def dkwX5_crowd_3 : List UInt8 := [42, 180, 0, 51, 3, 28, 96, 46, 100, 184, 1, 18, 42, 180, 0, 244, 162, 0, 7, 4, 167, 0, 4, 3]
abbrev dktX5_crowd_3 : List UInt8 := dkwX5_crowd_3 ++ dktX5_crowd_4
def dkwX5_crowd_2 : List UInt8 := [96, 46, 158, 0, 45, 42, 180, 0, 51, 3, 28, 96, 46, 158, 0, 34, 42, 180, 0, 51, 3, 27, 96, 46]
abbrev dktX5_crowd_2 : List UInt8 := dkwX5_crowd_2 ++ dktX5_crowd_3
def dkwX5_crowd_1 : List UInt8 := [16, 73, 27, 96, 46, 42, 180, 0, 51, 16, 73, 28, 96, 46, 126, 153, 0, 56, 42, 180, 0, 51, 3, 27]
abbrev dktX5_crowd_1 : List UInt8 := dkwX5_crowd_1 ++ dktX5_crowd_2
def dkwX5_crowd_0 : List UInt8 := [27, 28, 159, 0, 93, 42, 180, 0, 23, 27, 46, 42, 180, 0, 23, 28, 46, 160, 0, 78, 42, 180, 0, 51]
abbrev dktX5_crowd_0 : List UInt8 := dkwX5_crowd_0 ++ dktX5_crowd_1
theorem dksX5_crowd_0 : cX5_crowd.data.toList.drop 0 = dktX5_crowd_0 := by decide +kernel
theorem dksX5_crowd_1 : cX5_crowd.data.toList.drop 24 = dktX5_crowd_1 := dk_seg dksX5_crowd_0 24 rfl rfl
theorem dksX5_crowd_2 : cX5_crowd.data.toList.drop 48 = dktX5_crowd_2 := dk_seg dksX5_crowd_1 24 rfl rfl
theorem dksX5_crowd_3 : cX5_crowd.data.toList.drop 72 = dktX5_crowd_3 := dk_seg dksX5_crowd_2 24 rfl rfl
theorem dksX5_crowd_4 : cX5_crowd.data.toList.drop 96 = dktX5_crowd_4 := dk_seg dksX5_crowd_3 24 rfl rfl
theorem dX5_crowd_0 : decode cX5_crowd 0 = .ok (.iload_n 1, 1) := dk_27 (dk_at dksX5_crowd_0 0 rfl rfl)
theorem dX5_crowd_1 : decode cX5_crowd 1 = .ok (.iload_n 2, 1) := dk_28 (dk_at dksX5_crowd_0 1 rfl rfl)
theorem dX5_crowd_2 : decode cX5_crowd 2 = .ok (.if_icmp .eq 93, 3) := dk_159 0 93 (dk_at dksX5_crowd_0 2 rfl rfl)
theorem dX5_crowd_5 : decode cX5_crowd 5 = .ok (.aload_n 0, 1) := dk_42 (dk_at dksX5_crowd_0 5 rfl rfl)
theorem dX5_crowd_6 : decode cX5_crowd 6 = .ok (.getfield 23, 3) := dk_180 0 23 (dk_at dksX5_crowd_0 6 rfl rfl)
theorem dX5_crowd_9 : decode cX5_crowd 9 = .ok (.iload_n 1, 1) := dk_27 (dk_at dksX5_crowd_0 9 rfl rfl)
theorem dX5_crowd_10 : decode cX5_crowd 10 = .ok (.iaload, 1) := dk_46 (dk_at dksX5_crowd_0 10 rfl rfl)
theorem dX5_crowd_11 : decode cX5_crowd 11 = .ok (.aload_n 0, 1) := dk_42 (dk_at dksX5_crowd_0 11 rfl rfl)
theorem dX5_crowd_12 : decode cX5_crowd 12 = .ok (.getfield 23, 3) := dk_180 0 23 (dk_at dksX5_crowd_0 12 rfl rfl)
theorem dX5_crowd_15 : decode cX5_crowd 15 = .ok (.iload_n 2, 1) := dk_28 (dk_at dksX5_crowd_0 15 rfl rfl)
theorem dX5_crowd_16 : decode cX5_crowd 16 = .ok (.iaload, 1) := dk_46 (dk_at dksX5_crowd_0 16 rfl rfl)
theorem dX5_crowd_17 : decode cX5_crowd 17 = .ok (.if_icmp .ne 78, 3) := dk_160 0 78 (dk_at dksX5_crowd_0 17 rfl rfl)
theorem dX5_crowd_20 : decode cX5_crowd 20 = .ok (.aload_n 0, 1) := dk_42 (dk_at dksX5_crowd_0 20 rfl rfl)
theorem dX5_crowd_21 : decode cX5_crowd 21 = .ok (.getfield 51, 3) := dk_180 0 51 (dk_at dksX5_crowd_0 21 rfl rfl)
theorem dX5_crowd_24 : decode cX5_crowd 24 = .ok (.bipush 73, 2) := dk_16 73 (dk_at dksX5_crowd_1 0 rfl rfl)
theorem dX5_crowd_26 : decode cX5_crowd 26 = .ok (.iload_n 1, 1) := dk_27 (dk_at dksX5_crowd_1 2 rfl rfl)
theorem dX5_crowd_27 : decode cX5_crowd 27 = .ok (.iadd, 1) := dk_96 (dk_at dksX5_crowd_1 3 rfl rfl)
theorem dX5_crowd_28 : decode cX5_crowd 28 = .ok (.iaload, 1) := dk_46 (dk_at dksX5_crowd_1 4 rfl rfl)
theorem dX5_crowd_29 : decode cX5_crowd 29 = .ok (.aload_n 0, 1) := dk_42 (dk_at dksX5_crowd_1 5 rfl rfl)
theorem dX5_crowd_30 : decode cX5_crowd 30 = .ok (.getfield 51, 3) := dk_180 0 51 (dk_at dksX5_crowd_1 6 rfl rfl)
theorem dX5_crowd_33 : decode cX5_crowd 33 = .ok (.bipush 73, 2) := dk_16 73 (dk_at dksX5_crowd_1 9 rfl rfl)
theorem dX5_crowd_35 : decode cX5_crowd 35 = .ok (.iload_n 2, 1) := dk_28 (dk_at dksX5_crowd_1 11 rfl rfl)
theorem dX5_crowd_36 : decode cX5_crowd 36 = .ok (.iadd, 1) := dk_96 (dk_at dksX5_crowd_1 12 rfl rfl)
theorem dX5_crowd_37 : decode cX5_crowd 37 = .ok (.iaload, 1) := dk_46 (dk_at dksX5_crowd_1 13 rfl rfl)
theorem dX5_crowd_38 : decode cX5_crowd 38 = .ok (.iand, 1) := dk_126 (dk_at dksX5_crowd_1 14 rfl rfl)
theorem dX5_crowd_39 : decode cX5_crowd 39 = .ok (.ifCond .eq 56, 3) := dk_153 0 56 (dk_at dksX5_crowd_1 15 rfl rfl)
theorem dX5_crowd_42 : decode cX5_crowd 42 = .ok (.aload_n 0, 1) := dk_42 (dk_at dksX5_crowd_1 18 rfl rfl)
theorem dX5_crowd_43 : decode cX5_crowd 43 = .ok (.getfield 51, 3) := dk_180 0 51 (dk_at dksX5_crowd_1 19 rfl rfl)
theorem dX5_crowd_46 : decode cX5_crowd 46 = .ok (.iconst 0, 1) := dk_3 (dk_at dksX5_crowd_1 22 rfl rfl)
theorem dX5_crowd_47 : decode cX5_crowd 47 = .ok (.iload_n 1, 1) := dk_27 (dk_at dksX5_crowd_1 23 rfl rfl)
theorem dX5_crowd_48 : decode cX5_crowd 48 = .ok (.iadd, 1) := dk_96 (dk_at dksX5_crowd_2 0 rfl rfl)
theorem dX5_crowd_49 : decode cX5_crowd 49 = .ok (.iaload, 1) := dk_46 (dk_at dksX5_crowd_2 1 rfl rfl)
theorem dX5_crowd_50 : decode cX5_crowd 50 = .ok (.ifCond .le 45, 3) := dk_158 0 45 (dk_at dksX5_crowd_2 2 rfl rfl)
theorem dX5_crowd_53 : decode cX5_crowd 53 = .ok (.aload_n 0, 1) := dk_42 (dk_at dksX5_crowd_2 5 rfl rfl)
theorem dX5_crowd_54 : decode cX5_crowd 54 = .ok (.getfield 51, 3) := dk_180 0 51 (dk_at dksX5_crowd_2 6 rfl rfl)
theorem dX5_crowd_57 : decode cX5_crowd 57 = .ok (.iconst 0, 1) := dk_3 (dk_at dksX5_crowd_2 9 rfl rfl)
theorem dX5_crowd_58 : decode cX5_crowd 58 = .ok (.iload_n 2, 1) := dk_28 (dk_at dksX5_crowd_2 10 rfl rfl)
theorem dX5_crowd_59 : decode cX5_crowd 59 = .ok (.iadd, 1) := dk_96 (dk_at dksX5_crowd_2 11 rfl rfl)
theorem dX5_crowd_60 : decode cX5_crowd 60 = .ok (.iaload, 1) := dk_46 (dk_at dksX5_crowd_2 12 rfl rfl)
theorem dX5_crowd_61 : decode cX5_crowd 61 = .ok (.ifCond .le 34, 3) := dk_158 0 34 (dk_at dksX5_crowd_2 13 rfl rfl)
theorem dX5_crowd_64 : decode cX5_crowd 64 = .ok (.aload_n 0, 1) := dk_42 (dk_at dksX5_crowd_2 16 rfl rfl)
theorem dX5_crowd_65 : decode cX5_crowd 65 = .ok (.getfield 51, 3) := dk_180 0 51 (dk_at dksX5_crowd_2 17 rfl rfl)
theorem dX5_crowd_68 : decode cX5_crowd 68 = .ok (.iconst 0, 1) := dk_3 (dk_at dksX5_crowd_2 20 rfl rfl)
theorem dX5_crowd_69 : decode cX5_crowd 69 = .ok (.iload_n 1, 1) := dk_27 (dk_at dksX5_crowd_2 21 rfl rfl)
theorem dX5_crowd_70 : decode cX5_crowd 70 = .ok (.iadd, 1) := dk_96 (dk_at dksX5_crowd_2 22 rfl rfl)
theorem dX5_crowd_71 : decode cX5_crowd 71 = .ok (.iaload, 1) := dk_46 (dk_at dksX5_crowd_2 23 rfl rfl)
theorem dX5_crowd_72 : decode cX5_crowd 72 = .ok (.aload_n 0, 1) := dk_42 (dk_at dksX5_crowd_3 0 rfl rfl)
theorem dX5_crowd_73 : decode cX5_crowd 73 = .ok (.getfield 51, 3) := dk_180 0 51 (dk_at dksX5_crowd_3 1 rfl rfl)
theorem dX5_crowd_76 : decode cX5_crowd 76 = .ok (.iconst 0, 1) := dk_3 (dk_at dksX5_crowd_3 4 rfl rfl)
theorem dX5_crowd_77 : decode cX5_crowd 77 = .ok (.iload_n 2, 1) := dk_28 (dk_at dksX5_crowd_3 5 rfl rfl)
theorem dX5_crowd_78 : decode cX5_crowd 78 = .ok (.iadd, 1) := dk_96 (dk_at dksX5_crowd_3 6 rfl rfl)
theorem dX5_crowd_79 : decode cX5_crowd 79 = .ok (.iaload, 1) := dk_46 (dk_at dksX5_crowd_3 7 rfl rfl)
theorem dX5_crowd_80 : decode cX5_crowd 80 = .ok (.isub, 1) := dk_100 (dk_at dksX5_crowd_3 8 rfl rfl)
theorem dX5_crowd_81 : decode cX5_crowd 81 = .ok (.invokestatic 274, 3) := dk_184 1 18 (dk_at dksX5_crowd_3 9 rfl rfl)
theorem dX5_crowd_84 : decode cX5_crowd 84 = .ok (.aload_n 0, 1) := dk_42 (dk_at dksX5_crowd_3 12 rfl rfl)
theorem dX5_crowd_85 : decode cX5_crowd 85 = .ok (.getfield 244, 3) := dk_180 0 244 (dk_at dksX5_crowd_3 13 rfl rfl)
theorem dX5_crowd_88 : decode cX5_crowd 88 = .ok (.if_icmp .ge 7, 3) := dk_162 0 7 (dk_at dksX5_crowd_3 16 rfl rfl)
theorem dX5_crowd_91 : decode cX5_crowd 91 = .ok (.iconst 1, 1) := dk_4 (dk_at dksX5_crowd_3 19 rfl rfl)
theorem dX5_crowd_92 : decode cX5_crowd 92 = .ok (.goto 4, 3) := dk_167 0 4 (dk_at dksX5_crowd_3 20 rfl rfl)
theorem dX5_crowd_95 : decode cX5_crowd 95 = .ok (.iconst 0, 1) := dk_3 (dk_at dksX5_crowd_3 23 rfl rfl)
theorem dX5_crowd_96 : decode cX5_crowd 96 = .ok (.ireturn, 1) := dk_172 (dk_at dksX5_crowd_4 0 rfl rfl)
abbrev cX5_without : ByteArray := prog_10_method_57_code
def yX5_without : MethodName := ⟨RX5, "without", "(I)I"⟩
def dkwX5_without_0 : List UInt8 := [26, 156, 0, 8, 26, 116, 167, 0, 4, 26, 172]
abbrev dktX5_without_0 : List UInt8 := dkwX5_without_0 ++ []
theorem dksX5_without_0 : cX5_without.data.toList.drop 0 = dktX5_without_0 := by decide +kernel
theorem dX5_without_0 : decode cX5_without 0 = .ok (.iload_n 0, 1) := dk_26 (dk_at dksX5_without_0 0 rfl rfl)
theorem dX5_without_1 : decode cX5_without 1 = .ok (.ifCond .ge 8, 3) := dk_156 0 8 (dk_at dksX5_without_0 1 rfl rfl)
theorem dX5_without_4 : decode cX5_without 4 = .ok (.iload_n 0, 1) := dk_26 (dk_at dksX5_without_0 4 rfl rfl)
theorem dX5_without_5 : decode cX5_without 5 = .ok (.ineg, 1) := dk_116 (dk_at dksX5_without_0 5 rfl rfl)
theorem dX5_without_6 : decode cX5_without 6 = .ok (.goto 4, 3) := dk_167 0 4 (dk_at dksX5_without_0 6 rfl rfl)
theorem dX5_without_9 : decode cX5_without 9 = .ok (.iload_n 0, 1) := dk_26 (dk_at dksX5_without_0 9 rfl rfl)
theorem dX5_without_10 : decode cX5_without 10 = .ok (.ireturn, 1) := dk_172 (dk_at dksX5_without_0 10 rfl rfl)
abbrev cX5_laysProducts : ByteArray := prog_10_method_59_code
def yX5_laysProducts : MethodName := ⟨RX5, "laysProducts", "()V"⟩
def dkwX5_laysProducts_2 : List UInt8 := [167, 255, 216, 177]
abbrev dktX5_laysProducts_2 : List UInt8 := dkwX5_laysProducts_2 ++ []
def dkwX5_laysProducts_1 : List UInt8 := [28, 184, 1, 30, 126, 153, 0, 9, 42, 27, 28, 182, 1, 33, 132, 2, 1, 167, 255, 229, 132, 1, 1]
abbrev dktX5_laysProducts_1 : List UInt8 := dkwX5_laysProducts_1 ++ dktX5_laysProducts_2
def dkwX5_laysProducts_0 : List UInt8 := [42, 3, 181, 1, 24, 3, 60, 27, 6, 162, 0, 41, 3, 61, 28, 16, 6, 162, 0, 27, 42, 180, 0, 247]
abbrev dktX5_laysProducts_0 : List UInt8 := dkwX5_laysProducts_0 ++ dktX5_laysProducts_1
theorem dksX5_laysProducts_0 : cX5_laysProducts.data.toList.drop 0 = dktX5_laysProducts_0 := by decide +kernel
theorem dksX5_laysProducts_1 : cX5_laysProducts.data.toList.drop 24 = dktX5_laysProducts_1 := dk_seg dksX5_laysProducts_0 24 rfl rfl
theorem dksX5_laysProducts_2 : cX5_laysProducts.data.toList.drop 47 = dktX5_laysProducts_2 := dk_seg dksX5_laysProducts_1 23 rfl rfl
theorem dX5_laysProducts_0 : decode cX5_laysProducts 0 = .ok (.aload_n 0, 1) := dk_42 (dk_at dksX5_laysProducts_0 0 rfl rfl)
theorem dX5_laysProducts_1 : decode cX5_laysProducts 1 = .ok (.iconst 0, 1) := dk_3 (dk_at dksX5_laysProducts_0 1 rfl rfl)
theorem dX5_laysProducts_2 : decode cX5_laysProducts 2 = .ok (.putfield 280, 3) := dk_181 1 24 (dk_at dksX5_laysProducts_0 2 rfl rfl)
theorem dX5_laysProducts_5 : decode cX5_laysProducts 5 = .ok (.iconst 0, 1) := dk_3 (dk_at dksX5_laysProducts_0 5 rfl rfl)
theorem dX5_laysProducts_6 : decode cX5_laysProducts 6 = .ok (.istore_n 1, 1) := dk_60 (dk_at dksX5_laysProducts_0 6 rfl rfl)
theorem dX5_laysProducts_7 : decode cX5_laysProducts 7 = .ok (.iload_n 1, 1) := dk_27 (dk_at dksX5_laysProducts_0 7 rfl rfl)
theorem dX5_laysProducts_8 : decode cX5_laysProducts 8 = .ok (.iconst 3, 1) := dk_6 (dk_at dksX5_laysProducts_0 8 rfl rfl)
theorem dX5_laysProducts_9 : decode cX5_laysProducts 9 = .ok (.if_icmp .ge 41, 3) := dk_162 0 41 (dk_at dksX5_laysProducts_0 9 rfl rfl)
theorem dX5_laysProducts_12 : decode cX5_laysProducts 12 = .ok (.iconst 0, 1) := dk_3 (dk_at dksX5_laysProducts_0 12 rfl rfl)
theorem dX5_laysProducts_13 : decode cX5_laysProducts 13 = .ok (.istore_n 2, 1) := dk_61 (dk_at dksX5_laysProducts_0 13 rfl rfl)
theorem dX5_laysProducts_14 : decode cX5_laysProducts 14 = .ok (.iload_n 2, 1) := dk_28 (dk_at dksX5_laysProducts_0 14 rfl rfl)
theorem dX5_laysProducts_15 : decode cX5_laysProducts 15 = .ok (.bipush 6, 2) := dk_16 6 (dk_at dksX5_laysProducts_0 15 rfl rfl)
theorem dX5_laysProducts_17 : decode cX5_laysProducts 17 = .ok (.if_icmp .ge 27, 3) := dk_162 0 27 (dk_at dksX5_laysProducts_0 17 rfl rfl)
theorem dX5_laysProducts_20 : decode cX5_laysProducts 20 = .ok (.aload_n 0, 1) := dk_42 (dk_at dksX5_laysProducts_0 20 rfl rfl)
theorem dX5_laysProducts_21 : decode cX5_laysProducts 21 = .ok (.getfield 247, 3) := dk_180 0 247 (dk_at dksX5_laysProducts_0 21 rfl rfl)
theorem dX5_laysProducts_24 : decode cX5_laysProducts 24 = .ok (.iload_n 2, 1) := dk_28 (dk_at dksX5_laysProducts_1 0 rfl rfl)
theorem dX5_laysProducts_25 : decode cX5_laysProducts 25 = .ok (.invokestatic 286, 3) := dk_184 1 30 (dk_at dksX5_laysProducts_1 1 rfl rfl)
theorem dX5_laysProducts_28 : decode cX5_laysProducts 28 = .ok (.iand, 1) := dk_126 (dk_at dksX5_laysProducts_1 4 rfl rfl)
theorem dX5_laysProducts_29 : decode cX5_laysProducts 29 = .ok (.ifCond .eq 9, 3) := dk_153 0 9 (dk_at dksX5_laysProducts_1 5 rfl rfl)
theorem dX5_laysProducts_32 : decode cX5_laysProducts 32 = .ok (.aload_n 0, 1) := dk_42 (dk_at dksX5_laysProducts_1 8 rfl rfl)
theorem dX5_laysProducts_33 : decode cX5_laysProducts 33 = .ok (.iload_n 1, 1) := dk_27 (dk_at dksX5_laysProducts_1 9 rfl rfl)
theorem dX5_laysProducts_34 : decode cX5_laysProducts 34 = .ok (.iload_n 2, 1) := dk_28 (dk_at dksX5_laysProducts_1 10 rfl rfl)
theorem dX5_laysProducts_35 : decode cX5_laysProducts 35 = .ok (.invokevirtual 289, 3) := dk_182 1 33 (dk_at dksX5_laysProducts_1 11 rfl rfl)
theorem dX5_laysProducts_38 : decode cX5_laysProducts 38 = .ok (.iinc 2 1, 3) := dk_132 2 1 (dk_at dksX5_laysProducts_1 14 rfl rfl)
theorem dX5_laysProducts_41 : decode cX5_laysProducts 41 = .ok (.goto (-27), 3) := dk_167 255 229 (dk_at dksX5_laysProducts_1 17 rfl rfl)
theorem dX5_laysProducts_44 : decode cX5_laysProducts 44 = .ok (.iinc 1 1, 3) := dk_132 1 1 (dk_at dksX5_laysProducts_1 20 rfl rfl)
theorem dX5_laysProducts_47 : decode cX5_laysProducts 47 = .ok (.goto (-40), 3) := dk_167 255 216 (dk_at dksX5_laysProducts_2 0 rfl rfl)
theorem dX5_laysProducts_50 : decode cX5_laysProducts 50 = .ok (.return_, 1) := dk_177 (dk_at dksX5_laysProducts_2 3 rfl rfl)
abbrev cX5_bitOf : ByteArray := prog_10_method_51_code
def yX5_bitOf : MethodName := ⟨RX5, "bitOf", "(I)I"⟩
def dkwX5_bitOf_0 : List UInt8 := [26, 5, 162, 0, 7, 4, 167, 0, 13, 26, 7, 162, 0, 7, 5, 167, 0, 4, 7, 172]
abbrev dktX5_bitOf_0 : List UInt8 := dkwX5_bitOf_0 ++ []
theorem dksX5_bitOf_0 : cX5_bitOf.data.toList.drop 0 = dktX5_bitOf_0 := by decide +kernel
theorem dX5_bitOf_0 : decode cX5_bitOf 0 = .ok (.iload_n 0, 1) := dk_26 (dk_at dksX5_bitOf_0 0 rfl rfl)
theorem dX5_bitOf_1 : decode cX5_bitOf 1 = .ok (.iconst 2, 1) := dk_5 (dk_at dksX5_bitOf_0 1 rfl rfl)
theorem dX5_bitOf_2 : decode cX5_bitOf 2 = .ok (.if_icmp .ge 7, 3) := dk_162 0 7 (dk_at dksX5_bitOf_0 2 rfl rfl)
theorem dX5_bitOf_5 : decode cX5_bitOf 5 = .ok (.iconst 1, 1) := dk_4 (dk_at dksX5_bitOf_0 5 rfl rfl)
theorem dX5_bitOf_6 : decode cX5_bitOf 6 = .ok (.goto 13, 3) := dk_167 0 13 (dk_at dksX5_bitOf_0 6 rfl rfl)
theorem dX5_bitOf_9 : decode cX5_bitOf 9 = .ok (.iload_n 0, 1) := dk_26 (dk_at dksX5_bitOf_0 9 rfl rfl)
theorem dX5_bitOf_10 : decode cX5_bitOf 10 = .ok (.iconst 4, 1) := dk_7 (dk_at dksX5_bitOf_0 10 rfl rfl)
theorem dX5_bitOf_11 : decode cX5_bitOf 11 = .ok (.if_icmp .ge 7, 3) := dk_162 0 7 (dk_at dksX5_bitOf_0 11 rfl rfl)
theorem dX5_bitOf_14 : decode cX5_bitOf 14 = .ok (.iconst 2, 1) := dk_5 (dk_at dksX5_bitOf_0 14 rfl rfl)
theorem dX5_bitOf_15 : decode cX5_bitOf 15 = .ok (.goto 4, 3) := dk_167 0 4 (dk_at dksX5_bitOf_0 15 rfl rfl)
theorem dX5_bitOf_18 : decode cX5_bitOf 18 = .ok (.iconst 4, 1) := dk_7 (dk_at dksX5_bitOf_0 18 rfl rfl)
theorem dX5_bitOf_19 : decode cX5_bitOf 19 = .ok (.ireturn, 1) := dk_172 (dk_at dksX5_bitOf_0 19 rfl rfl)
abbrev cX5_laysSort : ByteArray := prog_10_method_60_code
def yX5_laysSort : MethodName := ⟨RX5, "laysSort", "(II)V"⟩
def dkwX5_laysSort_6 : List UInt8 := [21, 6, 182, 1, 40, 132, 6, 1, 167, 255, 211, 132, 4, 1, 167, 255, 115, 132, 3, 1, 167, 255, 98, 177]
abbrev dktX5_laysSort_6 : List UInt8 := dkwX5_laysSort_6 ++ []
def dkwX5_laysSort_5 : List UInt8 := [182, 1, 36, 153, 0, 26, 21, 6, 29, 159, 0, 20, 21, 6, 21, 4, 159, 0, 13, 42, 28, 29, 21, 4]
abbrev dktX5_laysSort_5 : List UInt8 := dkwX5_laysSort_5 ++ dktX5_laysSort_6
def dkwX5_laysSort_4 : List UInt8 := [182, 1, 40, 167, 0, 54, 3, 54, 6, 21, 6, 42, 182, 0, 232, 162, 0, 42, 42, 21, 6, 27]
abbrev dktX5_laysSort_4 : List UInt8 := dkwX5_laysSort_4 ++ dktX5_laysSort_5
def dkwX5_laysSort_3 : List UInt8 := [164, 0, 6, 167, 0, 77, 28, 6, 159, 0, 21, 28, 8, 159, 0, 16, 42, 28, 29, 21, 4, 16, 254]
abbrev dktX5_laysSort_3 : List UInt8 := dkwX5_laysSort_3 ++ dktX5_laysSort_4
def dkwX5_laysSort_2 : List UInt8 := [42, 21, 4, 27, 182, 1, 36, 153, 0, 97, 29, 21, 4, 159, 0, 91, 21, 5, 153, 0, 12, 29, 21, 4]
abbrev dktX5_laysSort_2 : List UInt8 := dkwX5_laysSort_2 ++ dktX5_laysSort_3
def dkwX5_laysSort_1 : List UInt8 := [153, 0, 8, 28, 6, 160, 0, 7, 4, 167, 0, 4, 3, 54, 5, 42, 29, 27, 182, 1, 36, 153, 0, 107]
abbrev dktX5_laysSort_1 : List UInt8 := dkwX5_laysSort_1 ++ dktX5_laysSort_2
def dkwX5_laysSort_0 : List UInt8 := [3, 62, 29, 42, 182, 0, 232, 162, 0, 156, 3, 54, 4, 21, 4, 42, 182, 0, 232, 162, 0, 138, 28]
abbrev dktX5_laysSort_0 : List UInt8 := dkwX5_laysSort_0 ++ dktX5_laysSort_1
theorem dksX5_laysSort_0 : cX5_laysSort.data.toList.drop 0 = dktX5_laysSort_0 := by decide +kernel
theorem dksX5_laysSort_1 : cX5_laysSort.data.toList.drop 23 = dktX5_laysSort_1 := dk_seg dksX5_laysSort_0 23 rfl rfl
theorem dksX5_laysSort_2 : cX5_laysSort.data.toList.drop 47 = dktX5_laysSort_2 := dk_seg dksX5_laysSort_1 24 rfl rfl
theorem dksX5_laysSort_3 : cX5_laysSort.data.toList.drop 71 = dktX5_laysSort_3 := dk_seg dksX5_laysSort_2 24 rfl rfl
theorem dksX5_laysSort_4 : cX5_laysSort.data.toList.drop 94 = dktX5_laysSort_4 := dk_seg dksX5_laysSort_3 23 rfl rfl
theorem dksX5_laysSort_5 : cX5_laysSort.data.toList.drop 116 = dktX5_laysSort_5 := dk_seg dksX5_laysSort_4 22 rfl rfl
theorem dksX5_laysSort_6 : cX5_laysSort.data.toList.drop 140 = dktX5_laysSort_6 := dk_seg dksX5_laysSort_5 24 rfl rfl
theorem dX5_laysSort_0 : decode cX5_laysSort 0 = .ok (.iconst 0, 1) := dk_3 (dk_at dksX5_laysSort_0 0 rfl rfl)
theorem dX5_laysSort_1 : decode cX5_laysSort 1 = .ok (.istore_n 3, 1) := dk_62 (dk_at dksX5_laysSort_0 1 rfl rfl)
theorem dX5_laysSort_2 : decode cX5_laysSort 2 = .ok (.iload_n 3, 1) := dk_29 (dk_at dksX5_laysSort_0 2 rfl rfl)
theorem dX5_laysSort_3 : decode cX5_laysSort 3 = .ok (.aload_n 0, 1) := dk_42 (dk_at dksX5_laysSort_0 3 rfl rfl)
theorem dX5_laysSort_4 : decode cX5_laysSort 4 = .ok (.invokevirtual 232, 3) := dk_182 0 232 (dk_at dksX5_laysSort_0 4 rfl rfl)
theorem dX5_laysSort_7 : decode cX5_laysSort 7 = .ok (.if_icmp .ge 156, 3) := dk_162 0 156 (dk_at dksX5_laysSort_0 7 rfl rfl)
theorem dX5_laysSort_10 : decode cX5_laysSort 10 = .ok (.iconst 0, 1) := dk_3 (dk_at dksX5_laysSort_0 10 rfl rfl)
theorem dX5_laysSort_11 : decode cX5_laysSort 11 = .ok (.istore 4, 2) := dk_54 4 (dk_at dksX5_laysSort_0 11 rfl rfl)
theorem dX5_laysSort_13 : decode cX5_laysSort 13 = .ok (.iload 4, 2) := dk_21 4 (dk_at dksX5_laysSort_0 13 rfl rfl)
theorem dX5_laysSort_15 : decode cX5_laysSort 15 = .ok (.aload_n 0, 1) := dk_42 (dk_at dksX5_laysSort_0 15 rfl rfl)
theorem dX5_laysSort_16 : decode cX5_laysSort 16 = .ok (.invokevirtual 232, 3) := dk_182 0 232 (dk_at dksX5_laysSort_0 16 rfl rfl)
theorem dX5_laysSort_19 : decode cX5_laysSort 19 = .ok (.if_icmp .ge 138, 3) := dk_162 0 138 (dk_at dksX5_laysSort_0 19 rfl rfl)
theorem dX5_laysSort_22 : decode cX5_laysSort 22 = .ok (.iload_n 2, 1) := dk_28 (dk_at dksX5_laysSort_0 22 rfl rfl)
theorem dX5_laysSort_23 : decode cX5_laysSort 23 = .ok (.ifCond .eq 8, 3) := dk_153 0 8 (dk_at dksX5_laysSort_1 0 rfl rfl)
theorem dX5_laysSort_26 : decode cX5_laysSort 26 = .ok (.iload_n 2, 1) := dk_28 (dk_at dksX5_laysSort_1 3 rfl rfl)
theorem dX5_laysSort_27 : decode cX5_laysSort 27 = .ok (.iconst 3, 1) := dk_6 (dk_at dksX5_laysSort_1 4 rfl rfl)
theorem dX5_laysSort_28 : decode cX5_laysSort 28 = .ok (.if_icmp .ne 7, 3) := dk_160 0 7 (dk_at dksX5_laysSort_1 5 rfl rfl)
theorem dX5_laysSort_31 : decode cX5_laysSort 31 = .ok (.iconst 1, 1) := dk_4 (dk_at dksX5_laysSort_1 8 rfl rfl)
theorem dX5_laysSort_32 : decode cX5_laysSort 32 = .ok (.goto 4, 3) := dk_167 0 4 (dk_at dksX5_laysSort_1 9 rfl rfl)
theorem dX5_laysSort_35 : decode cX5_laysSort 35 = .ok (.iconst 0, 1) := dk_3 (dk_at dksX5_laysSort_1 12 rfl rfl)
theorem dX5_laysSort_36 : decode cX5_laysSort 36 = .ok (.istore 5, 2) := dk_54 5 (dk_at dksX5_laysSort_1 13 rfl rfl)
theorem dX5_laysSort_38 : decode cX5_laysSort 38 = .ok (.aload_n 0, 1) := dk_42 (dk_at dksX5_laysSort_1 15 rfl rfl)
theorem dX5_laysSort_39 : decode cX5_laysSort 39 = .ok (.iload_n 3, 1) := dk_29 (dk_at dksX5_laysSort_1 16 rfl rfl)
theorem dX5_laysSort_40 : decode cX5_laysSort 40 = .ok (.iload_n 1, 1) := dk_27 (dk_at dksX5_laysSort_1 17 rfl rfl)
theorem dX5_laysSort_41 : decode cX5_laysSort 41 = .ok (.invokevirtual 292, 3) := dk_182 1 36 (dk_at dksX5_laysSort_1 18 rfl rfl)
theorem dX5_laysSort_44 : decode cX5_laysSort 44 = .ok (.ifCond .eq 107, 3) := dk_153 0 107 (dk_at dksX5_laysSort_1 21 rfl rfl)
theorem dX5_laysSort_47 : decode cX5_laysSort 47 = .ok (.aload_n 0, 1) := dk_42 (dk_at dksX5_laysSort_2 0 rfl rfl)
theorem dX5_laysSort_48 : decode cX5_laysSort 48 = .ok (.iload 4, 2) := dk_21 4 (dk_at dksX5_laysSort_2 1 rfl rfl)
theorem dX5_laysSort_50 : decode cX5_laysSort 50 = .ok (.iload_n 1, 1) := dk_27 (dk_at dksX5_laysSort_2 3 rfl rfl)
theorem dX5_laysSort_51 : decode cX5_laysSort 51 = .ok (.invokevirtual 292, 3) := dk_182 1 36 (dk_at dksX5_laysSort_2 4 rfl rfl)
theorem dX5_laysSort_54 : decode cX5_laysSort 54 = .ok (.ifCond .eq 97, 3) := dk_153 0 97 (dk_at dksX5_laysSort_2 7 rfl rfl)
theorem dX5_laysSort_57 : decode cX5_laysSort 57 = .ok (.iload_n 3, 1) := dk_29 (dk_at dksX5_laysSort_2 10 rfl rfl)
theorem dX5_laysSort_58 : decode cX5_laysSort 58 = .ok (.iload 4, 2) := dk_21 4 (dk_at dksX5_laysSort_2 11 rfl rfl)
theorem dX5_laysSort_60 : decode cX5_laysSort 60 = .ok (.if_icmp .eq 91, 3) := dk_159 0 91 (dk_at dksX5_laysSort_2 13 rfl rfl)
theorem dX5_laysSort_63 : decode cX5_laysSort 63 = .ok (.iload 5, 2) := dk_21 5 (dk_at dksX5_laysSort_2 16 rfl rfl)
theorem dX5_laysSort_65 : decode cX5_laysSort 65 = .ok (.ifCond .eq 12, 3) := dk_153 0 12 (dk_at dksX5_laysSort_2 18 rfl rfl)
theorem dX5_laysSort_68 : decode cX5_laysSort 68 = .ok (.iload_n 3, 1) := dk_29 (dk_at dksX5_laysSort_2 21 rfl rfl)
theorem dX5_laysSort_69 : decode cX5_laysSort 69 = .ok (.iload 4, 2) := dk_21 4 (dk_at dksX5_laysSort_2 22 rfl rfl)
theorem dX5_laysSort_71 : decode cX5_laysSort 71 = .ok (.if_icmp .le 6, 3) := dk_164 0 6 (dk_at dksX5_laysSort_3 0 rfl rfl)
theorem dX5_laysSort_74 : decode cX5_laysSort 74 = .ok (.goto 77, 3) := dk_167 0 77 (dk_at dksX5_laysSort_3 3 rfl rfl)
theorem dX5_laysSort_77 : decode cX5_laysSort 77 = .ok (.iload_n 2, 1) := dk_28 (dk_at dksX5_laysSort_3 6 rfl rfl)
theorem dX5_laysSort_78 : decode cX5_laysSort 78 = .ok (.iconst 3, 1) := dk_6 (dk_at dksX5_laysSort_3 7 rfl rfl)
theorem dX5_laysSort_79 : decode cX5_laysSort 79 = .ok (.if_icmp .eq 21, 3) := dk_159 0 21 (dk_at dksX5_laysSort_3 8 rfl rfl)
theorem dX5_laysSort_82 : decode cX5_laysSort 82 = .ok (.iload_n 2, 1) := dk_28 (dk_at dksX5_laysSort_3 11 rfl rfl)
theorem dX5_laysSort_83 : decode cX5_laysSort 83 = .ok (.iconst 5, 1) := dk_8 (dk_at dksX5_laysSort_3 12 rfl rfl)
theorem dX5_laysSort_84 : decode cX5_laysSort 84 = .ok (.if_icmp .eq 16, 3) := dk_159 0 16 (dk_at dksX5_laysSort_3 13 rfl rfl)
theorem dX5_laysSort_87 : decode cX5_laysSort 87 = .ok (.aload_n 0, 1) := dk_42 (dk_at dksX5_laysSort_3 16 rfl rfl)
theorem dX5_laysSort_88 : decode cX5_laysSort 88 = .ok (.iload_n 2, 1) := dk_28 (dk_at dksX5_laysSort_3 17 rfl rfl)
theorem dX5_laysSort_89 : decode cX5_laysSort 89 = .ok (.iload_n 3, 1) := dk_29 (dk_at dksX5_laysSort_3 18 rfl rfl)
theorem dX5_laysSort_90 : decode cX5_laysSort 90 = .ok (.iload 4, 2) := dk_21 4 (dk_at dksX5_laysSort_3 19 rfl rfl)
theorem dX5_laysSort_92 : decode cX5_laysSort 92 = .ok (.bipush (-2), 2) := dk_16 254 (dk_at dksX5_laysSort_3 21 rfl rfl)
theorem dX5_laysSort_94 : decode cX5_laysSort 94 = .ok (.invokevirtual 296, 3) := dk_182 1 40 (dk_at dksX5_laysSort_4 0 rfl rfl)
theorem dX5_laysSort_97 : decode cX5_laysSort 97 = .ok (.goto 54, 3) := dk_167 0 54 (dk_at dksX5_laysSort_4 3 rfl rfl)
theorem dX5_laysSort_100 : decode cX5_laysSort 100 = .ok (.iconst 0, 1) := dk_3 (dk_at dksX5_laysSort_4 6 rfl rfl)
theorem dX5_laysSort_101 : decode cX5_laysSort 101 = .ok (.istore 6, 2) := dk_54 6 (dk_at dksX5_laysSort_4 7 rfl rfl)
theorem dX5_laysSort_103 : decode cX5_laysSort 103 = .ok (.iload 6, 2) := dk_21 6 (dk_at dksX5_laysSort_4 9 rfl rfl)
theorem dX5_laysSort_105 : decode cX5_laysSort 105 = .ok (.aload_n 0, 1) := dk_42 (dk_at dksX5_laysSort_4 11 rfl rfl)
theorem dX5_laysSort_106 : decode cX5_laysSort 106 = .ok (.invokevirtual 232, 3) := dk_182 0 232 (dk_at dksX5_laysSort_4 12 rfl rfl)
theorem dX5_laysSort_109 : decode cX5_laysSort 109 = .ok (.if_icmp .ge 42, 3) := dk_162 0 42 (dk_at dksX5_laysSort_4 15 rfl rfl)
theorem dX5_laysSort_112 : decode cX5_laysSort 112 = .ok (.aload_n 0, 1) := dk_42 (dk_at dksX5_laysSort_4 18 rfl rfl)
theorem dX5_laysSort_113 : decode cX5_laysSort 113 = .ok (.iload 6, 2) := dk_21 6 (dk_at dksX5_laysSort_4 19 rfl rfl)
theorem dX5_laysSort_115 : decode cX5_laysSort 115 = .ok (.iload_n 1, 1) := dk_27 (dk_at dksX5_laysSort_4 21 rfl rfl)
theorem dX5_laysSort_116 : decode cX5_laysSort 116 = .ok (.invokevirtual 292, 3) := dk_182 1 36 (dk_at dksX5_laysSort_5 0 rfl rfl)
theorem dX5_laysSort_119 : decode cX5_laysSort 119 = .ok (.ifCond .eq 26, 3) := dk_153 0 26 (dk_at dksX5_laysSort_5 3 rfl rfl)
theorem dX5_laysSort_122 : decode cX5_laysSort 122 = .ok (.iload 6, 2) := dk_21 6 (dk_at dksX5_laysSort_5 6 rfl rfl)
theorem dX5_laysSort_124 : decode cX5_laysSort 124 = .ok (.iload_n 3, 1) := dk_29 (dk_at dksX5_laysSort_5 8 rfl rfl)
theorem dX5_laysSort_125 : decode cX5_laysSort 125 = .ok (.if_icmp .eq 20, 3) := dk_159 0 20 (dk_at dksX5_laysSort_5 9 rfl rfl)
theorem dX5_laysSort_128 : decode cX5_laysSort 128 = .ok (.iload 6, 2) := dk_21 6 (dk_at dksX5_laysSort_5 12 rfl rfl)
theorem dX5_laysSort_130 : decode cX5_laysSort 130 = .ok (.iload 4, 2) := dk_21 4 (dk_at dksX5_laysSort_5 14 rfl rfl)
theorem dX5_laysSort_132 : decode cX5_laysSort 132 = .ok (.if_icmp .eq 13, 3) := dk_159 0 13 (dk_at dksX5_laysSort_5 16 rfl rfl)
theorem dX5_laysSort_135 : decode cX5_laysSort 135 = .ok (.aload_n 0, 1) := dk_42 (dk_at dksX5_laysSort_5 19 rfl rfl)
theorem dX5_laysSort_136 : decode cX5_laysSort 136 = .ok (.iload_n 2, 1) := dk_28 (dk_at dksX5_laysSort_5 20 rfl rfl)
theorem dX5_laysSort_137 : decode cX5_laysSort 137 = .ok (.iload_n 3, 1) := dk_29 (dk_at dksX5_laysSort_5 21 rfl rfl)
theorem dX5_laysSort_138 : decode cX5_laysSort 138 = .ok (.iload 4, 2) := dk_21 4 (dk_at dksX5_laysSort_5 22 rfl rfl)
theorem dX5_laysSort_140 : decode cX5_laysSort 140 = .ok (.iload 6, 2) := dk_21 6 (dk_at dksX5_laysSort_6 0 rfl rfl)
theorem dX5_laysSort_142 : decode cX5_laysSort 142 = .ok (.invokevirtual 296, 3) := dk_182 1 40 (dk_at dksX5_laysSort_6 2 rfl rfl)
theorem dX5_laysSort_145 : decode cX5_laysSort 145 = .ok (.iinc 6 1, 3) := dk_132 6 1 (dk_at dksX5_laysSort_6 5 rfl rfl)
theorem dX5_laysSort_148 : decode cX5_laysSort 148 = .ok (.goto (-45), 3) := dk_167 255 211 (dk_at dksX5_laysSort_6 8 rfl rfl)
theorem dX5_laysSort_151 : decode cX5_laysSort 151 = .ok (.iinc 4 1, 3) := dk_132 4 1 (dk_at dksX5_laysSort_6 11 rfl rfl)
theorem dX5_laysSort_154 : decode cX5_laysSort 154 = .ok (.goto (-141), 3) := dk_167 255 115 (dk_at dksX5_laysSort_6 14 rfl rfl)
theorem dX5_laysSort_157 : decode cX5_laysSort 157 = .ok (.iinc 3 1, 3) := dk_132 3 1 (dk_at dksX5_laysSort_6 17 rfl rfl)
theorem dX5_laysSort_160 : decode cX5_laysSort 160 = .ok (.goto (-158), 3) := dk_167 255 98 (dk_at dksX5_laysSort_6 20 rfl rfl)
theorem dX5_laysSort_163 : decode cX5_laysSort 163 = .ok (.return_, 1) := dk_177 (dk_at dksX5_laysSort_6 23 rfl rfl)
abbrev cX5_isThere : ByteArray := prog_10_method_53_code
def yX5_isThere : MethodName := ⟨RX5, "isThere", "(II)Z"⟩
def dkwX5_isThere_1 : List UInt8 := [167, 0, 4, 3, 172]
abbrev dktX5_isThere_1 : List UInt8 := dkwX5_isThere_1 ++ []
def dkwX5_isThere_0 : List UInt8 := [42, 180, 0, 23, 27, 46, 28, 160, 0, 18, 42, 180, 0, 51, 3, 27, 96, 46, 158, 0, 7, 4]
abbrev dktX5_isThere_0 : List UInt8 := dkwX5_isThere_0 ++ dktX5_isThere_1
theorem dksX5_isThere_0 : cX5_isThere.data.toList.drop 0 = dktX5_isThere_0 := by decide +kernel
theorem dksX5_isThere_1 : cX5_isThere.data.toList.drop 22 = dktX5_isThere_1 := dk_seg dksX5_isThere_0 22 rfl rfl
theorem dX5_isThere_0 : decode cX5_isThere 0 = .ok (.aload_n 0, 1) := dk_42 (dk_at dksX5_isThere_0 0 rfl rfl)
theorem dX5_isThere_1 : decode cX5_isThere 1 = .ok (.getfield 23, 3) := dk_180 0 23 (dk_at dksX5_isThere_0 1 rfl rfl)
theorem dX5_isThere_4 : decode cX5_isThere 4 = .ok (.iload_n 1, 1) := dk_27 (dk_at dksX5_isThere_0 4 rfl rfl)
theorem dX5_isThere_5 : decode cX5_isThere 5 = .ok (.iaload, 1) := dk_46 (dk_at dksX5_isThere_0 5 rfl rfl)
theorem dX5_isThere_6 : decode cX5_isThere 6 = .ok (.iload_n 2, 1) := dk_28 (dk_at dksX5_isThere_0 6 rfl rfl)
theorem dX5_isThere_7 : decode cX5_isThere 7 = .ok (.if_icmp .ne 18, 3) := dk_160 0 18 (dk_at dksX5_isThere_0 7 rfl rfl)
theorem dX5_isThere_10 : decode cX5_isThere 10 = .ok (.aload_n 0, 1) := dk_42 (dk_at dksX5_isThere_0 10 rfl rfl)
theorem dX5_isThere_11 : decode cX5_isThere 11 = .ok (.getfield 51, 3) := dk_180 0 51 (dk_at dksX5_isThere_0 11 rfl rfl)
theorem dX5_isThere_14 : decode cX5_isThere 14 = .ok (.iconst 0, 1) := dk_3 (dk_at dksX5_isThere_0 14 rfl rfl)
theorem dX5_isThere_15 : decode cX5_isThere 15 = .ok (.iload_n 1, 1) := dk_27 (dk_at dksX5_isThere_0 15 rfl rfl)
theorem dX5_isThere_16 : decode cX5_isThere 16 = .ok (.iadd, 1) := dk_96 (dk_at dksX5_isThere_0 16 rfl rfl)
theorem dX5_isThere_17 : decode cX5_isThere 17 = .ok (.iaload, 1) := dk_46 (dk_at dksX5_isThere_0 17 rfl rfl)
theorem dX5_isThere_18 : decode cX5_isThere 18 = .ok (.ifCond .le 7, 3) := dk_158 0 7 (dk_at dksX5_isThere_0 18 rfl rfl)
theorem dX5_isThere_21 : decode cX5_isThere 21 = .ok (.iconst 1, 1) := dk_4 (dk_at dksX5_isThere_0 21 rfl rfl)
theorem dX5_isThere_22 : decode cX5_isThere 22 = .ok (.goto 4, 3) := dk_167 0 4 (dk_at dksX5_isThere_1 0 rfl rfl)
theorem dX5_isThere_25 : decode cX5_isThere 25 = .ok (.iconst 0, 1) := dk_3 (dk_at dksX5_isThere_1 3 rfl rfl)
theorem dX5_isThere_26 : decode cX5_isThere 26 = .ok (.ireturn, 1) := dk_172 (dk_at dksX5_isThere_1 4 rfl rfl)
abbrev cX5_adds : ByteArray := prog_10_method_58_code
def yX5_adds : MethodName := ⟨RX5, "adds", "(IIII)V"⟩
def dkwX5_adds_11 : List UInt8 := [182, 1, 27, 100, 79, 42, 89, 180, 1, 24, 4, 96, 181, 1, 24, 177]
abbrev dktX5_adds_11 : List UInt8 := dkwX5_adds_11 ++ []
def dkwX5_adds_10 : List UInt8 := [180, 0, 72, 42, 180, 1, 24, 21, 5, 79, 42, 180, 0, 75, 42, 180, 1, 24, 21, 6, 42, 27]
abbrev dktX5_adds_10 : List UInt8 := dkwX5_adds_10 ++ dktX5_adds_11
def dkwX5_adds_9 : List UInt8 := [28, 79, 42, 180, 0, 66, 42, 180, 1, 24, 29, 79, 42, 180, 0, 69, 42, 180, 1, 24, 21, 4, 79, 42]
abbrev dktX5_adds_9 : List UInt8 := dkwX5_adds_9 ++ dktX5_adds_10
def dkwX5_adds_8 : List UInt8 := [180, 1, 24, 21, 7, 79, 42, 180, 0, 60, 42, 180, 1, 24, 27, 79, 42, 180, 0, 63, 42, 180, 1, 24]
abbrev dktX5_adds_8 : List UInt8 := dkwX5_adds_8 ++ dktX5_adds_9
def dkwX5_adds_7 : List UInt8 := [161, 0, 17, 21, 5, 42, 180, 0, 238, 163, 0, 8, 21, 7, 154, 0, 4, 177, 42, 180, 0, 78, 42]
abbrev dktX5_adds_7 : List UInt8 := dkwX5_adds_7 ++ dktX5_adds_8
def dkwX5_adds_6 : List UInt8 := [17, 0, 255, 167, 0, 13, 42, 180, 0, 51, 16, 73, 21, 4, 96, 46, 126, 54, 7, 21, 5, 4]
abbrev dktX5_adds_6 : List UInt8 := dkwX5_adds_6 ++ dktX5_adds_7
def dkwX5_adds_5 : List UInt8 := [16, 73, 28, 96, 46, 42, 180, 0, 51, 16, 73, 29, 96, 46, 126, 21, 4, 16, 254, 160, 0, 9]
abbrev dktX5_adds_5 : List UInt8 := dkwX5_adds_5 ++ dktX5_adds_6
def dkwX5_adds_4 : List UInt8 := [184, 1, 21, 184, 1, 18, 42, 180, 0, 51, 16, 6, 21, 4, 96, 46, 104, 96, 54, 6, 42, 180, 0, 51]
abbrev dktX5_adds_4 : List UInt8 := dkwX5_adds_4 ++ dktX5_adds_5
def dkwX5_adds_3 : List UInt8 := [21, 5, 27, 184, 1, 21, 42, 180, 0, 51, 3, 21, 4, 96, 46, 104, 96, 54, 5, 21, 6, 27]
abbrev dktX5_adds_3 : List UInt8 := dkwX5_adds_3 ++ dktX5_adds_4
def dkwX5_adds_2 : List UInt8 := [184, 1, 18, 42, 180, 0, 51, 16, 6, 29, 96, 46, 104, 96, 54, 6, 21, 4, 16, 254, 159, 0, 45]
abbrev dktX5_adds_2 : List UInt8 := dkwX5_adds_2 ++ dktX5_adds_3
def dkwX5_adds_1 : List UInt8 := [46, 104, 96, 54, 5, 27, 184, 1, 12, 42, 180, 0, 51, 16, 6, 28, 96, 46, 104, 27, 184, 1, 15]
abbrev dktX5_adds_1 : List UInt8 := dkwX5_adds_1 ++ dktX5_adds_2
def dkwX5_adds_0 : List UInt8 := [27, 184, 1, 12, 42, 180, 0, 51, 3, 28, 96, 46, 104, 27, 184, 1, 15, 42, 180, 0, 51, 3, 29, 96]
abbrev dktX5_adds_0 : List UInt8 := dkwX5_adds_0 ++ dktX5_adds_1
theorem dksX5_adds_0 : cX5_adds.data.toList.drop 0 = dktX5_adds_0 := by decide +kernel
theorem dksX5_adds_1 : cX5_adds.data.toList.drop 24 = dktX5_adds_1 := dk_seg dksX5_adds_0 24 rfl rfl
theorem dksX5_adds_2 : cX5_adds.data.toList.drop 47 = dktX5_adds_2 := dk_seg dksX5_adds_1 23 rfl rfl
theorem dksX5_adds_3 : cX5_adds.data.toList.drop 70 = dktX5_adds_3 := dk_seg dksX5_adds_2 23 rfl rfl
theorem dksX5_adds_4 : cX5_adds.data.toList.drop 92 = dktX5_adds_4 := dk_seg dksX5_adds_3 22 rfl rfl
theorem dksX5_adds_5 : cX5_adds.data.toList.drop 116 = dktX5_adds_5 := dk_seg dksX5_adds_4 24 rfl rfl
theorem dksX5_adds_6 : cX5_adds.data.toList.drop 138 = dktX5_adds_6 := dk_seg dksX5_adds_5 22 rfl rfl
theorem dksX5_adds_7 : cX5_adds.data.toList.drop 160 = dktX5_adds_7 := dk_seg dksX5_adds_6 22 rfl rfl
theorem dksX5_adds_8 : cX5_adds.data.toList.drop 183 = dktX5_adds_8 := dk_seg dksX5_adds_7 23 rfl rfl
theorem dksX5_adds_9 : cX5_adds.data.toList.drop 207 = dktX5_adds_9 := dk_seg dksX5_adds_8 24 rfl rfl
theorem dksX5_adds_10 : cX5_adds.data.toList.drop 231 = dktX5_adds_10 := dk_seg dksX5_adds_9 24 rfl rfl
theorem dksX5_adds_11 : cX5_adds.data.toList.drop 253 = dktX5_adds_11 := dk_seg dksX5_adds_10 22 rfl rfl
theorem dX5_adds_0 : decode cX5_adds 0 = .ok (.iload_n 1, 1) := dk_27 (dk_at dksX5_adds_0 0 rfl rfl)
theorem dX5_adds_1 : decode cX5_adds 1 = .ok (.invokestatic 268, 3) := dk_184 1 12 (dk_at dksX5_adds_0 1 rfl rfl)
theorem dX5_adds_4 : decode cX5_adds 4 = .ok (.aload_n 0, 1) := dk_42 (dk_at dksX5_adds_0 4 rfl rfl)
theorem dX5_adds_5 : decode cX5_adds 5 = .ok (.getfield 51, 3) := dk_180 0 51 (dk_at dksX5_adds_0 5 rfl rfl)
theorem dX5_adds_8 : decode cX5_adds 8 = .ok (.iconst 0, 1) := dk_3 (dk_at dksX5_adds_0 8 rfl rfl)
theorem dX5_adds_9 : decode cX5_adds 9 = .ok (.iload_n 2, 1) := dk_28 (dk_at dksX5_adds_0 9 rfl rfl)
theorem dX5_adds_10 : decode cX5_adds 10 = .ok (.iadd, 1) := dk_96 (dk_at dksX5_adds_0 10 rfl rfl)
theorem dX5_adds_11 : decode cX5_adds 11 = .ok (.iaload, 1) := dk_46 (dk_at dksX5_adds_0 11 rfl rfl)
theorem dX5_adds_12 : decode cX5_adds 12 = .ok (.imul, 1) := dk_104 (dk_at dksX5_adds_0 12 rfl rfl)
theorem dX5_adds_13 : decode cX5_adds 13 = .ok (.iload_n 1, 1) := dk_27 (dk_at dksX5_adds_0 13 rfl rfl)
theorem dX5_adds_14 : decode cX5_adds 14 = .ok (.invokestatic 271, 3) := dk_184 1 15 (dk_at dksX5_adds_0 14 rfl rfl)
theorem dX5_adds_17 : decode cX5_adds 17 = .ok (.aload_n 0, 1) := dk_42 (dk_at dksX5_adds_0 17 rfl rfl)
theorem dX5_adds_18 : decode cX5_adds 18 = .ok (.getfield 51, 3) := dk_180 0 51 (dk_at dksX5_adds_0 18 rfl rfl)
theorem dX5_adds_21 : decode cX5_adds 21 = .ok (.iconst 0, 1) := dk_3 (dk_at dksX5_adds_0 21 rfl rfl)
theorem dX5_adds_22 : decode cX5_adds 22 = .ok (.iload_n 3, 1) := dk_29 (dk_at dksX5_adds_0 22 rfl rfl)
theorem dX5_adds_23 : decode cX5_adds 23 = .ok (.iadd, 1) := dk_96 (dk_at dksX5_adds_0 23 rfl rfl)
theorem dX5_adds_24 : decode cX5_adds 24 = .ok (.iaload, 1) := dk_46 (dk_at dksX5_adds_1 0 rfl rfl)
theorem dX5_adds_25 : decode cX5_adds 25 = .ok (.imul, 1) := dk_104 (dk_at dksX5_adds_1 1 rfl rfl)
theorem dX5_adds_26 : decode cX5_adds 26 = .ok (.iadd, 1) := dk_96 (dk_at dksX5_adds_1 2 rfl rfl)
theorem dX5_adds_27 : decode cX5_adds 27 = .ok (.istore 5, 2) := dk_54 5 (dk_at dksX5_adds_1 3 rfl rfl)
theorem dX5_adds_29 : decode cX5_adds 29 = .ok (.iload_n 1, 1) := dk_27 (dk_at dksX5_adds_1 5 rfl rfl)
theorem dX5_adds_30 : decode cX5_adds 30 = .ok (.invokestatic 268, 3) := dk_184 1 12 (dk_at dksX5_adds_1 6 rfl rfl)
theorem dX5_adds_33 : decode cX5_adds 33 = .ok (.aload_n 0, 1) := dk_42 (dk_at dksX5_adds_1 9 rfl rfl)
theorem dX5_adds_34 : decode cX5_adds 34 = .ok (.getfield 51, 3) := dk_180 0 51 (dk_at dksX5_adds_1 10 rfl rfl)
theorem dX5_adds_37 : decode cX5_adds 37 = .ok (.bipush 6, 2) := dk_16 6 (dk_at dksX5_adds_1 13 rfl rfl)
theorem dX5_adds_39 : decode cX5_adds 39 = .ok (.iload_n 2, 1) := dk_28 (dk_at dksX5_adds_1 15 rfl rfl)
theorem dX5_adds_40 : decode cX5_adds 40 = .ok (.iadd, 1) := dk_96 (dk_at dksX5_adds_1 16 rfl rfl)
theorem dX5_adds_41 : decode cX5_adds 41 = .ok (.iaload, 1) := dk_46 (dk_at dksX5_adds_1 17 rfl rfl)
theorem dX5_adds_42 : decode cX5_adds 42 = .ok (.imul, 1) := dk_104 (dk_at dksX5_adds_1 18 rfl rfl)
theorem dX5_adds_43 : decode cX5_adds 43 = .ok (.iload_n 1, 1) := dk_27 (dk_at dksX5_adds_1 19 rfl rfl)
theorem dX5_adds_44 : decode cX5_adds 44 = .ok (.invokestatic 271, 3) := dk_184 1 15 (dk_at dksX5_adds_1 20 rfl rfl)
theorem dX5_adds_47 : decode cX5_adds 47 = .ok (.invokestatic 274, 3) := dk_184 1 18 (dk_at dksX5_adds_2 0 rfl rfl)
theorem dX5_adds_50 : decode cX5_adds 50 = .ok (.aload_n 0, 1) := dk_42 (dk_at dksX5_adds_2 3 rfl rfl)
theorem dX5_adds_51 : decode cX5_adds 51 = .ok (.getfield 51, 3) := dk_180 0 51 (dk_at dksX5_adds_2 4 rfl rfl)
theorem dX5_adds_54 : decode cX5_adds 54 = .ok (.bipush 6, 2) := dk_16 6 (dk_at dksX5_adds_2 7 rfl rfl)
theorem dX5_adds_56 : decode cX5_adds 56 = .ok (.iload_n 3, 1) := dk_29 (dk_at dksX5_adds_2 9 rfl rfl)
theorem dX5_adds_57 : decode cX5_adds 57 = .ok (.iadd, 1) := dk_96 (dk_at dksX5_adds_2 10 rfl rfl)
theorem dX5_adds_58 : decode cX5_adds 58 = .ok (.iaload, 1) := dk_46 (dk_at dksX5_adds_2 11 rfl rfl)
theorem dX5_adds_59 : decode cX5_adds 59 = .ok (.imul, 1) := dk_104 (dk_at dksX5_adds_2 12 rfl rfl)
theorem dX5_adds_60 : decode cX5_adds 60 = .ok (.iadd, 1) := dk_96 (dk_at dksX5_adds_2 13 rfl rfl)
theorem dX5_adds_61 : decode cX5_adds 61 = .ok (.istore 6, 2) := dk_54 6 (dk_at dksX5_adds_2 14 rfl rfl)
theorem dX5_adds_63 : decode cX5_adds 63 = .ok (.iload 4, 2) := dk_21 4 (dk_at dksX5_adds_2 16 rfl rfl)
theorem dX5_adds_65 : decode cX5_adds 65 = .ok (.bipush (-2), 2) := dk_16 254 (dk_at dksX5_adds_2 18 rfl rfl)
theorem dX5_adds_67 : decode cX5_adds 67 = .ok (.if_icmp .eq 45, 3) := dk_159 0 45 (dk_at dksX5_adds_2 20 rfl rfl)
theorem dX5_adds_70 : decode cX5_adds 70 = .ok (.iload 5, 2) := dk_21 5 (dk_at dksX5_adds_3 0 rfl rfl)
theorem dX5_adds_72 : decode cX5_adds 72 = .ok (.iload_n 1, 1) := dk_27 (dk_at dksX5_adds_3 2 rfl rfl)
theorem dX5_adds_73 : decode cX5_adds 73 = .ok (.invokestatic 277, 3) := dk_184 1 21 (dk_at dksX5_adds_3 3 rfl rfl)
theorem dX5_adds_76 : decode cX5_adds 76 = .ok (.aload_n 0, 1) := dk_42 (dk_at dksX5_adds_3 6 rfl rfl)
theorem dX5_adds_77 : decode cX5_adds 77 = .ok (.getfield 51, 3) := dk_180 0 51 (dk_at dksX5_adds_3 7 rfl rfl)
theorem dX5_adds_80 : decode cX5_adds 80 = .ok (.iconst 0, 1) := dk_3 (dk_at dksX5_adds_3 10 rfl rfl)
theorem dX5_adds_81 : decode cX5_adds 81 = .ok (.iload 4, 2) := dk_21 4 (dk_at dksX5_adds_3 11 rfl rfl)
theorem dX5_adds_83 : decode cX5_adds 83 = .ok (.iadd, 1) := dk_96 (dk_at dksX5_adds_3 13 rfl rfl)
theorem dX5_adds_84 : decode cX5_adds 84 = .ok (.iaload, 1) := dk_46 (dk_at dksX5_adds_3 14 rfl rfl)
theorem dX5_adds_85 : decode cX5_adds 85 = .ok (.imul, 1) := dk_104 (dk_at dksX5_adds_3 15 rfl rfl)
theorem dX5_adds_86 : decode cX5_adds 86 = .ok (.iadd, 1) := dk_96 (dk_at dksX5_adds_3 16 rfl rfl)
theorem dX5_adds_87 : decode cX5_adds 87 = .ok (.istore 5, 2) := dk_54 5 (dk_at dksX5_adds_3 17 rfl rfl)
theorem dX5_adds_89 : decode cX5_adds 89 = .ok (.iload 6, 2) := dk_21 6 (dk_at dksX5_adds_3 19 rfl rfl)
theorem dX5_adds_91 : decode cX5_adds 91 = .ok (.iload_n 1, 1) := dk_27 (dk_at dksX5_adds_3 21 rfl rfl)
theorem dX5_adds_92 : decode cX5_adds 92 = .ok (.invokestatic 277, 3) := dk_184 1 21 (dk_at dksX5_adds_4 0 rfl rfl)
theorem dX5_adds_95 : decode cX5_adds 95 = .ok (.invokestatic 274, 3) := dk_184 1 18 (dk_at dksX5_adds_4 3 rfl rfl)
theorem dX5_adds_98 : decode cX5_adds 98 = .ok (.aload_n 0, 1) := dk_42 (dk_at dksX5_adds_4 6 rfl rfl)
theorem dX5_adds_99 : decode cX5_adds 99 = .ok (.getfield 51, 3) := dk_180 0 51 (dk_at dksX5_adds_4 7 rfl rfl)
theorem dX5_adds_102 : decode cX5_adds 102 = .ok (.bipush 6, 2) := dk_16 6 (dk_at dksX5_adds_4 10 rfl rfl)
theorem dX5_adds_104 : decode cX5_adds 104 = .ok (.iload 4, 2) := dk_21 4 (dk_at dksX5_adds_4 12 rfl rfl)
theorem dX5_adds_106 : decode cX5_adds 106 = .ok (.iadd, 1) := dk_96 (dk_at dksX5_adds_4 14 rfl rfl)
theorem dX5_adds_107 : decode cX5_adds 107 = .ok (.iaload, 1) := dk_46 (dk_at dksX5_adds_4 15 rfl rfl)
theorem dX5_adds_108 : decode cX5_adds 108 = .ok (.imul, 1) := dk_104 (dk_at dksX5_adds_4 16 rfl rfl)
theorem dX5_adds_109 : decode cX5_adds 109 = .ok (.iadd, 1) := dk_96 (dk_at dksX5_adds_4 17 rfl rfl)
theorem dX5_adds_110 : decode cX5_adds 110 = .ok (.istore 6, 2) := dk_54 6 (dk_at dksX5_adds_4 18 rfl rfl)
theorem dX5_adds_112 : decode cX5_adds 112 = .ok (.aload_n 0, 1) := dk_42 (dk_at dksX5_adds_4 20 rfl rfl)
theorem dX5_adds_113 : decode cX5_adds 113 = .ok (.getfield 51, 3) := dk_180 0 51 (dk_at dksX5_adds_4 21 rfl rfl)
theorem dX5_adds_116 : decode cX5_adds 116 = .ok (.bipush 73, 2) := dk_16 73 (dk_at dksX5_adds_5 0 rfl rfl)
theorem dX5_adds_118 : decode cX5_adds 118 = .ok (.iload_n 2, 1) := dk_28 (dk_at dksX5_adds_5 2 rfl rfl)
theorem dX5_adds_119 : decode cX5_adds 119 = .ok (.iadd, 1) := dk_96 (dk_at dksX5_adds_5 3 rfl rfl)
theorem dX5_adds_120 : decode cX5_adds 120 = .ok (.iaload, 1) := dk_46 (dk_at dksX5_adds_5 4 rfl rfl)
theorem dX5_adds_121 : decode cX5_adds 121 = .ok (.aload_n 0, 1) := dk_42 (dk_at dksX5_adds_5 5 rfl rfl)
theorem dX5_adds_122 : decode cX5_adds 122 = .ok (.getfield 51, 3) := dk_180 0 51 (dk_at dksX5_adds_5 6 rfl rfl)
theorem dX5_adds_125 : decode cX5_adds 125 = .ok (.bipush 73, 2) := dk_16 73 (dk_at dksX5_adds_5 9 rfl rfl)
theorem dX5_adds_127 : decode cX5_adds 127 = .ok (.iload_n 3, 1) := dk_29 (dk_at dksX5_adds_5 11 rfl rfl)
theorem dX5_adds_128 : decode cX5_adds 128 = .ok (.iadd, 1) := dk_96 (dk_at dksX5_adds_5 12 rfl rfl)
theorem dX5_adds_129 : decode cX5_adds 129 = .ok (.iaload, 1) := dk_46 (dk_at dksX5_adds_5 13 rfl rfl)
theorem dX5_adds_130 : decode cX5_adds 130 = .ok (.iand, 1) := dk_126 (dk_at dksX5_adds_5 14 rfl rfl)
theorem dX5_adds_131 : decode cX5_adds 131 = .ok (.iload 4, 2) := dk_21 4 (dk_at dksX5_adds_5 15 rfl rfl)
theorem dX5_adds_133 : decode cX5_adds 133 = .ok (.bipush (-2), 2) := dk_16 254 (dk_at dksX5_adds_5 17 rfl rfl)
theorem dX5_adds_135 : decode cX5_adds 135 = .ok (.if_icmp .ne 9, 3) := dk_160 0 9 (dk_at dksX5_adds_5 19 rfl rfl)
theorem dX5_adds_138 : decode cX5_adds 138 = .ok (.sipush 255, 3) := dk_17 0 255 (dk_at dksX5_adds_6 0 rfl rfl)
theorem dX5_adds_141 : decode cX5_adds 141 = .ok (.goto 13, 3) := dk_167 0 13 (dk_at dksX5_adds_6 3 rfl rfl)
theorem dX5_adds_144 : decode cX5_adds 144 = .ok (.aload_n 0, 1) := dk_42 (dk_at dksX5_adds_6 6 rfl rfl)
theorem dX5_adds_145 : decode cX5_adds 145 = .ok (.getfield 51, 3) := dk_180 0 51 (dk_at dksX5_adds_6 7 rfl rfl)
theorem dX5_adds_148 : decode cX5_adds 148 = .ok (.bipush 73, 2) := dk_16 73 (dk_at dksX5_adds_6 10 rfl rfl)
theorem dX5_adds_150 : decode cX5_adds 150 = .ok (.iload 4, 2) := dk_21 4 (dk_at dksX5_adds_6 12 rfl rfl)
theorem dX5_adds_152 : decode cX5_adds 152 = .ok (.iadd, 1) := dk_96 (dk_at dksX5_adds_6 14 rfl rfl)
theorem dX5_adds_153 : decode cX5_adds 153 = .ok (.iaload, 1) := dk_46 (dk_at dksX5_adds_6 15 rfl rfl)
theorem dX5_adds_154 : decode cX5_adds 154 = .ok (.iand, 1) := dk_126 (dk_at dksX5_adds_6 16 rfl rfl)
theorem dX5_adds_155 : decode cX5_adds 155 = .ok (.istore 7, 2) := dk_54 7 (dk_at dksX5_adds_6 17 rfl rfl)
theorem dX5_adds_157 : decode cX5_adds 157 = .ok (.iload 5, 2) := dk_21 5 (dk_at dksX5_adds_6 19 rfl rfl)
theorem dX5_adds_159 : decode cX5_adds 159 = .ok (.iconst 1, 1) := dk_4 (dk_at dksX5_adds_6 21 rfl rfl)
theorem dX5_adds_160 : decode cX5_adds 160 = .ok (.if_icmp .lt 17, 3) := dk_161 0 17 (dk_at dksX5_adds_7 0 rfl rfl)
theorem dX5_adds_163 : decode cX5_adds 163 = .ok (.iload 5, 2) := dk_21 5 (dk_at dksX5_adds_7 3 rfl rfl)
theorem dX5_adds_165 : decode cX5_adds 165 = .ok (.aload_n 0, 1) := dk_42 (dk_at dksX5_adds_7 5 rfl rfl)
theorem dX5_adds_166 : decode cX5_adds 166 = .ok (.getfield 238, 3) := dk_180 0 238 (dk_at dksX5_adds_7 6 rfl rfl)
theorem dX5_adds_169 : decode cX5_adds 169 = .ok (.if_icmp .gt 8, 3) := dk_163 0 8 (dk_at dksX5_adds_7 9 rfl rfl)
theorem dX5_adds_172 : decode cX5_adds 172 = .ok (.iload 7, 2) := dk_21 7 (dk_at dksX5_adds_7 12 rfl rfl)
theorem dX5_adds_174 : decode cX5_adds 174 = .ok (.ifCond .ne 4, 3) := dk_154 0 4 (dk_at dksX5_adds_7 14 rfl rfl)
theorem dX5_adds_177 : decode cX5_adds 177 = .ok (.return_, 1) := dk_177 (dk_at dksX5_adds_7 17 rfl rfl)
theorem dX5_adds_178 : decode cX5_adds 178 = .ok (.aload_n 0, 1) := dk_42 (dk_at dksX5_adds_7 18 rfl rfl)
theorem dX5_adds_179 : decode cX5_adds 179 = .ok (.getfield 78, 3) := dk_180 0 78 (dk_at dksX5_adds_7 19 rfl rfl)
theorem dX5_adds_182 : decode cX5_adds 182 = .ok (.aload_n 0, 1) := dk_42 (dk_at dksX5_adds_7 22 rfl rfl)
theorem dX5_adds_183 : decode cX5_adds 183 = .ok (.getfield 280, 3) := dk_180 1 24 (dk_at dksX5_adds_8 0 rfl rfl)
theorem dX5_adds_186 : decode cX5_adds 186 = .ok (.iload 7, 2) := dk_21 7 (dk_at dksX5_adds_8 3 rfl rfl)
theorem dX5_adds_188 : decode cX5_adds 188 = .ok (.iastore, 1) := dk_79 (dk_at dksX5_adds_8 5 rfl rfl)
theorem dX5_adds_189 : decode cX5_adds 189 = .ok (.aload_n 0, 1) := dk_42 (dk_at dksX5_adds_8 6 rfl rfl)
theorem dX5_adds_190 : decode cX5_adds 190 = .ok (.getfield 60, 3) := dk_180 0 60 (dk_at dksX5_adds_8 7 rfl rfl)
theorem dX5_adds_193 : decode cX5_adds 193 = .ok (.aload_n 0, 1) := dk_42 (dk_at dksX5_adds_8 10 rfl rfl)
theorem dX5_adds_194 : decode cX5_adds 194 = .ok (.getfield 280, 3) := dk_180 1 24 (dk_at dksX5_adds_8 11 rfl rfl)
theorem dX5_adds_197 : decode cX5_adds 197 = .ok (.iload_n 1, 1) := dk_27 (dk_at dksX5_adds_8 14 rfl rfl)
theorem dX5_adds_198 : decode cX5_adds 198 = .ok (.iastore, 1) := dk_79 (dk_at dksX5_adds_8 15 rfl rfl)
theorem dX5_adds_199 : decode cX5_adds 199 = .ok (.aload_n 0, 1) := dk_42 (dk_at dksX5_adds_8 16 rfl rfl)
theorem dX5_adds_200 : decode cX5_adds 200 = .ok (.getfield 63, 3) := dk_180 0 63 (dk_at dksX5_adds_8 17 rfl rfl)
theorem dX5_adds_203 : decode cX5_adds 203 = .ok (.aload_n 0, 1) := dk_42 (dk_at dksX5_adds_8 20 rfl rfl)
theorem dX5_adds_204 : decode cX5_adds 204 = .ok (.getfield 280, 3) := dk_180 1 24 (dk_at dksX5_adds_8 21 rfl rfl)
theorem dX5_adds_207 : decode cX5_adds 207 = .ok (.iload_n 2, 1) := dk_28 (dk_at dksX5_adds_9 0 rfl rfl)
theorem dX5_adds_208 : decode cX5_adds 208 = .ok (.iastore, 1) := dk_79 (dk_at dksX5_adds_9 1 rfl rfl)
theorem dX5_adds_209 : decode cX5_adds 209 = .ok (.aload_n 0, 1) := dk_42 (dk_at dksX5_adds_9 2 rfl rfl)
theorem dX5_adds_210 : decode cX5_adds 210 = .ok (.getfield 66, 3) := dk_180 0 66 (dk_at dksX5_adds_9 3 rfl rfl)
theorem dX5_adds_213 : decode cX5_adds 213 = .ok (.aload_n 0, 1) := dk_42 (dk_at dksX5_adds_9 6 rfl rfl)
theorem dX5_adds_214 : decode cX5_adds 214 = .ok (.getfield 280, 3) := dk_180 1 24 (dk_at dksX5_adds_9 7 rfl rfl)
theorem dX5_adds_217 : decode cX5_adds 217 = .ok (.iload_n 3, 1) := dk_29 (dk_at dksX5_adds_9 10 rfl rfl)
theorem dX5_adds_218 : decode cX5_adds 218 = .ok (.iastore, 1) := dk_79 (dk_at dksX5_adds_9 11 rfl rfl)
theorem dX5_adds_219 : decode cX5_adds 219 = .ok (.aload_n 0, 1) := dk_42 (dk_at dksX5_adds_9 12 rfl rfl)
theorem dX5_adds_220 : decode cX5_adds 220 = .ok (.getfield 69, 3) := dk_180 0 69 (dk_at dksX5_adds_9 13 rfl rfl)
theorem dX5_adds_223 : decode cX5_adds 223 = .ok (.aload_n 0, 1) := dk_42 (dk_at dksX5_adds_9 16 rfl rfl)
theorem dX5_adds_224 : decode cX5_adds 224 = .ok (.getfield 280, 3) := dk_180 1 24 (dk_at dksX5_adds_9 17 rfl rfl)
theorem dX5_adds_227 : decode cX5_adds 227 = .ok (.iload 4, 2) := dk_21 4 (dk_at dksX5_adds_9 20 rfl rfl)
theorem dX5_adds_229 : decode cX5_adds 229 = .ok (.iastore, 1) := dk_79 (dk_at dksX5_adds_9 22 rfl rfl)
theorem dX5_adds_230 : decode cX5_adds 230 = .ok (.aload_n 0, 1) := dk_42 (dk_at dksX5_adds_9 23 rfl rfl)
theorem dX5_adds_231 : decode cX5_adds 231 = .ok (.getfield 72, 3) := dk_180 0 72 (dk_at dksX5_adds_10 0 rfl rfl)
theorem dX5_adds_234 : decode cX5_adds 234 = .ok (.aload_n 0, 1) := dk_42 (dk_at dksX5_adds_10 3 rfl rfl)
theorem dX5_adds_235 : decode cX5_adds 235 = .ok (.getfield 280, 3) := dk_180 1 24 (dk_at dksX5_adds_10 4 rfl rfl)
theorem dX5_adds_238 : decode cX5_adds 238 = .ok (.iload 5, 2) := dk_21 5 (dk_at dksX5_adds_10 7 rfl rfl)
theorem dX5_adds_240 : decode cX5_adds 240 = .ok (.iastore, 1) := dk_79 (dk_at dksX5_adds_10 9 rfl rfl)
theorem dX5_adds_241 : decode cX5_adds 241 = .ok (.aload_n 0, 1) := dk_42 (dk_at dksX5_adds_10 10 rfl rfl)
theorem dX5_adds_242 : decode cX5_adds 242 = .ok (.getfield 75, 3) := dk_180 0 75 (dk_at dksX5_adds_10 11 rfl rfl)
theorem dX5_adds_245 : decode cX5_adds 245 = .ok (.aload_n 0, 1) := dk_42 (dk_at dksX5_adds_10 14 rfl rfl)
theorem dX5_adds_246 : decode cX5_adds 246 = .ok (.getfield 280, 3) := dk_180 1 24 (dk_at dksX5_adds_10 15 rfl rfl)
theorem dX5_adds_249 : decode cX5_adds 249 = .ok (.iload 6, 2) := dk_21 6 (dk_at dksX5_adds_10 18 rfl rfl)
theorem dX5_adds_251 : decode cX5_adds 251 = .ok (.aload_n 0, 1) := dk_42 (dk_at dksX5_adds_10 20 rfl rfl)
theorem dX5_adds_252 : decode cX5_adds 252 = .ok (.iload_n 1, 1) := dk_27 (dk_at dksX5_adds_10 21 rfl rfl)
theorem dX5_adds_253 : decode cX5_adds 253 = .ok (.invokevirtual 283, 3) := dk_182 1 27 (dk_at dksX5_adds_11 0 rfl rfl)
theorem dX5_adds_256 : decode cX5_adds 256 = .ok (.isub, 1) := dk_100 (dk_at dksX5_adds_11 3 rfl rfl)
theorem dX5_adds_257 : decode cX5_adds 257 = .ok (.iastore, 1) := dk_79 (dk_at dksX5_adds_11 4 rfl rfl)
theorem dX5_adds_258 : decode cX5_adds 258 = .ok (.aload_n 0, 1) := dk_42 (dk_at dksX5_adds_11 5 rfl rfl)
theorem dX5_adds_259 : decode cX5_adds 259 = .ok (.dup, 1) := dk_89 (dk_at dksX5_adds_11 6 rfl rfl)
theorem dX5_adds_260 : decode cX5_adds 260 = .ok (.getfield 280, 3) := dk_180 1 24 (dk_at dksX5_adds_11 7 rfl rfl)
theorem dX5_adds_263 : decode cX5_adds 263 = .ok (.iconst 1, 1) := dk_4 (dk_at dksX5_adds_11 10 rfl rfl)
theorem dX5_adds_264 : decode cX5_adds 264 = .ok (.iadd, 1) := dk_96 (dk_at dksX5_adds_11 11 rfl rfl)
theorem dX5_adds_265 : decode cX5_adds 265 = .ok (.putfield 280, 3) := dk_181 1 24 (dk_at dksX5_adds_11 12 rfl rfl)
theorem dX5_adds_268 : decode cX5_adds 268 = .ok (.return_, 1) := dk_177 (dk_at dksX5_adds_11 15 rfl rfl)
abbrev cX5_timesA : ByteArray := prog_10_method_54_code
def yX5_timesA : MethodName := ⟨RX5, "timesA", "(I)I"⟩
def dkwX5_timesA_1 : List UInt8 := [172]
abbrev dktX5_timesA_1 : List UInt8 := dkwX5_timesA_1 ++ []
def dkwX5_timesA_0 : List UInt8 := [26, 5, 159, 0, 8, 26, 8, 160, 0, 7, 5, 167, 0, 13, 26, 7, 160, 0, 7, 6, 167, 0, 4, 4]
abbrev dktX5_timesA_0 : List UInt8 := dkwX5_timesA_0 ++ dktX5_timesA_1
theorem dksX5_timesA_0 : cX5_timesA.data.toList.drop 0 = dktX5_timesA_0 := by decide +kernel
theorem dksX5_timesA_1 : cX5_timesA.data.toList.drop 24 = dktX5_timesA_1 := dk_seg dksX5_timesA_0 24 rfl rfl
theorem dX5_timesA_0 : decode cX5_timesA 0 = .ok (.iload_n 0, 1) := dk_26 (dk_at dksX5_timesA_0 0 rfl rfl)
theorem dX5_timesA_1 : decode cX5_timesA 1 = .ok (.iconst 2, 1) := dk_5 (dk_at dksX5_timesA_0 1 rfl rfl)
theorem dX5_timesA_2 : decode cX5_timesA 2 = .ok (.if_icmp .eq 8, 3) := dk_159 0 8 (dk_at dksX5_timesA_0 2 rfl rfl)
theorem dX5_timesA_5 : decode cX5_timesA 5 = .ok (.iload_n 0, 1) := dk_26 (dk_at dksX5_timesA_0 5 rfl rfl)
theorem dX5_timesA_6 : decode cX5_timesA 6 = .ok (.iconst 5, 1) := dk_8 (dk_at dksX5_timesA_0 6 rfl rfl)
theorem dX5_timesA_7 : decode cX5_timesA 7 = .ok (.if_icmp .ne 7, 3) := dk_160 0 7 (dk_at dksX5_timesA_0 7 rfl rfl)
theorem dX5_timesA_10 : decode cX5_timesA 10 = .ok (.iconst 2, 1) := dk_5 (dk_at dksX5_timesA_0 10 rfl rfl)
theorem dX5_timesA_11 : decode cX5_timesA 11 = .ok (.goto 13, 3) := dk_167 0 13 (dk_at dksX5_timesA_0 11 rfl rfl)
theorem dX5_timesA_14 : decode cX5_timesA 14 = .ok (.iload_n 0, 1) := dk_26 (dk_at dksX5_timesA_0 14 rfl rfl)
theorem dX5_timesA_15 : decode cX5_timesA 15 = .ok (.iconst 4, 1) := dk_7 (dk_at dksX5_timesA_0 15 rfl rfl)
theorem dX5_timesA_16 : decode cX5_timesA 16 = .ok (.if_icmp .ne 7, 3) := dk_160 0 7 (dk_at dksX5_timesA_0 16 rfl rfl)
theorem dX5_timesA_19 : decode cX5_timesA 19 = .ok (.iconst 3, 1) := dk_6 (dk_at dksX5_timesA_0 19 rfl rfl)
theorem dX5_timesA_20 : decode cX5_timesA 20 = .ok (.goto 4, 3) := dk_167 0 4 (dk_at dksX5_timesA_0 20 rfl rfl)
theorem dX5_timesA_23 : decode cX5_timesA 23 = .ok (.iconst 1, 1) := dk_4 (dk_at dksX5_timesA_0 23 rfl rfl)
theorem dX5_timesA_24 : decode cX5_timesA 24 = .ok (.ireturn, 1) := dk_172 (dk_at dksX5_timesA_1 0 rfl rfl)
abbrev cX5_timesB : ByteArray := prog_10_method_55_code
def yX5_timesB : MethodName := ⟨RX5, "timesB", "(I)I"⟩
def dkwX5_timesB_1 : List UInt8 := [16, 254, 167, 0, 4, 2, 172]
abbrev dktX5_timesB_1 : List UInt8 := dkwX5_timesB_1 ++ []
def dkwX5_timesB_0 : List UInt8 := [26, 153, 0, 13, 26, 6, 159, 0, 8, 26, 8, 160, 0, 7, 4, 167, 0, 14, 26, 7, 160, 0, 8]
abbrev dktX5_timesB_0 : List UInt8 := dkwX5_timesB_0 ++ dktX5_timesB_1
theorem dksX5_timesB_0 : cX5_timesB.data.toList.drop 0 = dktX5_timesB_0 := by decide +kernel
theorem dksX5_timesB_1 : cX5_timesB.data.toList.drop 23 = dktX5_timesB_1 := dk_seg dksX5_timesB_0 23 rfl rfl
theorem dX5_timesB_0 : decode cX5_timesB 0 = .ok (.iload_n 0, 1) := dk_26 (dk_at dksX5_timesB_0 0 rfl rfl)
theorem dX5_timesB_1 : decode cX5_timesB 1 = .ok (.ifCond .eq 13, 3) := dk_153 0 13 (dk_at dksX5_timesB_0 1 rfl rfl)
theorem dX5_timesB_4 : decode cX5_timesB 4 = .ok (.iload_n 0, 1) := dk_26 (dk_at dksX5_timesB_0 4 rfl rfl)
theorem dX5_timesB_5 : decode cX5_timesB 5 = .ok (.iconst 3, 1) := dk_6 (dk_at dksX5_timesB_0 5 rfl rfl)
theorem dX5_timesB_6 : decode cX5_timesB 6 = .ok (.if_icmp .eq 8, 3) := dk_159 0 8 (dk_at dksX5_timesB_0 6 rfl rfl)
theorem dX5_timesB_9 : decode cX5_timesB 9 = .ok (.iload_n 0, 1) := dk_26 (dk_at dksX5_timesB_0 9 rfl rfl)
theorem dX5_timesB_10 : decode cX5_timesB 10 = .ok (.iconst 5, 1) := dk_8 (dk_at dksX5_timesB_0 10 rfl rfl)
theorem dX5_timesB_11 : decode cX5_timesB 11 = .ok (.if_icmp .ne 7, 3) := dk_160 0 7 (dk_at dksX5_timesB_0 11 rfl rfl)
theorem dX5_timesB_14 : decode cX5_timesB 14 = .ok (.iconst 1, 1) := dk_4 (dk_at dksX5_timesB_0 14 rfl rfl)
theorem dX5_timesB_15 : decode cX5_timesB 15 = .ok (.goto 14, 3) := dk_167 0 14 (dk_at dksX5_timesB_0 15 rfl rfl)
theorem dX5_timesB_18 : decode cX5_timesB 18 = .ok (.iload_n 0, 1) := dk_26 (dk_at dksX5_timesB_0 18 rfl rfl)
theorem dX5_timesB_19 : decode cX5_timesB 19 = .ok (.iconst 4, 1) := dk_7 (dk_at dksX5_timesB_0 19 rfl rfl)
theorem dX5_timesB_20 : decode cX5_timesB 20 = .ok (.if_icmp .ne 8, 3) := dk_160 0 8 (dk_at dksX5_timesB_0 20 rfl rfl)
theorem dX5_timesB_23 : decode cX5_timesB 23 = .ok (.bipush (-2), 2) := dk_16 254 (dk_at dksX5_timesB_1 0 rfl rfl)
theorem dX5_timesB_25 : decode cX5_timesB 25 = .ok (.goto 4, 3) := dk_167 0 4 (dk_at dksX5_timesB_1 2 rfl rfl)
theorem dX5_timesB_28 : decode cX5_timesB 28 = .ok (.iconst (-1), 1) := dk_2 (dk_at dksX5_timesB_1 5 rfl rfl)
theorem dX5_timesB_29 : decode cX5_timesB 29 = .ok (.ireturn, 1) := dk_172 (dk_at dksX5_timesB_1 6 rfl rfl)
abbrev cX5_timesC : ByteArray := prog_10_method_56_code
def yX5_timesC : MethodName := ⟨RX5, "timesC", "(I)I"⟩
def dkwX5_timesC_0 : List UInt8 := [26, 6, 160, 0, 7, 2, 167, 0, 14, 26, 8, 160, 0, 8, 16, 254, 167, 0, 4, 3, 172]
abbrev dktX5_timesC_0 : List UInt8 := dkwX5_timesC_0 ++ []
theorem dksX5_timesC_0 : cX5_timesC.data.toList.drop 0 = dktX5_timesC_0 := by decide +kernel
theorem dX5_timesC_0 : decode cX5_timesC 0 = .ok (.iload_n 0, 1) := dk_26 (dk_at dksX5_timesC_0 0 rfl rfl)
theorem dX5_timesC_1 : decode cX5_timesC 1 = .ok (.iconst 3, 1) := dk_6 (dk_at dksX5_timesC_0 1 rfl rfl)
theorem dX5_timesC_2 : decode cX5_timesC 2 = .ok (.if_icmp .ne 7, 3) := dk_160 0 7 (dk_at dksX5_timesC_0 2 rfl rfl)
theorem dX5_timesC_5 : decode cX5_timesC 5 = .ok (.iconst (-1), 1) := dk_2 (dk_at dksX5_timesC_0 5 rfl rfl)
theorem dX5_timesC_6 : decode cX5_timesC 6 = .ok (.goto 14, 3) := dk_167 0 14 (dk_at dksX5_timesC_0 6 rfl rfl)
theorem dX5_timesC_9 : decode cX5_timesC 9 = .ok (.iload_n 0, 1) := dk_26 (dk_at dksX5_timesC_0 9 rfl rfl)
theorem dX5_timesC_10 : decode cX5_timesC 10 = .ok (.iconst 5, 1) := dk_8 (dk_at dksX5_timesC_0 10 rfl rfl)
theorem dX5_timesC_11 : decode cX5_timesC 11 = .ok (.if_icmp .ne 8, 3) := dk_160 0 8 (dk_at dksX5_timesC_0 11 rfl rfl)
theorem dX5_timesC_14 : decode cX5_timesC 14 = .ok (.bipush (-2), 2) := dk_16 254 (dk_at dksX5_timesC_0 14 rfl rfl)
theorem dX5_timesC_16 : decode cX5_timesC 16 = .ok (.goto 4, 3) := dk_167 0 4 (dk_at dksX5_timesC_0 16 rfl rfl)
theorem dX5_timesC_19 : decode cX5_timesC 19 = .ok (.iconst 0, 1) := dk_3 (dk_at dksX5_timesC_0 19 rfl rfl)
theorem dX5_timesC_20 : decode cX5_timesC 20 = .ok (.ireturn, 1) := dk_172 (dk_at dksX5_timesC_0 20 rfl rfl)
abbrev cX5_lossOf : ByteArray := prog_10_method_52_code
def yX5_lossOf : MethodName := ⟨RX5, "lossOf", "(I)I"⟩
def dkwX5_lossOf_0 : List UInt8 := [42, 180, 0, 13, 7, 27, 5, 108, 96, 46, 172]
abbrev dktX5_lossOf_0 : List UInt8 := dkwX5_lossOf_0 ++ []
theorem dksX5_lossOf_0 : cX5_lossOf.data.toList.drop 0 = dktX5_lossOf_0 := by decide +kernel
theorem dX5_lossOf_0 : decode cX5_lossOf 0 = .ok (.aload_n 0, 1) := dk_42 (dk_at dksX5_lossOf_0 0 rfl rfl)
theorem dX5_lossOf_1 : decode cX5_lossOf 1 = .ok (.getfield 13, 3) := dk_180 0 13 (dk_at dksX5_lossOf_0 1 rfl rfl)
theorem dX5_lossOf_4 : decode cX5_lossOf 4 = .ok (.iconst 4, 1) := dk_7 (dk_at dksX5_lossOf_0 4 rfl rfl)
theorem dX5_lossOf_5 : decode cX5_lossOf 5 = .ok (.iload_n 1, 1) := dk_27 (dk_at dksX5_lossOf_0 5 rfl rfl)
theorem dX5_lossOf_6 : decode cX5_lossOf 6 = .ok (.iconst 2, 1) := dk_5 (dk_at dksX5_lossOf_0 6 rfl rfl)
theorem dX5_lossOf_7 : decode cX5_lossOf 7 = .ok (.idiv, 1) := dk_108 (dk_at dksX5_lossOf_0 7 rfl rfl)
theorem dX5_lossOf_8 : decode cX5_lossOf 8 = .ok (.iadd, 1) := dk_96 (dk_at dksX5_lossOf_0 8 rfl rfl)
theorem dX5_lossOf_9 : decode cX5_lossOf 9 = .ok (.iaload, 1) := dk_46 (dk_at dksX5_lossOf_0 9 rfl rfl)
theorem dX5_lossOf_10 : decode cX5_lossOf 10 = .ok (.ireturn, 1) := dk_172 (dk_at dksX5_lossOf_0 10 rfl rfl)
abbrev cX5_hitsOf : ByteArray := prog_10_method_64_code
def yX5_hitsOf : MethodName := ⟨RX5, "hitsOf", "(I)I"⟩
def dkwX5_hitsOf_1 : List UInt8 := [120, 128, 61, 132, 3, 1, 167, 255, 230, 28, 172]
abbrev dktX5_hitsOf_1 : List UInt8 := dkwX5_hitsOf_1 ++ []
def dkwX5_hitsOf_0 : List UInt8 := [3, 61, 3, 62, 29, 42, 182, 0, 232, 162, 0, 24, 42, 27, 29, 182, 1, 49, 153, 0, 9, 28, 4, 29]
abbrev dktX5_hitsOf_0 : List UInt8 := dkwX5_hitsOf_0 ++ dktX5_hitsOf_1
theorem dksX5_hitsOf_0 : cX5_hitsOf.data.toList.drop 0 = dktX5_hitsOf_0 := by decide +kernel
theorem dksX5_hitsOf_1 : cX5_hitsOf.data.toList.drop 24 = dktX5_hitsOf_1 := dk_seg dksX5_hitsOf_0 24 rfl rfl
theorem dX5_hitsOf_0 : decode cX5_hitsOf 0 = .ok (.iconst 0, 1) := dk_3 (dk_at dksX5_hitsOf_0 0 rfl rfl)
theorem dX5_hitsOf_1 : decode cX5_hitsOf 1 = .ok (.istore_n 2, 1) := dk_61 (dk_at dksX5_hitsOf_0 1 rfl rfl)
theorem dX5_hitsOf_2 : decode cX5_hitsOf 2 = .ok (.iconst 0, 1) := dk_3 (dk_at dksX5_hitsOf_0 2 rfl rfl)
theorem dX5_hitsOf_3 : decode cX5_hitsOf 3 = .ok (.istore_n 3, 1) := dk_62 (dk_at dksX5_hitsOf_0 3 rfl rfl)
theorem dX5_hitsOf_4 : decode cX5_hitsOf 4 = .ok (.iload_n 3, 1) := dk_29 (dk_at dksX5_hitsOf_0 4 rfl rfl)
theorem dX5_hitsOf_5 : decode cX5_hitsOf 5 = .ok (.aload_n 0, 1) := dk_42 (dk_at dksX5_hitsOf_0 5 rfl rfl)
theorem dX5_hitsOf_6 : decode cX5_hitsOf 6 = .ok (.invokevirtual 232, 3) := dk_182 0 232 (dk_at dksX5_hitsOf_0 6 rfl rfl)
theorem dX5_hitsOf_9 : decode cX5_hitsOf 9 = .ok (.if_icmp .ge 24, 3) := dk_162 0 24 (dk_at dksX5_hitsOf_0 9 rfl rfl)
theorem dX5_hitsOf_12 : decode cX5_hitsOf 12 = .ok (.aload_n 0, 1) := dk_42 (dk_at dksX5_hitsOf_0 12 rfl rfl)
theorem dX5_hitsOf_13 : decode cX5_hitsOf 13 = .ok (.iload_n 1, 1) := dk_27 (dk_at dksX5_hitsOf_0 13 rfl rfl)
theorem dX5_hitsOf_14 : decode cX5_hitsOf 14 = .ok (.iload_n 3, 1) := dk_29 (dk_at dksX5_hitsOf_0 14 rfl rfl)
theorem dX5_hitsOf_15 : decode cX5_hitsOf 15 = .ok (.invokevirtual 305, 3) := dk_182 1 49 (dk_at dksX5_hitsOf_0 15 rfl rfl)
theorem dX5_hitsOf_18 : decode cX5_hitsOf 18 = .ok (.ifCond .eq 9, 3) := dk_153 0 9 (dk_at dksX5_hitsOf_0 18 rfl rfl)
theorem dX5_hitsOf_21 : decode cX5_hitsOf 21 = .ok (.iload_n 2, 1) := dk_28 (dk_at dksX5_hitsOf_0 21 rfl rfl)
theorem dX5_hitsOf_22 : decode cX5_hitsOf 22 = .ok (.iconst 1, 1) := dk_4 (dk_at dksX5_hitsOf_0 22 rfl rfl)
theorem dX5_hitsOf_23 : decode cX5_hitsOf 23 = .ok (.iload_n 3, 1) := dk_29 (dk_at dksX5_hitsOf_0 23 rfl rfl)
theorem dX5_hitsOf_24 : decode cX5_hitsOf 24 = .ok (.ishl, 1) := dk_120 (dk_at dksX5_hitsOf_1 0 rfl rfl)
theorem dX5_hitsOf_25 : decode cX5_hitsOf 25 = .ok (.ior, 1) := dk_128 (dk_at dksX5_hitsOf_1 1 rfl rfl)
theorem dX5_hitsOf_26 : decode cX5_hitsOf 26 = .ok (.istore_n 2, 1) := dk_61 (dk_at dksX5_hitsOf_1 2 rfl rfl)
theorem dX5_hitsOf_27 : decode cX5_hitsOf 27 = .ok (.iinc 3 1, 3) := dk_132 3 1 (dk_at dksX5_hitsOf_1 3 rfl rfl)
theorem dX5_hitsOf_30 : decode cX5_hitsOf 30 = .ok (.goto (-26), 3) := dk_167 255 230 (dk_at dksX5_hitsOf_1 6 rfl rfl)
theorem dX5_hitsOf_33 : decode cX5_hitsOf 33 = .ok (.iload_n 2, 1) := dk_28 (dk_at dksX5_hitsOf_1 9 rfl rfl)
theorem dX5_hitsOf_34 : decode cX5_hitsOf 34 = .ok (.ireturn, 1) := dk_172 (dk_at dksX5_hitsOf_1 10 rfl rfl)
abbrev cX5_hits : ByteArray := prog_10_method_62_code
def yX5_hits : MethodName := ⟨RX5, "hits", "(II)Z"⟩
def dkwX5_hits_1 : List UInt8 := [184, 1, 18, 42, 180, 0, 241, 163, 0, 7, 4, 167, 0, 4, 3, 172]
abbrev dktX5_hits_1 : List UInt8 := dkwX5_hits_1 ++ []
def dkwX5_hits_0 : List UInt8 := [42, 27, 28, 182, 1, 43, 153, 0, 32, 42, 180, 0, 51, 3, 28, 96, 46, 42, 180, 0, 72, 27, 46, 100]
abbrev dktX5_hits_0 : List UInt8 := dkwX5_hits_0 ++ dktX5_hits_1
theorem dksX5_hits_0 : cX5_hits.data.toList.drop 0 = dktX5_hits_0 := by decide +kernel
theorem dksX5_hits_1 : cX5_hits.data.toList.drop 24 = dktX5_hits_1 := dk_seg dksX5_hits_0 24 rfl rfl
theorem dX5_hits_0 : decode cX5_hits 0 = .ok (.aload_n 0, 1) := dk_42 (dk_at dksX5_hits_0 0 rfl rfl)
theorem dX5_hits_1 : decode cX5_hits 1 = .ok (.iload_n 1, 1) := dk_27 (dk_at dksX5_hits_0 1 rfl rfl)
theorem dX5_hits_2 : decode cX5_hits 2 = .ok (.iload_n 2, 1) := dk_28 (dk_at dksX5_hits_0 2 rfl rfl)
theorem dX5_hits_3 : decode cX5_hits 3 = .ok (.invokevirtual 299, 3) := dk_182 1 43 (dk_at dksX5_hits_0 3 rfl rfl)
theorem dX5_hits_6 : decode cX5_hits 6 = .ok (.ifCond .eq 32, 3) := dk_153 0 32 (dk_at dksX5_hits_0 6 rfl rfl)
theorem dX5_hits_9 : decode cX5_hits 9 = .ok (.aload_n 0, 1) := dk_42 (dk_at dksX5_hits_0 9 rfl rfl)
theorem dX5_hits_10 : decode cX5_hits 10 = .ok (.getfield 51, 3) := dk_180 0 51 (dk_at dksX5_hits_0 10 rfl rfl)
theorem dX5_hits_13 : decode cX5_hits 13 = .ok (.iconst 0, 1) := dk_3 (dk_at dksX5_hits_0 13 rfl rfl)
theorem dX5_hits_14 : decode cX5_hits 14 = .ok (.iload_n 2, 1) := dk_28 (dk_at dksX5_hits_0 14 rfl rfl)
theorem dX5_hits_15 : decode cX5_hits 15 = .ok (.iadd, 1) := dk_96 (dk_at dksX5_hits_0 15 rfl rfl)
theorem dX5_hits_16 : decode cX5_hits 16 = .ok (.iaload, 1) := dk_46 (dk_at dksX5_hits_0 16 rfl rfl)
theorem dX5_hits_17 : decode cX5_hits 17 = .ok (.aload_n 0, 1) := dk_42 (dk_at dksX5_hits_0 17 rfl rfl)
theorem dX5_hits_18 : decode cX5_hits 18 = .ok (.getfield 72, 3) := dk_180 0 72 (dk_at dksX5_hits_0 18 rfl rfl)
theorem dX5_hits_21 : decode cX5_hits 21 = .ok (.iload_n 1, 1) := dk_27 (dk_at dksX5_hits_0 21 rfl rfl)
theorem dX5_hits_22 : decode cX5_hits 22 = .ok (.iaload, 1) := dk_46 (dk_at dksX5_hits_0 22 rfl rfl)
theorem dX5_hits_23 : decode cX5_hits 23 = .ok (.isub, 1) := dk_100 (dk_at dksX5_hits_0 23 rfl rfl)
theorem dX5_hits_24 : decode cX5_hits 24 = .ok (.invokestatic 274, 3) := dk_184 1 18 (dk_at dksX5_hits_1 0 rfl rfl)
theorem dX5_hits_27 : decode cX5_hits 27 = .ok (.aload_n 0, 1) := dk_42 (dk_at dksX5_hits_1 3 rfl rfl)
theorem dX5_hits_28 : decode cX5_hits 28 = .ok (.getfield 241, 3) := dk_180 0 241 (dk_at dksX5_hits_1 4 rfl rfl)
theorem dX5_hits_31 : decode cX5_hits 31 = .ok (.if_icmp .gt 7, 3) := dk_163 0 7 (dk_at dksX5_hits_1 7 rfl rfl)
theorem dX5_hits_34 : decode cX5_hits 34 = .ok (.iconst 1, 1) := dk_4 (dk_at dksX5_hits_1 10 rfl rfl)
theorem dX5_hits_35 : decode cX5_hits 35 = .ok (.goto 4, 3) := dk_167 0 4 (dk_at dksX5_hits_1 11 rfl rfl)
theorem dX5_hits_38 : decode cX5_hits 38 = .ok (.iconst 0, 1) := dk_3 (dk_at dksX5_hits_1 14 rfl rfl)
theorem dX5_hits_39 : decode cX5_hits 39 = .ok (.ireturn, 1) := dk_172 (dk_at dksX5_hits_1 15 rfl rfl)
abbrev cX5_mayHit : ByteArray := prog_10_method_63_code
def yX5_mayHit : MethodName := ⟨RX5, "mayHit", "(II)Z"⟩
def dkwX5_mayHit_4 : List UInt8 := [16, 254, 159, 0, 18, 42, 180, 0, 75, 27, 46, 21, 4, 161, 0, 7, 4, 167, 0, 4, 3, 172]
abbrev dktX5_mayHit_4 : List UInt8 := dkwX5_mayHit_4 ++ []
def dkwX5_mayHit_3 : List UInt8 := [160, 0, 5, 4, 172, 42, 180, 0, 41, 6, 29, 104, 42, 180, 0, 23, 28, 46, 96, 46, 54, 4, 21, 4]
abbrev dktX5_mayHit_3 : List UInt8 := dkwX5_mayHit_3 ++ dktX5_mayHit_4
def dkwX5_mayHit_2 : List UInt8 := [154, 0, 5, 3, 172, 42, 180, 0, 23, 42, 180, 0, 63, 27, 46, 46, 62, 42, 180, 0, 23, 28, 46, 29]
abbrev dktX5_mayHit_2 : List UInt8 := dkwX5_mayHit_2 ++ dktX5_mayHit_3
def dkwX5_mayHit_1 : List UInt8 := [182, 1, 46, 154, 0, 22, 42, 180, 0, 78, 27, 46, 42, 180, 0, 51, 16, 73, 28, 96, 46, 126]
abbrev dktX5_mayHit_1 : List UInt8 := dkwX5_mayHit_1 ++ dktX5_mayHit_2
def dkwX5_mayHit_0 : List UInt8 := [42, 180, 0, 75, 27, 46, 155, 0, 42, 42, 180, 0, 51, 3, 28, 96, 46, 153, 0, 31, 42, 27, 28]
abbrev dktX5_mayHit_0 : List UInt8 := dkwX5_mayHit_0 ++ dktX5_mayHit_1
theorem dksX5_mayHit_0 : cX5_mayHit.data.toList.drop 0 = dktX5_mayHit_0 := by decide +kernel
theorem dksX5_mayHit_1 : cX5_mayHit.data.toList.drop 23 = dktX5_mayHit_1 := dk_seg dksX5_mayHit_0 23 rfl rfl
theorem dksX5_mayHit_2 : cX5_mayHit.data.toList.drop 45 = dktX5_mayHit_2 := dk_seg dksX5_mayHit_1 22 rfl rfl
theorem dksX5_mayHit_3 : cX5_mayHit.data.toList.drop 69 = dktX5_mayHit_3 := dk_seg dksX5_mayHit_2 24 rfl rfl
theorem dksX5_mayHit_4 : cX5_mayHit.data.toList.drop 93 = dktX5_mayHit_4 := dk_seg dksX5_mayHit_3 24 rfl rfl
theorem dX5_mayHit_0 : decode cX5_mayHit 0 = .ok (.aload_n 0, 1) := dk_42 (dk_at dksX5_mayHit_0 0 rfl rfl)
theorem dX5_mayHit_1 : decode cX5_mayHit 1 = .ok (.getfield 75, 3) := dk_180 0 75 (dk_at dksX5_mayHit_0 1 rfl rfl)
theorem dX5_mayHit_4 : decode cX5_mayHit 4 = .ok (.iload_n 1, 1) := dk_27 (dk_at dksX5_mayHit_0 4 rfl rfl)
theorem dX5_mayHit_5 : decode cX5_mayHit 5 = .ok (.iaload, 1) := dk_46 (dk_at dksX5_mayHit_0 5 rfl rfl)
theorem dX5_mayHit_6 : decode cX5_mayHit 6 = .ok (.ifCond .lt 42, 3) := dk_155 0 42 (dk_at dksX5_mayHit_0 6 rfl rfl)
theorem dX5_mayHit_9 : decode cX5_mayHit 9 = .ok (.aload_n 0, 1) := dk_42 (dk_at dksX5_mayHit_0 9 rfl rfl)
theorem dX5_mayHit_10 : decode cX5_mayHit 10 = .ok (.getfield 51, 3) := dk_180 0 51 (dk_at dksX5_mayHit_0 10 rfl rfl)
theorem dX5_mayHit_13 : decode cX5_mayHit 13 = .ok (.iconst 0, 1) := dk_3 (dk_at dksX5_mayHit_0 13 rfl rfl)
theorem dX5_mayHit_14 : decode cX5_mayHit 14 = .ok (.iload_n 2, 1) := dk_28 (dk_at dksX5_mayHit_0 14 rfl rfl)
theorem dX5_mayHit_15 : decode cX5_mayHit 15 = .ok (.iadd, 1) := dk_96 (dk_at dksX5_mayHit_0 15 rfl rfl)
theorem dX5_mayHit_16 : decode cX5_mayHit 16 = .ok (.iaload, 1) := dk_46 (dk_at dksX5_mayHit_0 16 rfl rfl)
theorem dX5_mayHit_17 : decode cX5_mayHit 17 = .ok (.ifCond .eq 31, 3) := dk_153 0 31 (dk_at dksX5_mayHit_0 17 rfl rfl)
theorem dX5_mayHit_20 : decode cX5_mayHit 20 = .ok (.aload_n 0, 1) := dk_42 (dk_at dksX5_mayHit_0 20 rfl rfl)
theorem dX5_mayHit_21 : decode cX5_mayHit 21 = .ok (.iload_n 1, 1) := dk_27 (dk_at dksX5_mayHit_0 21 rfl rfl)
theorem dX5_mayHit_22 : decode cX5_mayHit 22 = .ok (.iload_n 2, 1) := dk_28 (dk_at dksX5_mayHit_0 22 rfl rfl)
theorem dX5_mayHit_23 : decode cX5_mayHit 23 = .ok (.invokevirtual 302, 3) := dk_182 1 46 (dk_at dksX5_mayHit_1 0 rfl rfl)
theorem dX5_mayHit_26 : decode cX5_mayHit 26 = .ok (.ifCond .ne 22, 3) := dk_154 0 22 (dk_at dksX5_mayHit_1 3 rfl rfl)
theorem dX5_mayHit_29 : decode cX5_mayHit 29 = .ok (.aload_n 0, 1) := dk_42 (dk_at dksX5_mayHit_1 6 rfl rfl)
theorem dX5_mayHit_30 : decode cX5_mayHit 30 = .ok (.getfield 78, 3) := dk_180 0 78 (dk_at dksX5_mayHit_1 7 rfl rfl)
theorem dX5_mayHit_33 : decode cX5_mayHit 33 = .ok (.iload_n 1, 1) := dk_27 (dk_at dksX5_mayHit_1 10 rfl rfl)
theorem dX5_mayHit_34 : decode cX5_mayHit 34 = .ok (.iaload, 1) := dk_46 (dk_at dksX5_mayHit_1 11 rfl rfl)
theorem dX5_mayHit_35 : decode cX5_mayHit 35 = .ok (.aload_n 0, 1) := dk_42 (dk_at dksX5_mayHit_1 12 rfl rfl)
theorem dX5_mayHit_36 : decode cX5_mayHit 36 = .ok (.getfield 51, 3) := dk_180 0 51 (dk_at dksX5_mayHit_1 13 rfl rfl)
theorem dX5_mayHit_39 : decode cX5_mayHit 39 = .ok (.bipush 73, 2) := dk_16 73 (dk_at dksX5_mayHit_1 16 rfl rfl)
theorem dX5_mayHit_41 : decode cX5_mayHit 41 = .ok (.iload_n 2, 1) := dk_28 (dk_at dksX5_mayHit_1 18 rfl rfl)
theorem dX5_mayHit_42 : decode cX5_mayHit 42 = .ok (.iadd, 1) := dk_96 (dk_at dksX5_mayHit_1 19 rfl rfl)
theorem dX5_mayHit_43 : decode cX5_mayHit 43 = .ok (.iaload, 1) := dk_46 (dk_at dksX5_mayHit_1 20 rfl rfl)
theorem dX5_mayHit_44 : decode cX5_mayHit 44 = .ok (.iand, 1) := dk_126 (dk_at dksX5_mayHit_1 21 rfl rfl)
theorem dX5_mayHit_45 : decode cX5_mayHit 45 = .ok (.ifCond .ne 5, 3) := dk_154 0 5 (dk_at dksX5_mayHit_2 0 rfl rfl)
theorem dX5_mayHit_48 : decode cX5_mayHit 48 = .ok (.iconst 0, 1) := dk_3 (dk_at dksX5_mayHit_2 3 rfl rfl)
theorem dX5_mayHit_49 : decode cX5_mayHit 49 = .ok (.ireturn, 1) := dk_172 (dk_at dksX5_mayHit_2 4 rfl rfl)
theorem dX5_mayHit_50 : decode cX5_mayHit 50 = .ok (.aload_n 0, 1) := dk_42 (dk_at dksX5_mayHit_2 5 rfl rfl)
theorem dX5_mayHit_51 : decode cX5_mayHit 51 = .ok (.getfield 23, 3) := dk_180 0 23 (dk_at dksX5_mayHit_2 6 rfl rfl)
theorem dX5_mayHit_54 : decode cX5_mayHit 54 = .ok (.aload_n 0, 1) := dk_42 (dk_at dksX5_mayHit_2 9 rfl rfl)
theorem dX5_mayHit_55 : decode cX5_mayHit 55 = .ok (.getfield 63, 3) := dk_180 0 63 (dk_at dksX5_mayHit_2 10 rfl rfl)
theorem dX5_mayHit_58 : decode cX5_mayHit 58 = .ok (.iload_n 1, 1) := dk_27 (dk_at dksX5_mayHit_2 13 rfl rfl)
theorem dX5_mayHit_59 : decode cX5_mayHit 59 = .ok (.iaload, 1) := dk_46 (dk_at dksX5_mayHit_2 14 rfl rfl)
theorem dX5_mayHit_60 : decode cX5_mayHit 60 = .ok (.iaload, 1) := dk_46 (dk_at dksX5_mayHit_2 15 rfl rfl)
theorem dX5_mayHit_61 : decode cX5_mayHit 61 = .ok (.istore_n 3, 1) := dk_62 (dk_at dksX5_mayHit_2 16 rfl rfl)
theorem dX5_mayHit_62 : decode cX5_mayHit 62 = .ok (.aload_n 0, 1) := dk_42 (dk_at dksX5_mayHit_2 17 rfl rfl)
theorem dX5_mayHit_63 : decode cX5_mayHit 63 = .ok (.getfield 23, 3) := dk_180 0 23 (dk_at dksX5_mayHit_2 18 rfl rfl)
theorem dX5_mayHit_66 : decode cX5_mayHit 66 = .ok (.iload_n 2, 1) := dk_28 (dk_at dksX5_mayHit_2 21 rfl rfl)
theorem dX5_mayHit_67 : decode cX5_mayHit 67 = .ok (.iaload, 1) := dk_46 (dk_at dksX5_mayHit_2 22 rfl rfl)
theorem dX5_mayHit_68 : decode cX5_mayHit 68 = .ok (.iload_n 3, 1) := dk_29 (dk_at dksX5_mayHit_2 23 rfl rfl)
theorem dX5_mayHit_69 : decode cX5_mayHit 69 = .ok (.if_icmp .ne 5, 3) := dk_160 0 5 (dk_at dksX5_mayHit_3 0 rfl rfl)
theorem dX5_mayHit_72 : decode cX5_mayHit 72 = .ok (.iconst 1, 1) := dk_4 (dk_at dksX5_mayHit_3 3 rfl rfl)
theorem dX5_mayHit_73 : decode cX5_mayHit 73 = .ok (.ireturn, 1) := dk_172 (dk_at dksX5_mayHit_3 4 rfl rfl)
theorem dX5_mayHit_74 : decode cX5_mayHit 74 = .ok (.aload_n 0, 1) := dk_42 (dk_at dksX5_mayHit_3 5 rfl rfl)
theorem dX5_mayHit_75 : decode cX5_mayHit 75 = .ok (.getfield 41, 3) := dk_180 0 41 (dk_at dksX5_mayHit_3 6 rfl rfl)
theorem dX5_mayHit_78 : decode cX5_mayHit 78 = .ok (.iconst 3, 1) := dk_6 (dk_at dksX5_mayHit_3 9 rfl rfl)
theorem dX5_mayHit_79 : decode cX5_mayHit 79 = .ok (.iload_n 3, 1) := dk_29 (dk_at dksX5_mayHit_3 10 rfl rfl)
theorem dX5_mayHit_80 : decode cX5_mayHit 80 = .ok (.imul, 1) := dk_104 (dk_at dksX5_mayHit_3 11 rfl rfl)
theorem dX5_mayHit_81 : decode cX5_mayHit 81 = .ok (.aload_n 0, 1) := dk_42 (dk_at dksX5_mayHit_3 12 rfl rfl)
theorem dX5_mayHit_82 : decode cX5_mayHit 82 = .ok (.getfield 23, 3) := dk_180 0 23 (dk_at dksX5_mayHit_3 13 rfl rfl)
theorem dX5_mayHit_85 : decode cX5_mayHit 85 = .ok (.iload_n 2, 1) := dk_28 (dk_at dksX5_mayHit_3 16 rfl rfl)
theorem dX5_mayHit_86 : decode cX5_mayHit 86 = .ok (.iaload, 1) := dk_46 (dk_at dksX5_mayHit_3 17 rfl rfl)
theorem dX5_mayHit_87 : decode cX5_mayHit 87 = .ok (.iadd, 1) := dk_96 (dk_at dksX5_mayHit_3 18 rfl rfl)
theorem dX5_mayHit_88 : decode cX5_mayHit 88 = .ok (.iaload, 1) := dk_46 (dk_at dksX5_mayHit_3 19 rfl rfl)
theorem dX5_mayHit_89 : decode cX5_mayHit 89 = .ok (.istore 4, 2) := dk_54 4 (dk_at dksX5_mayHit_3 20 rfl rfl)
theorem dX5_mayHit_91 : decode cX5_mayHit 91 = .ok (.iload 4, 2) := dk_21 4 (dk_at dksX5_mayHit_3 22 rfl rfl)
theorem dX5_mayHit_93 : decode cX5_mayHit 93 = .ok (.bipush (-2), 2) := dk_16 254 (dk_at dksX5_mayHit_4 0 rfl rfl)
theorem dX5_mayHit_95 : decode cX5_mayHit 95 = .ok (.if_icmp .eq 18, 3) := dk_159 0 18 (dk_at dksX5_mayHit_4 2 rfl rfl)
theorem dX5_mayHit_98 : decode cX5_mayHit 98 = .ok (.aload_n 0, 1) := dk_42 (dk_at dksX5_mayHit_4 5 rfl rfl)
theorem dX5_mayHit_99 : decode cX5_mayHit 99 = .ok (.getfield 75, 3) := dk_180 0 75 (dk_at dksX5_mayHit_4 6 rfl rfl)
theorem dX5_mayHit_102 : decode cX5_mayHit 102 = .ok (.iload_n 1, 1) := dk_27 (dk_at dksX5_mayHit_4 9 rfl rfl)
theorem dX5_mayHit_103 : decode cX5_mayHit 103 = .ok (.iaload, 1) := dk_46 (dk_at dksX5_mayHit_4 10 rfl rfl)
theorem dX5_mayHit_104 : decode cX5_mayHit 104 = .ok (.iload 4, 2) := dk_21 4 (dk_at dksX5_mayHit_4 11 rfl rfl)
theorem dX5_mayHit_106 : decode cX5_mayHit 106 = .ok (.if_icmp .lt 7, 3) := dk_161 0 7 (dk_at dksX5_mayHit_4 13 rfl rfl)
theorem dX5_mayHit_109 : decode cX5_mayHit 109 = .ok (.iconst 1, 1) := dk_4 (dk_at dksX5_mayHit_4 16 rfl rfl)
theorem dX5_mayHit_110 : decode cX5_mayHit 110 = .ok (.goto 4, 3) := dk_167 0 4 (dk_at dksX5_mayHit_4 17 rfl rfl)
theorem dX5_mayHit_113 : decode cX5_mayHit 113 = .ok (.iconst 0, 1) := dk_3 (dk_at dksX5_mayHit_4 20 rfl rfl)
theorem dX5_mayHit_114 : decode cX5_mayHit 114 = .ok (.ireturn, 1) := dk_172 (dk_at dksX5_mayHit_4 21 rfl rfl)
abbrev cX5_isIn : ByteArray := prog_10_method_61_code
def yX5_isIn : MethodName := ⟨RX5, "isIn", "(II)Z"⟩
def dkwX5_isIn_1 : List UInt8 := [27, 46, 28, 160, 0, 7, 4, 167, 0, 4, 3, 172]
abbrev dktX5_isIn_1 : List UInt8 := dkwX5_isIn_1 ++ []
def dkwX5_isIn_0 : List UInt8 := [42, 180, 0, 63, 27, 46, 28, 159, 0, 23, 42, 180, 0, 66, 27, 46, 28, 159, 0, 13, 42, 180, 0, 69]
abbrev dktX5_isIn_0 : List UInt8 := dkwX5_isIn_0 ++ dktX5_isIn_1
theorem dksX5_isIn_0 : cX5_isIn.data.toList.drop 0 = dktX5_isIn_0 := by decide +kernel
theorem dksX5_isIn_1 : cX5_isIn.data.toList.drop 24 = dktX5_isIn_1 := dk_seg dksX5_isIn_0 24 rfl rfl
theorem dX5_isIn_0 : decode cX5_isIn 0 = .ok (.aload_n 0, 1) := dk_42 (dk_at dksX5_isIn_0 0 rfl rfl)
theorem dX5_isIn_1 : decode cX5_isIn 1 = .ok (.getfield 63, 3) := dk_180 0 63 (dk_at dksX5_isIn_0 1 rfl rfl)
theorem dX5_isIn_4 : decode cX5_isIn 4 = .ok (.iload_n 1, 1) := dk_27 (dk_at dksX5_isIn_0 4 rfl rfl)
theorem dX5_isIn_5 : decode cX5_isIn 5 = .ok (.iaload, 1) := dk_46 (dk_at dksX5_isIn_0 5 rfl rfl)
theorem dX5_isIn_6 : decode cX5_isIn 6 = .ok (.iload_n 2, 1) := dk_28 (dk_at dksX5_isIn_0 6 rfl rfl)
theorem dX5_isIn_7 : decode cX5_isIn 7 = .ok (.if_icmp .eq 23, 3) := dk_159 0 23 (dk_at dksX5_isIn_0 7 rfl rfl)
theorem dX5_isIn_10 : decode cX5_isIn 10 = .ok (.aload_n 0, 1) := dk_42 (dk_at dksX5_isIn_0 10 rfl rfl)
theorem dX5_isIn_11 : decode cX5_isIn 11 = .ok (.getfield 66, 3) := dk_180 0 66 (dk_at dksX5_isIn_0 11 rfl rfl)
theorem dX5_isIn_14 : decode cX5_isIn 14 = .ok (.iload_n 1, 1) := dk_27 (dk_at dksX5_isIn_0 14 rfl rfl)
theorem dX5_isIn_15 : decode cX5_isIn 15 = .ok (.iaload, 1) := dk_46 (dk_at dksX5_isIn_0 15 rfl rfl)
theorem dX5_isIn_16 : decode cX5_isIn 16 = .ok (.iload_n 2, 1) := dk_28 (dk_at dksX5_isIn_0 16 rfl rfl)
theorem dX5_isIn_17 : decode cX5_isIn 17 = .ok (.if_icmp .eq 13, 3) := dk_159 0 13 (dk_at dksX5_isIn_0 17 rfl rfl)
theorem dX5_isIn_20 : decode cX5_isIn 20 = .ok (.aload_n 0, 1) := dk_42 (dk_at dksX5_isIn_0 20 rfl rfl)
theorem dX5_isIn_21 : decode cX5_isIn 21 = .ok (.getfield 69, 3) := dk_180 0 69 (dk_at dksX5_isIn_0 21 rfl rfl)
theorem dX5_isIn_24 : decode cX5_isIn 24 = .ok (.iload_n 1, 1) := dk_27 (dk_at dksX5_isIn_1 0 rfl rfl)
theorem dX5_isIn_25 : decode cX5_isIn 25 = .ok (.iaload, 1) := dk_46 (dk_at dksX5_isIn_1 1 rfl rfl)
theorem dX5_isIn_26 : decode cX5_isIn 26 = .ok (.iload_n 2, 1) := dk_28 (dk_at dksX5_isIn_1 2 rfl rfl)
theorem dX5_isIn_27 : decode cX5_isIn 27 = .ok (.if_icmp .ne 7, 3) := dk_160 0 7 (dk_at dksX5_isIn_1 3 rfl rfl)
theorem dX5_isIn_30 : decode cX5_isIn 30 = .ok (.iconst 1, 1) := dk_4 (dk_at dksX5_isIn_1 6 rfl rfl)
theorem dX5_isIn_31 : decode cX5_isIn 31 = .ok (.goto 4, 3) := dk_167 0 4 (dk_at dksX5_isIn_1 7 rfl rfl)
theorem dX5_isIn_34 : decode cX5_isIn 34 = .ok (.iconst 0, 1) := dk_3 (dk_at dksX5_isIn_1 10 rfl rfl)
theorem dX5_isIn_35 : decode cX5_isIn 35 = .ok (.ireturn, 1) := dk_172 (dk_at dksX5_isIn_1 11 rfl rfl)
abbrev cX5_nextOf : ByteArray := prog_10_method_75_code
def yX5_nextOf : MethodName := ⟨RX5, "nextOf", "(II)I"⟩
def dkwX5_nextOf_1 : List UInt8 := [29, 172]
abbrev dktX5_nextOf_1 : List UInt8 := dkwX5_nextOf_1 ++ []
def dkwX5_nextOf_0 : List UInt8 := [28, 4, 96, 62, 29, 16, 6, 162, 0, 17, 27, 29, 122, 4, 126, 154, 0, 9, 132, 3, 1, 167, 255, 239]
abbrev dktX5_nextOf_0 : List UInt8 := dkwX5_nextOf_0 ++ dktX5_nextOf_1
theorem dksX5_nextOf_0 : cX5_nextOf.data.toList.drop 0 = dktX5_nextOf_0 := by decide +kernel
theorem dksX5_nextOf_1 : cX5_nextOf.data.toList.drop 24 = dktX5_nextOf_1 := dk_seg dksX5_nextOf_0 24 rfl rfl
theorem dX5_nextOf_0 : decode cX5_nextOf 0 = .ok (.iload_n 2, 1) := dk_28 (dk_at dksX5_nextOf_0 0 rfl rfl)
theorem dX5_nextOf_1 : decode cX5_nextOf 1 = .ok (.iconst 1, 1) := dk_4 (dk_at dksX5_nextOf_0 1 rfl rfl)
theorem dX5_nextOf_2 : decode cX5_nextOf 2 = .ok (.iadd, 1) := dk_96 (dk_at dksX5_nextOf_0 2 rfl rfl)
theorem dX5_nextOf_3 : decode cX5_nextOf 3 = .ok (.istore_n 3, 1) := dk_62 (dk_at dksX5_nextOf_0 3 rfl rfl)
theorem dX5_nextOf_4 : decode cX5_nextOf 4 = .ok (.iload_n 3, 1) := dk_29 (dk_at dksX5_nextOf_0 4 rfl rfl)
theorem dX5_nextOf_5 : decode cX5_nextOf 5 = .ok (.bipush 6, 2) := dk_16 6 (dk_at dksX5_nextOf_0 5 rfl rfl)
theorem dX5_nextOf_7 : decode cX5_nextOf 7 = .ok (.if_icmp .ge 17, 3) := dk_162 0 17 (dk_at dksX5_nextOf_0 7 rfl rfl)
theorem dX5_nextOf_10 : decode cX5_nextOf 10 = .ok (.iload_n 1, 1) := dk_27 (dk_at dksX5_nextOf_0 10 rfl rfl)
theorem dX5_nextOf_11 : decode cX5_nextOf 11 = .ok (.iload_n 3, 1) := dk_29 (dk_at dksX5_nextOf_0 11 rfl rfl)
theorem dX5_nextOf_12 : decode cX5_nextOf 12 = .ok (.ishr, 1) := dk_122 (dk_at dksX5_nextOf_0 12 rfl rfl)
theorem dX5_nextOf_13 : decode cX5_nextOf 13 = .ok (.iconst 1, 1) := dk_4 (dk_at dksX5_nextOf_0 13 rfl rfl)
theorem dX5_nextOf_14 : decode cX5_nextOf 14 = .ok (.iand, 1) := dk_126 (dk_at dksX5_nextOf_0 14 rfl rfl)
theorem dX5_nextOf_15 : decode cX5_nextOf 15 = .ok (.ifCond .ne 9, 3) := dk_154 0 9 (dk_at dksX5_nextOf_0 15 rfl rfl)
theorem dX5_nextOf_18 : decode cX5_nextOf 18 = .ok (.iinc 3 1, 3) := dk_132 3 1 (dk_at dksX5_nextOf_0 18 rfl rfl)
theorem dX5_nextOf_21 : decode cX5_nextOf 21 = .ok (.goto (-17), 3) := dk_167 255 239 (dk_at dksX5_nextOf_0 21 rfl rfl)
theorem dX5_nextOf_24 : decode cX5_nextOf 24 = .ok (.iload_n 3, 1) := dk_29 (dk_at dksX5_nextOf_1 0 rfl rfl)
theorem dX5_nextOf_25 : decode cX5_nextOf 25 = .ok (.ireturn, 1) := dk_172 (dk_at dksX5_nextOf_1 1 rfl rfl)
abbrev cX5_nextFit : ByteArray := prog_10_method_77_code
def yX5_nextFit : MethodName := ⟨RX5, "nextFit", "(I)I"⟩
def dkwX5_nextFit_3 : List UInt8 := [27, 96, 29, 79, 42, 182, 1, 76, 153, 0, 5, 29, 172, 132, 3, 1, 167, 255, 203, 3, 172]
abbrev dktX5_nextFit_3 : List UInt8 := dkwX5_nextFit_3 ++ []
def dkwX5_nextFit_2 : List UInt8 := [17, 2, 88, 160, 0, 6, 16, 253, 172, 42, 89, 180, 1, 73, 4, 96, 181, 1, 73, 42, 180, 0, 51, 3]
abbrev dktX5_nextFit_2 : List UInt8 := dkwX5_nextFit_2 ++ dktX5_nextFit_3
def dkwX5_nextFit_1 : List UInt8 := [3, 27, 96, 46, 4, 96, 61, 28, 62, 29, 42, 27, 182, 1, 64, 163, 0, 50, 42, 180, 1, 73]
abbrev dktX5_nextFit_1 : List UInt8 := dkwX5_nextFit_1 ++ dktX5_nextFit_2
def dkwX5_nextFit_0 : List UInt8 := [42, 180, 0, 51, 3, 27, 96, 46, 154, 0, 12, 42, 180, 0, 29, 27, 46, 167, 0, 13, 42, 180, 0, 51]
abbrev dktX5_nextFit_0 : List UInt8 := dkwX5_nextFit_0 ++ dktX5_nextFit_1
theorem dksX5_nextFit_0 : cX5_nextFit.data.toList.drop 0 = dktX5_nextFit_0 := by decide +kernel
theorem dksX5_nextFit_1 : cX5_nextFit.data.toList.drop 24 = dktX5_nextFit_1 := dk_seg dksX5_nextFit_0 24 rfl rfl
theorem dksX5_nextFit_2 : cX5_nextFit.data.toList.drop 46 = dktX5_nextFit_2 := dk_seg dksX5_nextFit_1 22 rfl rfl
theorem dksX5_nextFit_3 : cX5_nextFit.data.toList.drop 70 = dktX5_nextFit_3 := dk_seg dksX5_nextFit_2 24 rfl rfl
theorem dX5_nextFit_0 : decode cX5_nextFit 0 = .ok (.aload_n 0, 1) := dk_42 (dk_at dksX5_nextFit_0 0 rfl rfl)
theorem dX5_nextFit_1 : decode cX5_nextFit 1 = .ok (.getfield 51, 3) := dk_180 0 51 (dk_at dksX5_nextFit_0 1 rfl rfl)
theorem dX5_nextFit_4 : decode cX5_nextFit 4 = .ok (.iconst 0, 1) := dk_3 (dk_at dksX5_nextFit_0 4 rfl rfl)
theorem dX5_nextFit_5 : decode cX5_nextFit 5 = .ok (.iload_n 1, 1) := dk_27 (dk_at dksX5_nextFit_0 5 rfl rfl)
theorem dX5_nextFit_6 : decode cX5_nextFit 6 = .ok (.iadd, 1) := dk_96 (dk_at dksX5_nextFit_0 6 rfl rfl)
theorem dX5_nextFit_7 : decode cX5_nextFit 7 = .ok (.iaload, 1) := dk_46 (dk_at dksX5_nextFit_0 7 rfl rfl)
theorem dX5_nextFit_8 : decode cX5_nextFit 8 = .ok (.ifCond .ne 12, 3) := dk_154 0 12 (dk_at dksX5_nextFit_0 8 rfl rfl)
theorem dX5_nextFit_11 : decode cX5_nextFit 11 = .ok (.aload_n 0, 1) := dk_42 (dk_at dksX5_nextFit_0 11 rfl rfl)
theorem dX5_nextFit_12 : decode cX5_nextFit 12 = .ok (.getfield 29, 3) := dk_180 0 29 (dk_at dksX5_nextFit_0 12 rfl rfl)
theorem dX5_nextFit_15 : decode cX5_nextFit 15 = .ok (.iload_n 1, 1) := dk_27 (dk_at dksX5_nextFit_0 15 rfl rfl)
theorem dX5_nextFit_16 : decode cX5_nextFit 16 = .ok (.iaload, 1) := dk_46 (dk_at dksX5_nextFit_0 16 rfl rfl)
theorem dX5_nextFit_17 : decode cX5_nextFit 17 = .ok (.goto 13, 3) := dk_167 0 13 (dk_at dksX5_nextFit_0 17 rfl rfl)
theorem dX5_nextFit_20 : decode cX5_nextFit 20 = .ok (.aload_n 0, 1) := dk_42 (dk_at dksX5_nextFit_0 20 rfl rfl)
theorem dX5_nextFit_21 : decode cX5_nextFit 21 = .ok (.getfield 51, 3) := dk_180 0 51 (dk_at dksX5_nextFit_0 21 rfl rfl)
theorem dX5_nextFit_24 : decode cX5_nextFit 24 = .ok (.iconst 0, 1) := dk_3 (dk_at dksX5_nextFit_1 0 rfl rfl)
theorem dX5_nextFit_25 : decode cX5_nextFit 25 = .ok (.iload_n 1, 1) := dk_27 (dk_at dksX5_nextFit_1 1 rfl rfl)
theorem dX5_nextFit_26 : decode cX5_nextFit 26 = .ok (.iadd, 1) := dk_96 (dk_at dksX5_nextFit_1 2 rfl rfl)
theorem dX5_nextFit_27 : decode cX5_nextFit 27 = .ok (.iaload, 1) := dk_46 (dk_at dksX5_nextFit_1 3 rfl rfl)
theorem dX5_nextFit_28 : decode cX5_nextFit 28 = .ok (.iconst 1, 1) := dk_4 (dk_at dksX5_nextFit_1 4 rfl rfl)
theorem dX5_nextFit_29 : decode cX5_nextFit 29 = .ok (.iadd, 1) := dk_96 (dk_at dksX5_nextFit_1 5 rfl rfl)
theorem dX5_nextFit_30 : decode cX5_nextFit 30 = .ok (.istore_n 2, 1) := dk_61 (dk_at dksX5_nextFit_1 6 rfl rfl)
theorem dX5_nextFit_31 : decode cX5_nextFit 31 = .ok (.iload_n 2, 1) := dk_28 (dk_at dksX5_nextFit_1 7 rfl rfl)
theorem dX5_nextFit_32 : decode cX5_nextFit 32 = .ok (.istore_n 3, 1) := dk_62 (dk_at dksX5_nextFit_1 8 rfl rfl)
theorem dX5_nextFit_33 : decode cX5_nextFit 33 = .ok (.iload_n 3, 1) := dk_29 (dk_at dksX5_nextFit_1 9 rfl rfl)
theorem dX5_nextFit_34 : decode cX5_nextFit 34 = .ok (.aload_n 0, 1) := dk_42 (dk_at dksX5_nextFit_1 10 rfl rfl)
theorem dX5_nextFit_35 : decode cX5_nextFit 35 = .ok (.iload_n 1, 1) := dk_27 (dk_at dksX5_nextFit_1 11 rfl rfl)
theorem dX5_nextFit_36 : decode cX5_nextFit 36 = .ok (.invokevirtual 320, 3) := dk_182 1 64 (dk_at dksX5_nextFit_1 12 rfl rfl)
theorem dX5_nextFit_39 : decode cX5_nextFit 39 = .ok (.if_icmp .gt 50, 3) := dk_163 0 50 (dk_at dksX5_nextFit_1 15 rfl rfl)
theorem dX5_nextFit_42 : decode cX5_nextFit 42 = .ok (.aload_n 0, 1) := dk_42 (dk_at dksX5_nextFit_1 18 rfl rfl)
theorem dX5_nextFit_43 : decode cX5_nextFit 43 = .ok (.getfield 329, 3) := dk_180 1 73 (dk_at dksX5_nextFit_1 19 rfl rfl)
theorem dX5_nextFit_46 : decode cX5_nextFit 46 = .ok (.sipush 600, 3) := dk_17 2 88 (dk_at dksX5_nextFit_2 0 rfl rfl)
theorem dX5_nextFit_49 : decode cX5_nextFit 49 = .ok (.if_icmp .ne 6, 3) := dk_160 0 6 (dk_at dksX5_nextFit_2 3 rfl rfl)
theorem dX5_nextFit_52 : decode cX5_nextFit 52 = .ok (.bipush (-3), 2) := dk_16 253 (dk_at dksX5_nextFit_2 6 rfl rfl)
theorem dX5_nextFit_54 : decode cX5_nextFit 54 = .ok (.ireturn, 1) := dk_172 (dk_at dksX5_nextFit_2 8 rfl rfl)
theorem dX5_nextFit_55 : decode cX5_nextFit 55 = .ok (.aload_n 0, 1) := dk_42 (dk_at dksX5_nextFit_2 9 rfl rfl)
theorem dX5_nextFit_56 : decode cX5_nextFit 56 = .ok (.dup, 1) := dk_89 (dk_at dksX5_nextFit_2 10 rfl rfl)
theorem dX5_nextFit_57 : decode cX5_nextFit 57 = .ok (.getfield 329, 3) := dk_180 1 73 (dk_at dksX5_nextFit_2 11 rfl rfl)
theorem dX5_nextFit_60 : decode cX5_nextFit 60 = .ok (.iconst 1, 1) := dk_4 (dk_at dksX5_nextFit_2 14 rfl rfl)
theorem dX5_nextFit_61 : decode cX5_nextFit 61 = .ok (.iadd, 1) := dk_96 (dk_at dksX5_nextFit_2 15 rfl rfl)
theorem dX5_nextFit_62 : decode cX5_nextFit 62 = .ok (.putfield 329, 3) := dk_181 1 73 (dk_at dksX5_nextFit_2 16 rfl rfl)
theorem dX5_nextFit_65 : decode cX5_nextFit 65 = .ok (.aload_n 0, 1) := dk_42 (dk_at dksX5_nextFit_2 19 rfl rfl)
theorem dX5_nextFit_66 : decode cX5_nextFit 66 = .ok (.getfield 51, 3) := dk_180 0 51 (dk_at dksX5_nextFit_2 20 rfl rfl)
theorem dX5_nextFit_69 : decode cX5_nextFit 69 = .ok (.iconst 0, 1) := dk_3 (dk_at dksX5_nextFit_2 23 rfl rfl)
theorem dX5_nextFit_70 : decode cX5_nextFit 70 = .ok (.iload_n 1, 1) := dk_27 (dk_at dksX5_nextFit_3 0 rfl rfl)
theorem dX5_nextFit_71 : decode cX5_nextFit 71 = .ok (.iadd, 1) := dk_96 (dk_at dksX5_nextFit_3 1 rfl rfl)
theorem dX5_nextFit_72 : decode cX5_nextFit 72 = .ok (.iload_n 3, 1) := dk_29 (dk_at dksX5_nextFit_3 2 rfl rfl)
theorem dX5_nextFit_73 : decode cX5_nextFit 73 = .ok (.iastore, 1) := dk_79 (dk_at dksX5_nextFit_3 3 rfl rfl)
theorem dX5_nextFit_74 : decode cX5_nextFit 74 = .ok (.aload_n 0, 1) := dk_42 (dk_at dksX5_nextFit_3 4 rfl rfl)
theorem dX5_nextFit_75 : decode cX5_nextFit 75 = .ok (.invokevirtual 332, 3) := dk_182 1 76 (dk_at dksX5_nextFit_3 5 rfl rfl)
theorem dX5_nextFit_78 : decode cX5_nextFit 78 = .ok (.ifCond .eq 5, 3) := dk_153 0 5 (dk_at dksX5_nextFit_3 8 rfl rfl)
theorem dX5_nextFit_81 : decode cX5_nextFit 81 = .ok (.iload_n 3, 1) := dk_29 (dk_at dksX5_nextFit_3 11 rfl rfl)
theorem dX5_nextFit_82 : decode cX5_nextFit 82 = .ok (.ireturn, 1) := dk_172 (dk_at dksX5_nextFit_3 12 rfl rfl)
theorem dX5_nextFit_83 : decode cX5_nextFit 83 = .ok (.iinc 3 1, 3) := dk_132 3 1 (dk_at dksX5_nextFit_3 13 rfl rfl)
theorem dX5_nextFit_86 : decode cX5_nextFit 86 = .ok (.goto (-53), 3) := dk_167 255 203 (dk_at dksX5_nextFit_3 16 rfl rfl)
theorem dX5_nextFit_89 : decode cX5_nextFit 89 = .ok (.iconst 0, 1) := dk_3 (dk_at dksX5_nextFit_3 19 rfl rfl)
theorem dX5_nextFit_90 : decode cX5_nextFit 90 = .ok (.ireturn, 1) := dk_172 (dk_at dksX5_nextFit_3 20 rfl rfl)
abbrev cX5_clears : ByteArray := prog_10_method_74_code
def yX5_clears : MethodName := ⟨RX5, "clears", "(I)V"⟩
def dkwX5_clears_1 : List UInt8 := [28, 96, 3, 79, 132, 2, 1, 167, 255, 227, 177]
abbrev dktX5_clears_1 : List UInt8 := dkwX5_clears_1 ++ []
def dkwX5_clears_0 : List UInt8 := [3, 61, 28, 42, 182, 0, 232, 162, 0, 27, 27, 28, 122, 4, 126, 4, 160, 0, 12, 42, 180, 0, 51, 3]
abbrev dktX5_clears_0 : List UInt8 := dkwX5_clears_0 ++ dktX5_clears_1
theorem dksX5_clears_0 : cX5_clears.data.toList.drop 0 = dktX5_clears_0 := by decide +kernel
theorem dksX5_clears_1 : cX5_clears.data.toList.drop 24 = dktX5_clears_1 := dk_seg dksX5_clears_0 24 rfl rfl
theorem dX5_clears_0 : decode cX5_clears 0 = .ok (.iconst 0, 1) := dk_3 (dk_at dksX5_clears_0 0 rfl rfl)
theorem dX5_clears_1 : decode cX5_clears 1 = .ok (.istore_n 2, 1) := dk_61 (dk_at dksX5_clears_0 1 rfl rfl)
theorem dX5_clears_2 : decode cX5_clears 2 = .ok (.iload_n 2, 1) := dk_28 (dk_at dksX5_clears_0 2 rfl rfl)
theorem dX5_clears_3 : decode cX5_clears 3 = .ok (.aload_n 0, 1) := dk_42 (dk_at dksX5_clears_0 3 rfl rfl)
theorem dX5_clears_4 : decode cX5_clears 4 = .ok (.invokevirtual 232, 3) := dk_182 0 232 (dk_at dksX5_clears_0 4 rfl rfl)
theorem dX5_clears_7 : decode cX5_clears 7 = .ok (.if_icmp .ge 27, 3) := dk_162 0 27 (dk_at dksX5_clears_0 7 rfl rfl)
theorem dX5_clears_10 : decode cX5_clears 10 = .ok (.iload_n 1, 1) := dk_27 (dk_at dksX5_clears_0 10 rfl rfl)
theorem dX5_clears_11 : decode cX5_clears 11 = .ok (.iload_n 2, 1) := dk_28 (dk_at dksX5_clears_0 11 rfl rfl)
theorem dX5_clears_12 : decode cX5_clears 12 = .ok (.ishr, 1) := dk_122 (dk_at dksX5_clears_0 12 rfl rfl)
theorem dX5_clears_13 : decode cX5_clears 13 = .ok (.iconst 1, 1) := dk_4 (dk_at dksX5_clears_0 13 rfl rfl)
theorem dX5_clears_14 : decode cX5_clears 14 = .ok (.iand, 1) := dk_126 (dk_at dksX5_clears_0 14 rfl rfl)
theorem dX5_clears_15 : decode cX5_clears 15 = .ok (.iconst 1, 1) := dk_4 (dk_at dksX5_clears_0 15 rfl rfl)
theorem dX5_clears_16 : decode cX5_clears 16 = .ok (.if_icmp .ne 12, 3) := dk_160 0 12 (dk_at dksX5_clears_0 16 rfl rfl)
theorem dX5_clears_19 : decode cX5_clears 19 = .ok (.aload_n 0, 1) := dk_42 (dk_at dksX5_clears_0 19 rfl rfl)
theorem dX5_clears_20 : decode cX5_clears 20 = .ok (.getfield 51, 3) := dk_180 0 51 (dk_at dksX5_clears_0 20 rfl rfl)
theorem dX5_clears_23 : decode cX5_clears 23 = .ok (.iconst 0, 1) := dk_3 (dk_at dksX5_clears_0 23 rfl rfl)
theorem dX5_clears_24 : decode cX5_clears 24 = .ok (.iload_n 2, 1) := dk_28 (dk_at dksX5_clears_1 0 rfl rfl)
theorem dX5_clears_25 : decode cX5_clears 25 = .ok (.iadd, 1) := dk_96 (dk_at dksX5_clears_1 1 rfl rfl)
theorem dX5_clears_26 : decode cX5_clears 26 = .ok (.iconst 0, 1) := dk_3 (dk_at dksX5_clears_1 2 rfl rfl)
theorem dX5_clears_27 : decode cX5_clears 27 = .ok (.iastore, 1) := dk_79 (dk_at dksX5_clears_1 3 rfl rfl)
theorem dX5_clears_28 : decode cX5_clears 28 = .ok (.iinc 2 1, 3) := dk_132 2 1 (dk_at dksX5_clears_1 4 rfl rfl)
theorem dX5_clears_31 : decode cX5_clears 31 = .ok (.goto (-29), 3) := dk_167 255 227 (dk_at dksX5_clears_1 7 rfl rfl)
theorem dX5_clears_34 : decode cX5_clears 34 = .ok (.return_, 1) := dk_177 (dk_at dksX5_clears_1 10 rfl rfl)
abbrev cX5_aheadOf : ByteArray := prog_10_method_76_code
def yX5_aheadOf : MethodName := ⟨RX5, "aheadOf", "(II)I"⟩
def dkwX5_aheadOf_0 : List UInt8 := [28, 4, 100, 62, 29, 155, 0, 17, 27, 29, 122, 4, 126, 154, 0, 9, 132, 3, 255, 167, 255, 241, 29, 172]
abbrev dktX5_aheadOf_0 : List UInt8 := dkwX5_aheadOf_0 ++ []
theorem dksX5_aheadOf_0 : cX5_aheadOf.data.toList.drop 0 = dktX5_aheadOf_0 := by decide +kernel
theorem dX5_aheadOf_0 : decode cX5_aheadOf 0 = .ok (.iload_n 2, 1) := dk_28 (dk_at dksX5_aheadOf_0 0 rfl rfl)
theorem dX5_aheadOf_1 : decode cX5_aheadOf 1 = .ok (.iconst 1, 1) := dk_4 (dk_at dksX5_aheadOf_0 1 rfl rfl)
theorem dX5_aheadOf_2 : decode cX5_aheadOf 2 = .ok (.isub, 1) := dk_100 (dk_at dksX5_aheadOf_0 2 rfl rfl)
theorem dX5_aheadOf_3 : decode cX5_aheadOf 3 = .ok (.istore_n 3, 1) := dk_62 (dk_at dksX5_aheadOf_0 3 rfl rfl)
theorem dX5_aheadOf_4 : decode cX5_aheadOf 4 = .ok (.iload_n 3, 1) := dk_29 (dk_at dksX5_aheadOf_0 4 rfl rfl)
theorem dX5_aheadOf_5 : decode cX5_aheadOf 5 = .ok (.ifCond .lt 17, 3) := dk_155 0 17 (dk_at dksX5_aheadOf_0 5 rfl rfl)
theorem dX5_aheadOf_8 : decode cX5_aheadOf 8 = .ok (.iload_n 1, 1) := dk_27 (dk_at dksX5_aheadOf_0 8 rfl rfl)
theorem dX5_aheadOf_9 : decode cX5_aheadOf 9 = .ok (.iload_n 3, 1) := dk_29 (dk_at dksX5_aheadOf_0 9 rfl rfl)
theorem dX5_aheadOf_10 : decode cX5_aheadOf 10 = .ok (.ishr, 1) := dk_122 (dk_at dksX5_aheadOf_0 10 rfl rfl)
theorem dX5_aheadOf_11 : decode cX5_aheadOf 11 = .ok (.iconst 1, 1) := dk_4 (dk_at dksX5_aheadOf_0 11 rfl rfl)
theorem dX5_aheadOf_12 : decode cX5_aheadOf 12 = .ok (.iand, 1) := dk_126 (dk_at dksX5_aheadOf_0 12 rfl rfl)
theorem dX5_aheadOf_13 : decode cX5_aheadOf 13 = .ok (.ifCond .ne 9, 3) := dk_154 0 9 (dk_at dksX5_aheadOf_0 13 rfl rfl)
theorem dX5_aheadOf_16 : decode cX5_aheadOf 16 = .ok (.iinc 3 (-1), 3) := dk_132 3 255 (dk_at dksX5_aheadOf_0 16 rfl rfl)
theorem dX5_aheadOf_19 : decode cX5_aheadOf 19 = .ok (.goto (-15), 3) := dk_167 255 241 (dk_at dksX5_aheadOf_0 19 rfl rfl)
theorem dX5_aheadOf_22 : decode cX5_aheadOf 22 = .ok (.iload_n 3, 1) := dk_29 (dk_at dksX5_aheadOf_0 22 rfl rfl)
theorem dX5_aheadOf_23 : decode cX5_aheadOf 23 = .ok (.ireturn, 1) := dk_172 (dk_at dksX5_aheadOf_0 23 rfl rfl)
abbrev cX5_comesBack : ByteArray := prog_10_method_39_code
def yX5_comesBack : MethodName := ⟨RX5, "comesBack", "()V"⟩
def dkwX5_comesBack_1 : List UInt8 := [167, 255, 235, 42, 182, 0, 235, 177]
abbrev dktX5_comesBack_1 : List UInt8 := dkwX5_comesBack_1 ++ []
def dkwX5_comesBack_0 : List UInt8 := [3, 60, 27, 16, 79, 162, 0, 21, 42, 180, 0, 51, 27, 42, 180, 0, 57, 27, 46, 79, 132, 1, 1]
abbrev dktX5_comesBack_0 : List UInt8 := dkwX5_comesBack_0 ++ dktX5_comesBack_1
theorem dksX5_comesBack_0 : cX5_comesBack.data.toList.drop 0 = dktX5_comesBack_0 := by decide +kernel
theorem dksX5_comesBack_1 : cX5_comesBack.data.toList.drop 23 = dktX5_comesBack_1 := dk_seg dksX5_comesBack_0 23 rfl rfl
theorem dX5_comesBack_0 : decode cX5_comesBack 0 = .ok (.iconst 0, 1) := dk_3 (dk_at dksX5_comesBack_0 0 rfl rfl)
theorem dX5_comesBack_1 : decode cX5_comesBack 1 = .ok (.istore_n 1, 1) := dk_60 (dk_at dksX5_comesBack_0 1 rfl rfl)
theorem dX5_comesBack_2 : decode cX5_comesBack 2 = .ok (.iload_n 1, 1) := dk_27 (dk_at dksX5_comesBack_0 2 rfl rfl)
theorem dX5_comesBack_3 : decode cX5_comesBack 3 = .ok (.bipush 79, 2) := dk_16 79 (dk_at dksX5_comesBack_0 3 rfl rfl)
theorem dX5_comesBack_5 : decode cX5_comesBack 5 = .ok (.if_icmp .ge 21, 3) := dk_162 0 21 (dk_at dksX5_comesBack_0 5 rfl rfl)
theorem dX5_comesBack_8 : decode cX5_comesBack 8 = .ok (.aload_n 0, 1) := dk_42 (dk_at dksX5_comesBack_0 8 rfl rfl)
theorem dX5_comesBack_9 : decode cX5_comesBack 9 = .ok (.getfield 51, 3) := dk_180 0 51 (dk_at dksX5_comesBack_0 9 rfl rfl)
theorem dX5_comesBack_12 : decode cX5_comesBack 12 = .ok (.iload_n 1, 1) := dk_27 (dk_at dksX5_comesBack_0 12 rfl rfl)
theorem dX5_comesBack_13 : decode cX5_comesBack 13 = .ok (.aload_n 0, 1) := dk_42 (dk_at dksX5_comesBack_0 13 rfl rfl)
theorem dX5_comesBack_14 : decode cX5_comesBack 14 = .ok (.getfield 57, 3) := dk_180 0 57 (dk_at dksX5_comesBack_0 14 rfl rfl)
theorem dX5_comesBack_17 : decode cX5_comesBack 17 = .ok (.iload_n 1, 1) := dk_27 (dk_at dksX5_comesBack_0 17 rfl rfl)
theorem dX5_comesBack_18 : decode cX5_comesBack 18 = .ok (.iaload, 1) := dk_46 (dk_at dksX5_comesBack_0 18 rfl rfl)
theorem dX5_comesBack_19 : decode cX5_comesBack 19 = .ok (.iastore, 1) := dk_79 (dk_at dksX5_comesBack_0 19 rfl rfl)
theorem dX5_comesBack_20 : decode cX5_comesBack 20 = .ok (.iinc 1 1, 3) := dk_132 1 1 (dk_at dksX5_comesBack_0 20 rfl rfl)
theorem dX5_comesBack_23 : decode cX5_comesBack 23 = .ok (.goto (-21), 3) := dk_167 255 235 (dk_at dksX5_comesBack_1 0 rfl rfl)
theorem dX5_comesBack_26 : decode cX5_comesBack 26 = .ok (.aload_n 0, 1) := dk_42 (dk_at dksX5_comesBack_1 3 rfl rfl)
theorem dX5_comesBack_27 : decode cX5_comesBack 27 = .ok (.invokevirtual 235, 3) := dk_182 0 235 (dk_at dksX5_comesBack_1 4 rfl rfl)
theorem dX5_comesBack_30 : decode cX5_comesBack 30 = .ok (.return_, 1) := dk_177 (dk_at dksX5_comesBack_1 7 rfl rfl)
abbrev cX5_swapsIn : ByteArray := prog_10_method_80_code
def yX5_swapsIn : MethodName := ⟨RX5, "swapsIn", "()V"⟩
def dkwX5_swapsIn_2 : List UInt8 := [177]
abbrev dktX5_swapsIn_2 : List UInt8 := dkwX5_swapsIn_2 ++ []
def dkwX5_swapsIn_1 : List UInt8 := [27, 46, 79, 42, 180, 0, 57, 27, 28, 79, 132, 1, 1, 167, 255, 221, 42, 182, 1, 9, 42, 182, 1, 101]
abbrev dktX5_swapsIn_1 : List UInt8 := dkwX5_swapsIn_1 ++ dktX5_swapsIn_2
def dkwX5_swapsIn_0 : List UInt8 := [3, 60, 27, 16, 79, 162, 0, 35, 42, 180, 0, 51, 27, 46, 61, 42, 180, 0, 51, 27, 42, 180, 0, 57]
abbrev dktX5_swapsIn_0 : List UInt8 := dkwX5_swapsIn_0 ++ dktX5_swapsIn_1
theorem dksX5_swapsIn_0 : cX5_swapsIn.data.toList.drop 0 = dktX5_swapsIn_0 := by decide +kernel
theorem dksX5_swapsIn_1 : cX5_swapsIn.data.toList.drop 24 = dktX5_swapsIn_1 := dk_seg dksX5_swapsIn_0 24 rfl rfl
theorem dksX5_swapsIn_2 : cX5_swapsIn.data.toList.drop 48 = dktX5_swapsIn_2 := dk_seg dksX5_swapsIn_1 24 rfl rfl
theorem dX5_swapsIn_0 : decode cX5_swapsIn 0 = .ok (.iconst 0, 1) := dk_3 (dk_at dksX5_swapsIn_0 0 rfl rfl)
theorem dX5_swapsIn_1 : decode cX5_swapsIn 1 = .ok (.istore_n 1, 1) := dk_60 (dk_at dksX5_swapsIn_0 1 rfl rfl)
theorem dX5_swapsIn_2 : decode cX5_swapsIn 2 = .ok (.iload_n 1, 1) := dk_27 (dk_at dksX5_swapsIn_0 2 rfl rfl)
theorem dX5_swapsIn_3 : decode cX5_swapsIn 3 = .ok (.bipush 79, 2) := dk_16 79 (dk_at dksX5_swapsIn_0 3 rfl rfl)
theorem dX5_swapsIn_5 : decode cX5_swapsIn 5 = .ok (.if_icmp .ge 35, 3) := dk_162 0 35 (dk_at dksX5_swapsIn_0 5 rfl rfl)
theorem dX5_swapsIn_8 : decode cX5_swapsIn 8 = .ok (.aload_n 0, 1) := dk_42 (dk_at dksX5_swapsIn_0 8 rfl rfl)
theorem dX5_swapsIn_9 : decode cX5_swapsIn 9 = .ok (.getfield 51, 3) := dk_180 0 51 (dk_at dksX5_swapsIn_0 9 rfl rfl)
theorem dX5_swapsIn_12 : decode cX5_swapsIn 12 = .ok (.iload_n 1, 1) := dk_27 (dk_at dksX5_swapsIn_0 12 rfl rfl)
theorem dX5_swapsIn_13 : decode cX5_swapsIn 13 = .ok (.iaload, 1) := dk_46 (dk_at dksX5_swapsIn_0 13 rfl rfl)
theorem dX5_swapsIn_14 : decode cX5_swapsIn 14 = .ok (.istore_n 2, 1) := dk_61 (dk_at dksX5_swapsIn_0 14 rfl rfl)
theorem dX5_swapsIn_15 : decode cX5_swapsIn 15 = .ok (.aload_n 0, 1) := dk_42 (dk_at dksX5_swapsIn_0 15 rfl rfl)
theorem dX5_swapsIn_16 : decode cX5_swapsIn 16 = .ok (.getfield 51, 3) := dk_180 0 51 (dk_at dksX5_swapsIn_0 16 rfl rfl)
theorem dX5_swapsIn_19 : decode cX5_swapsIn 19 = .ok (.iload_n 1, 1) := dk_27 (dk_at dksX5_swapsIn_0 19 rfl rfl)
theorem dX5_swapsIn_20 : decode cX5_swapsIn 20 = .ok (.aload_n 0, 1) := dk_42 (dk_at dksX5_swapsIn_0 20 rfl rfl)
theorem dX5_swapsIn_21 : decode cX5_swapsIn 21 = .ok (.getfield 57, 3) := dk_180 0 57 (dk_at dksX5_swapsIn_0 21 rfl rfl)
theorem dX5_swapsIn_24 : decode cX5_swapsIn 24 = .ok (.iload_n 1, 1) := dk_27 (dk_at dksX5_swapsIn_1 0 rfl rfl)
theorem dX5_swapsIn_25 : decode cX5_swapsIn 25 = .ok (.iaload, 1) := dk_46 (dk_at dksX5_swapsIn_1 1 rfl rfl)
theorem dX5_swapsIn_26 : decode cX5_swapsIn 26 = .ok (.iastore, 1) := dk_79 (dk_at dksX5_swapsIn_1 2 rfl rfl)
theorem dX5_swapsIn_27 : decode cX5_swapsIn 27 = .ok (.aload_n 0, 1) := dk_42 (dk_at dksX5_swapsIn_1 3 rfl rfl)
theorem dX5_swapsIn_28 : decode cX5_swapsIn 28 = .ok (.getfield 57, 3) := dk_180 0 57 (dk_at dksX5_swapsIn_1 4 rfl rfl)
theorem dX5_swapsIn_31 : decode cX5_swapsIn 31 = .ok (.iload_n 1, 1) := dk_27 (dk_at dksX5_swapsIn_1 7 rfl rfl)
theorem dX5_swapsIn_32 : decode cX5_swapsIn 32 = .ok (.iload_n 2, 1) := dk_28 (dk_at dksX5_swapsIn_1 8 rfl rfl)
theorem dX5_swapsIn_33 : decode cX5_swapsIn 33 = .ok (.iastore, 1) := dk_79 (dk_at dksX5_swapsIn_1 9 rfl rfl)
theorem dX5_swapsIn_34 : decode cX5_swapsIn 34 = .ok (.iinc 1 1, 3) := dk_132 1 1 (dk_at dksX5_swapsIn_1 10 rfl rfl)
theorem dX5_swapsIn_37 : decode cX5_swapsIn 37 = .ok (.goto (-35), 3) := dk_167 255 221 (dk_at dksX5_swapsIn_1 13 rfl rfl)
theorem dX5_swapsIn_40 : decode cX5_swapsIn 40 = .ok (.aload_n 0, 1) := dk_42 (dk_at dksX5_swapsIn_1 16 rfl rfl)
theorem dX5_swapsIn_41 : decode cX5_swapsIn 41 = .ok (.invokevirtual 265, 3) := dk_182 1 9 (dk_at dksX5_swapsIn_1 17 rfl rfl)
theorem dX5_swapsIn_44 : decode cX5_swapsIn 44 = .ok (.aload_n 0, 1) := dk_42 (dk_at dksX5_swapsIn_1 20 rfl rfl)
theorem dX5_swapsIn_45 : decode cX5_swapsIn 45 = .ok (.invokevirtual 357, 3) := dk_182 1 101 (dk_at dksX5_swapsIn_1 21 rfl rfl)
theorem dX5_swapsIn_48 : decode cX5_swapsIn 48 = .ok (.return_, 1) := dk_177 (dk_at dksX5_swapsIn_2 0 rfl rfl)
abbrev cX5_mend : ByteArray := prog_10_method_82_code
def yX5_mend : MethodName := ⟨RX5, "mend", "()I"⟩
def dkwX5_mend_0 : List UInt8 := [42, 3, 181, 0, 96, 42, 182, 1, 107, 60, 27, 157, 0, 5, 27, 172, 42, 182, 1, 104, 27, 172]
abbrev dktX5_mend_0 : List UInt8 := dkwX5_mend_0 ++ []
theorem dksX5_mend_0 : cX5_mend.data.toList.drop 0 = dktX5_mend_0 := by decide +kernel
theorem dX5_mend_0 : decode cX5_mend 0 = .ok (.aload_n 0, 1) := dk_42 (dk_at dksX5_mend_0 0 rfl rfl)
theorem dX5_mend_1 : decode cX5_mend 1 = .ok (.iconst 0, 1) := dk_3 (dk_at dksX5_mend_0 1 rfl rfl)
theorem dX5_mend_2 : decode cX5_mend 2 = .ok (.putfield 96, 3) := dk_181 0 96 (dk_at dksX5_mend_0 2 rfl rfl)
theorem dX5_mend_5 : decode cX5_mend 5 = .ok (.aload_n 0, 1) := dk_42 (dk_at dksX5_mend_0 5 rfl rfl)
theorem dX5_mend_6 : decode cX5_mend 6 = .ok (.invokevirtual 363, 3) := dk_182 1 107 (dk_at dksX5_mend_0 6 rfl rfl)
theorem dX5_mend_9 : decode cX5_mend 9 = .ok (.istore_n 1, 1) := dk_60 (dk_at dksX5_mend_0 9 rfl rfl)
theorem dX5_mend_10 : decode cX5_mend 10 = .ok (.iload_n 1, 1) := dk_27 (dk_at dksX5_mend_0 10 rfl rfl)
theorem dX5_mend_11 : decode cX5_mend 11 = .ok (.ifCond .gt 5, 3) := dk_157 0 5 (dk_at dksX5_mend_0 11 rfl rfl)
theorem dX5_mend_14 : decode cX5_mend 14 = .ok (.iload_n 1, 1) := dk_27 (dk_at dksX5_mend_0 14 rfl rfl)
theorem dX5_mend_15 : decode cX5_mend 15 = .ok (.ireturn, 1) := dk_172 (dk_at dksX5_mend_0 15 rfl rfl)
theorem dX5_mend_16 : decode cX5_mend 16 = .ok (.aload_n 0, 1) := dk_42 (dk_at dksX5_mend_0 16 rfl rfl)
theorem dX5_mend_17 : decode cX5_mend 17 = .ok (.invokevirtual 360, 3) := dk_182 1 104 (dk_at dksX5_mend_0 17 rfl rfl)
theorem dX5_mend_20 : decode cX5_mend 20 = .ok (.iload_n 1, 1) := dk_27 (dk_at dksX5_mend_0 20 rfl rfl)
theorem dX5_mend_21 : decode cX5_mend 21 = .ok (.ireturn, 1) := dk_172 (dk_at dksX5_mend_0 21 rfl rfl)
abbrev cX5_mends : ByteArray := prog_10_method_81_code
def yX5_mends : MethodName := ⟨RX5, "mends", "()I"⟩
def dkwX5_mends_3 : List UInt8 := [132, 3, 1, 167, 255, 215, 132, 2, 1, 167, 255, 199, 16, 254, 172]
abbrev dktX5_mends_3 : List UInt8 := dkwX5_mends_3 ++ []
def dkwX5_mends_2 : List UInt8 := [184, 1, 55, 28, 159, 0, 6, 167, 0, 17, 42, 29, 182, 1, 98, 155, 0, 5, 29, 172, 42, 182, 1, 101]
abbrev dktX5_mends_2 : List UInt8 := dkwX5_mends_2 ++ dktX5_mends_3
def dkwX5_mends_1 : List UInt8 := [182, 0, 232, 163, 0, 55, 3, 62, 29, 27, 163, 0, 42, 29, 27, 2, 130, 126, 154, 0, 28, 29]
abbrev dktX5_mends_1 : List UInt8 := dkwX5_mends_1 ++ dktX5_mends_2
def dkwX5_mends_0 : List UInt8 := [42, 182, 1, 92, 4, 42, 182, 0, 232, 120, 4, 100, 42, 182, 1, 95, 2, 130, 126, 60, 3, 61, 28, 42]
abbrev dktX5_mends_0 : List UInt8 := dkwX5_mends_0 ++ dktX5_mends_1
theorem dksX5_mends_0 : cX5_mends.data.toList.drop 0 = dktX5_mends_0 := by decide +kernel
theorem dksX5_mends_1 : cX5_mends.data.toList.drop 24 = dktX5_mends_1 := dk_seg dksX5_mends_0 24 rfl rfl
theorem dksX5_mends_2 : cX5_mends.data.toList.drop 46 = dktX5_mends_2 := dk_seg dksX5_mends_1 22 rfl rfl
theorem dksX5_mends_3 : cX5_mends.data.toList.drop 70 = dktX5_mends_3 := dk_seg dksX5_mends_2 24 rfl rfl
theorem dX5_mends_0 : decode cX5_mends 0 = .ok (.aload_n 0, 1) := dk_42 (dk_at dksX5_mends_0 0 rfl rfl)
theorem dX5_mends_1 : decode cX5_mends 1 = .ok (.invokevirtual 348, 3) := dk_182 1 92 (dk_at dksX5_mends_0 1 rfl rfl)
theorem dX5_mends_4 : decode cX5_mends 4 = .ok (.iconst 1, 1) := dk_4 (dk_at dksX5_mends_0 4 rfl rfl)
theorem dX5_mends_5 : decode cX5_mends 5 = .ok (.aload_n 0, 1) := dk_42 (dk_at dksX5_mends_0 5 rfl rfl)
theorem dX5_mends_6 : decode cX5_mends 6 = .ok (.invokevirtual 232, 3) := dk_182 0 232 (dk_at dksX5_mends_0 6 rfl rfl)
theorem dX5_mends_9 : decode cX5_mends 9 = .ok (.ishl, 1) := dk_120 (dk_at dksX5_mends_0 9 rfl rfl)
theorem dX5_mends_10 : decode cX5_mends 10 = .ok (.iconst 1, 1) := dk_4 (dk_at dksX5_mends_0 10 rfl rfl)
theorem dX5_mends_11 : decode cX5_mends 11 = .ok (.isub, 1) := dk_100 (dk_at dksX5_mends_0 11 rfl rfl)
theorem dX5_mends_12 : decode cX5_mends 12 = .ok (.aload_n 0, 1) := dk_42 (dk_at dksX5_mends_0 12 rfl rfl)
theorem dX5_mends_13 : decode cX5_mends 13 = .ok (.invokevirtual 351, 3) := dk_182 1 95 (dk_at dksX5_mends_0 13 rfl rfl)
theorem dX5_mends_16 : decode cX5_mends 16 = .ok (.iconst (-1), 1) := dk_2 (dk_at dksX5_mends_0 16 rfl rfl)
theorem dX5_mends_17 : decode cX5_mends 17 = .ok (.ixor, 1) := dk_130 (dk_at dksX5_mends_0 17 rfl rfl)
theorem dX5_mends_18 : decode cX5_mends 18 = .ok (.iand, 1) := dk_126 (dk_at dksX5_mends_0 18 rfl rfl)
theorem dX5_mends_19 : decode cX5_mends 19 = .ok (.istore_n 1, 1) := dk_60 (dk_at dksX5_mends_0 19 rfl rfl)
theorem dX5_mends_20 : decode cX5_mends 20 = .ok (.iconst 0, 1) := dk_3 (dk_at dksX5_mends_0 20 rfl rfl)
theorem dX5_mends_21 : decode cX5_mends 21 = .ok (.istore_n 2, 1) := dk_61 (dk_at dksX5_mends_0 21 rfl rfl)
theorem dX5_mends_22 : decode cX5_mends 22 = .ok (.iload_n 2, 1) := dk_28 (dk_at dksX5_mends_0 22 rfl rfl)
theorem dX5_mends_23 : decode cX5_mends 23 = .ok (.aload_n 0, 1) := dk_42 (dk_at dksX5_mends_0 23 rfl rfl)
theorem dX5_mends_24 : decode cX5_mends 24 = .ok (.invokevirtual 232, 3) := dk_182 0 232 (dk_at dksX5_mends_1 0 rfl rfl)
theorem dX5_mends_27 : decode cX5_mends 27 = .ok (.if_icmp .gt 55, 3) := dk_163 0 55 (dk_at dksX5_mends_1 3 rfl rfl)
theorem dX5_mends_30 : decode cX5_mends 30 = .ok (.iconst 0, 1) := dk_3 (dk_at dksX5_mends_1 6 rfl rfl)
theorem dX5_mends_31 : decode cX5_mends 31 = .ok (.istore_n 3, 1) := dk_62 (dk_at dksX5_mends_1 7 rfl rfl)
theorem dX5_mends_32 : decode cX5_mends 32 = .ok (.iload_n 3, 1) := dk_29 (dk_at dksX5_mends_1 8 rfl rfl)
theorem dX5_mends_33 : decode cX5_mends 33 = .ok (.iload_n 1, 1) := dk_27 (dk_at dksX5_mends_1 9 rfl rfl)
theorem dX5_mends_34 : decode cX5_mends 34 = .ok (.if_icmp .gt 42, 3) := dk_163 0 42 (dk_at dksX5_mends_1 10 rfl rfl)
theorem dX5_mends_37 : decode cX5_mends 37 = .ok (.iload_n 3, 1) := dk_29 (dk_at dksX5_mends_1 13 rfl rfl)
theorem dX5_mends_38 : decode cX5_mends 38 = .ok (.iload_n 1, 1) := dk_27 (dk_at dksX5_mends_1 14 rfl rfl)
theorem dX5_mends_39 : decode cX5_mends 39 = .ok (.iconst (-1), 1) := dk_2 (dk_at dksX5_mends_1 15 rfl rfl)
theorem dX5_mends_40 : decode cX5_mends 40 = .ok (.ixor, 1) := dk_130 (dk_at dksX5_mends_1 16 rfl rfl)
theorem dX5_mends_41 : decode cX5_mends 41 = .ok (.iand, 1) := dk_126 (dk_at dksX5_mends_1 17 rfl rfl)
theorem dX5_mends_42 : decode cX5_mends 42 = .ok (.ifCond .ne 28, 3) := dk_154 0 28 (dk_at dksX5_mends_1 18 rfl rfl)
theorem dX5_mends_45 : decode cX5_mends 45 = .ok (.iload_n 3, 1) := dk_29 (dk_at dksX5_mends_1 21 rfl rfl)
theorem dX5_mends_46 : decode cX5_mends 46 = .ok (.invokestatic 311, 3) := dk_184 1 55 (dk_at dksX5_mends_2 0 rfl rfl)
theorem dX5_mends_49 : decode cX5_mends 49 = .ok (.iload_n 2, 1) := dk_28 (dk_at dksX5_mends_2 3 rfl rfl)
theorem dX5_mends_50 : decode cX5_mends 50 = .ok (.if_icmp .eq 6, 3) := dk_159 0 6 (dk_at dksX5_mends_2 4 rfl rfl)
theorem dX5_mends_53 : decode cX5_mends 53 = .ok (.goto 17, 3) := dk_167 0 17 (dk_at dksX5_mends_2 7 rfl rfl)
theorem dX5_mends_56 : decode cX5_mends 56 = .ok (.aload_n 0, 1) := dk_42 (dk_at dksX5_mends_2 10 rfl rfl)
theorem dX5_mends_57 : decode cX5_mends 57 = .ok (.iload_n 3, 1) := dk_29 (dk_at dksX5_mends_2 11 rfl rfl)
theorem dX5_mends_58 : decode cX5_mends 58 = .ok (.invokevirtual 354, 3) := dk_182 1 98 (dk_at dksX5_mends_2 12 rfl rfl)
theorem dX5_mends_61 : decode cX5_mends 61 = .ok (.ifCond .lt 5, 3) := dk_155 0 5 (dk_at dksX5_mends_2 15 rfl rfl)
theorem dX5_mends_64 : decode cX5_mends 64 = .ok (.iload_n 3, 1) := dk_29 (dk_at dksX5_mends_2 18 rfl rfl)
theorem dX5_mends_65 : decode cX5_mends 65 = .ok (.ireturn, 1) := dk_172 (dk_at dksX5_mends_2 19 rfl rfl)
theorem dX5_mends_66 : decode cX5_mends 66 = .ok (.aload_n 0, 1) := dk_42 (dk_at dksX5_mends_2 20 rfl rfl)
theorem dX5_mends_67 : decode cX5_mends 67 = .ok (.invokevirtual 357, 3) := dk_182 1 101 (dk_at dksX5_mends_2 21 rfl rfl)
theorem dX5_mends_70 : decode cX5_mends 70 = .ok (.iinc 3 1, 3) := dk_132 3 1 (dk_at dksX5_mends_3 0 rfl rfl)
theorem dX5_mends_73 : decode cX5_mends 73 = .ok (.goto (-41), 3) := dk_167 255 215 (dk_at dksX5_mends_3 3 rfl rfl)
theorem dX5_mends_76 : decode cX5_mends 76 = .ok (.iinc 2 1, 3) := dk_132 2 1 (dk_at dksX5_mends_3 6 rfl rfl)
theorem dX5_mends_79 : decode cX5_mends 79 = .ok (.goto (-57), 3) := dk_167 255 199 (dk_at dksX5_mends_3 9 rfl rfl)
theorem dX5_mends_82 : decode cX5_mends 82 = .ok (.bipush (-2), 2) := dk_16 254 (dk_at dksX5_mends_3 12 rfl rfl)
theorem dX5_mends_84 : decode cX5_mends 84 = .ok (.ireturn, 1) := dk_172 (dk_at dksX5_mends_3 14 rfl rfl)
abbrev cX5_bits : ByteArray := prog_10_method_65_code
def yX5_bits : MethodName := ⟨RX5, "bits", "(I)I"⟩
def dkwX5_bits_0 : List UInt8 := [3, 60, 26, 61, 28, 153, 0, 15, 132, 1, 1, 28, 28, 4, 100, 126, 61, 167, 255, 243, 27, 172]
abbrev dktX5_bits_0 : List UInt8 := dkwX5_bits_0 ++ []
theorem dksX5_bits_0 : cX5_bits.data.toList.drop 0 = dktX5_bits_0 := by decide +kernel
theorem dX5_bits_0 : decode cX5_bits 0 = .ok (.iconst 0, 1) := dk_3 (dk_at dksX5_bits_0 0 rfl rfl)
theorem dX5_bits_1 : decode cX5_bits 1 = .ok (.istore_n 1, 1) := dk_60 (dk_at dksX5_bits_0 1 rfl rfl)
theorem dX5_bits_2 : decode cX5_bits 2 = .ok (.iload_n 0, 1) := dk_26 (dk_at dksX5_bits_0 2 rfl rfl)
theorem dX5_bits_3 : decode cX5_bits 3 = .ok (.istore_n 2, 1) := dk_61 (dk_at dksX5_bits_0 3 rfl rfl)
theorem dX5_bits_4 : decode cX5_bits 4 = .ok (.iload_n 2, 1) := dk_28 (dk_at dksX5_bits_0 4 rfl rfl)
theorem dX5_bits_5 : decode cX5_bits 5 = .ok (.ifCond .eq 15, 3) := dk_153 0 15 (dk_at dksX5_bits_0 5 rfl rfl)
theorem dX5_bits_8 : decode cX5_bits 8 = .ok (.iinc 1 1, 3) := dk_132 1 1 (dk_at dksX5_bits_0 8 rfl rfl)
theorem dX5_bits_11 : decode cX5_bits 11 = .ok (.iload_n 2, 1) := dk_28 (dk_at dksX5_bits_0 11 rfl rfl)
theorem dX5_bits_12 : decode cX5_bits 12 = .ok (.iload_n 2, 1) := dk_28 (dk_at dksX5_bits_0 12 rfl rfl)
theorem dX5_bits_13 : decode cX5_bits 13 = .ok (.iconst 1, 1) := dk_4 (dk_at dksX5_bits_0 13 rfl rfl)
theorem dX5_bits_14 : decode cX5_bits 14 = .ok (.isub, 1) := dk_100 (dk_at dksX5_bits_0 14 rfl rfl)
theorem dX5_bits_15 : decode cX5_bits 15 = .ok (.iand, 1) := dk_126 (dk_at dksX5_bits_0 15 rfl rfl)
theorem dX5_bits_16 : decode cX5_bits 16 = .ok (.istore_n 2, 1) := dk_61 (dk_at dksX5_bits_0 16 rfl rfl)
theorem dX5_bits_17 : decode cX5_bits 17 = .ok (.goto (-13), 3) := dk_167 255 243 (dk_at dksX5_bits_0 17 rfl rfl)
theorem dX5_bits_20 : decode cX5_bits 20 = .ok (.iload_n 1, 1) := dk_27 (dk_at dksX5_bits_0 20 rfl rfl)
theorem dX5_bits_21 : decode cX5_bits 21 = .ok (.ireturn, 1) := dk_172 (dk_at dksX5_bits_0 21 rfl rfl)
abbrev cX5_mended : ByteArray := prog_10_method_83_code
def yX5_mended : MethodName := ⟨RX5, "mended", "()I"⟩
def dkwX5_mended_0 : List UInt8 := [42, 3, 181, 0, 96, 42, 182, 1, 107, 60, 42, 182, 1, 101, 27, 172]
abbrev dktX5_mended_0 : List UInt8 := dkwX5_mended_0 ++ []
theorem dksX5_mended_0 : cX5_mended.data.toList.drop 0 = dktX5_mended_0 := by decide +kernel
theorem dX5_mended_0 : decode cX5_mended 0 = .ok (.aload_n 0, 1) := dk_42 (dk_at dksX5_mended_0 0 rfl rfl)
theorem dX5_mended_1 : decode cX5_mended 1 = .ok (.iconst 0, 1) := dk_3 (dk_at dksX5_mended_0 1 rfl rfl)
theorem dX5_mended_2 : decode cX5_mended 2 = .ok (.putfield 96, 3) := dk_181 0 96 (dk_at dksX5_mended_0 2 rfl rfl)
theorem dX5_mended_5 : decode cX5_mended 5 = .ok (.aload_n 0, 1) := dk_42 (dk_at dksX5_mended_0 5 rfl rfl)
theorem dX5_mended_6 : decode cX5_mended 6 = .ok (.invokevirtual 363, 3) := dk_182 1 107 (dk_at dksX5_mended_0 6 rfl rfl)
theorem dX5_mended_9 : decode cX5_mended 9 = .ok (.istore_n 1, 1) := dk_60 (dk_at dksX5_mended_0 9 rfl rfl)
theorem dX5_mended_10 : decode cX5_mended 10 = .ok (.aload_n 0, 1) := dk_42 (dk_at dksX5_mended_0 10 rfl rfl)
theorem dX5_mended_11 : decode cX5_mended 11 = .ok (.invokevirtual 357, 3) := dk_182 1 101 (dk_at dksX5_mended_0 11 rfl rfl)
theorem dX5_mended_14 : decode cX5_mended 14 = .ok (.iload_n 1, 1) := dk_27 (dk_at dksX5_mended_0 14 rfl rfl)
theorem dX5_mended_15 : decode cX5_mended 15 = .ok (.ireturn, 1) := dk_172 (dk_at dksX5_mended_0 15 rfl rfl)
abbrev cX5_planned : ByteArray := prog_10_method_84_code
def yX5_planned : MethodName := ⟨RX5, "planned", "(I)I"⟩
def dkwX5_planned_2 : List UInt8 := [27, 96, 46, 62, 42, 182, 1, 101, 28, 156, 0, 7, 28, 167, 0, 4, 29, 172]
abbrev dktX5_planned_2 : List UInt8 := dkwX5_planned_2 ++ []
def dkwX5_planned_1 : List UInt8 := [158, 0, 6, 16, 254, 172, 42, 182, 1, 92, 42, 42, 182, 1, 95, 182, 1, 98, 61, 42, 180, 0, 51, 3]
abbrev dktX5_planned_1 : List UInt8 := dkwX5_planned_1 ++ dktX5_planned_2
def dkwX5_planned_0 : List UInt8 := [42, 3, 181, 0, 96, 42, 27, 182, 1, 3, 154, 0, 5, 2, 172, 42, 180, 0, 51, 3, 27, 96, 46]
abbrev dktX5_planned_0 : List UInt8 := dkwX5_planned_0 ++ dktX5_planned_1
theorem dksX5_planned_0 : cX5_planned.data.toList.drop 0 = dktX5_planned_0 := by decide +kernel
theorem dksX5_planned_1 : cX5_planned.data.toList.drop 23 = dktX5_planned_1 := dk_seg dksX5_planned_0 23 rfl rfl
theorem dksX5_planned_2 : cX5_planned.data.toList.drop 47 = dktX5_planned_2 := dk_seg dksX5_planned_1 24 rfl rfl
theorem dX5_planned_0 : decode cX5_planned 0 = .ok (.aload_n 0, 1) := dk_42 (dk_at dksX5_planned_0 0 rfl rfl)
theorem dX5_planned_1 : decode cX5_planned 1 = .ok (.iconst 0, 1) := dk_3 (dk_at dksX5_planned_0 1 rfl rfl)
theorem dX5_planned_2 : decode cX5_planned 2 = .ok (.putfield 96, 3) := dk_181 0 96 (dk_at dksX5_planned_0 2 rfl rfl)
theorem dX5_planned_5 : decode cX5_planned 5 = .ok (.aload_n 0, 1) := dk_42 (dk_at dksX5_planned_0 5 rfl rfl)
theorem dX5_planned_6 : decode cX5_planned 6 = .ok (.iload_n 1, 1) := dk_27 (dk_at dksX5_planned_0 6 rfl rfl)
theorem dX5_planned_7 : decode cX5_planned 7 = .ok (.invokevirtual 259, 3) := dk_182 1 3 (dk_at dksX5_planned_0 7 rfl rfl)
theorem dX5_planned_10 : decode cX5_planned 10 = .ok (.ifCond .ne 5, 3) := dk_154 0 5 (dk_at dksX5_planned_0 10 rfl rfl)
theorem dX5_planned_13 : decode cX5_planned 13 = .ok (.iconst (-1), 1) := dk_2 (dk_at dksX5_planned_0 13 rfl rfl)
theorem dX5_planned_14 : decode cX5_planned 14 = .ok (.ireturn, 1) := dk_172 (dk_at dksX5_planned_0 14 rfl rfl)
theorem dX5_planned_15 : decode cX5_planned 15 = .ok (.aload_n 0, 1) := dk_42 (dk_at dksX5_planned_0 15 rfl rfl)
theorem dX5_planned_16 : decode cX5_planned 16 = .ok (.getfield 51, 3) := dk_180 0 51 (dk_at dksX5_planned_0 16 rfl rfl)
theorem dX5_planned_19 : decode cX5_planned 19 = .ok (.iconst 0, 1) := dk_3 (dk_at dksX5_planned_0 19 rfl rfl)
theorem dX5_planned_20 : decode cX5_planned 20 = .ok (.iload_n 1, 1) := dk_27 (dk_at dksX5_planned_0 20 rfl rfl)
theorem dX5_planned_21 : decode cX5_planned 21 = .ok (.iadd, 1) := dk_96 (dk_at dksX5_planned_0 21 rfl rfl)
theorem dX5_planned_22 : decode cX5_planned 22 = .ok (.iaload, 1) := dk_46 (dk_at dksX5_planned_0 22 rfl rfl)
theorem dX5_planned_23 : decode cX5_planned 23 = .ok (.ifCond .le 6, 3) := dk_158 0 6 (dk_at dksX5_planned_1 0 rfl rfl)
theorem dX5_planned_26 : decode cX5_planned 26 = .ok (.bipush (-2), 2) := dk_16 254 (dk_at dksX5_planned_1 3 rfl rfl)
theorem dX5_planned_28 : decode cX5_planned 28 = .ok (.ireturn, 1) := dk_172 (dk_at dksX5_planned_1 5 rfl rfl)
theorem dX5_planned_29 : decode cX5_planned 29 = .ok (.aload_n 0, 1) := dk_42 (dk_at dksX5_planned_1 6 rfl rfl)
theorem dX5_planned_30 : decode cX5_planned 30 = .ok (.invokevirtual 348, 3) := dk_182 1 92 (dk_at dksX5_planned_1 7 rfl rfl)
theorem dX5_planned_33 : decode cX5_planned 33 = .ok (.aload_n 0, 1) := dk_42 (dk_at dksX5_planned_1 10 rfl rfl)
theorem dX5_planned_34 : decode cX5_planned 34 = .ok (.aload_n 0, 1) := dk_42 (dk_at dksX5_planned_1 11 rfl rfl)
theorem dX5_planned_35 : decode cX5_planned 35 = .ok (.invokevirtual 351, 3) := dk_182 1 95 (dk_at dksX5_planned_1 12 rfl rfl)
theorem dX5_planned_38 : decode cX5_planned 38 = .ok (.invokevirtual 354, 3) := dk_182 1 98 (dk_at dksX5_planned_1 15 rfl rfl)
theorem dX5_planned_41 : decode cX5_planned 41 = .ok (.istore_n 2, 1) := dk_61 (dk_at dksX5_planned_1 18 rfl rfl)
theorem dX5_planned_42 : decode cX5_planned 42 = .ok (.aload_n 0, 1) := dk_42 (dk_at dksX5_planned_1 19 rfl rfl)
theorem dX5_planned_43 : decode cX5_planned 43 = .ok (.getfield 51, 3) := dk_180 0 51 (dk_at dksX5_planned_1 20 rfl rfl)
theorem dX5_planned_46 : decode cX5_planned 46 = .ok (.iconst 0, 1) := dk_3 (dk_at dksX5_planned_1 23 rfl rfl)
theorem dX5_planned_47 : decode cX5_planned 47 = .ok (.iload_n 1, 1) := dk_27 (dk_at dksX5_planned_2 0 rfl rfl)
theorem dX5_planned_48 : decode cX5_planned 48 = .ok (.iadd, 1) := dk_96 (dk_at dksX5_planned_2 1 rfl rfl)
theorem dX5_planned_49 : decode cX5_planned 49 = .ok (.iaload, 1) := dk_46 (dk_at dksX5_planned_2 2 rfl rfl)
theorem dX5_planned_50 : decode cX5_planned 50 = .ok (.istore_n 3, 1) := dk_62 (dk_at dksX5_planned_2 3 rfl rfl)
theorem dX5_planned_51 : decode cX5_planned 51 = .ok (.aload_n 0, 1) := dk_42 (dk_at dksX5_planned_2 4 rfl rfl)
theorem dX5_planned_52 : decode cX5_planned 52 = .ok (.invokevirtual 357, 3) := dk_182 1 101 (dk_at dksX5_planned_2 5 rfl rfl)
theorem dX5_planned_55 : decode cX5_planned 55 = .ok (.iload_n 2, 1) := dk_28 (dk_at dksX5_planned_2 8 rfl rfl)
theorem dX5_planned_56 : decode cX5_planned 56 = .ok (.ifCond .ge 7, 3) := dk_156 0 7 (dk_at dksX5_planned_2 9 rfl rfl)
theorem dX5_planned_59 : decode cX5_planned 59 = .ok (.iload_n 2, 1) := dk_28 (dk_at dksX5_planned_2 12 rfl rfl)
theorem dX5_planned_60 : decode cX5_planned 60 = .ok (.goto 4, 3) := dk_167 0 4 (dk_at dksX5_planned_2 13 rfl rfl)
theorem dX5_planned_63 : decode cX5_planned 63 = .ok (.iload_n 3, 1) := dk_29 (dk_at dksX5_planned_2 16 rfl rfl)
theorem dX5_planned_64 : decode cX5_planned 64 = .ok (.ireturn, 1) := dk_172 (dk_at dksX5_planned_2 17 rfl rfl)
abbrev cX5_leastBand : ByteArray := prog_10_method_85_code
def yX5_leastBand : MethodName := ⟨RX5, "leastBand", "()I"⟩
def dkwX5_leastBand_2 : List UInt8 := [60, 132, 2, 1, 167, 255, 219, 42, 182, 1, 101, 27, 172]
abbrev dktX5_leastBand_2 : List UInt8 := dkwX5_leastBand_2 ++ []
def dkwX5_leastBand_1 : List UInt8 := [160, 0, 31, 42, 28, 181, 0, 238, 42, 4, 42, 182, 0, 232, 120, 4, 100, 182, 1, 98, 155, 0, 5, 28]
abbrev dktX5_leastBand_1 : List UInt8 := dkwX5_leastBand_1 ++ dktX5_leastBand_2
def dkwX5_leastBand_0 : List UInt8 := [42, 3, 181, 0, 96, 42, 182, 1, 92, 16, 254, 60, 7, 61, 28, 16, 60, 163, 0, 37, 27, 16, 254]
abbrev dktX5_leastBand_0 : List UInt8 := dkwX5_leastBand_0 ++ dktX5_leastBand_1
theorem dksX5_leastBand_0 : cX5_leastBand.data.toList.drop 0 = dktX5_leastBand_0 := by decide +kernel
theorem dksX5_leastBand_1 : cX5_leastBand.data.toList.drop 23 = dktX5_leastBand_1 := dk_seg dksX5_leastBand_0 23 rfl rfl
theorem dksX5_leastBand_2 : cX5_leastBand.data.toList.drop 47 = dktX5_leastBand_2 := dk_seg dksX5_leastBand_1 24 rfl rfl
theorem dX5_leastBand_0 : decode cX5_leastBand 0 = .ok (.aload_n 0, 1) := dk_42 (dk_at dksX5_leastBand_0 0 rfl rfl)
theorem dX5_leastBand_1 : decode cX5_leastBand 1 = .ok (.iconst 0, 1) := dk_3 (dk_at dksX5_leastBand_0 1 rfl rfl)
theorem dX5_leastBand_2 : decode cX5_leastBand 2 = .ok (.putfield 96, 3) := dk_181 0 96 (dk_at dksX5_leastBand_0 2 rfl rfl)
theorem dX5_leastBand_5 : decode cX5_leastBand 5 = .ok (.aload_n 0, 1) := dk_42 (dk_at dksX5_leastBand_0 5 rfl rfl)
theorem dX5_leastBand_6 : decode cX5_leastBand 6 = .ok (.invokevirtual 348, 3) := dk_182 1 92 (dk_at dksX5_leastBand_0 6 rfl rfl)
theorem dX5_leastBand_9 : decode cX5_leastBand 9 = .ok (.bipush (-2), 2) := dk_16 254 (dk_at dksX5_leastBand_0 9 rfl rfl)
theorem dX5_leastBand_11 : decode cX5_leastBand 11 = .ok (.istore_n 1, 1) := dk_60 (dk_at dksX5_leastBand_0 11 rfl rfl)
theorem dX5_leastBand_12 : decode cX5_leastBand 12 = .ok (.iconst 4, 1) := dk_7 (dk_at dksX5_leastBand_0 12 rfl rfl)
theorem dX5_leastBand_13 : decode cX5_leastBand 13 = .ok (.istore_n 2, 1) := dk_61 (dk_at dksX5_leastBand_0 13 rfl rfl)
theorem dX5_leastBand_14 : decode cX5_leastBand 14 = .ok (.iload_n 2, 1) := dk_28 (dk_at dksX5_leastBand_0 14 rfl rfl)
theorem dX5_leastBand_15 : decode cX5_leastBand 15 = .ok (.bipush 60, 2) := dk_16 60 (dk_at dksX5_leastBand_0 15 rfl rfl)
theorem dX5_leastBand_17 : decode cX5_leastBand 17 = .ok (.if_icmp .gt 37, 3) := dk_163 0 37 (dk_at dksX5_leastBand_0 17 rfl rfl)
theorem dX5_leastBand_20 : decode cX5_leastBand 20 = .ok (.iload_n 1, 1) := dk_27 (dk_at dksX5_leastBand_0 20 rfl rfl)
theorem dX5_leastBand_21 : decode cX5_leastBand 21 = .ok (.bipush (-2), 2) := dk_16 254 (dk_at dksX5_leastBand_0 21 rfl rfl)
theorem dX5_leastBand_23 : decode cX5_leastBand 23 = .ok (.if_icmp .ne 31, 3) := dk_160 0 31 (dk_at dksX5_leastBand_1 0 rfl rfl)
theorem dX5_leastBand_26 : decode cX5_leastBand 26 = .ok (.aload_n 0, 1) := dk_42 (dk_at dksX5_leastBand_1 3 rfl rfl)
theorem dX5_leastBand_27 : decode cX5_leastBand 27 = .ok (.iload_n 2, 1) := dk_28 (dk_at dksX5_leastBand_1 4 rfl rfl)
theorem dX5_leastBand_28 : decode cX5_leastBand 28 = .ok (.putfield 238, 3) := dk_181 0 238 (dk_at dksX5_leastBand_1 5 rfl rfl)
theorem dX5_leastBand_31 : decode cX5_leastBand 31 = .ok (.aload_n 0, 1) := dk_42 (dk_at dksX5_leastBand_1 8 rfl rfl)
theorem dX5_leastBand_32 : decode cX5_leastBand 32 = .ok (.iconst 1, 1) := dk_4 (dk_at dksX5_leastBand_1 9 rfl rfl)
theorem dX5_leastBand_33 : decode cX5_leastBand 33 = .ok (.aload_n 0, 1) := dk_42 (dk_at dksX5_leastBand_1 10 rfl rfl)
theorem dX5_leastBand_34 : decode cX5_leastBand 34 = .ok (.invokevirtual 232, 3) := dk_182 0 232 (dk_at dksX5_leastBand_1 11 rfl rfl)
theorem dX5_leastBand_37 : decode cX5_leastBand 37 = .ok (.ishl, 1) := dk_120 (dk_at dksX5_leastBand_1 14 rfl rfl)
theorem dX5_leastBand_38 : decode cX5_leastBand 38 = .ok (.iconst 1, 1) := dk_4 (dk_at dksX5_leastBand_1 15 rfl rfl)
theorem dX5_leastBand_39 : decode cX5_leastBand 39 = .ok (.isub, 1) := dk_100 (dk_at dksX5_leastBand_1 16 rfl rfl)
theorem dX5_leastBand_40 : decode cX5_leastBand 40 = .ok (.invokevirtual 354, 3) := dk_182 1 98 (dk_at dksX5_leastBand_1 17 rfl rfl)
theorem dX5_leastBand_43 : decode cX5_leastBand 43 = .ok (.ifCond .lt 5, 3) := dk_155 0 5 (dk_at dksX5_leastBand_1 20 rfl rfl)
theorem dX5_leastBand_46 : decode cX5_leastBand 46 = .ok (.iload_n 2, 1) := dk_28 (dk_at dksX5_leastBand_1 23 rfl rfl)
theorem dX5_leastBand_47 : decode cX5_leastBand 47 = .ok (.istore_n 1, 1) := dk_60 (dk_at dksX5_leastBand_2 0 rfl rfl)
theorem dX5_leastBand_48 : decode cX5_leastBand 48 = .ok (.iinc 2 1, 3) := dk_132 2 1 (dk_at dksX5_leastBand_2 1 rfl rfl)
theorem dX5_leastBand_51 : decode cX5_leastBand 51 = .ok (.goto (-37), 3) := dk_167 255 219 (dk_at dksX5_leastBand_2 4 rfl rfl)
theorem dX5_leastBand_54 : decode cX5_leastBand 54 = .ok (.aload_n 0, 1) := dk_42 (dk_at dksX5_leastBand_2 7 rfl rfl)
theorem dX5_leastBand_55 : decode cX5_leastBand 55 = .ok (.invokevirtual 357, 3) := dk_182 1 101 (dk_at dksX5_leastBand_2 8 rfl rfl)
theorem dX5_leastBand_58 : decode cX5_leastBand 58 = .ok (.iload_n 1, 1) := dk_27 (dk_at dksX5_leastBand_2 11 rfl rfl)
theorem dX5_leastBand_59 : decode cX5_leastBand 59 = .ok (.ireturn, 1) := dk_172 (dk_at dksX5_leastBand_2 12 rfl rfl)
abbrev cX5_grown : ByteArray := prog_10_method_89_code
def yX5_grown : MethodName := ⟨RX5, "grown", "(IIII)I"⟩
def dkwX5_grown_6 : List UInt8 := [172, 132, 5, 1, 167, 255, 173, 42, 180, 0, 81, 21, 4, 46, 172]
abbrev dktX5_grown_6 : List UInt8 := dkwX5_grown_6 ++ []
def dkwX5_grown_5 : List UInt8 := [21, 5, 92, 46, 4, 96, 79, 167, 255, 219, 42, 180, 0, 81, 21, 5, 46, 16, 60, 164, 0, 6, 16, 254]
abbrev dktX5_grown_5 : List UInt8 := dkwX5_grown_5 ++ dktX5_grown_6
def dkwX5_grown_4 : List UInt8 := [16, 60, 163, 0, 31, 42, 21, 5, 4, 96, 27, 28, 29, 182, 1, 118, 154, 0, 17, 42, 180, 0, 81]
abbrev dktX5_grown_4 : List UInt8 := dkwX5_grown_4 ++ dktX5_grown_5
def dkwX5_grown_3 : List UInt8 := [180, 0, 81, 21, 5, 42, 180, 0, 81, 21, 5, 4, 100, 46, 4, 96, 79, 42, 180, 0, 81, 21, 5, 46]
abbrev dktX5_grown_3 : List UInt8 := dkwX5_grown_3 ++ dktX5_grown_4
def dkwX5_grown_2 : List UInt8 := [161, 0, 6, 16, 254, 172, 42, 180, 0, 81, 3, 4, 79, 4, 54, 5, 21, 5, 21, 4, 163, 0, 82, 42]
abbrev dktX5_grown_2 : List UInt8 := dkwX5_grown_2 ++ dktX5_grown_3
def dkwX5_grown_1 : List UInt8 := [29, 4, 161, 0, 14, 29, 16, 20, 163, 0, 8, 21, 4, 156, 0, 5, 2, 172, 21, 4, 16, 8]
abbrev dktX5_grown_1 : List UInt8 := dkwX5_grown_1 ++ dktX5_grown_2
def dkwX5_grown_0 : List UInt8 := [42, 3, 181, 0, 96, 27, 155, 0, 34, 27, 16, 7, 163, 0, 28, 28, 155, 0, 24, 28, 8, 163, 0, 19]
abbrev dktX5_grown_0 : List UInt8 := dkwX5_grown_0 ++ dktX5_grown_1
theorem dksX5_grown_0 : cX5_grown.data.toList.drop 0 = dktX5_grown_0 := by decide +kernel
theorem dksX5_grown_1 : cX5_grown.data.toList.drop 24 = dktX5_grown_1 := dk_seg dksX5_grown_0 24 rfl rfl
theorem dksX5_grown_2 : cX5_grown.data.toList.drop 46 = dktX5_grown_2 := dk_seg dksX5_grown_1 22 rfl rfl
theorem dksX5_grown_3 : cX5_grown.data.toList.drop 70 = dktX5_grown_3 := dk_seg dksX5_grown_2 24 rfl rfl
theorem dksX5_grown_4 : cX5_grown.data.toList.drop 94 = dktX5_grown_4 := dk_seg dksX5_grown_3 24 rfl rfl
theorem dksX5_grown_5 : cX5_grown.data.toList.drop 117 = dktX5_grown_5 := dk_seg dksX5_grown_4 23 rfl rfl
theorem dksX5_grown_6 : cX5_grown.data.toList.drop 141 = dktX5_grown_6 := dk_seg dksX5_grown_5 24 rfl rfl
theorem dX5_grown_0 : decode cX5_grown 0 = .ok (.aload_n 0, 1) := dk_42 (dk_at dksX5_grown_0 0 rfl rfl)
theorem dX5_grown_1 : decode cX5_grown 1 = .ok (.iconst 0, 1) := dk_3 (dk_at dksX5_grown_0 1 rfl rfl)
theorem dX5_grown_2 : decode cX5_grown 2 = .ok (.putfield 96, 3) := dk_181 0 96 (dk_at dksX5_grown_0 2 rfl rfl)
theorem dX5_grown_5 : decode cX5_grown 5 = .ok (.iload_n 1, 1) := dk_27 (dk_at dksX5_grown_0 5 rfl rfl)
theorem dX5_grown_6 : decode cX5_grown 6 = .ok (.ifCond .lt 34, 3) := dk_155 0 34 (dk_at dksX5_grown_0 6 rfl rfl)
theorem dX5_grown_9 : decode cX5_grown 9 = .ok (.iload_n 1, 1) := dk_27 (dk_at dksX5_grown_0 9 rfl rfl)
theorem dX5_grown_10 : decode cX5_grown 10 = .ok (.bipush 7, 2) := dk_16 7 (dk_at dksX5_grown_0 10 rfl rfl)
theorem dX5_grown_12 : decode cX5_grown 12 = .ok (.if_icmp .gt 28, 3) := dk_163 0 28 (dk_at dksX5_grown_0 12 rfl rfl)
theorem dX5_grown_15 : decode cX5_grown 15 = .ok (.iload_n 2, 1) := dk_28 (dk_at dksX5_grown_0 15 rfl rfl)
theorem dX5_grown_16 : decode cX5_grown 16 = .ok (.ifCond .lt 24, 3) := dk_155 0 24 (dk_at dksX5_grown_0 16 rfl rfl)
theorem dX5_grown_19 : decode cX5_grown 19 = .ok (.iload_n 2, 1) := dk_28 (dk_at dksX5_grown_0 19 rfl rfl)
theorem dX5_grown_20 : decode cX5_grown 20 = .ok (.iconst 5, 1) := dk_8 (dk_at dksX5_grown_0 20 rfl rfl)
theorem dX5_grown_21 : decode cX5_grown 21 = .ok (.if_icmp .gt 19, 3) := dk_163 0 19 (dk_at dksX5_grown_0 21 rfl rfl)
theorem dX5_grown_24 : decode cX5_grown 24 = .ok (.iload_n 3, 1) := dk_29 (dk_at dksX5_grown_1 0 rfl rfl)
theorem dX5_grown_25 : decode cX5_grown 25 = .ok (.iconst 1, 1) := dk_4 (dk_at dksX5_grown_1 1 rfl rfl)
theorem dX5_grown_26 : decode cX5_grown 26 = .ok (.if_icmp .lt 14, 3) := dk_161 0 14 (dk_at dksX5_grown_1 2 rfl rfl)
theorem dX5_grown_29 : decode cX5_grown 29 = .ok (.iload_n 3, 1) := dk_29 (dk_at dksX5_grown_1 5 rfl rfl)
theorem dX5_grown_30 : decode cX5_grown 30 = .ok (.bipush 20, 2) := dk_16 20 (dk_at dksX5_grown_1 6 rfl rfl)
theorem dX5_grown_32 : decode cX5_grown 32 = .ok (.if_icmp .gt 8, 3) := dk_163 0 8 (dk_at dksX5_grown_1 8 rfl rfl)
theorem dX5_grown_35 : decode cX5_grown 35 = .ok (.iload 4, 2) := dk_21 4 (dk_at dksX5_grown_1 11 rfl rfl)
theorem dX5_grown_37 : decode cX5_grown 37 = .ok (.ifCond .ge 5, 3) := dk_156 0 5 (dk_at dksX5_grown_1 13 rfl rfl)
theorem dX5_grown_40 : decode cX5_grown 40 = .ok (.iconst (-1), 1) := dk_2 (dk_at dksX5_grown_1 16 rfl rfl)
theorem dX5_grown_41 : decode cX5_grown 41 = .ok (.ireturn, 1) := dk_172 (dk_at dksX5_grown_1 17 rfl rfl)
theorem dX5_grown_42 : decode cX5_grown 42 = .ok (.iload 4, 2) := dk_21 4 (dk_at dksX5_grown_1 18 rfl rfl)
theorem dX5_grown_44 : decode cX5_grown 44 = .ok (.bipush 8, 2) := dk_16 8 (dk_at dksX5_grown_1 20 rfl rfl)
theorem dX5_grown_46 : decode cX5_grown 46 = .ok (.if_icmp .lt 6, 3) := dk_161 0 6 (dk_at dksX5_grown_2 0 rfl rfl)
theorem dX5_grown_49 : decode cX5_grown 49 = .ok (.bipush (-2), 2) := dk_16 254 (dk_at dksX5_grown_2 3 rfl rfl)
theorem dX5_grown_51 : decode cX5_grown 51 = .ok (.ireturn, 1) := dk_172 (dk_at dksX5_grown_2 5 rfl rfl)
theorem dX5_grown_52 : decode cX5_grown 52 = .ok (.aload_n 0, 1) := dk_42 (dk_at dksX5_grown_2 6 rfl rfl)
theorem dX5_grown_53 : decode cX5_grown 53 = .ok (.getfield 81, 3) := dk_180 0 81 (dk_at dksX5_grown_2 7 rfl rfl)
theorem dX5_grown_56 : decode cX5_grown 56 = .ok (.iconst 0, 1) := dk_3 (dk_at dksX5_grown_2 10 rfl rfl)
theorem dX5_grown_57 : decode cX5_grown 57 = .ok (.iconst 1, 1) := dk_4 (dk_at dksX5_grown_2 11 rfl rfl)
theorem dX5_grown_58 : decode cX5_grown 58 = .ok (.iastore, 1) := dk_79 (dk_at dksX5_grown_2 12 rfl rfl)
theorem dX5_grown_59 : decode cX5_grown 59 = .ok (.iconst 1, 1) := dk_4 (dk_at dksX5_grown_2 13 rfl rfl)
theorem dX5_grown_60 : decode cX5_grown 60 = .ok (.istore 5, 2) := dk_54 5 (dk_at dksX5_grown_2 14 rfl rfl)
theorem dX5_grown_62 : decode cX5_grown 62 = .ok (.iload 5, 2) := dk_21 5 (dk_at dksX5_grown_2 16 rfl rfl)
theorem dX5_grown_64 : decode cX5_grown 64 = .ok (.iload 4, 2) := dk_21 4 (dk_at dksX5_grown_2 18 rfl rfl)
theorem dX5_grown_66 : decode cX5_grown 66 = .ok (.if_icmp .gt 82, 3) := dk_163 0 82 (dk_at dksX5_grown_2 20 rfl rfl)
theorem dX5_grown_69 : decode cX5_grown 69 = .ok (.aload_n 0, 1) := dk_42 (dk_at dksX5_grown_2 23 rfl rfl)
theorem dX5_grown_70 : decode cX5_grown 70 = .ok (.getfield 81, 3) := dk_180 0 81 (dk_at dksX5_grown_3 0 rfl rfl)
theorem dX5_grown_73 : decode cX5_grown 73 = .ok (.iload 5, 2) := dk_21 5 (dk_at dksX5_grown_3 3 rfl rfl)
theorem dX5_grown_75 : decode cX5_grown 75 = .ok (.aload_n 0, 1) := dk_42 (dk_at dksX5_grown_3 5 rfl rfl)
theorem dX5_grown_76 : decode cX5_grown 76 = .ok (.getfield 81, 3) := dk_180 0 81 (dk_at dksX5_grown_3 6 rfl rfl)
theorem dX5_grown_79 : decode cX5_grown 79 = .ok (.iload 5, 2) := dk_21 5 (dk_at dksX5_grown_3 9 rfl rfl)
theorem dX5_grown_81 : decode cX5_grown 81 = .ok (.iconst 1, 1) := dk_4 (dk_at dksX5_grown_3 11 rfl rfl)
theorem dX5_grown_82 : decode cX5_grown 82 = .ok (.isub, 1) := dk_100 (dk_at dksX5_grown_3 12 rfl rfl)
theorem dX5_grown_83 : decode cX5_grown 83 = .ok (.iaload, 1) := dk_46 (dk_at dksX5_grown_3 13 rfl rfl)
theorem dX5_grown_84 : decode cX5_grown 84 = .ok (.iconst 1, 1) := dk_4 (dk_at dksX5_grown_3 14 rfl rfl)
theorem dX5_grown_85 : decode cX5_grown 85 = .ok (.iadd, 1) := dk_96 (dk_at dksX5_grown_3 15 rfl rfl)
theorem dX5_grown_86 : decode cX5_grown 86 = .ok (.iastore, 1) := dk_79 (dk_at dksX5_grown_3 16 rfl rfl)
theorem dX5_grown_87 : decode cX5_grown 87 = .ok (.aload_n 0, 1) := dk_42 (dk_at dksX5_grown_3 17 rfl rfl)
theorem dX5_grown_88 : decode cX5_grown 88 = .ok (.getfield 81, 3) := dk_180 0 81 (dk_at dksX5_grown_3 18 rfl rfl)
theorem dX5_grown_91 : decode cX5_grown 91 = .ok (.iload 5, 2) := dk_21 5 (dk_at dksX5_grown_3 21 rfl rfl)
theorem dX5_grown_93 : decode cX5_grown 93 = .ok (.iaload, 1) := dk_46 (dk_at dksX5_grown_3 23 rfl rfl)
theorem dX5_grown_94 : decode cX5_grown 94 = .ok (.bipush 60, 2) := dk_16 60 (dk_at dksX5_grown_4 0 rfl rfl)
theorem dX5_grown_96 : decode cX5_grown 96 = .ok (.if_icmp .gt 31, 3) := dk_163 0 31 (dk_at dksX5_grown_4 2 rfl rfl)
theorem dX5_grown_99 : decode cX5_grown 99 = .ok (.aload_n 0, 1) := dk_42 (dk_at dksX5_grown_4 5 rfl rfl)
theorem dX5_grown_100 : decode cX5_grown 100 = .ok (.iload 5, 2) := dk_21 5 (dk_at dksX5_grown_4 6 rfl rfl)
theorem dX5_grown_102 : decode cX5_grown 102 = .ok (.iconst 1, 1) := dk_4 (dk_at dksX5_grown_4 8 rfl rfl)
theorem dX5_grown_103 : decode cX5_grown 103 = .ok (.iadd, 1) := dk_96 (dk_at dksX5_grown_4 9 rfl rfl)
theorem dX5_grown_104 : decode cX5_grown 104 = .ok (.iload_n 1, 1) := dk_27 (dk_at dksX5_grown_4 10 rfl rfl)
theorem dX5_grown_105 : decode cX5_grown 105 = .ok (.iload_n 2, 1) := dk_28 (dk_at dksX5_grown_4 11 rfl rfl)
theorem dX5_grown_106 : decode cX5_grown 106 = .ok (.iload_n 3, 1) := dk_29 (dk_at dksX5_grown_4 12 rfl rfl)
theorem dX5_grown_107 : decode cX5_grown 107 = .ok (.invokevirtual 374, 3) := dk_182 1 118 (dk_at dksX5_grown_4 13 rfl rfl)
theorem dX5_grown_110 : decode cX5_grown 110 = .ok (.ifCond .ne 17, 3) := dk_154 0 17 (dk_at dksX5_grown_4 16 rfl rfl)
theorem dX5_grown_113 : decode cX5_grown 113 = .ok (.aload_n 0, 1) := dk_42 (dk_at dksX5_grown_4 19 rfl rfl)
theorem dX5_grown_114 : decode cX5_grown 114 = .ok (.getfield 81, 3) := dk_180 0 81 (dk_at dksX5_grown_4 20 rfl rfl)
theorem dX5_grown_117 : decode cX5_grown 117 = .ok (.iload 5, 2) := dk_21 5 (dk_at dksX5_grown_5 0 rfl rfl)
theorem dX5_grown_119 : decode cX5_grown 119 = .ok (.dup2, 1) := dk_92 (dk_at dksX5_grown_5 2 rfl rfl)
theorem dX5_grown_120 : decode cX5_grown 120 = .ok (.iaload, 1) := dk_46 (dk_at dksX5_grown_5 3 rfl rfl)
theorem dX5_grown_121 : decode cX5_grown 121 = .ok (.iconst 1, 1) := dk_4 (dk_at dksX5_grown_5 4 rfl rfl)
theorem dX5_grown_122 : decode cX5_grown 122 = .ok (.iadd, 1) := dk_96 (dk_at dksX5_grown_5 5 rfl rfl)
theorem dX5_grown_123 : decode cX5_grown 123 = .ok (.iastore, 1) := dk_79 (dk_at dksX5_grown_5 6 rfl rfl)
theorem dX5_grown_124 : decode cX5_grown 124 = .ok (.goto (-37), 3) := dk_167 255 219 (dk_at dksX5_grown_5 7 rfl rfl)
theorem dX5_grown_127 : decode cX5_grown 127 = .ok (.aload_n 0, 1) := dk_42 (dk_at dksX5_grown_5 10 rfl rfl)
theorem dX5_grown_128 : decode cX5_grown 128 = .ok (.getfield 81, 3) := dk_180 0 81 (dk_at dksX5_grown_5 11 rfl rfl)
theorem dX5_grown_131 : decode cX5_grown 131 = .ok (.iload 5, 2) := dk_21 5 (dk_at dksX5_grown_5 14 rfl rfl)
theorem dX5_grown_133 : decode cX5_grown 133 = .ok (.iaload, 1) := dk_46 (dk_at dksX5_grown_5 16 rfl rfl)
theorem dX5_grown_134 : decode cX5_grown 134 = .ok (.bipush 60, 2) := dk_16 60 (dk_at dksX5_grown_5 17 rfl rfl)
theorem dX5_grown_136 : decode cX5_grown 136 = .ok (.if_icmp .le 6, 3) := dk_164 0 6 (dk_at dksX5_grown_5 19 rfl rfl)
theorem dX5_grown_139 : decode cX5_grown 139 = .ok (.bipush (-2), 2) := dk_16 254 (dk_at dksX5_grown_5 22 rfl rfl)
theorem dX5_grown_141 : decode cX5_grown 141 = .ok (.ireturn, 1) := dk_172 (dk_at dksX5_grown_6 0 rfl rfl)
theorem dX5_grown_142 : decode cX5_grown 142 = .ok (.iinc 5 1, 3) := dk_132 5 1 (dk_at dksX5_grown_6 1 rfl rfl)
theorem dX5_grown_145 : decode cX5_grown 145 = .ok (.goto (-83), 3) := dk_167 255 173 (dk_at dksX5_grown_6 4 rfl rfl)
theorem dX5_grown_148 : decode cX5_grown 148 = .ok (.aload_n 0, 1) := dk_42 (dk_at dksX5_grown_6 7 rfl rfl)
theorem dX5_grown_149 : decode cX5_grown 149 = .ok (.getfield 81, 3) := dk_180 0 81 (dk_at dksX5_grown_6 8 rfl rfl)
theorem dX5_grown_152 : decode cX5_grown 152 = .ok (.iload 4, 2) := dk_21 4 (dk_at dksX5_grown_6 11 rfl rfl)
theorem dX5_grown_154 : decode cX5_grown 154 = .ok (.iaload, 1) := dk_46 (dk_at dksX5_grown_6 13 rfl rfl)
theorem dX5_grown_155 : decode cX5_grown 155 = .ok (.ireturn, 1) := dk_172 (dk_at dksX5_grown_6 14 rfl rfl)
abbrev cX5_isRowClean : ByteArray := prog_10_method_88_code
def yX5_isRowClean : MethodName := ⟨RX5, "isRowClean", "(IIII)Z"⟩
def dkwX5_isRowClean_10 : List UInt8 := [167, 255, 27, 4, 172]
abbrev dktX5_isRowClean_10 : List UInt8 := dkwX5_isRowClean_10 ++ []
def dkwX5_isRowClean_9 : List UInt8 := [172, 132, 9, 1, 167, 255, 192, 132, 7, 1, 167, 255, 92, 132, 6, 1, 167, 255, 42, 132, 5, 1]
abbrev dktX5_isRowClean_9 : List UInt8 := dkwX5_isRowClean_9 ++ dktX5_isRowClean_10
def dkwX5_isRowClean_8 : List UInt8 := [21, 5, 21, 6, 21, 9, 182, 1, 110, 27, 21, 5, 21, 6, 21, 9, 29, 182, 1, 114, 153, 0, 5, 3]
abbrev dktX5_isRowClean_8 : List UInt8 := dkwX5_isRowClean_8 ++ dktX5_isRowClean_9
def dkwX5_isRowClean_7 : List UInt8 := [21, 7, 8, 160, 0, 52, 21, 9, 21, 5, 159, 0, 39, 21, 9, 21, 6, 159, 0, 32, 42, 42, 21, 7]
abbrev dktX5_isRowClean_7 : List UInt8 := dkwX5_isRowClean_7 ++ dktX5_isRowClean_8
def dkwX5_isRowClean_6 : List UInt8 := [182, 1, 114, 153, 0, 5, 3, 172, 3, 54, 9, 21, 9, 27, 162, 0, 64, 21, 7, 6, 159, 0, 9]
abbrev dktX5_isRowClean_6 : List UInt8 := dkwX5_isRowClean_6 ++ dktX5_isRowClean_7
def dkwX5_isRowClean_5 : List UInt8 := [159, 0, 32, 42, 42, 21, 7, 21, 5, 21, 6, 16, 254, 182, 1, 110, 27, 21, 5, 21, 6, 16, 254, 29]
abbrev dktX5_isRowClean_5 : List UInt8 := dkwX5_isRowClean_5 ++ dktX5_isRowClean_6
def dkwX5_isRowClean_4 : List UInt8 := [153, 0, 13, 21, 5, 21, 6, 164, 0, 6, 167, 0, 114, 21, 7, 6, 159, 0, 38, 21, 7, 8]
abbrev dktX5_isRowClean_4 : List UInt8 := dkwX5_isRowClean_4 ++ dktX5_isRowClean_5
def dkwX5_isRowClean_3 : List UInt8 := [6, 160, 0, 7, 4, 167, 0, 4, 3, 54, 8, 28, 21, 7, 184, 1, 30, 126, 153, 0, 129, 21, 8]
abbrev dktX5_isRowClean_3 : List UInt8 := dkwX5_isRowClean_3 ++ dktX5_isRowClean_4
def dkwX5_isRowClean_2 : List UInt8 := [21, 4, 162, 0, 5, 3, 172, 3, 54, 7, 21, 7, 16, 6, 162, 0, 163, 21, 7, 153, 0, 9, 21, 7]
abbrev dktX5_isRowClean_2 : List UInt8 := dkwX5_isRowClean_2 ++ dktX5_isRowClean_3
def dkwX5_isRowClean_1 : List UInt8 := [160, 0, 6, 167, 0, 198, 42, 180, 0, 81, 21, 5, 46, 42, 180, 0, 81, 21, 6, 46, 100, 184, 1, 18]
abbrev dktX5_isRowClean_1 : List UInt8 := dkwX5_isRowClean_1 ++ dktX5_isRowClean_2
def dkwX5_isRowClean_0 : List UInt8 := [3, 54, 5, 21, 5, 27, 162, 0, 229, 3, 54, 6, 21, 6, 27, 162, 0, 214, 21, 5, 21, 6]
abbrev dktX5_isRowClean_0 : List UInt8 := dkwX5_isRowClean_0 ++ dktX5_isRowClean_1
theorem dksX5_isRowClean_0 : cX5_isRowClean.data.toList.drop 0 = dktX5_isRowClean_0 := by decide +kernel
theorem dksX5_isRowClean_1 : cX5_isRowClean.data.toList.drop 22 = dktX5_isRowClean_1 := dk_seg dksX5_isRowClean_0 22 rfl rfl
theorem dksX5_isRowClean_2 : cX5_isRowClean.data.toList.drop 46 = dktX5_isRowClean_2 := dk_seg dksX5_isRowClean_1 24 rfl rfl
theorem dksX5_isRowClean_3 : cX5_isRowClean.data.toList.drop 70 = dktX5_isRowClean_3 := dk_seg dksX5_isRowClean_2 24 rfl rfl
theorem dksX5_isRowClean_4 : cX5_isRowClean.data.toList.drop 93 = dktX5_isRowClean_4 := dk_seg dksX5_isRowClean_3 23 rfl rfl
theorem dksX5_isRowClean_5 : cX5_isRowClean.data.toList.drop 115 = dktX5_isRowClean_5 := dk_seg dksX5_isRowClean_4 22 rfl rfl
theorem dksX5_isRowClean_6 : cX5_isRowClean.data.toList.drop 139 = dktX5_isRowClean_6 := dk_seg dksX5_isRowClean_5 24 rfl rfl
theorem dksX5_isRowClean_7 : cX5_isRowClean.data.toList.drop 162 = dktX5_isRowClean_7 := dk_seg dksX5_isRowClean_6 23 rfl rfl
theorem dksX5_isRowClean_8 : cX5_isRowClean.data.toList.drop 186 = dktX5_isRowClean_8 := dk_seg dksX5_isRowClean_7 24 rfl rfl
theorem dksX5_isRowClean_9 : cX5_isRowClean.data.toList.drop 210 = dktX5_isRowClean_9 := dk_seg dksX5_isRowClean_8 24 rfl rfl
theorem dksX5_isRowClean_10 : cX5_isRowClean.data.toList.drop 232 = dktX5_isRowClean_10 := dk_seg dksX5_isRowClean_9 22 rfl rfl
theorem dX5_isRowClean_0 : decode cX5_isRowClean 0 = .ok (.iconst 0, 1) := dk_3 (dk_at dksX5_isRowClean_0 0 rfl rfl)
theorem dX5_isRowClean_1 : decode cX5_isRowClean 1 = .ok (.istore 5, 2) := dk_54 5 (dk_at dksX5_isRowClean_0 1 rfl rfl)
theorem dX5_isRowClean_3 : decode cX5_isRowClean 3 = .ok (.iload 5, 2) := dk_21 5 (dk_at dksX5_isRowClean_0 3 rfl rfl)
theorem dX5_isRowClean_5 : decode cX5_isRowClean 5 = .ok (.iload_n 1, 1) := dk_27 (dk_at dksX5_isRowClean_0 5 rfl rfl)
theorem dX5_isRowClean_6 : decode cX5_isRowClean 6 = .ok (.if_icmp .ge 229, 3) := dk_162 0 229 (dk_at dksX5_isRowClean_0 6 rfl rfl)
theorem dX5_isRowClean_9 : decode cX5_isRowClean 9 = .ok (.iconst 0, 1) := dk_3 (dk_at dksX5_isRowClean_0 9 rfl rfl)
theorem dX5_isRowClean_10 : decode cX5_isRowClean 10 = .ok (.istore 6, 2) := dk_54 6 (dk_at dksX5_isRowClean_0 10 rfl rfl)
theorem dX5_isRowClean_12 : decode cX5_isRowClean 12 = .ok (.iload 6, 2) := dk_21 6 (dk_at dksX5_isRowClean_0 12 rfl rfl)
theorem dX5_isRowClean_14 : decode cX5_isRowClean 14 = .ok (.iload_n 1, 1) := dk_27 (dk_at dksX5_isRowClean_0 14 rfl rfl)
theorem dX5_isRowClean_15 : decode cX5_isRowClean 15 = .ok (.if_icmp .ge 214, 3) := dk_162 0 214 (dk_at dksX5_isRowClean_0 15 rfl rfl)
theorem dX5_isRowClean_18 : decode cX5_isRowClean 18 = .ok (.iload 5, 2) := dk_21 5 (dk_at dksX5_isRowClean_0 18 rfl rfl)
theorem dX5_isRowClean_20 : decode cX5_isRowClean 20 = .ok (.iload 6, 2) := dk_21 6 (dk_at dksX5_isRowClean_0 20 rfl rfl)
theorem dX5_isRowClean_22 : decode cX5_isRowClean 22 = .ok (.if_icmp .ne 6, 3) := dk_160 0 6 (dk_at dksX5_isRowClean_1 0 rfl rfl)
theorem dX5_isRowClean_25 : decode cX5_isRowClean 25 = .ok (.goto 198, 3) := dk_167 0 198 (dk_at dksX5_isRowClean_1 3 rfl rfl)
theorem dX5_isRowClean_28 : decode cX5_isRowClean 28 = .ok (.aload_n 0, 1) := dk_42 (dk_at dksX5_isRowClean_1 6 rfl rfl)
theorem dX5_isRowClean_29 : decode cX5_isRowClean 29 = .ok (.getfield 81, 3) := dk_180 0 81 (dk_at dksX5_isRowClean_1 7 rfl rfl)
theorem dX5_isRowClean_32 : decode cX5_isRowClean 32 = .ok (.iload 5, 2) := dk_21 5 (dk_at dksX5_isRowClean_1 10 rfl rfl)
theorem dX5_isRowClean_34 : decode cX5_isRowClean 34 = .ok (.iaload, 1) := dk_46 (dk_at dksX5_isRowClean_1 12 rfl rfl)
theorem dX5_isRowClean_35 : decode cX5_isRowClean 35 = .ok (.aload_n 0, 1) := dk_42 (dk_at dksX5_isRowClean_1 13 rfl rfl)
theorem dX5_isRowClean_36 : decode cX5_isRowClean 36 = .ok (.getfield 81, 3) := dk_180 0 81 (dk_at dksX5_isRowClean_1 14 rfl rfl)
theorem dX5_isRowClean_39 : decode cX5_isRowClean 39 = .ok (.iload 6, 2) := dk_21 6 (dk_at dksX5_isRowClean_1 17 rfl rfl)
theorem dX5_isRowClean_41 : decode cX5_isRowClean 41 = .ok (.iaload, 1) := dk_46 (dk_at dksX5_isRowClean_1 19 rfl rfl)
theorem dX5_isRowClean_42 : decode cX5_isRowClean 42 = .ok (.isub, 1) := dk_100 (dk_at dksX5_isRowClean_1 20 rfl rfl)
theorem dX5_isRowClean_43 : decode cX5_isRowClean 43 = .ok (.invokestatic 274, 3) := dk_184 1 18 (dk_at dksX5_isRowClean_1 21 rfl rfl)
theorem dX5_isRowClean_46 : decode cX5_isRowClean 46 = .ok (.iload 4, 2) := dk_21 4 (dk_at dksX5_isRowClean_2 0 rfl rfl)
theorem dX5_isRowClean_48 : decode cX5_isRowClean 48 = .ok (.if_icmp .ge 5, 3) := dk_162 0 5 (dk_at dksX5_isRowClean_2 2 rfl rfl)
theorem dX5_isRowClean_51 : decode cX5_isRowClean 51 = .ok (.iconst 0, 1) := dk_3 (dk_at dksX5_isRowClean_2 5 rfl rfl)
theorem dX5_isRowClean_52 : decode cX5_isRowClean 52 = .ok (.ireturn, 1) := dk_172 (dk_at dksX5_isRowClean_2 6 rfl rfl)
theorem dX5_isRowClean_53 : decode cX5_isRowClean 53 = .ok (.iconst 0, 1) := dk_3 (dk_at dksX5_isRowClean_2 7 rfl rfl)
theorem dX5_isRowClean_54 : decode cX5_isRowClean 54 = .ok (.istore 7, 2) := dk_54 7 (dk_at dksX5_isRowClean_2 8 rfl rfl)
theorem dX5_isRowClean_56 : decode cX5_isRowClean 56 = .ok (.iload 7, 2) := dk_21 7 (dk_at dksX5_isRowClean_2 10 rfl rfl)
theorem dX5_isRowClean_58 : decode cX5_isRowClean 58 = .ok (.bipush 6, 2) := dk_16 6 (dk_at dksX5_isRowClean_2 12 rfl rfl)
theorem dX5_isRowClean_60 : decode cX5_isRowClean 60 = .ok (.if_icmp .ge 163, 3) := dk_162 0 163 (dk_at dksX5_isRowClean_2 14 rfl rfl)
theorem dX5_isRowClean_63 : decode cX5_isRowClean 63 = .ok (.iload 7, 2) := dk_21 7 (dk_at dksX5_isRowClean_2 17 rfl rfl)
theorem dX5_isRowClean_65 : decode cX5_isRowClean 65 = .ok (.ifCond .eq 9, 3) := dk_153 0 9 (dk_at dksX5_isRowClean_2 19 rfl rfl)
theorem dX5_isRowClean_68 : decode cX5_isRowClean 68 = .ok (.iload 7, 2) := dk_21 7 (dk_at dksX5_isRowClean_2 22 rfl rfl)
theorem dX5_isRowClean_70 : decode cX5_isRowClean 70 = .ok (.iconst 3, 1) := dk_6 (dk_at dksX5_isRowClean_3 0 rfl rfl)
theorem dX5_isRowClean_71 : decode cX5_isRowClean 71 = .ok (.if_icmp .ne 7, 3) := dk_160 0 7 (dk_at dksX5_isRowClean_3 1 rfl rfl)
theorem dX5_isRowClean_74 : decode cX5_isRowClean 74 = .ok (.iconst 1, 1) := dk_4 (dk_at dksX5_isRowClean_3 4 rfl rfl)
theorem dX5_isRowClean_75 : decode cX5_isRowClean 75 = .ok (.goto 4, 3) := dk_167 0 4 (dk_at dksX5_isRowClean_3 5 rfl rfl)
theorem dX5_isRowClean_78 : decode cX5_isRowClean 78 = .ok (.iconst 0, 1) := dk_3 (dk_at dksX5_isRowClean_3 8 rfl rfl)
theorem dX5_isRowClean_79 : decode cX5_isRowClean 79 = .ok (.istore 8, 2) := dk_54 8 (dk_at dksX5_isRowClean_3 9 rfl rfl)
theorem dX5_isRowClean_81 : decode cX5_isRowClean 81 = .ok (.iload_n 2, 1) := dk_28 (dk_at dksX5_isRowClean_3 11 rfl rfl)
theorem dX5_isRowClean_82 : decode cX5_isRowClean 82 = .ok (.iload 7, 2) := dk_21 7 (dk_at dksX5_isRowClean_3 12 rfl rfl)
theorem dX5_isRowClean_84 : decode cX5_isRowClean 84 = .ok (.invokestatic 286, 3) := dk_184 1 30 (dk_at dksX5_isRowClean_3 14 rfl rfl)
theorem dX5_isRowClean_87 : decode cX5_isRowClean 87 = .ok (.iand, 1) := dk_126 (dk_at dksX5_isRowClean_3 17 rfl rfl)
theorem dX5_isRowClean_88 : decode cX5_isRowClean 88 = .ok (.ifCond .eq 129, 3) := dk_153 0 129 (dk_at dksX5_isRowClean_3 18 rfl rfl)
theorem dX5_isRowClean_91 : decode cX5_isRowClean 91 = .ok (.iload 8, 2) := dk_21 8 (dk_at dksX5_isRowClean_3 21 rfl rfl)
theorem dX5_isRowClean_93 : decode cX5_isRowClean 93 = .ok (.ifCond .eq 13, 3) := dk_153 0 13 (dk_at dksX5_isRowClean_4 0 rfl rfl)
theorem dX5_isRowClean_96 : decode cX5_isRowClean 96 = .ok (.iload 5, 2) := dk_21 5 (dk_at dksX5_isRowClean_4 3 rfl rfl)
theorem dX5_isRowClean_98 : decode cX5_isRowClean 98 = .ok (.iload 6, 2) := dk_21 6 (dk_at dksX5_isRowClean_4 5 rfl rfl)
theorem dX5_isRowClean_100 : decode cX5_isRowClean 100 = .ok (.if_icmp .le 6, 3) := dk_164 0 6 (dk_at dksX5_isRowClean_4 7 rfl rfl)
theorem dX5_isRowClean_103 : decode cX5_isRowClean 103 = .ok (.goto 114, 3) := dk_167 0 114 (dk_at dksX5_isRowClean_4 10 rfl rfl)
theorem dX5_isRowClean_106 : decode cX5_isRowClean 106 = .ok (.iload 7, 2) := dk_21 7 (dk_at dksX5_isRowClean_4 13 rfl rfl)
theorem dX5_isRowClean_108 : decode cX5_isRowClean 108 = .ok (.iconst 3, 1) := dk_6 (dk_at dksX5_isRowClean_4 15 rfl rfl)
theorem dX5_isRowClean_109 : decode cX5_isRowClean 109 = .ok (.if_icmp .eq 38, 3) := dk_159 0 38 (dk_at dksX5_isRowClean_4 16 rfl rfl)
theorem dX5_isRowClean_112 : decode cX5_isRowClean 112 = .ok (.iload 7, 2) := dk_21 7 (dk_at dksX5_isRowClean_4 19 rfl rfl)
theorem dX5_isRowClean_114 : decode cX5_isRowClean 114 = .ok (.iconst 5, 1) := dk_8 (dk_at dksX5_isRowClean_4 21 rfl rfl)
theorem dX5_isRowClean_115 : decode cX5_isRowClean 115 = .ok (.if_icmp .eq 32, 3) := dk_159 0 32 (dk_at dksX5_isRowClean_5 0 rfl rfl)
theorem dX5_isRowClean_118 : decode cX5_isRowClean 118 = .ok (.aload_n 0, 1) := dk_42 (dk_at dksX5_isRowClean_5 3 rfl rfl)
theorem dX5_isRowClean_119 : decode cX5_isRowClean 119 = .ok (.aload_n 0, 1) := dk_42 (dk_at dksX5_isRowClean_5 4 rfl rfl)
theorem dX5_isRowClean_120 : decode cX5_isRowClean 120 = .ok (.iload 7, 2) := dk_21 7 (dk_at dksX5_isRowClean_5 5 rfl rfl)
theorem dX5_isRowClean_122 : decode cX5_isRowClean 122 = .ok (.iload 5, 2) := dk_21 5 (dk_at dksX5_isRowClean_5 7 rfl rfl)
theorem dX5_isRowClean_124 : decode cX5_isRowClean 124 = .ok (.iload 6, 2) := dk_21 6 (dk_at dksX5_isRowClean_5 9 rfl rfl)
theorem dX5_isRowClean_126 : decode cX5_isRowClean 126 = .ok (.bipush (-2), 2) := dk_16 254 (dk_at dksX5_isRowClean_5 11 rfl rfl)
theorem dX5_isRowClean_128 : decode cX5_isRowClean 128 = .ok (.invokevirtual 366, 3) := dk_182 1 110 (dk_at dksX5_isRowClean_5 13 rfl rfl)
theorem dX5_isRowClean_131 : decode cX5_isRowClean 131 = .ok (.iload_n 1, 1) := dk_27 (dk_at dksX5_isRowClean_5 16 rfl rfl)
theorem dX5_isRowClean_132 : decode cX5_isRowClean 132 = .ok (.iload 5, 2) := dk_21 5 (dk_at dksX5_isRowClean_5 17 rfl rfl)
theorem dX5_isRowClean_134 : decode cX5_isRowClean 134 = .ok (.iload 6, 2) := dk_21 6 (dk_at dksX5_isRowClean_5 19 rfl rfl)
theorem dX5_isRowClean_136 : decode cX5_isRowClean 136 = .ok (.bipush (-2), 2) := dk_16 254 (dk_at dksX5_isRowClean_5 21 rfl rfl)
theorem dX5_isRowClean_138 : decode cX5_isRowClean 138 = .ok (.iload_n 3, 1) := dk_29 (dk_at dksX5_isRowClean_5 23 rfl rfl)
theorem dX5_isRowClean_139 : decode cX5_isRowClean 139 = .ok (.invokevirtual 370, 3) := dk_182 1 114 (dk_at dksX5_isRowClean_6 0 rfl rfl)
theorem dX5_isRowClean_142 : decode cX5_isRowClean 142 = .ok (.ifCond .eq 5, 3) := dk_153 0 5 (dk_at dksX5_isRowClean_6 3 rfl rfl)
theorem dX5_isRowClean_145 : decode cX5_isRowClean 145 = .ok (.iconst 0, 1) := dk_3 (dk_at dksX5_isRowClean_6 6 rfl rfl)
theorem dX5_isRowClean_146 : decode cX5_isRowClean 146 = .ok (.ireturn, 1) := dk_172 (dk_at dksX5_isRowClean_6 7 rfl rfl)
theorem dX5_isRowClean_147 : decode cX5_isRowClean 147 = .ok (.iconst 0, 1) := dk_3 (dk_at dksX5_isRowClean_6 8 rfl rfl)
theorem dX5_isRowClean_148 : decode cX5_isRowClean 148 = .ok (.istore 9, 2) := dk_54 9 (dk_at dksX5_isRowClean_6 9 rfl rfl)
theorem dX5_isRowClean_150 : decode cX5_isRowClean 150 = .ok (.iload 9, 2) := dk_21 9 (dk_at dksX5_isRowClean_6 11 rfl rfl)
theorem dX5_isRowClean_152 : decode cX5_isRowClean 152 = .ok (.iload_n 1, 1) := dk_27 (dk_at dksX5_isRowClean_6 13 rfl rfl)
theorem dX5_isRowClean_153 : decode cX5_isRowClean 153 = .ok (.if_icmp .ge 64, 3) := dk_162 0 64 (dk_at dksX5_isRowClean_6 14 rfl rfl)
theorem dX5_isRowClean_156 : decode cX5_isRowClean 156 = .ok (.iload 7, 2) := dk_21 7 (dk_at dksX5_isRowClean_6 17 rfl rfl)
theorem dX5_isRowClean_158 : decode cX5_isRowClean 158 = .ok (.iconst 3, 1) := dk_6 (dk_at dksX5_isRowClean_6 19 rfl rfl)
theorem dX5_isRowClean_159 : decode cX5_isRowClean 159 = .ok (.if_icmp .eq 9, 3) := dk_159 0 9 (dk_at dksX5_isRowClean_6 20 rfl rfl)
theorem dX5_isRowClean_162 : decode cX5_isRowClean 162 = .ok (.iload 7, 2) := dk_21 7 (dk_at dksX5_isRowClean_7 0 rfl rfl)
theorem dX5_isRowClean_164 : decode cX5_isRowClean 164 = .ok (.iconst 5, 1) := dk_8 (dk_at dksX5_isRowClean_7 2 rfl rfl)
theorem dX5_isRowClean_165 : decode cX5_isRowClean 165 = .ok (.if_icmp .ne 52, 3) := dk_160 0 52 (dk_at dksX5_isRowClean_7 3 rfl rfl)
theorem dX5_isRowClean_168 : decode cX5_isRowClean 168 = .ok (.iload 9, 2) := dk_21 9 (dk_at dksX5_isRowClean_7 6 rfl rfl)
theorem dX5_isRowClean_170 : decode cX5_isRowClean 170 = .ok (.iload 5, 2) := dk_21 5 (dk_at dksX5_isRowClean_7 8 rfl rfl)
theorem dX5_isRowClean_172 : decode cX5_isRowClean 172 = .ok (.if_icmp .eq 39, 3) := dk_159 0 39 (dk_at dksX5_isRowClean_7 10 rfl rfl)
theorem dX5_isRowClean_175 : decode cX5_isRowClean 175 = .ok (.iload 9, 2) := dk_21 9 (dk_at dksX5_isRowClean_7 13 rfl rfl)
theorem dX5_isRowClean_177 : decode cX5_isRowClean 177 = .ok (.iload 6, 2) := dk_21 6 (dk_at dksX5_isRowClean_7 15 rfl rfl)
theorem dX5_isRowClean_179 : decode cX5_isRowClean 179 = .ok (.if_icmp .eq 32, 3) := dk_159 0 32 (dk_at dksX5_isRowClean_7 17 rfl rfl)
theorem dX5_isRowClean_182 : decode cX5_isRowClean 182 = .ok (.aload_n 0, 1) := dk_42 (dk_at dksX5_isRowClean_7 20 rfl rfl)
theorem dX5_isRowClean_183 : decode cX5_isRowClean 183 = .ok (.aload_n 0, 1) := dk_42 (dk_at dksX5_isRowClean_7 21 rfl rfl)
theorem dX5_isRowClean_184 : decode cX5_isRowClean 184 = .ok (.iload 7, 2) := dk_21 7 (dk_at dksX5_isRowClean_7 22 rfl rfl)
theorem dX5_isRowClean_186 : decode cX5_isRowClean 186 = .ok (.iload 5, 2) := dk_21 5 (dk_at dksX5_isRowClean_8 0 rfl rfl)
theorem dX5_isRowClean_188 : decode cX5_isRowClean 188 = .ok (.iload 6, 2) := dk_21 6 (dk_at dksX5_isRowClean_8 2 rfl rfl)
theorem dX5_isRowClean_190 : decode cX5_isRowClean 190 = .ok (.iload 9, 2) := dk_21 9 (dk_at dksX5_isRowClean_8 4 rfl rfl)
theorem dX5_isRowClean_192 : decode cX5_isRowClean 192 = .ok (.invokevirtual 366, 3) := dk_182 1 110 (dk_at dksX5_isRowClean_8 6 rfl rfl)
theorem dX5_isRowClean_195 : decode cX5_isRowClean 195 = .ok (.iload_n 1, 1) := dk_27 (dk_at dksX5_isRowClean_8 9 rfl rfl)
theorem dX5_isRowClean_196 : decode cX5_isRowClean 196 = .ok (.iload 5, 2) := dk_21 5 (dk_at dksX5_isRowClean_8 10 rfl rfl)
theorem dX5_isRowClean_198 : decode cX5_isRowClean 198 = .ok (.iload 6, 2) := dk_21 6 (dk_at dksX5_isRowClean_8 12 rfl rfl)
theorem dX5_isRowClean_200 : decode cX5_isRowClean 200 = .ok (.iload 9, 2) := dk_21 9 (dk_at dksX5_isRowClean_8 14 rfl rfl)
theorem dX5_isRowClean_202 : decode cX5_isRowClean 202 = .ok (.iload_n 3, 1) := dk_29 (dk_at dksX5_isRowClean_8 16 rfl rfl)
theorem dX5_isRowClean_203 : decode cX5_isRowClean 203 = .ok (.invokevirtual 370, 3) := dk_182 1 114 (dk_at dksX5_isRowClean_8 17 rfl rfl)
theorem dX5_isRowClean_206 : decode cX5_isRowClean 206 = .ok (.ifCond .eq 5, 3) := dk_153 0 5 (dk_at dksX5_isRowClean_8 20 rfl rfl)
theorem dX5_isRowClean_209 : decode cX5_isRowClean 209 = .ok (.iconst 0, 1) := dk_3 (dk_at dksX5_isRowClean_8 23 rfl rfl)
theorem dX5_isRowClean_210 : decode cX5_isRowClean 210 = .ok (.ireturn, 1) := dk_172 (dk_at dksX5_isRowClean_9 0 rfl rfl)
theorem dX5_isRowClean_211 : decode cX5_isRowClean 211 = .ok (.iinc 9 1, 3) := dk_132 9 1 (dk_at dksX5_isRowClean_9 1 rfl rfl)
theorem dX5_isRowClean_214 : decode cX5_isRowClean 214 = .ok (.goto (-64), 3) := dk_167 255 192 (dk_at dksX5_isRowClean_9 4 rfl rfl)
theorem dX5_isRowClean_217 : decode cX5_isRowClean 217 = .ok (.iinc 7 1, 3) := dk_132 7 1 (dk_at dksX5_isRowClean_9 7 rfl rfl)
theorem dX5_isRowClean_220 : decode cX5_isRowClean 220 = .ok (.goto (-164), 3) := dk_167 255 92 (dk_at dksX5_isRowClean_9 10 rfl rfl)
theorem dX5_isRowClean_223 : decode cX5_isRowClean 223 = .ok (.iinc 6 1, 3) := dk_132 6 1 (dk_at dksX5_isRowClean_9 13 rfl rfl)
theorem dX5_isRowClean_226 : decode cX5_isRowClean 226 = .ok (.goto (-214), 3) := dk_167 255 42 (dk_at dksX5_isRowClean_9 16 rfl rfl)
theorem dX5_isRowClean_229 : decode cX5_isRowClean 229 = .ok (.iinc 5 1, 3) := dk_132 5 1 (dk_at dksX5_isRowClean_9 19 rfl rfl)
theorem dX5_isRowClean_232 : decode cX5_isRowClean 232 = .ok (.goto (-229), 3) := dk_167 255 27 (dk_at dksX5_isRowClean_10 0 rfl rfl)
theorem dX5_isRowClean_235 : decode cX5_isRowClean 235 = .ok (.iconst 1, 1) := dk_4 (dk_at dksX5_isRowClean_10 3 rfl rfl)
theorem dX5_isRowClean_236 : decode cX5_isRowClean 236 = .ok (.ireturn, 1) := dk_172 (dk_at dksX5_isRowClean_10 4 rfl rfl)
abbrev cX5_sumOf : ByteArray := prog_10_method_86_code
def yX5_sumOf : MethodName := ⟨RX5, "sumOf", "(IIII)I"⟩
def dkwX5_sumOf_2 : List UInt8 := [172]
abbrev dktX5_sumOf_2 : List UInt8 := dkwX5_sumOf_2 ++ []
def dkwX5_sumOf_1 : List UInt8 := [21, 4, 16, 254, 160, 0, 7, 3, 167, 0, 15, 27, 184, 1, 21, 42, 180, 0, 81, 21, 4, 46, 104, 96]
abbrev dktX5_sumOf_1 : List UInt8 := dkwX5_sumOf_1 ++ dktX5_sumOf_2
def dkwX5_sumOf_0 : List UInt8 := [27, 184, 1, 12, 42, 180, 0, 81, 28, 46, 104, 27, 184, 1, 15, 42, 180, 0, 81, 29, 46, 104, 96]
abbrev dktX5_sumOf_0 : List UInt8 := dkwX5_sumOf_0 ++ dktX5_sumOf_1
theorem dksX5_sumOf_0 : cX5_sumOf.data.toList.drop 0 = dktX5_sumOf_0 := by decide +kernel
theorem dksX5_sumOf_1 : cX5_sumOf.data.toList.drop 23 = dktX5_sumOf_1 := dk_seg dksX5_sumOf_0 23 rfl rfl
theorem dksX5_sumOf_2 : cX5_sumOf.data.toList.drop 47 = dktX5_sumOf_2 := dk_seg dksX5_sumOf_1 24 rfl rfl
theorem dX5_sumOf_0 : decode cX5_sumOf 0 = .ok (.iload_n 1, 1) := dk_27 (dk_at dksX5_sumOf_0 0 rfl rfl)
theorem dX5_sumOf_1 : decode cX5_sumOf 1 = .ok (.invokestatic 268, 3) := dk_184 1 12 (dk_at dksX5_sumOf_0 1 rfl rfl)
theorem dX5_sumOf_4 : decode cX5_sumOf 4 = .ok (.aload_n 0, 1) := dk_42 (dk_at dksX5_sumOf_0 4 rfl rfl)
theorem dX5_sumOf_5 : decode cX5_sumOf 5 = .ok (.getfield 81, 3) := dk_180 0 81 (dk_at dksX5_sumOf_0 5 rfl rfl)
theorem dX5_sumOf_8 : decode cX5_sumOf 8 = .ok (.iload_n 2, 1) := dk_28 (dk_at dksX5_sumOf_0 8 rfl rfl)
theorem dX5_sumOf_9 : decode cX5_sumOf 9 = .ok (.iaload, 1) := dk_46 (dk_at dksX5_sumOf_0 9 rfl rfl)
theorem dX5_sumOf_10 : decode cX5_sumOf 10 = .ok (.imul, 1) := dk_104 (dk_at dksX5_sumOf_0 10 rfl rfl)
theorem dX5_sumOf_11 : decode cX5_sumOf 11 = .ok (.iload_n 1, 1) := dk_27 (dk_at dksX5_sumOf_0 11 rfl rfl)
theorem dX5_sumOf_12 : decode cX5_sumOf 12 = .ok (.invokestatic 271, 3) := dk_184 1 15 (dk_at dksX5_sumOf_0 12 rfl rfl)
theorem dX5_sumOf_15 : decode cX5_sumOf 15 = .ok (.aload_n 0, 1) := dk_42 (dk_at dksX5_sumOf_0 15 rfl rfl)
theorem dX5_sumOf_16 : decode cX5_sumOf 16 = .ok (.getfield 81, 3) := dk_180 0 81 (dk_at dksX5_sumOf_0 16 rfl rfl)
theorem dX5_sumOf_19 : decode cX5_sumOf 19 = .ok (.iload_n 3, 1) := dk_29 (dk_at dksX5_sumOf_0 19 rfl rfl)
theorem dX5_sumOf_20 : decode cX5_sumOf 20 = .ok (.iaload, 1) := dk_46 (dk_at dksX5_sumOf_0 20 rfl rfl)
theorem dX5_sumOf_21 : decode cX5_sumOf 21 = .ok (.imul, 1) := dk_104 (dk_at dksX5_sumOf_0 21 rfl rfl)
theorem dX5_sumOf_22 : decode cX5_sumOf 22 = .ok (.iadd, 1) := dk_96 (dk_at dksX5_sumOf_0 22 rfl rfl)
theorem dX5_sumOf_23 : decode cX5_sumOf 23 = .ok (.iload 4, 2) := dk_21 4 (dk_at dksX5_sumOf_1 0 rfl rfl)
theorem dX5_sumOf_25 : decode cX5_sumOf 25 = .ok (.bipush (-2), 2) := dk_16 254 (dk_at dksX5_sumOf_1 2 rfl rfl)
theorem dX5_sumOf_27 : decode cX5_sumOf 27 = .ok (.if_icmp .ne 7, 3) := dk_160 0 7 (dk_at dksX5_sumOf_1 4 rfl rfl)
theorem dX5_sumOf_30 : decode cX5_sumOf 30 = .ok (.iconst 0, 1) := dk_3 (dk_at dksX5_sumOf_1 7 rfl rfl)
theorem dX5_sumOf_31 : decode cX5_sumOf 31 = .ok (.goto 15, 3) := dk_167 0 15 (dk_at dksX5_sumOf_1 8 rfl rfl)
theorem dX5_sumOf_34 : decode cX5_sumOf 34 = .ok (.iload_n 1, 1) := dk_27 (dk_at dksX5_sumOf_1 11 rfl rfl)
theorem dX5_sumOf_35 : decode cX5_sumOf 35 = .ok (.invokestatic 277, 3) := dk_184 1 21 (dk_at dksX5_sumOf_1 12 rfl rfl)
theorem dX5_sumOf_38 : decode cX5_sumOf 38 = .ok (.aload_n 0, 1) := dk_42 (dk_at dksX5_sumOf_1 15 rfl rfl)
theorem dX5_sumOf_39 : decode cX5_sumOf 39 = .ok (.getfield 81, 3) := dk_180 0 81 (dk_at dksX5_sumOf_1 16 rfl rfl)
theorem dX5_sumOf_42 : decode cX5_sumOf 42 = .ok (.iload 4, 2) := dk_21 4 (dk_at dksX5_sumOf_1 19 rfl rfl)
theorem dX5_sumOf_44 : decode cX5_sumOf 44 = .ok (.iaload, 1) := dk_46 (dk_at dksX5_sumOf_1 21 rfl rfl)
theorem dX5_sumOf_45 : decode cX5_sumOf 45 = .ok (.imul, 1) := dk_104 (dk_at dksX5_sumOf_1 22 rfl rfl)
theorem dX5_sumOf_46 : decode cX5_sumOf 46 = .ok (.iadd, 1) := dk_96 (dk_at dksX5_sumOf_1 23 rfl rfl)
theorem dX5_sumOf_47 : decode cX5_sumOf 47 = .ok (.ireturn, 1) := dk_172 (dk_at dksX5_sumOf_2 0 rfl rfl)
abbrev cX5_hitsRow : ByteArray := prog_10_method_87_code
def yX5_hitsRow : MethodName := ⟨RX5, "hitsRow", "(IIIIII)Z"⟩
def dkwX5_hitsRow_2 : List UInt8 := [46, 27, 100, 184, 1, 18, 21, 6, 163, 0, 5, 4, 172, 132, 7, 1, 167, 255, 208, 3, 172]
abbrev dktX5_hitsRow_2 : List UInt8 := dkwX5_hitsRow_2 ++ []
def dkwX5_hitsRow_1 : List UInt8 := [29, 159, 0, 36, 21, 7, 21, 4, 159, 0, 29, 21, 7, 21, 5, 159, 0, 22, 42, 180, 0, 81, 21, 7]
abbrev dktX5_hitsRow_1 : List UInt8 := dkwX5_hitsRow_1 ++ dktX5_hitsRow_2
def dkwX5_hitsRow_0 : List UInt8 := [27, 4, 161, 0, 9, 27, 16, 60, 164, 0, 5, 3, 172, 3, 54, 7, 21, 7, 28, 162, 0, 48, 21, 7]
abbrev dktX5_hitsRow_0 : List UInt8 := dkwX5_hitsRow_0 ++ dktX5_hitsRow_1
theorem dksX5_hitsRow_0 : cX5_hitsRow.data.toList.drop 0 = dktX5_hitsRow_0 := by decide +kernel
theorem dksX5_hitsRow_1 : cX5_hitsRow.data.toList.drop 24 = dktX5_hitsRow_1 := dk_seg dksX5_hitsRow_0 24 rfl rfl
theorem dksX5_hitsRow_2 : cX5_hitsRow.data.toList.drop 48 = dktX5_hitsRow_2 := dk_seg dksX5_hitsRow_1 24 rfl rfl
theorem dX5_hitsRow_0 : decode cX5_hitsRow 0 = .ok (.iload_n 1, 1) := dk_27 (dk_at dksX5_hitsRow_0 0 rfl rfl)
theorem dX5_hitsRow_1 : decode cX5_hitsRow 1 = .ok (.iconst 1, 1) := dk_4 (dk_at dksX5_hitsRow_0 1 rfl rfl)
theorem dX5_hitsRow_2 : decode cX5_hitsRow 2 = .ok (.if_icmp .lt 9, 3) := dk_161 0 9 (dk_at dksX5_hitsRow_0 2 rfl rfl)
theorem dX5_hitsRow_5 : decode cX5_hitsRow 5 = .ok (.iload_n 1, 1) := dk_27 (dk_at dksX5_hitsRow_0 5 rfl rfl)
theorem dX5_hitsRow_6 : decode cX5_hitsRow 6 = .ok (.bipush 60, 2) := dk_16 60 (dk_at dksX5_hitsRow_0 6 rfl rfl)
theorem dX5_hitsRow_8 : decode cX5_hitsRow 8 = .ok (.if_icmp .le 5, 3) := dk_164 0 5 (dk_at dksX5_hitsRow_0 8 rfl rfl)
theorem dX5_hitsRow_11 : decode cX5_hitsRow 11 = .ok (.iconst 0, 1) := dk_3 (dk_at dksX5_hitsRow_0 11 rfl rfl)
theorem dX5_hitsRow_12 : decode cX5_hitsRow 12 = .ok (.ireturn, 1) := dk_172 (dk_at dksX5_hitsRow_0 12 rfl rfl)
theorem dX5_hitsRow_13 : decode cX5_hitsRow 13 = .ok (.iconst 0, 1) := dk_3 (dk_at dksX5_hitsRow_0 13 rfl rfl)
theorem dX5_hitsRow_14 : decode cX5_hitsRow 14 = .ok (.istore 7, 2) := dk_54 7 (dk_at dksX5_hitsRow_0 14 rfl rfl)
theorem dX5_hitsRow_16 : decode cX5_hitsRow 16 = .ok (.iload 7, 2) := dk_21 7 (dk_at dksX5_hitsRow_0 16 rfl rfl)
theorem dX5_hitsRow_18 : decode cX5_hitsRow 18 = .ok (.iload_n 2, 1) := dk_28 (dk_at dksX5_hitsRow_0 18 rfl rfl)
theorem dX5_hitsRow_19 : decode cX5_hitsRow 19 = .ok (.if_icmp .ge 48, 3) := dk_162 0 48 (dk_at dksX5_hitsRow_0 19 rfl rfl)
theorem dX5_hitsRow_22 : decode cX5_hitsRow 22 = .ok (.iload 7, 2) := dk_21 7 (dk_at dksX5_hitsRow_0 22 rfl rfl)
theorem dX5_hitsRow_24 : decode cX5_hitsRow 24 = .ok (.iload_n 3, 1) := dk_29 (dk_at dksX5_hitsRow_1 0 rfl rfl)
theorem dX5_hitsRow_25 : decode cX5_hitsRow 25 = .ok (.if_icmp .eq 36, 3) := dk_159 0 36 (dk_at dksX5_hitsRow_1 1 rfl rfl)
theorem dX5_hitsRow_28 : decode cX5_hitsRow 28 = .ok (.iload 7, 2) := dk_21 7 (dk_at dksX5_hitsRow_1 4 rfl rfl)
theorem dX5_hitsRow_30 : decode cX5_hitsRow 30 = .ok (.iload 4, 2) := dk_21 4 (dk_at dksX5_hitsRow_1 6 rfl rfl)
theorem dX5_hitsRow_32 : decode cX5_hitsRow 32 = .ok (.if_icmp .eq 29, 3) := dk_159 0 29 (dk_at dksX5_hitsRow_1 8 rfl rfl)
theorem dX5_hitsRow_35 : decode cX5_hitsRow 35 = .ok (.iload 7, 2) := dk_21 7 (dk_at dksX5_hitsRow_1 11 rfl rfl)
theorem dX5_hitsRow_37 : decode cX5_hitsRow 37 = .ok (.iload 5, 2) := dk_21 5 (dk_at dksX5_hitsRow_1 13 rfl rfl)
theorem dX5_hitsRow_39 : decode cX5_hitsRow 39 = .ok (.if_icmp .eq 22, 3) := dk_159 0 22 (dk_at dksX5_hitsRow_1 15 rfl rfl)
theorem dX5_hitsRow_42 : decode cX5_hitsRow 42 = .ok (.aload_n 0, 1) := dk_42 (dk_at dksX5_hitsRow_1 18 rfl rfl)
theorem dX5_hitsRow_43 : decode cX5_hitsRow 43 = .ok (.getfield 81, 3) := dk_180 0 81 (dk_at dksX5_hitsRow_1 19 rfl rfl)
theorem dX5_hitsRow_46 : decode cX5_hitsRow 46 = .ok (.iload 7, 2) := dk_21 7 (dk_at dksX5_hitsRow_1 22 rfl rfl)
theorem dX5_hitsRow_48 : decode cX5_hitsRow 48 = .ok (.iaload, 1) := dk_46 (dk_at dksX5_hitsRow_2 0 rfl rfl)
theorem dX5_hitsRow_49 : decode cX5_hitsRow 49 = .ok (.iload_n 1, 1) := dk_27 (dk_at dksX5_hitsRow_2 1 rfl rfl)
theorem dX5_hitsRow_50 : decode cX5_hitsRow 50 = .ok (.isub, 1) := dk_100 (dk_at dksX5_hitsRow_2 2 rfl rfl)
theorem dX5_hitsRow_51 : decode cX5_hitsRow 51 = .ok (.invokestatic 274, 3) := dk_184 1 18 (dk_at dksX5_hitsRow_2 3 rfl rfl)
theorem dX5_hitsRow_54 : decode cX5_hitsRow 54 = .ok (.iload 6, 2) := dk_21 6 (dk_at dksX5_hitsRow_2 6 rfl rfl)
theorem dX5_hitsRow_56 : decode cX5_hitsRow 56 = .ok (.if_icmp .gt 5, 3) := dk_163 0 5 (dk_at dksX5_hitsRow_2 8 rfl rfl)
theorem dX5_hitsRow_59 : decode cX5_hitsRow 59 = .ok (.iconst 1, 1) := dk_4 (dk_at dksX5_hitsRow_2 11 rfl rfl)
theorem dX5_hitsRow_60 : decode cX5_hitsRow 60 = .ok (.ireturn, 1) := dk_172 (dk_at dksX5_hitsRow_2 12 rfl rfl)
theorem dX5_hitsRow_61 : decode cX5_hitsRow 61 = .ok (.iinc 7 1, 3) := dk_132 7 1 (dk_at dksX5_hitsRow_2 13 rfl rfl)
theorem dX5_hitsRow_64 : decode cX5_hitsRow 64 = .ok (.goto (-48), 3) := dk_167 255 208 (dk_at dksX5_hitsRow_2 16 rfl rfl)
theorem dX5_hitsRow_67 : decode cX5_hitsRow 67 = .ok (.iconst 0, 1) := dk_3 (dk_at dksX5_hitsRow_2 19 rfl rfl)
theorem dX5_hitsRow_68 : decode cX5_hitsRow 68 = .ok (.ireturn, 1) := dk_172 (dk_at dksX5_hitsRow_2 20 rfl rfl)
abbrev cX5_user : ByteArray := prog_10_method_90_code
def yX5_user : MethodName := ⟨RX5, "user", "(II)I"⟩
def dkwX5_user_5 : List UInt8 := [96, 46, 172, 42, 5, 181, 0, 96, 3, 172]
abbrev dktX5_user_5 : List UInt8 := dkwX5_user_5 ++ []
def dkwX5_user_4 : List UInt8 := [158, 0, 15, 42, 27, 182, 1, 67, 153, 0, 7, 4, 167, 0, 4, 3, 172, 42, 180, 0, 51, 16, 73, 27]
abbrev dktX5_user_4 : List UInt8 := dkwX5_user_4 ++ dktX5_user_5
def dkwX5_user_3 : List UInt8 := [42, 180, 0, 32, 27, 46, 172, 42, 180, 0, 51, 3, 27, 96, 46, 172, 42, 180, 0, 51, 3, 27, 96, 46]
abbrev dktX5_user_3 : List UInt8 := dkwX5_user_3 ++ dktX5_user_4
def dkwX5_user_2 : List UInt8 := [42, 180, 0, 23, 27, 46, 172, 42, 180, 0, 51, 16, 6, 27, 96, 46, 172, 42, 180, 0, 29, 27, 46, 172]
abbrev dktX5_user_2 : List UInt8 := dkwX5_user_2 ++ dktX5_user_3
def dkwX5_user_1 : List UInt8 := [170, 0, 0, 0, 0, 0, 118, 0, 0, 0, 0, 0, 0, 0, 6, 0, 0, 0, 43, 0, 0, 0, 50, 0, 0, 0, 60, 0, 0, 0, 67, 0, 0, 0, 74, 0, 0, 0, 83, 0, 0, 0, 108]
abbrev dktX5_user_1 : List UInt8 := dkwX5_user_1 ++ dktX5_user_2
def dkwX5_user_0 : List UInt8 := [42, 3, 181, 0, 96, 42, 27, 182, 1, 3, 154, 0, 10, 42, 4, 181, 0, 96, 3, 172, 28]
abbrev dktX5_user_0 : List UInt8 := dkwX5_user_0 ++ dktX5_user_1
theorem dksX5_user_0 : cX5_user.data.toList.drop 0 = dktX5_user_0 := by decide +kernel
theorem dksX5_user_1 : cX5_user.data.toList.drop 21 = dktX5_user_1 := dk_seg dksX5_user_0 21 rfl rfl
theorem dksX5_user_2 : cX5_user.data.toList.drop 64 = dktX5_user_2 := dk_seg dksX5_user_1 43 rfl rfl
theorem dksX5_user_3 : cX5_user.data.toList.drop 88 = dktX5_user_3 := dk_seg dksX5_user_2 24 rfl rfl
theorem dksX5_user_4 : cX5_user.data.toList.drop 112 = dktX5_user_4 := dk_seg dksX5_user_3 24 rfl rfl
theorem dksX5_user_5 : cX5_user.data.toList.drop 136 = dktX5_user_5 := dk_seg dksX5_user_4 24 rfl rfl
theorem dX5_user_0 : decode cX5_user 0 = .ok (.aload_n 0, 1) := dk_42 (dk_at dksX5_user_0 0 rfl rfl)
theorem dX5_user_1 : decode cX5_user 1 = .ok (.iconst 0, 1) := dk_3 (dk_at dksX5_user_0 1 rfl rfl)
theorem dX5_user_2 : decode cX5_user 2 = .ok (.putfield 96, 3) := dk_181 0 96 (dk_at dksX5_user_0 2 rfl rfl)
theorem dX5_user_5 : decode cX5_user 5 = .ok (.aload_n 0, 1) := dk_42 (dk_at dksX5_user_0 5 rfl rfl)
theorem dX5_user_6 : decode cX5_user 6 = .ok (.iload_n 1, 1) := dk_27 (dk_at dksX5_user_0 6 rfl rfl)
theorem dX5_user_7 : decode cX5_user 7 = .ok (.invokevirtual 259, 3) := dk_182 1 3 (dk_at dksX5_user_0 7 rfl rfl)
theorem dX5_user_10 : decode cX5_user 10 = .ok (.ifCond .ne 10, 3) := dk_154 0 10 (dk_at dksX5_user_0 10 rfl rfl)
theorem dX5_user_13 : decode cX5_user 13 = .ok (.aload_n 0, 1) := dk_42 (dk_at dksX5_user_0 13 rfl rfl)
theorem dX5_user_14 : decode cX5_user 14 = .ok (.iconst 1, 1) := dk_4 (dk_at dksX5_user_0 14 rfl rfl)
theorem dX5_user_15 : decode cX5_user 15 = .ok (.putfield 96, 3) := dk_181 0 96 (dk_at dksX5_user_0 15 rfl rfl)
theorem dX5_user_18 : decode cX5_user 18 = .ok (.iconst 0, 1) := dk_3 (dk_at dksX5_user_0 18 rfl rfl)
theorem dX5_user_19 : decode cX5_user 19 = .ok (.ireturn, 1) := dk_172 (dk_at dksX5_user_0 19 rfl rfl)
theorem dX5_user_20 : decode cX5_user 20 = .ok (.iload_n 2, 1) := dk_28 (dk_at dksX5_user_0 20 rfl rfl)
theorem dX5_user_21 : decode cX5_user 21 = .ok (.tableswitch 118 0 6 #[43, 50, 60, 67, 74, 83, 108], 43) := by decide +kernel
theorem dX5_user_64 : decode cX5_user 64 = .ok (.aload_n 0, 1) := dk_42 (dk_at dksX5_user_2 0 rfl rfl)
theorem dX5_user_65 : decode cX5_user 65 = .ok (.getfield 23, 3) := dk_180 0 23 (dk_at dksX5_user_2 1 rfl rfl)
theorem dX5_user_68 : decode cX5_user 68 = .ok (.iload_n 1, 1) := dk_27 (dk_at dksX5_user_2 4 rfl rfl)
theorem dX5_user_69 : decode cX5_user 69 = .ok (.iaload, 1) := dk_46 (dk_at dksX5_user_2 5 rfl rfl)
theorem dX5_user_70 : decode cX5_user 70 = .ok (.ireturn, 1) := dk_172 (dk_at dksX5_user_2 6 rfl rfl)
theorem dX5_user_71 : decode cX5_user 71 = .ok (.aload_n 0, 1) := dk_42 (dk_at dksX5_user_2 7 rfl rfl)
theorem dX5_user_72 : decode cX5_user 72 = .ok (.getfield 51, 3) := dk_180 0 51 (dk_at dksX5_user_2 8 rfl rfl)
theorem dX5_user_75 : decode cX5_user 75 = .ok (.bipush 6, 2) := dk_16 6 (dk_at dksX5_user_2 11 rfl rfl)
theorem dX5_user_77 : decode cX5_user 77 = .ok (.iload_n 1, 1) := dk_27 (dk_at dksX5_user_2 13 rfl rfl)
theorem dX5_user_78 : decode cX5_user 78 = .ok (.iadd, 1) := dk_96 (dk_at dksX5_user_2 14 rfl rfl)
theorem dX5_user_79 : decode cX5_user 79 = .ok (.iaload, 1) := dk_46 (dk_at dksX5_user_2 15 rfl rfl)
theorem dX5_user_80 : decode cX5_user 80 = .ok (.ireturn, 1) := dk_172 (dk_at dksX5_user_2 16 rfl rfl)
theorem dX5_user_81 : decode cX5_user 81 = .ok (.aload_n 0, 1) := dk_42 (dk_at dksX5_user_2 17 rfl rfl)
theorem dX5_user_82 : decode cX5_user 82 = .ok (.getfield 29, 3) := dk_180 0 29 (dk_at dksX5_user_2 18 rfl rfl)
theorem dX5_user_85 : decode cX5_user 85 = .ok (.iload_n 1, 1) := dk_27 (dk_at dksX5_user_2 21 rfl rfl)
theorem dX5_user_86 : decode cX5_user 86 = .ok (.iaload, 1) := dk_46 (dk_at dksX5_user_2 22 rfl rfl)
theorem dX5_user_87 : decode cX5_user 87 = .ok (.ireturn, 1) := dk_172 (dk_at dksX5_user_2 23 rfl rfl)
theorem dX5_user_88 : decode cX5_user 88 = .ok (.aload_n 0, 1) := dk_42 (dk_at dksX5_user_3 0 rfl rfl)
theorem dX5_user_89 : decode cX5_user 89 = .ok (.getfield 32, 3) := dk_180 0 32 (dk_at dksX5_user_3 1 rfl rfl)
theorem dX5_user_92 : decode cX5_user 92 = .ok (.iload_n 1, 1) := dk_27 (dk_at dksX5_user_3 4 rfl rfl)
theorem dX5_user_93 : decode cX5_user 93 = .ok (.iaload, 1) := dk_46 (dk_at dksX5_user_3 5 rfl rfl)
theorem dX5_user_94 : decode cX5_user 94 = .ok (.ireturn, 1) := dk_172 (dk_at dksX5_user_3 6 rfl rfl)
theorem dX5_user_95 : decode cX5_user 95 = .ok (.aload_n 0, 1) := dk_42 (dk_at dksX5_user_3 7 rfl rfl)
theorem dX5_user_96 : decode cX5_user 96 = .ok (.getfield 51, 3) := dk_180 0 51 (dk_at dksX5_user_3 8 rfl rfl)
theorem dX5_user_99 : decode cX5_user 99 = .ok (.iconst 0, 1) := dk_3 (dk_at dksX5_user_3 11 rfl rfl)
theorem dX5_user_100 : decode cX5_user 100 = .ok (.iload_n 1, 1) := dk_27 (dk_at dksX5_user_3 12 rfl rfl)
theorem dX5_user_101 : decode cX5_user 101 = .ok (.iadd, 1) := dk_96 (dk_at dksX5_user_3 13 rfl rfl)
theorem dX5_user_102 : decode cX5_user 102 = .ok (.iaload, 1) := dk_46 (dk_at dksX5_user_3 14 rfl rfl)
theorem dX5_user_103 : decode cX5_user 103 = .ok (.ireturn, 1) := dk_172 (dk_at dksX5_user_3 15 rfl rfl)
theorem dX5_user_104 : decode cX5_user 104 = .ok (.aload_n 0, 1) := dk_42 (dk_at dksX5_user_3 16 rfl rfl)
theorem dX5_user_105 : decode cX5_user 105 = .ok (.getfield 51, 3) := dk_180 0 51 (dk_at dksX5_user_3 17 rfl rfl)
theorem dX5_user_108 : decode cX5_user 108 = .ok (.iconst 0, 1) := dk_3 (dk_at dksX5_user_3 20 rfl rfl)
theorem dX5_user_109 : decode cX5_user 109 = .ok (.iload_n 1, 1) := dk_27 (dk_at dksX5_user_3 21 rfl rfl)
theorem dX5_user_110 : decode cX5_user 110 = .ok (.iadd, 1) := dk_96 (dk_at dksX5_user_3 22 rfl rfl)
theorem dX5_user_111 : decode cX5_user 111 = .ok (.iaload, 1) := dk_46 (dk_at dksX5_user_3 23 rfl rfl)
theorem dX5_user_112 : decode cX5_user 112 = .ok (.ifCond .le 15, 3) := dk_158 0 15 (dk_at dksX5_user_4 0 rfl rfl)
theorem dX5_user_115 : decode cX5_user 115 = .ok (.aload_n 0, 1) := dk_42 (dk_at dksX5_user_4 3 rfl rfl)
theorem dX5_user_116 : decode cX5_user 116 = .ok (.iload_n 1, 1) := dk_27 (dk_at dksX5_user_4 4 rfl rfl)
theorem dX5_user_117 : decode cX5_user 117 = .ok (.invokevirtual 323, 3) := dk_182 1 67 (dk_at dksX5_user_4 5 rfl rfl)
theorem dX5_user_120 : decode cX5_user 120 = .ok (.ifCond .eq 7, 3) := dk_153 0 7 (dk_at dksX5_user_4 8 rfl rfl)
theorem dX5_user_123 : decode cX5_user 123 = .ok (.iconst 1, 1) := dk_4 (dk_at dksX5_user_4 11 rfl rfl)
theorem dX5_user_124 : decode cX5_user 124 = .ok (.goto 4, 3) := dk_167 0 4 (dk_at dksX5_user_4 12 rfl rfl)
theorem dX5_user_127 : decode cX5_user 127 = .ok (.iconst 0, 1) := dk_3 (dk_at dksX5_user_4 15 rfl rfl)
theorem dX5_user_128 : decode cX5_user 128 = .ok (.ireturn, 1) := dk_172 (dk_at dksX5_user_4 16 rfl rfl)
theorem dX5_user_129 : decode cX5_user 129 = .ok (.aload_n 0, 1) := dk_42 (dk_at dksX5_user_4 17 rfl rfl)
theorem dX5_user_130 : decode cX5_user 130 = .ok (.getfield 51, 3) := dk_180 0 51 (dk_at dksX5_user_4 18 rfl rfl)
theorem dX5_user_133 : decode cX5_user 133 = .ok (.bipush 73, 2) := dk_16 73 (dk_at dksX5_user_4 21 rfl rfl)
theorem dX5_user_135 : decode cX5_user 135 = .ok (.iload_n 1, 1) := dk_27 (dk_at dksX5_user_4 23 rfl rfl)
theorem dX5_user_136 : decode cX5_user 136 = .ok (.iadd, 1) := dk_96 (dk_at dksX5_user_5 0 rfl rfl)
theorem dX5_user_137 : decode cX5_user 137 = .ok (.iaload, 1) := dk_46 (dk_at dksX5_user_5 1 rfl rfl)
theorem dX5_user_138 : decode cX5_user 138 = .ok (.ireturn, 1) := dk_172 (dk_at dksX5_user_5 2 rfl rfl)
theorem dX5_user_139 : decode cX5_user 139 = .ok (.aload_n 0, 1) := dk_42 (dk_at dksX5_user_5 3 rfl rfl)
theorem dX5_user_140 : decode cX5_user 140 = .ok (.iconst 2, 1) := dk_5 (dk_at dksX5_user_5 4 rfl rfl)
theorem dX5_user_141 : decode cX5_user 141 = .ok (.putfield 96, 3) := dk_181 0 96 (dk_at dksX5_user_5 5 rfl rfl)
theorem dX5_user_144 : decode cX5_user 144 = .ok (.iconst 0, 1) := dk_3 (dk_at dksX5_user_5 8 rfl rfl)
theorem dX5_user_145 : decode cX5_user 145 = .ok (.ireturn, 1) := dk_172 (dk_at dksX5_user_5 9 rfl rfl)
abbrev cX5_blocked : ByteArray := prog_10_method_91_code
def yX5_blocked : MethodName := ⟨RX5, "blocked", "(I)I"⟩
def dkwX5_blocked_1 : List UInt8 := [167, 0, 4, 2, 172]
abbrev dktX5_blocked_1 : List UInt8 := dkwX5_blocked_1 ++ []
def dkwX5_blocked_0 : List UInt8 := [42, 3, 181, 0, 96, 42, 27, 182, 1, 6, 153, 0, 15, 42, 180, 0, 51, 16, 12, 27, 96, 46]
abbrev dktX5_blocked_0 : List UInt8 := dkwX5_blocked_0 ++ dktX5_blocked_1
theorem dksX5_blocked_0 : cX5_blocked.data.toList.drop 0 = dktX5_blocked_0 := by decide +kernel
theorem dksX5_blocked_1 : cX5_blocked.data.toList.drop 22 = dktX5_blocked_1 := dk_seg dksX5_blocked_0 22 rfl rfl
theorem dX5_blocked_0 : decode cX5_blocked 0 = .ok (.aload_n 0, 1) := dk_42 (dk_at dksX5_blocked_0 0 rfl rfl)
theorem dX5_blocked_1 : decode cX5_blocked 1 = .ok (.iconst 0, 1) := dk_3 (dk_at dksX5_blocked_0 1 rfl rfl)
theorem dX5_blocked_2 : decode cX5_blocked 2 = .ok (.putfield 96, 3) := dk_181 0 96 (dk_at dksX5_blocked_0 2 rfl rfl)
theorem dX5_blocked_5 : decode cX5_blocked 5 = .ok (.aload_n 0, 1) := dk_42 (dk_at dksX5_blocked_0 5 rfl rfl)
theorem dX5_blocked_6 : decode cX5_blocked 6 = .ok (.iload_n 1, 1) := dk_27 (dk_at dksX5_blocked_0 6 rfl rfl)
theorem dX5_blocked_7 : decode cX5_blocked 7 = .ok (.invokevirtual 262, 3) := dk_182 1 6 (dk_at dksX5_blocked_0 7 rfl rfl)
theorem dX5_blocked_10 : decode cX5_blocked 10 = .ok (.ifCond .eq 15, 3) := dk_153 0 15 (dk_at dksX5_blocked_0 10 rfl rfl)
theorem dX5_blocked_13 : decode cX5_blocked 13 = .ok (.aload_n 0, 1) := dk_42 (dk_at dksX5_blocked_0 13 rfl rfl)
theorem dX5_blocked_14 : decode cX5_blocked 14 = .ok (.getfield 51, 3) := dk_180 0 51 (dk_at dksX5_blocked_0 14 rfl rfl)
theorem dX5_blocked_17 : decode cX5_blocked 17 = .ok (.bipush 12, 2) := dk_16 12 (dk_at dksX5_blocked_0 17 rfl rfl)
theorem dX5_blocked_19 : decode cX5_blocked 19 = .ok (.iload_n 1, 1) := dk_27 (dk_at dksX5_blocked_0 19 rfl rfl)
theorem dX5_blocked_20 : decode cX5_blocked 20 = .ok (.iadd, 1) := dk_96 (dk_at dksX5_blocked_0 20 rfl rfl)
theorem dX5_blocked_21 : decode cX5_blocked 21 = .ok (.iaload, 1) := dk_46 (dk_at dksX5_blocked_0 21 rfl rfl)
theorem dX5_blocked_22 : decode cX5_blocked 22 = .ok (.goto 4, 3) := dk_167 0 4 (dk_at dksX5_blocked_1 0 rfl rfl)
theorem dX5_blocked_25 : decode cX5_blocked 25 = .ok (.iconst (-1), 1) := dk_2 (dk_at dksX5_blocked_1 3 rfl rfl)
theorem dX5_blocked_26 : decode cX5_blocked 26 = .ok (.ireturn, 1) := dk_172 (dk_at dksX5_blocked_1 4 rfl rfl)
abbrev cX5_products : ByteArray := prog_10_method_92_code
def yX5_products : MethodName := ⟨RX5, "products", "(I)I"⟩
def dkwX5_products_2 : List UInt8 := [42, 180, 1, 24, 172, 42, 182, 1, 122, 172, 42, 182, 1, 125, 172, 42, 182, 1, 128, 172, 2, 172]
abbrev dktX5_products_2 : List UInt8 := dkwX5_products_2 ++ []
def dkwX5_products_1 : List UInt8 := [170, 0, 0, 0, 0, 50, 0, 0, 0, 0, 0, 0, 0, 3, 0, 0, 0, 30, 0, 0, 0, 35, 0, 0, 0, 40, 0, 0, 0, 45]
abbrev dktX5_products_1 : List UInt8 := dkwX5_products_1 ++ dktX5_products_2
def dkwX5_products_0 : List UInt8 := [42, 3, 181, 0, 96, 42, 182, 1, 70, 27]
abbrev dktX5_products_0 : List UInt8 := dkwX5_products_0 ++ dktX5_products_1
theorem dksX5_products_0 : cX5_products.data.toList.drop 0 = dktX5_products_0 := by decide +kernel
theorem dksX5_products_1 : cX5_products.data.toList.drop 10 = dktX5_products_1 := dk_seg dksX5_products_0 10 rfl rfl
theorem dksX5_products_2 : cX5_products.data.toList.drop 40 = dktX5_products_2 := dk_seg dksX5_products_1 30 rfl rfl
theorem dX5_products_0 : decode cX5_products 0 = .ok (.aload_n 0, 1) := dk_42 (dk_at dksX5_products_0 0 rfl rfl)
theorem dX5_products_1 : decode cX5_products 1 = .ok (.iconst 0, 1) := dk_3 (dk_at dksX5_products_0 1 rfl rfl)
theorem dX5_products_2 : decode cX5_products 2 = .ok (.putfield 96, 3) := dk_181 0 96 (dk_at dksX5_products_0 2 rfl rfl)
theorem dX5_products_5 : decode cX5_products 5 = .ok (.aload_n 0, 1) := dk_42 (dk_at dksX5_products_0 5 rfl rfl)
theorem dX5_products_6 : decode cX5_products 6 = .ok (.invokevirtual 326, 3) := dk_182 1 70 (dk_at dksX5_products_0 6 rfl rfl)
theorem dX5_products_9 : decode cX5_products 9 = .ok (.iload_n 1, 1) := dk_27 (dk_at dksX5_products_0 9 rfl rfl)
theorem dX5_products_10 : decode cX5_products 10 = .ok (.tableswitch 50 0 3 #[30, 35, 40, 45], 30) := by decide +kernel
theorem dX5_products_40 : decode cX5_products 40 = .ok (.aload_n 0, 1) := dk_42 (dk_at dksX5_products_2 0 rfl rfl)
theorem dX5_products_41 : decode cX5_products 41 = .ok (.getfield 280, 3) := dk_180 1 24 (dk_at dksX5_products_2 1 rfl rfl)
theorem dX5_products_44 : decode cX5_products 44 = .ok (.ireturn, 1) := dk_172 (dk_at dksX5_products_2 4 rfl rfl)
theorem dX5_products_45 : decode cX5_products 45 = .ok (.aload_n 0, 1) := dk_42 (dk_at dksX5_products_2 5 rfl rfl)
theorem dX5_products_46 : decode cX5_products 46 = .ok (.invokevirtual 378, 3) := dk_182 1 122 (dk_at dksX5_products_2 6 rfl rfl)
theorem dX5_products_49 : decode cX5_products 49 = .ok (.ireturn, 1) := dk_172 (dk_at dksX5_products_2 9 rfl rfl)
theorem dX5_products_50 : decode cX5_products 50 = .ok (.aload_n 0, 1) := dk_42 (dk_at dksX5_products_2 10 rfl rfl)
theorem dX5_products_51 : decode cX5_products 51 = .ok (.invokevirtual 381, 3) := dk_182 1 125 (dk_at dksX5_products_2 11 rfl rfl)
theorem dX5_products_54 : decode cX5_products 54 = .ok (.ireturn, 1) := dk_172 (dk_at dksX5_products_2 14 rfl rfl)
theorem dX5_products_55 : decode cX5_products 55 = .ok (.aload_n 0, 1) := dk_42 (dk_at dksX5_products_2 15 rfl rfl)
theorem dX5_products_56 : decode cX5_products 56 = .ok (.invokevirtual 384, 3) := dk_182 1 128 (dk_at dksX5_products_2 16 rfl rfl)
theorem dX5_products_59 : decode cX5_products 59 = .ok (.ireturn, 1) := dk_172 (dk_at dksX5_products_2 19 rfl rfl)
theorem dX5_products_60 : decode cX5_products 60 = .ok (.iconst (-1), 1) := dk_2 (dk_at dksX5_products_2 20 rfl rfl)
theorem dX5_products_61 : decode cX5_products 61 = .ok (.ireturn, 1) := dk_172 (dk_at dksX5_products_2 21 rfl rfl)
abbrev cX5_heard : ByteArray := prog_10_method_93_code
def yX5_heard : MethodName := ⟨RX5, "heard", "()I"⟩
def dkwX5_heard_1 : List UInt8 := [167, 0, 4, 3, 96, 60, 132, 2, 1, 167, 255, 228, 27, 172]
abbrev dktX5_heard_1 : List UInt8 := dkwX5_heard_1 ++ []
def dkwX5_heard_0 : List UInt8 := [3, 60, 3, 61, 28, 42, 180, 1, 24, 162, 0, 26, 27, 42, 180, 0, 75, 28, 46, 155, 0, 7, 4]
abbrev dktX5_heard_0 : List UInt8 := dkwX5_heard_0 ++ dktX5_heard_1
theorem dksX5_heard_0 : cX5_heard.data.toList.drop 0 = dktX5_heard_0 := by decide +kernel
theorem dksX5_heard_1 : cX5_heard.data.toList.drop 23 = dktX5_heard_1 := dk_seg dksX5_heard_0 23 rfl rfl
theorem dX5_heard_0 : decode cX5_heard 0 = .ok (.iconst 0, 1) := dk_3 (dk_at dksX5_heard_0 0 rfl rfl)
theorem dX5_heard_1 : decode cX5_heard 1 = .ok (.istore_n 1, 1) := dk_60 (dk_at dksX5_heard_0 1 rfl rfl)
theorem dX5_heard_2 : decode cX5_heard 2 = .ok (.iconst 0, 1) := dk_3 (dk_at dksX5_heard_0 2 rfl rfl)
theorem dX5_heard_3 : decode cX5_heard 3 = .ok (.istore_n 2, 1) := dk_61 (dk_at dksX5_heard_0 3 rfl rfl)
theorem dX5_heard_4 : decode cX5_heard 4 = .ok (.iload_n 2, 1) := dk_28 (dk_at dksX5_heard_0 4 rfl rfl)
theorem dX5_heard_5 : decode cX5_heard 5 = .ok (.aload_n 0, 1) := dk_42 (dk_at dksX5_heard_0 5 rfl rfl)
theorem dX5_heard_6 : decode cX5_heard 6 = .ok (.getfield 280, 3) := dk_180 1 24 (dk_at dksX5_heard_0 6 rfl rfl)
theorem dX5_heard_9 : decode cX5_heard 9 = .ok (.if_icmp .ge 26, 3) := dk_162 0 26 (dk_at dksX5_heard_0 9 rfl rfl)
theorem dX5_heard_12 : decode cX5_heard 12 = .ok (.iload_n 1, 1) := dk_27 (dk_at dksX5_heard_0 12 rfl rfl)
theorem dX5_heard_13 : decode cX5_heard 13 = .ok (.aload_n 0, 1) := dk_42 (dk_at dksX5_heard_0 13 rfl rfl)
theorem dX5_heard_14 : decode cX5_heard 14 = .ok (.getfield 75, 3) := dk_180 0 75 (dk_at dksX5_heard_0 14 rfl rfl)
theorem dX5_heard_17 : decode cX5_heard 17 = .ok (.iload_n 2, 1) := dk_28 (dk_at dksX5_heard_0 17 rfl rfl)
theorem dX5_heard_18 : decode cX5_heard 18 = .ok (.iaload, 1) := dk_46 (dk_at dksX5_heard_0 18 rfl rfl)
theorem dX5_heard_19 : decode cX5_heard 19 = .ok (.ifCond .lt 7, 3) := dk_155 0 7 (dk_at dksX5_heard_0 19 rfl rfl)
theorem dX5_heard_22 : decode cX5_heard 22 = .ok (.iconst 1, 1) := dk_4 (dk_at dksX5_heard_0 22 rfl rfl)
theorem dX5_heard_23 : decode cX5_heard 23 = .ok (.goto 4, 3) := dk_167 0 4 (dk_at dksX5_heard_1 0 rfl rfl)
theorem dX5_heard_26 : decode cX5_heard 26 = .ok (.iconst 0, 1) := dk_3 (dk_at dksX5_heard_1 3 rfl rfl)
theorem dX5_heard_27 : decode cX5_heard 27 = .ok (.iadd, 1) := dk_96 (dk_at dksX5_heard_1 4 rfl rfl)
theorem dX5_heard_28 : decode cX5_heard 28 = .ok (.istore_n 1, 1) := dk_60 (dk_at dksX5_heard_1 5 rfl rfl)
theorem dX5_heard_29 : decode cX5_heard 29 = .ok (.iinc 2 1, 3) := dk_132 2 1 (dk_at dksX5_heard_1 6 rfl rfl)
theorem dX5_heard_32 : decode cX5_heard 32 = .ok (.goto (-28), 3) := dk_167 255 228 (dk_at dksX5_heard_1 9 rfl rfl)
theorem dX5_heard_35 : decode cX5_heard 35 = .ok (.iload_n 1, 1) := dk_27 (dk_at dksX5_heard_1 12 rfl rfl)
theorem dX5_heard_36 : decode cX5_heard 36 = .ok (.ireturn, 1) := dk_172 (dk_at dksX5_heard_1 13 rfl rfl)
abbrev cX5_allHits : ByteArray := prog_10_method_66_code
def yX5_allHits : MethodName := ⟨RX5, "allHits", "()I"⟩
def dkwX5_allHits_1 : List UInt8 := [132, 2, 1, 167, 255, 234, 27, 172]
abbrev dktX5_allHits_1 : List UInt8 := dkwX5_allHits_1 ++ []
def dkwX5_allHits_0 : List UInt8 := [3, 60, 3, 61, 28, 42, 180, 1, 24, 162, 0, 20, 27, 42, 28, 182, 1, 52, 184, 1, 55, 96, 60]
abbrev dktX5_allHits_0 : List UInt8 := dkwX5_allHits_0 ++ dktX5_allHits_1
theorem dksX5_allHits_0 : cX5_allHits.data.toList.drop 0 = dktX5_allHits_0 := by decide +kernel
theorem dksX5_allHits_1 : cX5_allHits.data.toList.drop 23 = dktX5_allHits_1 := dk_seg dksX5_allHits_0 23 rfl rfl
theorem dX5_allHits_0 : decode cX5_allHits 0 = .ok (.iconst 0, 1) := dk_3 (dk_at dksX5_allHits_0 0 rfl rfl)
theorem dX5_allHits_1 : decode cX5_allHits 1 = .ok (.istore_n 1, 1) := dk_60 (dk_at dksX5_allHits_0 1 rfl rfl)
theorem dX5_allHits_2 : decode cX5_allHits 2 = .ok (.iconst 0, 1) := dk_3 (dk_at dksX5_allHits_0 2 rfl rfl)
theorem dX5_allHits_3 : decode cX5_allHits 3 = .ok (.istore_n 2, 1) := dk_61 (dk_at dksX5_allHits_0 3 rfl rfl)
theorem dX5_allHits_4 : decode cX5_allHits 4 = .ok (.iload_n 2, 1) := dk_28 (dk_at dksX5_allHits_0 4 rfl rfl)
theorem dX5_allHits_5 : decode cX5_allHits 5 = .ok (.aload_n 0, 1) := dk_42 (dk_at dksX5_allHits_0 5 rfl rfl)
theorem dX5_allHits_6 : decode cX5_allHits 6 = .ok (.getfield 280, 3) := dk_180 1 24 (dk_at dksX5_allHits_0 6 rfl rfl)
theorem dX5_allHits_9 : decode cX5_allHits 9 = .ok (.if_icmp .ge 20, 3) := dk_162 0 20 (dk_at dksX5_allHits_0 9 rfl rfl)
theorem dX5_allHits_12 : decode cX5_allHits 12 = .ok (.iload_n 1, 1) := dk_27 (dk_at dksX5_allHits_0 12 rfl rfl)
theorem dX5_allHits_13 : decode cX5_allHits 13 = .ok (.aload_n 0, 1) := dk_42 (dk_at dksX5_allHits_0 13 rfl rfl)
theorem dX5_allHits_14 : decode cX5_allHits 14 = .ok (.iload_n 2, 1) := dk_28 (dk_at dksX5_allHits_0 14 rfl rfl)
theorem dX5_allHits_15 : decode cX5_allHits 15 = .ok (.invokevirtual 308, 3) := dk_182 1 52 (dk_at dksX5_allHits_0 15 rfl rfl)
theorem dX5_allHits_18 : decode cX5_allHits 18 = .ok (.invokestatic 311, 3) := dk_184 1 55 (dk_at dksX5_allHits_0 18 rfl rfl)
theorem dX5_allHits_21 : decode cX5_allHits 21 = .ok (.iadd, 1) := dk_96 (dk_at dksX5_allHits_0 21 rfl rfl)
theorem dX5_allHits_22 : decode cX5_allHits 22 = .ok (.istore_n 1, 1) := dk_60 (dk_at dksX5_allHits_0 22 rfl rfl)
theorem dX5_allHits_23 : decode cX5_allHits 23 = .ok (.iinc 2 1, 3) := dk_132 2 1 (dk_at dksX5_allHits_1 0 rfl rfl)
theorem dX5_allHits_26 : decode cX5_allHits 26 = .ok (.goto (-22), 3) := dk_167 255 234 (dk_at dksX5_allHits_1 3 rfl rfl)
theorem dX5_allHits_29 : decode cX5_allHits 29 = .ok (.iload_n 1, 1) := dk_27 (dk_at dksX5_allHits_1 6 rfl rfl)
theorem dX5_allHits_30 : decode cX5_allHits 30 = .ok (.ireturn, 1) := dk_172 (dk_at dksX5_allHits_1 7 rfl rfl)
abbrev cX5_allCrowds : ByteArray := prog_10_method_69_code
def yX5_allCrowds : MethodName := ⟨RX5, "allCrowds", "()I"⟩
def dkwX5_allCrowds_1 : List UInt8 := [132, 2, 1, 167, 255, 234, 27, 5, 108, 172]
abbrev dktX5_allCrowds_1 : List UInt8 := dkwX5_allCrowds_1 ++ []
def dkwX5_allCrowds_0 : List UInt8 := [3, 60, 3, 61, 28, 42, 182, 0, 232, 162, 0, 20, 27, 42, 28, 182, 1, 61, 184, 1, 55, 96, 60]
abbrev dktX5_allCrowds_0 : List UInt8 := dkwX5_allCrowds_0 ++ dktX5_allCrowds_1
theorem dksX5_allCrowds_0 : cX5_allCrowds.data.toList.drop 0 = dktX5_allCrowds_0 := by decide +kernel
theorem dksX5_allCrowds_1 : cX5_allCrowds.data.toList.drop 23 = dktX5_allCrowds_1 := dk_seg dksX5_allCrowds_0 23 rfl rfl
theorem dX5_allCrowds_0 : decode cX5_allCrowds 0 = .ok (.iconst 0, 1) := dk_3 (dk_at dksX5_allCrowds_0 0 rfl rfl)
theorem dX5_allCrowds_1 : decode cX5_allCrowds 1 = .ok (.istore_n 1, 1) := dk_60 (dk_at dksX5_allCrowds_0 1 rfl rfl)
theorem dX5_allCrowds_2 : decode cX5_allCrowds 2 = .ok (.iconst 0, 1) := dk_3 (dk_at dksX5_allCrowds_0 2 rfl rfl)
theorem dX5_allCrowds_3 : decode cX5_allCrowds 3 = .ok (.istore_n 2, 1) := dk_61 (dk_at dksX5_allCrowds_0 3 rfl rfl)
theorem dX5_allCrowds_4 : decode cX5_allCrowds 4 = .ok (.iload_n 2, 1) := dk_28 (dk_at dksX5_allCrowds_0 4 rfl rfl)
theorem dX5_allCrowds_5 : decode cX5_allCrowds 5 = .ok (.aload_n 0, 1) := dk_42 (dk_at dksX5_allCrowds_0 5 rfl rfl)
theorem dX5_allCrowds_6 : decode cX5_allCrowds 6 = .ok (.invokevirtual 232, 3) := dk_182 0 232 (dk_at dksX5_allCrowds_0 6 rfl rfl)
theorem dX5_allCrowds_9 : decode cX5_allCrowds 9 = .ok (.if_icmp .ge 20, 3) := dk_162 0 20 (dk_at dksX5_allCrowds_0 9 rfl rfl)
theorem dX5_allCrowds_12 : decode cX5_allCrowds 12 = .ok (.iload_n 1, 1) := dk_27 (dk_at dksX5_allCrowds_0 12 rfl rfl)
theorem dX5_allCrowds_13 : decode cX5_allCrowds 13 = .ok (.aload_n 0, 1) := dk_42 (dk_at dksX5_allCrowds_0 13 rfl rfl)
theorem dX5_allCrowds_14 : decode cX5_allCrowds 14 = .ok (.iload_n 2, 1) := dk_28 (dk_at dksX5_allCrowds_0 14 rfl rfl)
theorem dX5_allCrowds_15 : decode cX5_allCrowds 15 = .ok (.invokevirtual 317, 3) := dk_182 1 61 (dk_at dksX5_allCrowds_0 15 rfl rfl)
theorem dX5_allCrowds_18 : decode cX5_allCrowds 18 = .ok (.invokestatic 311, 3) := dk_184 1 55 (dk_at dksX5_allCrowds_0 18 rfl rfl)
theorem dX5_allCrowds_21 : decode cX5_allCrowds 21 = .ok (.iadd, 1) := dk_96 (dk_at dksX5_allCrowds_0 21 rfl rfl)
theorem dX5_allCrowds_22 : decode cX5_allCrowds 22 = .ok (.istore_n 1, 1) := dk_60 (dk_at dksX5_allCrowds_0 22 rfl rfl)
theorem dX5_allCrowds_23 : decode cX5_allCrowds 23 = .ok (.iinc 2 1, 3) := dk_132 2 1 (dk_at dksX5_allCrowds_1 0 rfl rfl)
theorem dX5_allCrowds_26 : decode cX5_allCrowds 26 = .ok (.goto (-22), 3) := dk_167 255 234 (dk_at dksX5_allCrowds_1 3 rfl rfl)
theorem dX5_allCrowds_29 : decode cX5_allCrowds 29 = .ok (.iload_n 1, 1) := dk_27 (dk_at dksX5_allCrowds_1 6 rfl rfl)
theorem dX5_allCrowds_30 : decode cX5_allCrowds 30 = .ok (.iconst 2, 1) := dk_5 (dk_at dksX5_allCrowds_1 7 rfl rfl)
theorem dX5_allCrowds_31 : decode cX5_allCrowds 31 = .ok (.idiv, 1) := dk_108 (dk_at dksX5_allCrowds_1 8 rfl rfl)
theorem dX5_allCrowds_32 : decode cX5_allCrowds 32 = .ok (.ireturn, 1) := dk_172 (dk_at dksX5_allCrowds_1 9 rfl rfl)
abbrev cX5_product : ByteArray := prog_10_method_94_code
def yX5_product : MethodName := ⟨RX5, "product", "(II)I"⟩
def dkwX5_product_5 : List UInt8 := [182, 1, 52, 172, 17, 252, 24, 172]
abbrev dktX5_product_5 : List UInt8 := dkwX5_product_5 ++ []
def dkwX5_product_4 : List UInt8 := [180, 0, 69, 27, 46, 172, 42, 180, 0, 72, 27, 46, 172, 42, 180, 0, 75, 27, 46, 172, 42, 27]
abbrev dktX5_product_4 : List UInt8 := dkwX5_product_4 ++ dktX5_product_5
def dkwX5_product_3 : List UInt8 := [42, 180, 0, 60, 27, 46, 172, 42, 180, 0, 63, 27, 46, 172, 42, 180, 0, 66, 27, 46, 172, 42]
abbrev dktX5_product_3 : List UInt8 := dkwX5_product_3 ++ dktX5_product_4
def dkwX5_product_2 : List UInt8 := [170, 0, 0, 0, 0, 90, 0, 0, 0, 0, 0, 0, 0, 6, 0, 0, 0, 42, 0, 0, 0, 49, 0, 0, 0, 56, 0, 0, 0, 63, 0, 0, 0, 70, 0, 0, 0, 77, 0, 0, 0, 84]
abbrev dktX5_product_2 : List UInt8 := dkwX5_product_2 ++ dktX5_product_3
def dkwX5_product_1 : List UInt8 := [172, 28]
abbrev dktX5_product_1 : List UInt8 := dkwX5_product_1 ++ dktX5_product_2
def dkwX5_product_0 : List UInt8 := [42, 3, 181, 0, 96, 42, 182, 1, 70, 27, 155, 0, 11, 27, 42, 180, 1, 24, 161, 0, 7, 17, 252, 24]
abbrev dktX5_product_0 : List UInt8 := dkwX5_product_0 ++ dktX5_product_1
theorem dksX5_product_0 : cX5_product.data.toList.drop 0 = dktX5_product_0 := by decide +kernel
theorem dksX5_product_1 : cX5_product.data.toList.drop 24 = dktX5_product_1 := dk_seg dksX5_product_0 24 rfl rfl
theorem dksX5_product_2 : cX5_product.data.toList.drop 26 = dktX5_product_2 := dk_seg dksX5_product_1 2 rfl rfl
theorem dksX5_product_3 : cX5_product.data.toList.drop 68 = dktX5_product_3 := dk_seg dksX5_product_2 42 rfl rfl
theorem dksX5_product_4 : cX5_product.data.toList.drop 90 = dktX5_product_4 := dk_seg dksX5_product_3 22 rfl rfl
theorem dksX5_product_5 : cX5_product.data.toList.drop 112 = dktX5_product_5 := dk_seg dksX5_product_4 22 rfl rfl
theorem dX5_product_0 : decode cX5_product 0 = .ok (.aload_n 0, 1) := dk_42 (dk_at dksX5_product_0 0 rfl rfl)
theorem dX5_product_1 : decode cX5_product 1 = .ok (.iconst 0, 1) := dk_3 (dk_at dksX5_product_0 1 rfl rfl)
theorem dX5_product_2 : decode cX5_product 2 = .ok (.putfield 96, 3) := dk_181 0 96 (dk_at dksX5_product_0 2 rfl rfl)
theorem dX5_product_5 : decode cX5_product 5 = .ok (.aload_n 0, 1) := dk_42 (dk_at dksX5_product_0 5 rfl rfl)
theorem dX5_product_6 : decode cX5_product 6 = .ok (.invokevirtual 326, 3) := dk_182 1 70 (dk_at dksX5_product_0 6 rfl rfl)
theorem dX5_product_9 : decode cX5_product 9 = .ok (.iload_n 1, 1) := dk_27 (dk_at dksX5_product_0 9 rfl rfl)
theorem dX5_product_10 : decode cX5_product 10 = .ok (.ifCond .lt 11, 3) := dk_155 0 11 (dk_at dksX5_product_0 10 rfl rfl)
theorem dX5_product_13 : decode cX5_product 13 = .ok (.iload_n 1, 1) := dk_27 (dk_at dksX5_product_0 13 rfl rfl)
theorem dX5_product_14 : decode cX5_product 14 = .ok (.aload_n 0, 1) := dk_42 (dk_at dksX5_product_0 14 rfl rfl)
theorem dX5_product_15 : decode cX5_product 15 = .ok (.getfield 280, 3) := dk_180 1 24 (dk_at dksX5_product_0 15 rfl rfl)
theorem dX5_product_18 : decode cX5_product 18 = .ok (.if_icmp .lt 7, 3) := dk_161 0 7 (dk_at dksX5_product_0 18 rfl rfl)
theorem dX5_product_21 : decode cX5_product 21 = .ok (.sipush (-1000), 3) := dk_17 252 24 (dk_at dksX5_product_0 21 rfl rfl)
theorem dX5_product_24 : decode cX5_product 24 = .ok (.ireturn, 1) := dk_172 (dk_at dksX5_product_1 0 rfl rfl)
theorem dX5_product_25 : decode cX5_product 25 = .ok (.iload_n 2, 1) := dk_28 (dk_at dksX5_product_1 1 rfl rfl)
theorem dX5_product_26 : decode cX5_product 26 = .ok (.tableswitch 90 0 6 #[42, 49, 56, 63, 70, 77, 84], 42) := by decide +kernel
theorem dX5_product_68 : decode cX5_product 68 = .ok (.aload_n 0, 1) := dk_42 (dk_at dksX5_product_3 0 rfl rfl)
theorem dX5_product_69 : decode cX5_product 69 = .ok (.getfield 60, 3) := dk_180 0 60 (dk_at dksX5_product_3 1 rfl rfl)
theorem dX5_product_72 : decode cX5_product 72 = .ok (.iload_n 1, 1) := dk_27 (dk_at dksX5_product_3 4 rfl rfl)
theorem dX5_product_73 : decode cX5_product 73 = .ok (.iaload, 1) := dk_46 (dk_at dksX5_product_3 5 rfl rfl)
theorem dX5_product_74 : decode cX5_product 74 = .ok (.ireturn, 1) := dk_172 (dk_at dksX5_product_3 6 rfl rfl)
theorem dX5_product_75 : decode cX5_product 75 = .ok (.aload_n 0, 1) := dk_42 (dk_at dksX5_product_3 7 rfl rfl)
theorem dX5_product_76 : decode cX5_product 76 = .ok (.getfield 63, 3) := dk_180 0 63 (dk_at dksX5_product_3 8 rfl rfl)
theorem dX5_product_79 : decode cX5_product 79 = .ok (.iload_n 1, 1) := dk_27 (dk_at dksX5_product_3 11 rfl rfl)
theorem dX5_product_80 : decode cX5_product 80 = .ok (.iaload, 1) := dk_46 (dk_at dksX5_product_3 12 rfl rfl)
theorem dX5_product_81 : decode cX5_product 81 = .ok (.ireturn, 1) := dk_172 (dk_at dksX5_product_3 13 rfl rfl)
theorem dX5_product_82 : decode cX5_product 82 = .ok (.aload_n 0, 1) := dk_42 (dk_at dksX5_product_3 14 rfl rfl)
theorem dX5_product_83 : decode cX5_product 83 = .ok (.getfield 66, 3) := dk_180 0 66 (dk_at dksX5_product_3 15 rfl rfl)
theorem dX5_product_86 : decode cX5_product 86 = .ok (.iload_n 1, 1) := dk_27 (dk_at dksX5_product_3 18 rfl rfl)
theorem dX5_product_87 : decode cX5_product 87 = .ok (.iaload, 1) := dk_46 (dk_at dksX5_product_3 19 rfl rfl)
theorem dX5_product_88 : decode cX5_product 88 = .ok (.ireturn, 1) := dk_172 (dk_at dksX5_product_3 20 rfl rfl)
theorem dX5_product_89 : decode cX5_product 89 = .ok (.aload_n 0, 1) := dk_42 (dk_at dksX5_product_3 21 rfl rfl)
theorem dX5_product_90 : decode cX5_product 90 = .ok (.getfield 69, 3) := dk_180 0 69 (dk_at dksX5_product_4 0 rfl rfl)
theorem dX5_product_93 : decode cX5_product 93 = .ok (.iload_n 1, 1) := dk_27 (dk_at dksX5_product_4 3 rfl rfl)
theorem dX5_product_94 : decode cX5_product 94 = .ok (.iaload, 1) := dk_46 (dk_at dksX5_product_4 4 rfl rfl)
theorem dX5_product_95 : decode cX5_product 95 = .ok (.ireturn, 1) := dk_172 (dk_at dksX5_product_4 5 rfl rfl)
theorem dX5_product_96 : decode cX5_product 96 = .ok (.aload_n 0, 1) := dk_42 (dk_at dksX5_product_4 6 rfl rfl)
theorem dX5_product_97 : decode cX5_product 97 = .ok (.getfield 72, 3) := dk_180 0 72 (dk_at dksX5_product_4 7 rfl rfl)
theorem dX5_product_100 : decode cX5_product 100 = .ok (.iload_n 1, 1) := dk_27 (dk_at dksX5_product_4 10 rfl rfl)
theorem dX5_product_101 : decode cX5_product 101 = .ok (.iaload, 1) := dk_46 (dk_at dksX5_product_4 11 rfl rfl)
theorem dX5_product_102 : decode cX5_product 102 = .ok (.ireturn, 1) := dk_172 (dk_at dksX5_product_4 12 rfl rfl)
theorem dX5_product_103 : decode cX5_product 103 = .ok (.aload_n 0, 1) := dk_42 (dk_at dksX5_product_4 13 rfl rfl)
theorem dX5_product_104 : decode cX5_product 104 = .ok (.getfield 75, 3) := dk_180 0 75 (dk_at dksX5_product_4 14 rfl rfl)
theorem dX5_product_107 : decode cX5_product 107 = .ok (.iload_n 1, 1) := dk_27 (dk_at dksX5_product_4 17 rfl rfl)
theorem dX5_product_108 : decode cX5_product 108 = .ok (.iaload, 1) := dk_46 (dk_at dksX5_product_4 18 rfl rfl)
theorem dX5_product_109 : decode cX5_product 109 = .ok (.ireturn, 1) := dk_172 (dk_at dksX5_product_4 19 rfl rfl)
theorem dX5_product_110 : decode cX5_product 110 = .ok (.aload_n 0, 1) := dk_42 (dk_at dksX5_product_4 20 rfl rfl)
theorem dX5_product_111 : decode cX5_product 111 = .ok (.iload_n 1, 1) := dk_27 (dk_at dksX5_product_4 21 rfl rfl)
theorem dX5_product_112 : decode cX5_product 112 = .ok (.invokevirtual 308, 3) := dk_182 1 52 (dk_at dksX5_product_5 0 rfl rfl)
theorem dX5_product_115 : decode cX5_product 115 = .ok (.ireturn, 1) := dk_172 (dk_at dksX5_product_5 3 rfl rfl)
theorem dX5_product_116 : decode cX5_product 116 = .ok (.sipush (-1000), 3) := dk_17 252 24 (dk_at dksX5_product_5 4 rfl rfl)
theorem dX5_product_119 : decode cX5_product 119 = .ok (.ireturn, 1) := dk_172 (dk_at dksX5_product_5 7 rfl rfl)
abbrev cX5_hits_2 : ByteArray := prog_10_method_95_code
def yX5_hits_2 : MethodName := ⟨RX5, "hits", "(I)I"⟩
def dkwX5_hits_2_2 : List UInt8 := [29, 27, 182, 1, 49, 153, 0, 7, 4, 167, 0, 4, 3, 96, 61, 132, 3, 1, 167, 255, 228, 28, 172]
abbrev dktX5_hits_2_2 : List UInt8 := dkwX5_hits_2_2 ++ []
def dkwX5_hits_2_1 : List UInt8 := [154, 0, 6, 16, 254, 172, 42, 182, 1, 70, 3, 61, 3, 62, 29, 42, 180, 1, 24, 162, 0, 26, 28, 42]
abbrev dktX5_hits_2_1 : List UInt8 := dkwX5_hits_2_1 ++ dktX5_hits_2_2
def dkwX5_hits_2_0 : List UInt8 := [42, 3, 181, 0, 96, 42, 27, 182, 1, 3, 154, 0, 5, 2, 172, 42, 180, 0, 51, 3, 27, 96, 46]
abbrev dktX5_hits_2_0 : List UInt8 := dkwX5_hits_2_0 ++ dktX5_hits_2_1
theorem dksX5_hits_2_0 : cX5_hits_2.data.toList.drop 0 = dktX5_hits_2_0 := by decide +kernel
theorem dksX5_hits_2_1 : cX5_hits_2.data.toList.drop 23 = dktX5_hits_2_1 := dk_seg dksX5_hits_2_0 23 rfl rfl
theorem dksX5_hits_2_2 : cX5_hits_2.data.toList.drop 47 = dktX5_hits_2_2 := dk_seg dksX5_hits_2_1 24 rfl rfl
theorem dX5_hits_2_0 : decode cX5_hits_2 0 = .ok (.aload_n 0, 1) := dk_42 (dk_at dksX5_hits_2_0 0 rfl rfl)
theorem dX5_hits_2_1 : decode cX5_hits_2 1 = .ok (.iconst 0, 1) := dk_3 (dk_at dksX5_hits_2_0 1 rfl rfl)
theorem dX5_hits_2_2 : decode cX5_hits_2 2 = .ok (.putfield 96, 3) := dk_181 0 96 (dk_at dksX5_hits_2_0 2 rfl rfl)
theorem dX5_hits_2_5 : decode cX5_hits_2 5 = .ok (.aload_n 0, 1) := dk_42 (dk_at dksX5_hits_2_0 5 rfl rfl)
theorem dX5_hits_2_6 : decode cX5_hits_2 6 = .ok (.iload_n 1, 1) := dk_27 (dk_at dksX5_hits_2_0 6 rfl rfl)
theorem dX5_hits_2_7 : decode cX5_hits_2 7 = .ok (.invokevirtual 259, 3) := dk_182 1 3 (dk_at dksX5_hits_2_0 7 rfl rfl)
theorem dX5_hits_2_10 : decode cX5_hits_2 10 = .ok (.ifCond .ne 5, 3) := dk_154 0 5 (dk_at dksX5_hits_2_0 10 rfl rfl)
theorem dX5_hits_2_13 : decode cX5_hits_2 13 = .ok (.iconst (-1), 1) := dk_2 (dk_at dksX5_hits_2_0 13 rfl rfl)
theorem dX5_hits_2_14 : decode cX5_hits_2 14 = .ok (.ireturn, 1) := dk_172 (dk_at dksX5_hits_2_0 14 rfl rfl)
theorem dX5_hits_2_15 : decode cX5_hits_2 15 = .ok (.aload_n 0, 1) := dk_42 (dk_at dksX5_hits_2_0 15 rfl rfl)
theorem dX5_hits_2_16 : decode cX5_hits_2 16 = .ok (.getfield 51, 3) := dk_180 0 51 (dk_at dksX5_hits_2_0 16 rfl rfl)
theorem dX5_hits_2_19 : decode cX5_hits_2 19 = .ok (.iconst 0, 1) := dk_3 (dk_at dksX5_hits_2_0 19 rfl rfl)
theorem dX5_hits_2_20 : decode cX5_hits_2 20 = .ok (.iload_n 1, 1) := dk_27 (dk_at dksX5_hits_2_0 20 rfl rfl)
theorem dX5_hits_2_21 : decode cX5_hits_2 21 = .ok (.iadd, 1) := dk_96 (dk_at dksX5_hits_2_0 21 rfl rfl)
theorem dX5_hits_2_22 : decode cX5_hits_2 22 = .ok (.iaload, 1) := dk_46 (dk_at dksX5_hits_2_0 22 rfl rfl)
theorem dX5_hits_2_23 : decode cX5_hits_2 23 = .ok (.ifCond .ne 6, 3) := dk_154 0 6 (dk_at dksX5_hits_2_1 0 rfl rfl)
theorem dX5_hits_2_26 : decode cX5_hits_2 26 = .ok (.bipush (-2), 2) := dk_16 254 (dk_at dksX5_hits_2_1 3 rfl rfl)
theorem dX5_hits_2_28 : decode cX5_hits_2 28 = .ok (.ireturn, 1) := dk_172 (dk_at dksX5_hits_2_1 5 rfl rfl)
theorem dX5_hits_2_29 : decode cX5_hits_2 29 = .ok (.aload_n 0, 1) := dk_42 (dk_at dksX5_hits_2_1 6 rfl rfl)
theorem dX5_hits_2_30 : decode cX5_hits_2 30 = .ok (.invokevirtual 326, 3) := dk_182 1 70 (dk_at dksX5_hits_2_1 7 rfl rfl)
theorem dX5_hits_2_33 : decode cX5_hits_2 33 = .ok (.iconst 0, 1) := dk_3 (dk_at dksX5_hits_2_1 10 rfl rfl)
theorem dX5_hits_2_34 : decode cX5_hits_2 34 = .ok (.istore_n 2, 1) := dk_61 (dk_at dksX5_hits_2_1 11 rfl rfl)
theorem dX5_hits_2_35 : decode cX5_hits_2 35 = .ok (.iconst 0, 1) := dk_3 (dk_at dksX5_hits_2_1 12 rfl rfl)
theorem dX5_hits_2_36 : decode cX5_hits_2 36 = .ok (.istore_n 3, 1) := dk_62 (dk_at dksX5_hits_2_1 13 rfl rfl)
theorem dX5_hits_2_37 : decode cX5_hits_2 37 = .ok (.iload_n 3, 1) := dk_29 (dk_at dksX5_hits_2_1 14 rfl rfl)
theorem dX5_hits_2_38 : decode cX5_hits_2 38 = .ok (.aload_n 0, 1) := dk_42 (dk_at dksX5_hits_2_1 15 rfl rfl)
theorem dX5_hits_2_39 : decode cX5_hits_2 39 = .ok (.getfield 280, 3) := dk_180 1 24 (dk_at dksX5_hits_2_1 16 rfl rfl)
theorem dX5_hits_2_42 : decode cX5_hits_2 42 = .ok (.if_icmp .ge 26, 3) := dk_162 0 26 (dk_at dksX5_hits_2_1 19 rfl rfl)
theorem dX5_hits_2_45 : decode cX5_hits_2 45 = .ok (.iload_n 2, 1) := dk_28 (dk_at dksX5_hits_2_1 22 rfl rfl)
theorem dX5_hits_2_46 : decode cX5_hits_2 46 = .ok (.aload_n 0, 1) := dk_42 (dk_at dksX5_hits_2_1 23 rfl rfl)
theorem dX5_hits_2_47 : decode cX5_hits_2 47 = .ok (.iload_n 3, 1) := dk_29 (dk_at dksX5_hits_2_2 0 rfl rfl)
theorem dX5_hits_2_48 : decode cX5_hits_2 48 = .ok (.iload_n 1, 1) := dk_27 (dk_at dksX5_hits_2_2 1 rfl rfl)
theorem dX5_hits_2_49 : decode cX5_hits_2 49 = .ok (.invokevirtual 305, 3) := dk_182 1 49 (dk_at dksX5_hits_2_2 2 rfl rfl)
theorem dX5_hits_2_52 : decode cX5_hits_2 52 = .ok (.ifCond .eq 7, 3) := dk_153 0 7 (dk_at dksX5_hits_2_2 5 rfl rfl)
theorem dX5_hits_2_55 : decode cX5_hits_2 55 = .ok (.iconst 1, 1) := dk_4 (dk_at dksX5_hits_2_2 8 rfl rfl)
theorem dX5_hits_2_56 : decode cX5_hits_2 56 = .ok (.goto 4, 3) := dk_167 0 4 (dk_at dksX5_hits_2_2 9 rfl rfl)
theorem dX5_hits_2_59 : decode cX5_hits_2 59 = .ok (.iconst 0, 1) := dk_3 (dk_at dksX5_hits_2_2 12 rfl rfl)
theorem dX5_hits_2_60 : decode cX5_hits_2 60 = .ok (.iadd, 1) := dk_96 (dk_at dksX5_hits_2_2 13 rfl rfl)
theorem dX5_hits_2_61 : decode cX5_hits_2 61 = .ok (.istore_n 2, 1) := dk_61 (dk_at dksX5_hits_2_2 14 rfl rfl)
theorem dX5_hits_2_62 : decode cX5_hits_2 62 = .ok (.iinc 3 1, 3) := dk_132 3 1 (dk_at dksX5_hits_2_2 15 rfl rfl)
theorem dX5_hits_2_65 : decode cX5_hits_2 65 = .ok (.goto (-28), 3) := dk_167 255 228 (dk_at dksX5_hits_2_2 18 rfl rfl)
theorem dX5_hits_2_68 : decode cX5_hits_2 68 = .ok (.iload_n 2, 1) := dk_28 (dk_at dksX5_hits_2_2 21 rfl rfl)
theorem dX5_hits_2_69 : decode cX5_hits_2 69 = .ok (.ireturn, 1) := dk_172 (dk_at dksX5_hits_2_2 22 rfl rfl)
abbrev cX5_hitBy : ByteArray := prog_10_method_96_code
def yX5_hitBy : MethodName := ⟨RX5, "hitBy", "(II)I"⟩
def dkwX5_hitBy_2 : List UInt8 := [167, 0, 13, 29, 154, 0, 6, 21, 4, 172, 132, 3, 255, 132, 4, 1, 167, 255, 221, 16, 254, 172]
abbrev dktX5_hitBy_2 : List UInt8 := dkwX5_hitBy_2 ++ []
def dkwX5_hitBy_1 : List UInt8 := [62, 3, 54, 4, 21, 4, 42, 180, 1, 24, 162, 0, 32, 42, 21, 4, 27, 182, 1, 49, 154, 0, 6]
abbrev dktX5_hitBy_1 : List UInt8 := dkwX5_hitBy_1 ++ dktX5_hitBy_2
def dkwX5_hitBy_0 : List UInt8 := [42, 3, 181, 0, 96, 42, 27, 182, 1, 3, 153, 0, 7, 28, 156, 0, 5, 2, 172, 42, 182, 1, 70, 28]
abbrev dktX5_hitBy_0 : List UInt8 := dkwX5_hitBy_0 ++ dktX5_hitBy_1
theorem dksX5_hitBy_0 : cX5_hitBy.data.toList.drop 0 = dktX5_hitBy_0 := by decide +kernel
theorem dksX5_hitBy_1 : cX5_hitBy.data.toList.drop 24 = dktX5_hitBy_1 := dk_seg dksX5_hitBy_0 24 rfl rfl
theorem dksX5_hitBy_2 : cX5_hitBy.data.toList.drop 47 = dktX5_hitBy_2 := dk_seg dksX5_hitBy_1 23 rfl rfl
theorem dX5_hitBy_0 : decode cX5_hitBy 0 = .ok (.aload_n 0, 1) := dk_42 (dk_at dksX5_hitBy_0 0 rfl rfl)
theorem dX5_hitBy_1 : decode cX5_hitBy 1 = .ok (.iconst 0, 1) := dk_3 (dk_at dksX5_hitBy_0 1 rfl rfl)
theorem dX5_hitBy_2 : decode cX5_hitBy 2 = .ok (.putfield 96, 3) := dk_181 0 96 (dk_at dksX5_hitBy_0 2 rfl rfl)
theorem dX5_hitBy_5 : decode cX5_hitBy 5 = .ok (.aload_n 0, 1) := dk_42 (dk_at dksX5_hitBy_0 5 rfl rfl)
theorem dX5_hitBy_6 : decode cX5_hitBy 6 = .ok (.iload_n 1, 1) := dk_27 (dk_at dksX5_hitBy_0 6 rfl rfl)
theorem dX5_hitBy_7 : decode cX5_hitBy 7 = .ok (.invokevirtual 259, 3) := dk_182 1 3 (dk_at dksX5_hitBy_0 7 rfl rfl)
theorem dX5_hitBy_10 : decode cX5_hitBy 10 = .ok (.ifCond .eq 7, 3) := dk_153 0 7 (dk_at dksX5_hitBy_0 10 rfl rfl)
theorem dX5_hitBy_13 : decode cX5_hitBy 13 = .ok (.iload_n 2, 1) := dk_28 (dk_at dksX5_hitBy_0 13 rfl rfl)
theorem dX5_hitBy_14 : decode cX5_hitBy 14 = .ok (.ifCond .ge 5, 3) := dk_156 0 5 (dk_at dksX5_hitBy_0 14 rfl rfl)
theorem dX5_hitBy_17 : decode cX5_hitBy 17 = .ok (.iconst (-1), 1) := dk_2 (dk_at dksX5_hitBy_0 17 rfl rfl)
theorem dX5_hitBy_18 : decode cX5_hitBy 18 = .ok (.ireturn, 1) := dk_172 (dk_at dksX5_hitBy_0 18 rfl rfl)
theorem dX5_hitBy_19 : decode cX5_hitBy 19 = .ok (.aload_n 0, 1) := dk_42 (dk_at dksX5_hitBy_0 19 rfl rfl)
theorem dX5_hitBy_20 : decode cX5_hitBy 20 = .ok (.invokevirtual 326, 3) := dk_182 1 70 (dk_at dksX5_hitBy_0 20 rfl rfl)
theorem dX5_hitBy_23 : decode cX5_hitBy 23 = .ok (.iload_n 2, 1) := dk_28 (dk_at dksX5_hitBy_0 23 rfl rfl)
theorem dX5_hitBy_24 : decode cX5_hitBy 24 = .ok (.istore_n 3, 1) := dk_62 (dk_at dksX5_hitBy_1 0 rfl rfl)
theorem dX5_hitBy_25 : decode cX5_hitBy 25 = .ok (.iconst 0, 1) := dk_3 (dk_at dksX5_hitBy_1 1 rfl rfl)
theorem dX5_hitBy_26 : decode cX5_hitBy 26 = .ok (.istore 4, 2) := dk_54 4 (dk_at dksX5_hitBy_1 2 rfl rfl)
theorem dX5_hitBy_28 : decode cX5_hitBy 28 = .ok (.iload 4, 2) := dk_21 4 (dk_at dksX5_hitBy_1 4 rfl rfl)
theorem dX5_hitBy_30 : decode cX5_hitBy 30 = .ok (.aload_n 0, 1) := dk_42 (dk_at dksX5_hitBy_1 6 rfl rfl)
theorem dX5_hitBy_31 : decode cX5_hitBy 31 = .ok (.getfield 280, 3) := dk_180 1 24 (dk_at dksX5_hitBy_1 7 rfl rfl)
theorem dX5_hitBy_34 : decode cX5_hitBy 34 = .ok (.if_icmp .ge 32, 3) := dk_162 0 32 (dk_at dksX5_hitBy_1 10 rfl rfl)
theorem dX5_hitBy_37 : decode cX5_hitBy 37 = .ok (.aload_n 0, 1) := dk_42 (dk_at dksX5_hitBy_1 13 rfl rfl)
theorem dX5_hitBy_38 : decode cX5_hitBy 38 = .ok (.iload 4, 2) := dk_21 4 (dk_at dksX5_hitBy_1 14 rfl rfl)
theorem dX5_hitBy_40 : decode cX5_hitBy 40 = .ok (.iload_n 1, 1) := dk_27 (dk_at dksX5_hitBy_1 16 rfl rfl)
theorem dX5_hitBy_41 : decode cX5_hitBy 41 = .ok (.invokevirtual 305, 3) := dk_182 1 49 (dk_at dksX5_hitBy_1 17 rfl rfl)
theorem dX5_hitBy_44 : decode cX5_hitBy 44 = .ok (.ifCond .ne 6, 3) := dk_154 0 6 (dk_at dksX5_hitBy_1 20 rfl rfl)
theorem dX5_hitBy_47 : decode cX5_hitBy 47 = .ok (.goto 13, 3) := dk_167 0 13 (dk_at dksX5_hitBy_2 0 rfl rfl)
theorem dX5_hitBy_50 : decode cX5_hitBy 50 = .ok (.iload_n 3, 1) := dk_29 (dk_at dksX5_hitBy_2 3 rfl rfl)
theorem dX5_hitBy_51 : decode cX5_hitBy 51 = .ok (.ifCond .ne 6, 3) := dk_154 0 6 (dk_at dksX5_hitBy_2 4 rfl rfl)
theorem dX5_hitBy_54 : decode cX5_hitBy 54 = .ok (.iload 4, 2) := dk_21 4 (dk_at dksX5_hitBy_2 7 rfl rfl)
theorem dX5_hitBy_56 : decode cX5_hitBy 56 = .ok (.ireturn, 1) := dk_172 (dk_at dksX5_hitBy_2 9 rfl rfl)
theorem dX5_hitBy_57 : decode cX5_hitBy 57 = .ok (.iinc 3 (-1), 3) := dk_132 3 255 (dk_at dksX5_hitBy_2 10 rfl rfl)
theorem dX5_hitBy_60 : decode cX5_hitBy 60 = .ok (.iinc 4 1, 3) := dk_132 4 1 (dk_at dksX5_hitBy_2 13 rfl rfl)
theorem dX5_hitBy_63 : decode cX5_hitBy 63 = .ok (.goto (-35), 3) := dk_167 255 221 (dk_at dksX5_hitBy_2 16 rfl rfl)
theorem dX5_hitBy_66 : decode cX5_hitBy 66 = .ok (.bipush (-2), 2) := dk_16 254 (dk_at dksX5_hitBy_2 19 rfl rfl)
theorem dX5_hitBy_68 : decode cX5_hitBy 68 = .ok (.ireturn, 1) := dk_172 (dk_at dksX5_hitBy_2 21 rfl rfl)
abbrev cX5_crowds : ByteArray := prog_10_method_97_code
def yX5_crowds : MethodName := ⟨RX5, "crowds", "(I)I"⟩
def dkwX5_crowds_0 : List UInt8 := [42, 3, 181, 0, 96, 42, 27, 182, 1, 3, 153, 0, 11, 42, 27, 182, 1, 61, 167, 0, 4, 2, 172]
abbrev dktX5_crowds_0 : List UInt8 := dkwX5_crowds_0 ++ []
theorem dksX5_crowds_0 : cX5_crowds.data.toList.drop 0 = dktX5_crowds_0 := by decide +kernel
theorem dX5_crowds_0 : decode cX5_crowds 0 = .ok (.aload_n 0, 1) := dk_42 (dk_at dksX5_crowds_0 0 rfl rfl)
theorem dX5_crowds_1 : decode cX5_crowds 1 = .ok (.iconst 0, 1) := dk_3 (dk_at dksX5_crowds_0 1 rfl rfl)
theorem dX5_crowds_2 : decode cX5_crowds 2 = .ok (.putfield 96, 3) := dk_181 0 96 (dk_at dksX5_crowds_0 2 rfl rfl)
theorem dX5_crowds_5 : decode cX5_crowds 5 = .ok (.aload_n 0, 1) := dk_42 (dk_at dksX5_crowds_0 5 rfl rfl)
theorem dX5_crowds_6 : decode cX5_crowds 6 = .ok (.iload_n 1, 1) := dk_27 (dk_at dksX5_crowds_0 6 rfl rfl)
theorem dX5_crowds_7 : decode cX5_crowds 7 = .ok (.invokevirtual 259, 3) := dk_182 1 3 (dk_at dksX5_crowds_0 7 rfl rfl)
theorem dX5_crowds_10 : decode cX5_crowds 10 = .ok (.ifCond .eq 11, 3) := dk_153 0 11 (dk_at dksX5_crowds_0 10 rfl rfl)
theorem dX5_crowds_13 : decode cX5_crowds 13 = .ok (.aload_n 0, 1) := dk_42 (dk_at dksX5_crowds_0 13 rfl rfl)
theorem dX5_crowds_14 : decode cX5_crowds 14 = .ok (.iload_n 1, 1) := dk_27 (dk_at dksX5_crowds_0 14 rfl rfl)
theorem dX5_crowds_15 : decode cX5_crowds 15 = .ok (.invokevirtual 317, 3) := dk_182 1 61 (dk_at dksX5_crowds_0 15 rfl rfl)
theorem dX5_crowds_18 : decode cX5_crowds 18 = .ok (.goto 4, 3) := dk_167 0 4 (dk_at dksX5_crowds_0 18 rfl rfl)
theorem dX5_crowds_21 : decode cX5_crowds 21 = .ok (.iconst (-1), 1) := dk_2 (dk_at dksX5_crowds_0 21 rfl rfl)
theorem dX5_crowds_22 : decode cX5_crowds 22 = .ok (.ireturn, 1) := dk_172 (dk_at dksX5_crowds_0 22 rfl rfl)
abbrev cX5_clean : ByteArray := prog_10_method_98_code
def yX5_clean : MethodName := ⟨RX5, "clean", "()I"⟩
def dkwX5_clean_0 : List UInt8 := [42, 3, 181, 0, 96, 42, 182, 1, 76, 153, 0, 7, 4, 167, 0, 4, 3, 172]
abbrev dktX5_clean_0 : List UInt8 := dkwX5_clean_0 ++ []
theorem dksX5_clean_0 : cX5_clean.data.toList.drop 0 = dktX5_clean_0 := by decide +kernel
theorem dX5_clean_0 : decode cX5_clean 0 = .ok (.aload_n 0, 1) := dk_42 (dk_at dksX5_clean_0 0 rfl rfl)
theorem dX5_clean_1 : decode cX5_clean 1 = .ok (.iconst 0, 1) := dk_3 (dk_at dksX5_clean_0 1 rfl rfl)
theorem dX5_clean_2 : decode cX5_clean 2 = .ok (.putfield 96, 3) := dk_181 0 96 (dk_at dksX5_clean_0 2 rfl rfl)
theorem dX5_clean_5 : decode cX5_clean 5 = .ok (.aload_n 0, 1) := dk_42 (dk_at dksX5_clean_0 5 rfl rfl)
theorem dX5_clean_6 : decode cX5_clean 6 = .ok (.invokevirtual 332, 3) := dk_182 1 76 (dk_at dksX5_clean_0 6 rfl rfl)
theorem dX5_clean_9 : decode cX5_clean 9 = .ok (.ifCond .eq 7, 3) := dk_153 0 7 (dk_at dksX5_clean_0 9 rfl rfl)
theorem dX5_clean_12 : decode cX5_clean 12 = .ok (.iconst 1, 1) := dk_4 (dk_at dksX5_clean_0 12 rfl rfl)
theorem dX5_clean_13 : decode cX5_clean 13 = .ok (.goto 4, 3) := dk_167 0 4 (dk_at dksX5_clean_0 13 rfl rfl)
theorem dX5_clean_16 : decode cX5_clean 16 = .ok (.iconst 0, 1) := dk_3 (dk_at dksX5_clean_0 16 rfl rfl)
theorem dX5_clean_17 : decode cX5_clean 17 = .ok (.ireturn, 1) := dk_172 (dk_at dksX5_clean_0 17 rfl rfl)
abbrev cX5_fits : ByteArray := prog_10_method_100_code
def yX5_fits : MethodName := ⟨RX5, "fits", "(II)I"⟩
def dkwX5_fits_1 : List UInt8 := [27, 28, 182, 1, 131, 153, 0, 7, 4, 167, 0, 4, 3, 172]
abbrev dktX5_fits_1 : List UInt8 := dkwX5_fits_1 ++ []
def dkwX5_fits_0 : List UInt8 := [42, 3, 181, 0, 96, 42, 27, 182, 1, 3, 153, 0, 11, 42, 28, 182, 1, 6, 154, 0, 5, 2, 172, 42]
abbrev dktX5_fits_0 : List UInt8 := dkwX5_fits_0 ++ dktX5_fits_1
theorem dksX5_fits_0 : cX5_fits.data.toList.drop 0 = dktX5_fits_0 := by decide +kernel
theorem dksX5_fits_1 : cX5_fits.data.toList.drop 24 = dktX5_fits_1 := dk_seg dksX5_fits_0 24 rfl rfl
theorem dX5_fits_0 : decode cX5_fits 0 = .ok (.aload_n 0, 1) := dk_42 (dk_at dksX5_fits_0 0 rfl rfl)
theorem dX5_fits_1 : decode cX5_fits 1 = .ok (.iconst 0, 1) := dk_3 (dk_at dksX5_fits_0 1 rfl rfl)
theorem dX5_fits_2 : decode cX5_fits 2 = .ok (.putfield 96, 3) := dk_181 0 96 (dk_at dksX5_fits_0 2 rfl rfl)
theorem dX5_fits_5 : decode cX5_fits 5 = .ok (.aload_n 0, 1) := dk_42 (dk_at dksX5_fits_0 5 rfl rfl)
theorem dX5_fits_6 : decode cX5_fits 6 = .ok (.iload_n 1, 1) := dk_27 (dk_at dksX5_fits_0 6 rfl rfl)
theorem dX5_fits_7 : decode cX5_fits 7 = .ok (.invokevirtual 259, 3) := dk_182 1 3 (dk_at dksX5_fits_0 7 rfl rfl)
theorem dX5_fits_10 : decode cX5_fits 10 = .ok (.ifCond .eq 11, 3) := dk_153 0 11 (dk_at dksX5_fits_0 10 rfl rfl)
theorem dX5_fits_13 : decode cX5_fits 13 = .ok (.aload_n 0, 1) := dk_42 (dk_at dksX5_fits_0 13 rfl rfl)
theorem dX5_fits_14 : decode cX5_fits 14 = .ok (.iload_n 2, 1) := dk_28 (dk_at dksX5_fits_0 14 rfl rfl)
theorem dX5_fits_15 : decode cX5_fits 15 = .ok (.invokevirtual 262, 3) := dk_182 1 6 (dk_at dksX5_fits_0 15 rfl rfl)
theorem dX5_fits_18 : decode cX5_fits 18 = .ok (.ifCond .ne 5, 3) := dk_154 0 5 (dk_at dksX5_fits_0 18 rfl rfl)
theorem dX5_fits_21 : decode cX5_fits 21 = .ok (.iconst (-1), 1) := dk_2 (dk_at dksX5_fits_0 21 rfl rfl)
theorem dX5_fits_22 : decode cX5_fits 22 = .ok (.ireturn, 1) := dk_172 (dk_at dksX5_fits_0 22 rfl rfl)
theorem dX5_fits_23 : decode cX5_fits 23 = .ok (.aload_n 0, 1) := dk_42 (dk_at dksX5_fits_0 23 rfl rfl)
theorem dX5_fits_24 : decode cX5_fits 24 = .ok (.iload_n 1, 1) := dk_27 (dk_at dksX5_fits_1 0 rfl rfl)
theorem dX5_fits_25 : decode cX5_fits 25 = .ok (.iload_n 2, 1) := dk_28 (dk_at dksX5_fits_1 1 rfl rfl)
theorem dX5_fits_26 : decode cX5_fits 26 = .ok (.invokevirtual 387, 3) := dk_182 1 131 (dk_at dksX5_fits_1 2 rfl rfl)
theorem dX5_fits_29 : decode cX5_fits 29 = .ok (.ifCond .eq 7, 3) := dk_153 0 7 (dk_at dksX5_fits_1 5 rfl rfl)
theorem dX5_fits_32 : decode cX5_fits 32 = .ok (.iconst 1, 1) := dk_4 (dk_at dksX5_fits_1 8 rfl rfl)
theorem dX5_fits_33 : decode cX5_fits 33 = .ok (.goto 4, 3) := dk_167 0 4 (dk_at dksX5_fits_1 9 rfl rfl)
theorem dX5_fits_36 : decode cX5_fits 36 = .ok (.iconst 0, 1) := dk_3 (dk_at dksX5_fits_1 12 rfl rfl)
theorem dX5_fits_37 : decode cX5_fits 37 = .ok (.ireturn, 1) := dk_172 (dk_at dksX5_fits_1 13 rfl rfl)
abbrev cX5_fitsAt : ByteArray := prog_10_method_99_code
def yX5_fitsAt : MethodName := ⟨RX5, "fitsAt", "(II)Z"⟩
def dkwX5_fitsAt_1 : List UInt8 := [42, 180, 0, 51, 3, 27, 96, 29, 79, 21, 4, 172]
abbrev dktX5_fitsAt_1 : List UInt8 := dkwX5_fitsAt_1 ++ []
def dkwX5_fitsAt_0 : List UInt8 := [42, 180, 0, 51, 3, 27, 96, 46, 62, 42, 180, 0, 51, 3, 27, 96, 28, 79, 42, 182, 1, 76, 54, 4]
abbrev dktX5_fitsAt_0 : List UInt8 := dkwX5_fitsAt_0 ++ dktX5_fitsAt_1
theorem dksX5_fitsAt_0 : cX5_fitsAt.data.toList.drop 0 = dktX5_fitsAt_0 := by decide +kernel
theorem dksX5_fitsAt_1 : cX5_fitsAt.data.toList.drop 24 = dktX5_fitsAt_1 := dk_seg dksX5_fitsAt_0 24 rfl rfl
theorem dX5_fitsAt_0 : decode cX5_fitsAt 0 = .ok (.aload_n 0, 1) := dk_42 (dk_at dksX5_fitsAt_0 0 rfl rfl)
theorem dX5_fitsAt_1 : decode cX5_fitsAt 1 = .ok (.getfield 51, 3) := dk_180 0 51 (dk_at dksX5_fitsAt_0 1 rfl rfl)
theorem dX5_fitsAt_4 : decode cX5_fitsAt 4 = .ok (.iconst 0, 1) := dk_3 (dk_at dksX5_fitsAt_0 4 rfl rfl)
theorem dX5_fitsAt_5 : decode cX5_fitsAt 5 = .ok (.iload_n 1, 1) := dk_27 (dk_at dksX5_fitsAt_0 5 rfl rfl)
theorem dX5_fitsAt_6 : decode cX5_fitsAt 6 = .ok (.iadd, 1) := dk_96 (dk_at dksX5_fitsAt_0 6 rfl rfl)
theorem dX5_fitsAt_7 : decode cX5_fitsAt 7 = .ok (.iaload, 1) := dk_46 (dk_at dksX5_fitsAt_0 7 rfl rfl)
theorem dX5_fitsAt_8 : decode cX5_fitsAt 8 = .ok (.istore_n 3, 1) := dk_62 (dk_at dksX5_fitsAt_0 8 rfl rfl)
theorem dX5_fitsAt_9 : decode cX5_fitsAt 9 = .ok (.aload_n 0, 1) := dk_42 (dk_at dksX5_fitsAt_0 9 rfl rfl)
theorem dX5_fitsAt_10 : decode cX5_fitsAt 10 = .ok (.getfield 51, 3) := dk_180 0 51 (dk_at dksX5_fitsAt_0 10 rfl rfl)
theorem dX5_fitsAt_13 : decode cX5_fitsAt 13 = .ok (.iconst 0, 1) := dk_3 (dk_at dksX5_fitsAt_0 13 rfl rfl)
theorem dX5_fitsAt_14 : decode cX5_fitsAt 14 = .ok (.iload_n 1, 1) := dk_27 (dk_at dksX5_fitsAt_0 14 rfl rfl)
theorem dX5_fitsAt_15 : decode cX5_fitsAt 15 = .ok (.iadd, 1) := dk_96 (dk_at dksX5_fitsAt_0 15 rfl rfl)
theorem dX5_fitsAt_16 : decode cX5_fitsAt 16 = .ok (.iload_n 2, 1) := dk_28 (dk_at dksX5_fitsAt_0 16 rfl rfl)
theorem dX5_fitsAt_17 : decode cX5_fitsAt 17 = .ok (.iastore, 1) := dk_79 (dk_at dksX5_fitsAt_0 17 rfl rfl)
theorem dX5_fitsAt_18 : decode cX5_fitsAt 18 = .ok (.aload_n 0, 1) := dk_42 (dk_at dksX5_fitsAt_0 18 rfl rfl)
theorem dX5_fitsAt_19 : decode cX5_fitsAt 19 = .ok (.invokevirtual 332, 3) := dk_182 1 76 (dk_at dksX5_fitsAt_0 19 rfl rfl)
theorem dX5_fitsAt_22 : decode cX5_fitsAt 22 = .ok (.istore 4, 2) := dk_54 4 (dk_at dksX5_fitsAt_0 22 rfl rfl)
theorem dX5_fitsAt_24 : decode cX5_fitsAt 24 = .ok (.aload_n 0, 1) := dk_42 (dk_at dksX5_fitsAt_1 0 rfl rfl)
theorem dX5_fitsAt_25 : decode cX5_fitsAt 25 = .ok (.getfield 51, 3) := dk_180 0 51 (dk_at dksX5_fitsAt_1 1 rfl rfl)
theorem dX5_fitsAt_28 : decode cX5_fitsAt 28 = .ok (.iconst 0, 1) := dk_3 (dk_at dksX5_fitsAt_1 4 rfl rfl)
theorem dX5_fitsAt_29 : decode cX5_fitsAt 29 = .ok (.iload_n 1, 1) := dk_27 (dk_at dksX5_fitsAt_1 5 rfl rfl)
theorem dX5_fitsAt_30 : decode cX5_fitsAt 30 = .ok (.iadd, 1) := dk_96 (dk_at dksX5_fitsAt_1 6 rfl rfl)
theorem dX5_fitsAt_31 : decode cX5_fitsAt 31 = .ok (.iload_n 3, 1) := dk_29 (dk_at dksX5_fitsAt_1 7 rfl rfl)
theorem dX5_fitsAt_32 : decode cX5_fitsAt 32 = .ok (.iastore, 1) := dk_79 (dk_at dksX5_fitsAt_1 8 rfl rfl)
theorem dX5_fitsAt_33 : decode cX5_fitsAt 33 = .ok (.iload 4, 2) := dk_21 4 (dk_at dksX5_fitsAt_1 9 rfl rfl)
theorem dX5_fitsAt_35 : decode cX5_fitsAt 35 = .ok (.ireturn, 1) := dk_172 (dk_at dksX5_fitsAt_1 11 rfl rfl)
abbrev cX5_free : ByteArray := prog_10_method_101_code
def yX5_free : MethodName := ⟨RX5, "free", "(I)I"⟩
def dkwX5_free_2 : List UInt8 := [167, 255, 228, 28, 172]
abbrev dktX5_free_2 : List UInt8 := dkwX5_free_2 ++ []
def dkwX5_free_1 : List UInt8 := [163, 0, 26, 28, 42, 27, 29, 182, 1, 131, 153, 0, 7, 4, 167, 0, 4, 3, 96, 61, 132, 3, 1]
abbrev dktX5_free_1 : List UInt8 := dkwX5_free_1 ++ dktX5_free_2
def dkwX5_free_0 : List UInt8 := [42, 3, 181, 0, 96, 42, 27, 182, 1, 3, 154, 0, 5, 2, 172, 3, 61, 4, 62, 29, 42, 180, 0, 238]
abbrev dktX5_free_0 : List UInt8 := dkwX5_free_0 ++ dktX5_free_1
theorem dksX5_free_0 : cX5_free.data.toList.drop 0 = dktX5_free_0 := by decide +kernel
theorem dksX5_free_1 : cX5_free.data.toList.drop 24 = dktX5_free_1 := dk_seg dksX5_free_0 24 rfl rfl
theorem dksX5_free_2 : cX5_free.data.toList.drop 47 = dktX5_free_2 := dk_seg dksX5_free_1 23 rfl rfl
theorem dX5_free_0 : decode cX5_free 0 = .ok (.aload_n 0, 1) := dk_42 (dk_at dksX5_free_0 0 rfl rfl)
theorem dX5_free_1 : decode cX5_free 1 = .ok (.iconst 0, 1) := dk_3 (dk_at dksX5_free_0 1 rfl rfl)
theorem dX5_free_2 : decode cX5_free 2 = .ok (.putfield 96, 3) := dk_181 0 96 (dk_at dksX5_free_0 2 rfl rfl)
theorem dX5_free_5 : decode cX5_free 5 = .ok (.aload_n 0, 1) := dk_42 (dk_at dksX5_free_0 5 rfl rfl)
theorem dX5_free_6 : decode cX5_free 6 = .ok (.iload_n 1, 1) := dk_27 (dk_at dksX5_free_0 6 rfl rfl)
theorem dX5_free_7 : decode cX5_free 7 = .ok (.invokevirtual 259, 3) := dk_182 1 3 (dk_at dksX5_free_0 7 rfl rfl)
theorem dX5_free_10 : decode cX5_free 10 = .ok (.ifCond .ne 5, 3) := dk_154 0 5 (dk_at dksX5_free_0 10 rfl rfl)
theorem dX5_free_13 : decode cX5_free 13 = .ok (.iconst (-1), 1) := dk_2 (dk_at dksX5_free_0 13 rfl rfl)
theorem dX5_free_14 : decode cX5_free 14 = .ok (.ireturn, 1) := dk_172 (dk_at dksX5_free_0 14 rfl rfl)
theorem dX5_free_15 : decode cX5_free 15 = .ok (.iconst 0, 1) := dk_3 (dk_at dksX5_free_0 15 rfl rfl)
theorem dX5_free_16 : decode cX5_free 16 = .ok (.istore_n 2, 1) := dk_61 (dk_at dksX5_free_0 16 rfl rfl)
theorem dX5_free_17 : decode cX5_free 17 = .ok (.iconst 1, 1) := dk_4 (dk_at dksX5_free_0 17 rfl rfl)
theorem dX5_free_18 : decode cX5_free 18 = .ok (.istore_n 3, 1) := dk_62 (dk_at dksX5_free_0 18 rfl rfl)
theorem dX5_free_19 : decode cX5_free 19 = .ok (.iload_n 3, 1) := dk_29 (dk_at dksX5_free_0 19 rfl rfl)
theorem dX5_free_20 : decode cX5_free 20 = .ok (.aload_n 0, 1) := dk_42 (dk_at dksX5_free_0 20 rfl rfl)
theorem dX5_free_21 : decode cX5_free 21 = .ok (.getfield 238, 3) := dk_180 0 238 (dk_at dksX5_free_0 21 rfl rfl)
theorem dX5_free_24 : decode cX5_free 24 = .ok (.if_icmp .gt 26, 3) := dk_163 0 26 (dk_at dksX5_free_1 0 rfl rfl)
theorem dX5_free_27 : decode cX5_free 27 = .ok (.iload_n 2, 1) := dk_28 (dk_at dksX5_free_1 3 rfl rfl)
theorem dX5_free_28 : decode cX5_free 28 = .ok (.aload_n 0, 1) := dk_42 (dk_at dksX5_free_1 4 rfl rfl)
theorem dX5_free_29 : decode cX5_free 29 = .ok (.iload_n 1, 1) := dk_27 (dk_at dksX5_free_1 5 rfl rfl)
theorem dX5_free_30 : decode cX5_free 30 = .ok (.iload_n 3, 1) := dk_29 (dk_at dksX5_free_1 6 rfl rfl)
theorem dX5_free_31 : decode cX5_free 31 = .ok (.invokevirtual 387, 3) := dk_182 1 131 (dk_at dksX5_free_1 7 rfl rfl)
theorem dX5_free_34 : decode cX5_free 34 = .ok (.ifCond .eq 7, 3) := dk_153 0 7 (dk_at dksX5_free_1 10 rfl rfl)
theorem dX5_free_37 : decode cX5_free 37 = .ok (.iconst 1, 1) := dk_4 (dk_at dksX5_free_1 13 rfl rfl)
theorem dX5_free_38 : decode cX5_free 38 = .ok (.goto 4, 3) := dk_167 0 4 (dk_at dksX5_free_1 14 rfl rfl)
theorem dX5_free_41 : decode cX5_free 41 = .ok (.iconst 0, 1) := dk_3 (dk_at dksX5_free_1 17 rfl rfl)
theorem dX5_free_42 : decode cX5_free 42 = .ok (.iadd, 1) := dk_96 (dk_at dksX5_free_1 18 rfl rfl)
theorem dX5_free_43 : decode cX5_free 43 = .ok (.istore_n 2, 1) := dk_61 (dk_at dksX5_free_1 19 rfl rfl)
theorem dX5_free_44 : decode cX5_free 44 = .ok (.iinc 3 1, 3) := dk_132 3 1 (dk_at dksX5_free_1 20 rfl rfl)
theorem dX5_free_47 : decode cX5_free 47 = .ok (.goto (-28), 3) := dk_167 255 228 (dk_at dksX5_free_2 0 rfl rfl)
theorem dX5_free_50 : decode cX5_free 50 = .ok (.iload_n 2, 1) := dk_28 (dk_at dksX5_free_2 3 rfl rfl)
theorem dX5_free_51 : decode cX5_free 51 = .ok (.ireturn, 1) := dk_172 (dk_at dksX5_free_2 4 rfl rfl)
abbrev cX5_freeAt : ByteArray := prog_10_method_102_code
def yX5_freeAt : MethodName := ⟨RX5, "freeAt", "(II)I"⟩
def dkwX5_freeAt_2 : List UInt8 := [154, 0, 6, 21, 4, 172, 132, 3, 255, 132, 4, 1, 167, 255, 221, 16, 254, 172]
abbrev dktX5_freeAt_2 : List UInt8 := dkwX5_freeAt_2 ++ []
def dkwX5_freeAt_1 : List UInt8 := [21, 4, 42, 180, 0, 238, 163, 0, 32, 42, 27, 21, 4, 182, 1, 131, 154, 0, 6, 167, 0, 13, 29]
abbrev dktX5_freeAt_1 : List UInt8 := dkwX5_freeAt_1 ++ dktX5_freeAt_2
def dkwX5_freeAt_0 : List UInt8 := [42, 3, 181, 0, 96, 42, 27, 182, 1, 3, 153, 0, 7, 28, 156, 0, 5, 2, 172, 28, 62, 4, 54, 4]
abbrev dktX5_freeAt_0 : List UInt8 := dkwX5_freeAt_0 ++ dktX5_freeAt_1
theorem dksX5_freeAt_0 : cX5_freeAt.data.toList.drop 0 = dktX5_freeAt_0 := by decide +kernel
theorem dksX5_freeAt_1 : cX5_freeAt.data.toList.drop 24 = dktX5_freeAt_1 := dk_seg dksX5_freeAt_0 24 rfl rfl
theorem dksX5_freeAt_2 : cX5_freeAt.data.toList.drop 47 = dktX5_freeAt_2 := dk_seg dksX5_freeAt_1 23 rfl rfl
theorem dX5_freeAt_0 : decode cX5_freeAt 0 = .ok (.aload_n 0, 1) := dk_42 (dk_at dksX5_freeAt_0 0 rfl rfl)
theorem dX5_freeAt_1 : decode cX5_freeAt 1 = .ok (.iconst 0, 1) := dk_3 (dk_at dksX5_freeAt_0 1 rfl rfl)
theorem dX5_freeAt_2 : decode cX5_freeAt 2 = .ok (.putfield 96, 3) := dk_181 0 96 (dk_at dksX5_freeAt_0 2 rfl rfl)
theorem dX5_freeAt_5 : decode cX5_freeAt 5 = .ok (.aload_n 0, 1) := dk_42 (dk_at dksX5_freeAt_0 5 rfl rfl)
theorem dX5_freeAt_6 : decode cX5_freeAt 6 = .ok (.iload_n 1, 1) := dk_27 (dk_at dksX5_freeAt_0 6 rfl rfl)
theorem dX5_freeAt_7 : decode cX5_freeAt 7 = .ok (.invokevirtual 259, 3) := dk_182 1 3 (dk_at dksX5_freeAt_0 7 rfl rfl)
theorem dX5_freeAt_10 : decode cX5_freeAt 10 = .ok (.ifCond .eq 7, 3) := dk_153 0 7 (dk_at dksX5_freeAt_0 10 rfl rfl)
theorem dX5_freeAt_13 : decode cX5_freeAt 13 = .ok (.iload_n 2, 1) := dk_28 (dk_at dksX5_freeAt_0 13 rfl rfl)
theorem dX5_freeAt_14 : decode cX5_freeAt 14 = .ok (.ifCond .ge 5, 3) := dk_156 0 5 (dk_at dksX5_freeAt_0 14 rfl rfl)
theorem dX5_freeAt_17 : decode cX5_freeAt 17 = .ok (.iconst (-1), 1) := dk_2 (dk_at dksX5_freeAt_0 17 rfl rfl)
theorem dX5_freeAt_18 : decode cX5_freeAt 18 = .ok (.ireturn, 1) := dk_172 (dk_at dksX5_freeAt_0 18 rfl rfl)
theorem dX5_freeAt_19 : decode cX5_freeAt 19 = .ok (.iload_n 2, 1) := dk_28 (dk_at dksX5_freeAt_0 19 rfl rfl)
theorem dX5_freeAt_20 : decode cX5_freeAt 20 = .ok (.istore_n 3, 1) := dk_62 (dk_at dksX5_freeAt_0 20 rfl rfl)
theorem dX5_freeAt_21 : decode cX5_freeAt 21 = .ok (.iconst 1, 1) := dk_4 (dk_at dksX5_freeAt_0 21 rfl rfl)
theorem dX5_freeAt_22 : decode cX5_freeAt 22 = .ok (.istore 4, 2) := dk_54 4 (dk_at dksX5_freeAt_0 22 rfl rfl)
theorem dX5_freeAt_24 : decode cX5_freeAt 24 = .ok (.iload 4, 2) := dk_21 4 (dk_at dksX5_freeAt_1 0 rfl rfl)
theorem dX5_freeAt_26 : decode cX5_freeAt 26 = .ok (.aload_n 0, 1) := dk_42 (dk_at dksX5_freeAt_1 2 rfl rfl)
theorem dX5_freeAt_27 : decode cX5_freeAt 27 = .ok (.getfield 238, 3) := dk_180 0 238 (dk_at dksX5_freeAt_1 3 rfl rfl)
theorem dX5_freeAt_30 : decode cX5_freeAt 30 = .ok (.if_icmp .gt 32, 3) := dk_163 0 32 (dk_at dksX5_freeAt_1 6 rfl rfl)
theorem dX5_freeAt_33 : decode cX5_freeAt 33 = .ok (.aload_n 0, 1) := dk_42 (dk_at dksX5_freeAt_1 9 rfl rfl)
theorem dX5_freeAt_34 : decode cX5_freeAt 34 = .ok (.iload_n 1, 1) := dk_27 (dk_at dksX5_freeAt_1 10 rfl rfl)
theorem dX5_freeAt_35 : decode cX5_freeAt 35 = .ok (.iload 4, 2) := dk_21 4 (dk_at dksX5_freeAt_1 11 rfl rfl)
theorem dX5_freeAt_37 : decode cX5_freeAt 37 = .ok (.invokevirtual 387, 3) := dk_182 1 131 (dk_at dksX5_freeAt_1 13 rfl rfl)
theorem dX5_freeAt_40 : decode cX5_freeAt 40 = .ok (.ifCond .ne 6, 3) := dk_154 0 6 (dk_at dksX5_freeAt_1 16 rfl rfl)
theorem dX5_freeAt_43 : decode cX5_freeAt 43 = .ok (.goto 13, 3) := dk_167 0 13 (dk_at dksX5_freeAt_1 19 rfl rfl)
theorem dX5_freeAt_46 : decode cX5_freeAt 46 = .ok (.iload_n 3, 1) := dk_29 (dk_at dksX5_freeAt_1 22 rfl rfl)
theorem dX5_freeAt_47 : decode cX5_freeAt 47 = .ok (.ifCond .ne 6, 3) := dk_154 0 6 (dk_at dksX5_freeAt_2 0 rfl rfl)
theorem dX5_freeAt_50 : decode cX5_freeAt 50 = .ok (.iload 4, 2) := dk_21 4 (dk_at dksX5_freeAt_2 3 rfl rfl)
theorem dX5_freeAt_52 : decode cX5_freeAt 52 = .ok (.ireturn, 1) := dk_172 (dk_at dksX5_freeAt_2 5 rfl rfl)
theorem dX5_freeAt_53 : decode cX5_freeAt 53 = .ok (.iinc 3 (-1), 3) := dk_132 3 255 (dk_at dksX5_freeAt_2 6 rfl rfl)
theorem dX5_freeAt_56 : decode cX5_freeAt 56 = .ok (.iinc 4 1, 3) := dk_132 4 1 (dk_at dksX5_freeAt_2 9 rfl rfl)
theorem dX5_freeAt_59 : decode cX5_freeAt 59 = .ok (.goto (-35), 3) := dk_167 255 221 (dk_at dksX5_freeAt_2 12 rfl rfl)
theorem dX5_freeAt_62 : decode cX5_freeAt 62 = .ok (.bipush (-2), 2) := dk_16 254 (dk_at dksX5_freeAt_2 15 rfl rfl)
theorem dX5_freeAt_64 : decode cX5_freeAt 64 = .ok (.ireturn, 1) := dk_172 (dk_at dksX5_freeAt_2 17 rfl rfl)
abbrev cX5_quietest : ByteArray := prog_10_method_104_code
def yX5_quietest : MethodName := ⟨RX5, "quietest", "(I)I"⟩
def dkwX5_quietest_3 : List UInt8 := [21, 5, 29, 161, 0, 6, 167, 0, 9, 21, 4, 61, 21, 5, 62, 132, 4, 1, 167, 255, 195, 28, 172]
abbrev dktX5_quietest_3 : List UInt8 := dkwX5_quietest_3 ++ []
def dkwX5_quietest_2 : List UInt8 := [46, 4, 160, 0, 6, 167, 0, 33, 42, 27, 21, 4, 182, 1, 134, 54, 5, 28, 16, 254, 159, 0, 12]
abbrev dktX5_quietest_2 : List UInt8 := dkwX5_quietest_2 ++ dktX5_quietest_3
def dkwX5_quietest_1 : List UInt8 := [27, 46, 54, 4, 21, 4, 42, 180, 0, 32, 27, 46, 163, 0, 56, 42, 180, 0, 51, 16, 12, 21, 4, 96]
abbrev dktX5_quietest_1 : List UInt8 := dkwX5_quietest_1 ++ dktX5_quietest_2
def dkwX5_quietest_0 : List UInt8 := [42, 3, 181, 0, 96, 42, 27, 182, 1, 3, 154, 0, 5, 2, 172, 16, 254, 61, 3, 62, 42, 180, 0, 29]
abbrev dktX5_quietest_0 : List UInt8 := dkwX5_quietest_0 ++ dktX5_quietest_1
theorem dksX5_quietest_0 : cX5_quietest.data.toList.drop 0 = dktX5_quietest_0 := by decide +kernel
theorem dksX5_quietest_1 : cX5_quietest.data.toList.drop 24 = dktX5_quietest_1 := dk_seg dksX5_quietest_0 24 rfl rfl
theorem dksX5_quietest_2 : cX5_quietest.data.toList.drop 48 = dktX5_quietest_2 := dk_seg dksX5_quietest_1 24 rfl rfl
theorem dksX5_quietest_3 : cX5_quietest.data.toList.drop 71 = dktX5_quietest_3 := dk_seg dksX5_quietest_2 23 rfl rfl
theorem dX5_quietest_0 : decode cX5_quietest 0 = .ok (.aload_n 0, 1) := dk_42 (dk_at dksX5_quietest_0 0 rfl rfl)
theorem dX5_quietest_1 : decode cX5_quietest 1 = .ok (.iconst 0, 1) := dk_3 (dk_at dksX5_quietest_0 1 rfl rfl)
theorem dX5_quietest_2 : decode cX5_quietest 2 = .ok (.putfield 96, 3) := dk_181 0 96 (dk_at dksX5_quietest_0 2 rfl rfl)
theorem dX5_quietest_5 : decode cX5_quietest 5 = .ok (.aload_n 0, 1) := dk_42 (dk_at dksX5_quietest_0 5 rfl rfl)
theorem dX5_quietest_6 : decode cX5_quietest 6 = .ok (.iload_n 1, 1) := dk_27 (dk_at dksX5_quietest_0 6 rfl rfl)
theorem dX5_quietest_7 : decode cX5_quietest 7 = .ok (.invokevirtual 259, 3) := dk_182 1 3 (dk_at dksX5_quietest_0 7 rfl rfl)
theorem dX5_quietest_10 : decode cX5_quietest 10 = .ok (.ifCond .ne 5, 3) := dk_154 0 5 (dk_at dksX5_quietest_0 10 rfl rfl)
theorem dX5_quietest_13 : decode cX5_quietest 13 = .ok (.iconst (-1), 1) := dk_2 (dk_at dksX5_quietest_0 13 rfl rfl)
theorem dX5_quietest_14 : decode cX5_quietest 14 = .ok (.ireturn, 1) := dk_172 (dk_at dksX5_quietest_0 14 rfl rfl)
theorem dX5_quietest_15 : decode cX5_quietest 15 = .ok (.bipush (-2), 2) := dk_16 254 (dk_at dksX5_quietest_0 15 rfl rfl)
theorem dX5_quietest_17 : decode cX5_quietest 17 = .ok (.istore_n 2, 1) := dk_61 (dk_at dksX5_quietest_0 17 rfl rfl)
theorem dX5_quietest_18 : decode cX5_quietest 18 = .ok (.iconst 0, 1) := dk_3 (dk_at dksX5_quietest_0 18 rfl rfl)
theorem dX5_quietest_19 : decode cX5_quietest 19 = .ok (.istore_n 3, 1) := dk_62 (dk_at dksX5_quietest_0 19 rfl rfl)
theorem dX5_quietest_20 : decode cX5_quietest 20 = .ok (.aload_n 0, 1) := dk_42 (dk_at dksX5_quietest_0 20 rfl rfl)
theorem dX5_quietest_21 : decode cX5_quietest 21 = .ok (.getfield 29, 3) := dk_180 0 29 (dk_at dksX5_quietest_0 21 rfl rfl)
theorem dX5_quietest_24 : decode cX5_quietest 24 = .ok (.iload_n 1, 1) := dk_27 (dk_at dksX5_quietest_1 0 rfl rfl)
theorem dX5_quietest_25 : decode cX5_quietest 25 = .ok (.iaload, 1) := dk_46 (dk_at dksX5_quietest_1 1 rfl rfl)
theorem dX5_quietest_26 : decode cX5_quietest 26 = .ok (.istore 4, 2) := dk_54 4 (dk_at dksX5_quietest_1 2 rfl rfl)
theorem dX5_quietest_28 : decode cX5_quietest 28 = .ok (.iload 4, 2) := dk_21 4 (dk_at dksX5_quietest_1 4 rfl rfl)
theorem dX5_quietest_30 : decode cX5_quietest 30 = .ok (.aload_n 0, 1) := dk_42 (dk_at dksX5_quietest_1 6 rfl rfl)
theorem dX5_quietest_31 : decode cX5_quietest 31 = .ok (.getfield 32, 3) := dk_180 0 32 (dk_at dksX5_quietest_1 7 rfl rfl)
theorem dX5_quietest_34 : decode cX5_quietest 34 = .ok (.iload_n 1, 1) := dk_27 (dk_at dksX5_quietest_1 10 rfl rfl)
theorem dX5_quietest_35 : decode cX5_quietest 35 = .ok (.iaload, 1) := dk_46 (dk_at dksX5_quietest_1 11 rfl rfl)
theorem dX5_quietest_36 : decode cX5_quietest 36 = .ok (.if_icmp .gt 56, 3) := dk_163 0 56 (dk_at dksX5_quietest_1 12 rfl rfl)
theorem dX5_quietest_39 : decode cX5_quietest 39 = .ok (.aload_n 0, 1) := dk_42 (dk_at dksX5_quietest_1 15 rfl rfl)
theorem dX5_quietest_40 : decode cX5_quietest 40 = .ok (.getfield 51, 3) := dk_180 0 51 (dk_at dksX5_quietest_1 16 rfl rfl)
theorem dX5_quietest_43 : decode cX5_quietest 43 = .ok (.bipush 12, 2) := dk_16 12 (dk_at dksX5_quietest_1 19 rfl rfl)
theorem dX5_quietest_45 : decode cX5_quietest 45 = .ok (.iload 4, 2) := dk_21 4 (dk_at dksX5_quietest_1 21 rfl rfl)
theorem dX5_quietest_47 : decode cX5_quietest 47 = .ok (.iadd, 1) := dk_96 (dk_at dksX5_quietest_1 23 rfl rfl)
theorem dX5_quietest_48 : decode cX5_quietest 48 = .ok (.iaload, 1) := dk_46 (dk_at dksX5_quietest_2 0 rfl rfl)
theorem dX5_quietest_49 : decode cX5_quietest 49 = .ok (.iconst 1, 1) := dk_4 (dk_at dksX5_quietest_2 1 rfl rfl)
theorem dX5_quietest_50 : decode cX5_quietest 50 = .ok (.if_icmp .ne 6, 3) := dk_160 0 6 (dk_at dksX5_quietest_2 2 rfl rfl)
theorem dX5_quietest_53 : decode cX5_quietest 53 = .ok (.goto 33, 3) := dk_167 0 33 (dk_at dksX5_quietest_2 5 rfl rfl)
theorem dX5_quietest_56 : decode cX5_quietest 56 = .ok (.aload_n 0, 1) := dk_42 (dk_at dksX5_quietest_2 8 rfl rfl)
theorem dX5_quietest_57 : decode cX5_quietest 57 = .ok (.iload_n 1, 1) := dk_27 (dk_at dksX5_quietest_2 9 rfl rfl)
theorem dX5_quietest_58 : decode cX5_quietest 58 = .ok (.iload 4, 2) := dk_21 4 (dk_at dksX5_quietest_2 10 rfl rfl)
theorem dX5_quietest_60 : decode cX5_quietest 60 = .ok (.invokevirtual 390, 3) := dk_182 1 134 (dk_at dksX5_quietest_2 12 rfl rfl)
theorem dX5_quietest_63 : decode cX5_quietest 63 = .ok (.istore 5, 2) := dk_54 5 (dk_at dksX5_quietest_2 15 rfl rfl)
theorem dX5_quietest_65 : decode cX5_quietest 65 = .ok (.iload_n 2, 1) := dk_28 (dk_at dksX5_quietest_2 17 rfl rfl)
theorem dX5_quietest_66 : decode cX5_quietest 66 = .ok (.bipush (-2), 2) := dk_16 254 (dk_at dksX5_quietest_2 18 rfl rfl)
theorem dX5_quietest_68 : decode cX5_quietest 68 = .ok (.if_icmp .eq 12, 3) := dk_159 0 12 (dk_at dksX5_quietest_2 20 rfl rfl)
theorem dX5_quietest_71 : decode cX5_quietest 71 = .ok (.iload 5, 2) := dk_21 5 (dk_at dksX5_quietest_3 0 rfl rfl)
theorem dX5_quietest_73 : decode cX5_quietest 73 = .ok (.iload_n 3, 1) := dk_29 (dk_at dksX5_quietest_3 2 rfl rfl)
theorem dX5_quietest_74 : decode cX5_quietest 74 = .ok (.if_icmp .lt 6, 3) := dk_161 0 6 (dk_at dksX5_quietest_3 3 rfl rfl)
theorem dX5_quietest_77 : decode cX5_quietest 77 = .ok (.goto 9, 3) := dk_167 0 9 (dk_at dksX5_quietest_3 6 rfl rfl)
theorem dX5_quietest_80 : decode cX5_quietest 80 = .ok (.iload 4, 2) := dk_21 4 (dk_at dksX5_quietest_3 9 rfl rfl)
theorem dX5_quietest_82 : decode cX5_quietest 82 = .ok (.istore_n 2, 1) := dk_61 (dk_at dksX5_quietest_3 11 rfl rfl)
theorem dX5_quietest_83 : decode cX5_quietest 83 = .ok (.iload 5, 2) := dk_21 5 (dk_at dksX5_quietest_3 12 rfl rfl)
theorem dX5_quietest_85 : decode cX5_quietest 85 = .ok (.istore_n 3, 1) := dk_62 (dk_at dksX5_quietest_3 14 rfl rfl)
theorem dX5_quietest_86 : decode cX5_quietest 86 = .ok (.iinc 4 1, 3) := dk_132 4 1 (dk_at dksX5_quietest_3 15 rfl rfl)
theorem dX5_quietest_89 : decode cX5_quietest 89 = .ok (.goto (-61), 3) := dk_167 255 195 (dk_at dksX5_quietest_3 18 rfl rfl)
theorem dX5_quietest_92 : decode cX5_quietest 92 = .ok (.iload_n 2, 1) := dk_28 (dk_at dksX5_quietest_3 21 rfl rfl)
theorem dX5_quietest_93 : decode cX5_quietest 93 = .ok (.ireturn, 1) := dk_172 (dk_at dksX5_quietest_3 22 rfl rfl)
abbrev cX5_noiseAt : ByteArray := prog_10_method_103_code
def yX5_noiseAt : MethodName := ⟨RX5, "noiseAt", "(II)I"⟩
def dkwX5_noiseAt_1 : List UInt8 := [182, 1, 125, 42, 182, 1, 128, 96, 54, 4, 42, 180, 0, 51, 3, 27, 96, 29, 79, 21, 4, 172]
abbrev dktX5_noiseAt_1 : List UInt8 := dkwX5_noiseAt_1 ++ []
def dkwX5_noiseAt_0 : List UInt8 := [42, 180, 0, 51, 3, 27, 96, 46, 62, 42, 180, 0, 51, 3, 27, 96, 28, 79, 42, 182, 1, 70, 42]
abbrev dktX5_noiseAt_0 : List UInt8 := dkwX5_noiseAt_0 ++ dktX5_noiseAt_1
theorem dksX5_noiseAt_0 : cX5_noiseAt.data.toList.drop 0 = dktX5_noiseAt_0 := by decide +kernel
theorem dksX5_noiseAt_1 : cX5_noiseAt.data.toList.drop 23 = dktX5_noiseAt_1 := dk_seg dksX5_noiseAt_0 23 rfl rfl
theorem dX5_noiseAt_0 : decode cX5_noiseAt 0 = .ok (.aload_n 0, 1) := dk_42 (dk_at dksX5_noiseAt_0 0 rfl rfl)
theorem dX5_noiseAt_1 : decode cX5_noiseAt 1 = .ok (.getfield 51, 3) := dk_180 0 51 (dk_at dksX5_noiseAt_0 1 rfl rfl)
theorem dX5_noiseAt_4 : decode cX5_noiseAt 4 = .ok (.iconst 0, 1) := dk_3 (dk_at dksX5_noiseAt_0 4 rfl rfl)
theorem dX5_noiseAt_5 : decode cX5_noiseAt 5 = .ok (.iload_n 1, 1) := dk_27 (dk_at dksX5_noiseAt_0 5 rfl rfl)
theorem dX5_noiseAt_6 : decode cX5_noiseAt 6 = .ok (.iadd, 1) := dk_96 (dk_at dksX5_noiseAt_0 6 rfl rfl)
theorem dX5_noiseAt_7 : decode cX5_noiseAt 7 = .ok (.iaload, 1) := dk_46 (dk_at dksX5_noiseAt_0 7 rfl rfl)
theorem dX5_noiseAt_8 : decode cX5_noiseAt 8 = .ok (.istore_n 3, 1) := dk_62 (dk_at dksX5_noiseAt_0 8 rfl rfl)
theorem dX5_noiseAt_9 : decode cX5_noiseAt 9 = .ok (.aload_n 0, 1) := dk_42 (dk_at dksX5_noiseAt_0 9 rfl rfl)
theorem dX5_noiseAt_10 : decode cX5_noiseAt 10 = .ok (.getfield 51, 3) := dk_180 0 51 (dk_at dksX5_noiseAt_0 10 rfl rfl)
theorem dX5_noiseAt_13 : decode cX5_noiseAt 13 = .ok (.iconst 0, 1) := dk_3 (dk_at dksX5_noiseAt_0 13 rfl rfl)
theorem dX5_noiseAt_14 : decode cX5_noiseAt 14 = .ok (.iload_n 1, 1) := dk_27 (dk_at dksX5_noiseAt_0 14 rfl rfl)
theorem dX5_noiseAt_15 : decode cX5_noiseAt 15 = .ok (.iadd, 1) := dk_96 (dk_at dksX5_noiseAt_0 15 rfl rfl)
theorem dX5_noiseAt_16 : decode cX5_noiseAt 16 = .ok (.iload_n 2, 1) := dk_28 (dk_at dksX5_noiseAt_0 16 rfl rfl)
theorem dX5_noiseAt_17 : decode cX5_noiseAt 17 = .ok (.iastore, 1) := dk_79 (dk_at dksX5_noiseAt_0 17 rfl rfl)
theorem dX5_noiseAt_18 : decode cX5_noiseAt 18 = .ok (.aload_n 0, 1) := dk_42 (dk_at dksX5_noiseAt_0 18 rfl rfl)
theorem dX5_noiseAt_19 : decode cX5_noiseAt 19 = .ok (.invokevirtual 326, 3) := dk_182 1 70 (dk_at dksX5_noiseAt_0 19 rfl rfl)
theorem dX5_noiseAt_22 : decode cX5_noiseAt 22 = .ok (.aload_n 0, 1) := dk_42 (dk_at dksX5_noiseAt_0 22 rfl rfl)
theorem dX5_noiseAt_23 : decode cX5_noiseAt 23 = .ok (.invokevirtual 381, 3) := dk_182 1 125 (dk_at dksX5_noiseAt_1 0 rfl rfl)
theorem dX5_noiseAt_26 : decode cX5_noiseAt 26 = .ok (.aload_n 0, 1) := dk_42 (dk_at dksX5_noiseAt_1 3 rfl rfl)
theorem dX5_noiseAt_27 : decode cX5_noiseAt 27 = .ok (.invokevirtual 384, 3) := dk_182 1 128 (dk_at dksX5_noiseAt_1 4 rfl rfl)
theorem dX5_noiseAt_30 : decode cX5_noiseAt 30 = .ok (.iadd, 1) := dk_96 (dk_at dksX5_noiseAt_1 7 rfl rfl)
theorem dX5_noiseAt_31 : decode cX5_noiseAt 31 = .ok (.istore 4, 2) := dk_54 4 (dk_at dksX5_noiseAt_1 8 rfl rfl)
theorem dX5_noiseAt_33 : decode cX5_noiseAt 33 = .ok (.aload_n 0, 1) := dk_42 (dk_at dksX5_noiseAt_1 10 rfl rfl)
theorem dX5_noiseAt_34 : decode cX5_noiseAt 34 = .ok (.getfield 51, 3) := dk_180 0 51 (dk_at dksX5_noiseAt_1 11 rfl rfl)
theorem dX5_noiseAt_37 : decode cX5_noiseAt 37 = .ok (.iconst 0, 1) := dk_3 (dk_at dksX5_noiseAt_1 14 rfl rfl)
theorem dX5_noiseAt_38 : decode cX5_noiseAt 38 = .ok (.iload_n 1, 1) := dk_27 (dk_at dksX5_noiseAt_1 15 rfl rfl)
theorem dX5_noiseAt_39 : decode cX5_noiseAt 39 = .ok (.iadd, 1) := dk_96 (dk_at dksX5_noiseAt_1 16 rfl rfl)
theorem dX5_noiseAt_40 : decode cX5_noiseAt 40 = .ok (.iload_n 3, 1) := dk_29 (dk_at dksX5_noiseAt_1 17 rfl rfl)
theorem dX5_noiseAt_41 : decode cX5_noiseAt 41 = .ok (.iastore, 1) := dk_79 (dk_at dksX5_noiseAt_1 18 rfl rfl)
theorem dX5_noiseAt_42 : decode cX5_noiseAt 42 = .ok (.iload 4, 2) := dk_21 4 (dk_at dksX5_noiseAt_1 19 rfl rfl)
theorem dX5_noiseAt_44 : decode cX5_noiseAt 44 = .ok (.ireturn, 1) := dk_172 (dk_at dksX5_noiseAt_1 21 rfl rfl)
abbrev cX5_ifTuned : ByteArray := prog_10_method_105_code
def yX5_ifTuned : MethodName := ⟨RX5, "ifTuned", "(II)I"⟩
def dkwX5_ifTuned_1 : List UInt8 := [154, 0, 5, 2, 172, 42, 27, 28, 182, 1, 134, 172]
abbrev dktX5_ifTuned_1 : List UInt8 := dkwX5_ifTuned_1 ++ []
def dkwX5_ifTuned_0 : List UInt8 := [42, 3, 181, 0, 96, 42, 27, 182, 1, 3, 153, 0, 15, 28, 153, 0, 13, 42, 28, 182, 1, 6]
abbrev dktX5_ifTuned_0 : List UInt8 := dkwX5_ifTuned_0 ++ dktX5_ifTuned_1
theorem dksX5_ifTuned_0 : cX5_ifTuned.data.toList.drop 0 = dktX5_ifTuned_0 := by decide +kernel
theorem dksX5_ifTuned_1 : cX5_ifTuned.data.toList.drop 22 = dktX5_ifTuned_1 := dk_seg dksX5_ifTuned_0 22 rfl rfl
theorem dX5_ifTuned_0 : decode cX5_ifTuned 0 = .ok (.aload_n 0, 1) := dk_42 (dk_at dksX5_ifTuned_0 0 rfl rfl)
theorem dX5_ifTuned_1 : decode cX5_ifTuned 1 = .ok (.iconst 0, 1) := dk_3 (dk_at dksX5_ifTuned_0 1 rfl rfl)
theorem dX5_ifTuned_2 : decode cX5_ifTuned 2 = .ok (.putfield 96, 3) := dk_181 0 96 (dk_at dksX5_ifTuned_0 2 rfl rfl)
theorem dX5_ifTuned_5 : decode cX5_ifTuned 5 = .ok (.aload_n 0, 1) := dk_42 (dk_at dksX5_ifTuned_0 5 rfl rfl)
theorem dX5_ifTuned_6 : decode cX5_ifTuned 6 = .ok (.iload_n 1, 1) := dk_27 (dk_at dksX5_ifTuned_0 6 rfl rfl)
theorem dX5_ifTuned_7 : decode cX5_ifTuned 7 = .ok (.invokevirtual 259, 3) := dk_182 1 3 (dk_at dksX5_ifTuned_0 7 rfl rfl)
theorem dX5_ifTuned_10 : decode cX5_ifTuned 10 = .ok (.ifCond .eq 15, 3) := dk_153 0 15 (dk_at dksX5_ifTuned_0 10 rfl rfl)
theorem dX5_ifTuned_13 : decode cX5_ifTuned 13 = .ok (.iload_n 2, 1) := dk_28 (dk_at dksX5_ifTuned_0 13 rfl rfl)
theorem dX5_ifTuned_14 : decode cX5_ifTuned 14 = .ok (.ifCond .eq 13, 3) := dk_153 0 13 (dk_at dksX5_ifTuned_0 14 rfl rfl)
theorem dX5_ifTuned_17 : decode cX5_ifTuned 17 = .ok (.aload_n 0, 1) := dk_42 (dk_at dksX5_ifTuned_0 17 rfl rfl)
theorem dX5_ifTuned_18 : decode cX5_ifTuned 18 = .ok (.iload_n 2, 1) := dk_28 (dk_at dksX5_ifTuned_0 18 rfl rfl)
theorem dX5_ifTuned_19 : decode cX5_ifTuned 19 = .ok (.invokevirtual 262, 3) := dk_182 1 6 (dk_at dksX5_ifTuned_0 19 rfl rfl)
theorem dX5_ifTuned_22 : decode cX5_ifTuned 22 = .ok (.ifCond .ne 5, 3) := dk_154 0 5 (dk_at dksX5_ifTuned_1 0 rfl rfl)
theorem dX5_ifTuned_25 : decode cX5_ifTuned 25 = .ok (.iconst (-1), 1) := dk_2 (dk_at dksX5_ifTuned_1 3 rfl rfl)
theorem dX5_ifTuned_26 : decode cX5_ifTuned 26 = .ok (.ireturn, 1) := dk_172 (dk_at dksX5_ifTuned_1 4 rfl rfl)
theorem dX5_ifTuned_27 : decode cX5_ifTuned 27 = .ok (.aload_n 0, 1) := dk_42 (dk_at dksX5_ifTuned_1 5 rfl rfl)
theorem dX5_ifTuned_28 : decode cX5_ifTuned 28 = .ok (.iload_n 1, 1) := dk_27 (dk_at dksX5_ifTuned_1 6 rfl rfl)
theorem dX5_ifTuned_29 : decode cX5_ifTuned 29 = .ok (.iload_n 2, 1) := dk_28 (dk_at dksX5_ifTuned_1 7 rfl rfl)
theorem dX5_ifTuned_30 : decode cX5_ifTuned 30 = .ok (.invokevirtual 390, 3) := dk_182 1 134 (dk_at dksX5_ifTuned_1 8 rfl rfl)
theorem dX5_ifTuned_33 : decode cX5_ifTuned 33 = .ok (.ireturn, 1) := dk_172 (dk_at dksX5_ifTuned_1 11 rfl rfl)
abbrev cX5_worst : ByteArray := prog_10_method_108_code
def yX5_worst : MethodName := ⟨RX5, "worst", "()I"⟩
def dkwX5_worst_0 : List UInt8 := [42, 3, 181, 0, 96, 42, 182, 1, 140, 172]
abbrev dktX5_worst_0 : List UInt8 := dkwX5_worst_0 ++ []
theorem dksX5_worst_0 : cX5_worst.data.toList.drop 0 = dktX5_worst_0 := by decide +kernel
theorem dX5_worst_0 : decode cX5_worst 0 = .ok (.aload_n 0, 1) := dk_42 (dk_at dksX5_worst_0 0 rfl rfl)
theorem dX5_worst_1 : decode cX5_worst 1 = .ok (.iconst 0, 1) := dk_3 (dk_at dksX5_worst_0 1 rfl rfl)
theorem dX5_worst_2 : decode cX5_worst 2 = .ok (.putfield 96, 3) := dk_181 0 96 (dk_at dksX5_worst_0 2 rfl rfl)
theorem dX5_worst_5 : decode cX5_worst 5 = .ok (.aload_n 0, 1) := dk_42 (dk_at dksX5_worst_0 5 rfl rfl)
theorem dX5_worst_6 : decode cX5_worst 6 = .ok (.invokevirtual 396, 3) := dk_182 1 140 (dk_at dksX5_worst_0 6 rfl rfl)
theorem dX5_worst_9 : decode cX5_worst 9 = .ok (.ireturn, 1) := dk_172 (dk_at dksX5_worst_0 9 rfl rfl)
abbrev cX5_worstNow : ByteArray := prog_10_method_107_code
def yX5_worstNow : MethodName := ⟨RX5, "worstNow", "()I"⟩
def dkwX5_worstNow_1 : List UInt8 := [54, 4, 21, 4, 28, 163, 0, 6, 167, 0, 8, 29, 60, 21, 4, 61, 132, 3, 1, 167, 255, 224, 27, 172]
abbrev dktX5_worstNow_1 : List UInt8 := dkwX5_worstNow_1 ++ []
def dkwX5_worstNow_0 : List UInt8 := [42, 182, 1, 70, 16, 254, 60, 3, 61, 3, 62, 29, 42, 182, 0, 232, 162, 0, 30, 42, 29, 182, 1, 137]
abbrev dktX5_worstNow_0 : List UInt8 := dkwX5_worstNow_0 ++ dktX5_worstNow_1
theorem dksX5_worstNow_0 : cX5_worstNow.data.toList.drop 0 = dktX5_worstNow_0 := by decide +kernel
theorem dksX5_worstNow_1 : cX5_worstNow.data.toList.drop 24 = dktX5_worstNow_1 := dk_seg dksX5_worstNow_0 24 rfl rfl
theorem dX5_worstNow_0 : decode cX5_worstNow 0 = .ok (.aload_n 0, 1) := dk_42 (dk_at dksX5_worstNow_0 0 rfl rfl)
theorem dX5_worstNow_1 : decode cX5_worstNow 1 = .ok (.invokevirtual 326, 3) := dk_182 1 70 (dk_at dksX5_worstNow_0 1 rfl rfl)
theorem dX5_worstNow_4 : decode cX5_worstNow 4 = .ok (.bipush (-2), 2) := dk_16 254 (dk_at dksX5_worstNow_0 4 rfl rfl)
theorem dX5_worstNow_6 : decode cX5_worstNow 6 = .ok (.istore_n 1, 1) := dk_60 (dk_at dksX5_worstNow_0 6 rfl rfl)
theorem dX5_worstNow_7 : decode cX5_worstNow 7 = .ok (.iconst 0, 1) := dk_3 (dk_at dksX5_worstNow_0 7 rfl rfl)
theorem dX5_worstNow_8 : decode cX5_worstNow 8 = .ok (.istore_n 2, 1) := dk_61 (dk_at dksX5_worstNow_0 8 rfl rfl)
theorem dX5_worstNow_9 : decode cX5_worstNow 9 = .ok (.iconst 0, 1) := dk_3 (dk_at dksX5_worstNow_0 9 rfl rfl)
theorem dX5_worstNow_10 : decode cX5_worstNow 10 = .ok (.istore_n 3, 1) := dk_62 (dk_at dksX5_worstNow_0 10 rfl rfl)
theorem dX5_worstNow_11 : decode cX5_worstNow 11 = .ok (.iload_n 3, 1) := dk_29 (dk_at dksX5_worstNow_0 11 rfl rfl)
theorem dX5_worstNow_12 : decode cX5_worstNow 12 = .ok (.aload_n 0, 1) := dk_42 (dk_at dksX5_worstNow_0 12 rfl rfl)
theorem dX5_worstNow_13 : decode cX5_worstNow 13 = .ok (.invokevirtual 232, 3) := dk_182 0 232 (dk_at dksX5_worstNow_0 13 rfl rfl)
theorem dX5_worstNow_16 : decode cX5_worstNow 16 = .ok (.if_icmp .ge 30, 3) := dk_162 0 30 (dk_at dksX5_worstNow_0 16 rfl rfl)
theorem dX5_worstNow_19 : decode cX5_worstNow 19 = .ok (.aload_n 0, 1) := dk_42 (dk_at dksX5_worstNow_0 19 rfl rfl)
theorem dX5_worstNow_20 : decode cX5_worstNow 20 = .ok (.iload_n 3, 1) := dk_29 (dk_at dksX5_worstNow_0 20 rfl rfl)
theorem dX5_worstNow_21 : decode cX5_worstNow 21 = .ok (.invokevirtual 393, 3) := dk_182 1 137 (dk_at dksX5_worstNow_0 21 rfl rfl)
theorem dX5_worstNow_24 : decode cX5_worstNow 24 = .ok (.istore 4, 2) := dk_54 4 (dk_at dksX5_worstNow_1 0 rfl rfl)
theorem dX5_worstNow_26 : decode cX5_worstNow 26 = .ok (.iload 4, 2) := dk_21 4 (dk_at dksX5_worstNow_1 2 rfl rfl)
theorem dX5_worstNow_28 : decode cX5_worstNow 28 = .ok (.iload_n 2, 1) := dk_28 (dk_at dksX5_worstNow_1 4 rfl rfl)
theorem dX5_worstNow_29 : decode cX5_worstNow 29 = .ok (.if_icmp .gt 6, 3) := dk_163 0 6 (dk_at dksX5_worstNow_1 5 rfl rfl)
theorem dX5_worstNow_32 : decode cX5_worstNow 32 = .ok (.goto 8, 3) := dk_167 0 8 (dk_at dksX5_worstNow_1 8 rfl rfl)
theorem dX5_worstNow_35 : decode cX5_worstNow 35 = .ok (.iload_n 3, 1) := dk_29 (dk_at dksX5_worstNow_1 11 rfl rfl)
theorem dX5_worstNow_36 : decode cX5_worstNow 36 = .ok (.istore_n 1, 1) := dk_60 (dk_at dksX5_worstNow_1 12 rfl rfl)
theorem dX5_worstNow_37 : decode cX5_worstNow 37 = .ok (.iload 4, 2) := dk_21 4 (dk_at dksX5_worstNow_1 13 rfl rfl)
theorem dX5_worstNow_39 : decode cX5_worstNow 39 = .ok (.istore_n 2, 1) := dk_61 (dk_at dksX5_worstNow_1 15 rfl rfl)
theorem dX5_worstNow_40 : decode cX5_worstNow 40 = .ok (.iinc 3 1, 3) := dk_132 3 1 (dk_at dksX5_worstNow_1 16 rfl rfl)
theorem dX5_worstNow_43 : decode cX5_worstNow 43 = .ok (.goto (-32), 3) := dk_167 255 224 (dk_at dksX5_worstNow_1 19 rfl rfl)
theorem dX5_worstNow_46 : decode cX5_worstNow 46 = .ok (.iload_n 1, 1) := dk_27 (dk_at dksX5_worstNow_1 22 rfl rfl)
theorem dX5_worstNow_47 : decode cX5_worstNow 47 = .ok (.ireturn, 1) := dk_172 (dk_at dksX5_worstNow_1 23 rfl rfl)
abbrev cX5_madeBy : ByteArray := prog_10_method_106_code
def yX5_madeBy : MethodName := ⟨RX5, "madeBy", "(I)I"⟩
def dkwX5_madeBy_1 : List UInt8 := [182, 1, 52, 184, 1, 55, 167, 0, 4, 3, 96, 61, 132, 3, 1, 167, 255, 221, 28, 172]
abbrev dktX5_madeBy_1 : List UInt8 := dkwX5_madeBy_1 ++ []
def dkwX5_madeBy_0 : List UInt8 := [3, 61, 3, 62, 29, 42, 180, 1, 24, 162, 0, 33, 28, 42, 29, 27, 182, 1, 46, 153, 0, 14, 42, 29]
abbrev dktX5_madeBy_0 : List UInt8 := dkwX5_madeBy_0 ++ dktX5_madeBy_1
theorem dksX5_madeBy_0 : cX5_madeBy.data.toList.drop 0 = dktX5_madeBy_0 := by decide +kernel
theorem dksX5_madeBy_1 : cX5_madeBy.data.toList.drop 24 = dktX5_madeBy_1 := dk_seg dksX5_madeBy_0 24 rfl rfl
theorem dX5_madeBy_0 : decode cX5_madeBy 0 = .ok (.iconst 0, 1) := dk_3 (dk_at dksX5_madeBy_0 0 rfl rfl)
theorem dX5_madeBy_1 : decode cX5_madeBy 1 = .ok (.istore_n 2, 1) := dk_61 (dk_at dksX5_madeBy_0 1 rfl rfl)
theorem dX5_madeBy_2 : decode cX5_madeBy 2 = .ok (.iconst 0, 1) := dk_3 (dk_at dksX5_madeBy_0 2 rfl rfl)
theorem dX5_madeBy_3 : decode cX5_madeBy 3 = .ok (.istore_n 3, 1) := dk_62 (dk_at dksX5_madeBy_0 3 rfl rfl)
theorem dX5_madeBy_4 : decode cX5_madeBy 4 = .ok (.iload_n 3, 1) := dk_29 (dk_at dksX5_madeBy_0 4 rfl rfl)
theorem dX5_madeBy_5 : decode cX5_madeBy 5 = .ok (.aload_n 0, 1) := dk_42 (dk_at dksX5_madeBy_0 5 rfl rfl)
theorem dX5_madeBy_6 : decode cX5_madeBy 6 = .ok (.getfield 280, 3) := dk_180 1 24 (dk_at dksX5_madeBy_0 6 rfl rfl)
theorem dX5_madeBy_9 : decode cX5_madeBy 9 = .ok (.if_icmp .ge 33, 3) := dk_162 0 33 (dk_at dksX5_madeBy_0 9 rfl rfl)
theorem dX5_madeBy_12 : decode cX5_madeBy 12 = .ok (.iload_n 2, 1) := dk_28 (dk_at dksX5_madeBy_0 12 rfl rfl)
theorem dX5_madeBy_13 : decode cX5_madeBy 13 = .ok (.aload_n 0, 1) := dk_42 (dk_at dksX5_madeBy_0 13 rfl rfl)
theorem dX5_madeBy_14 : decode cX5_madeBy 14 = .ok (.iload_n 3, 1) := dk_29 (dk_at dksX5_madeBy_0 14 rfl rfl)
theorem dX5_madeBy_15 : decode cX5_madeBy 15 = .ok (.iload_n 1, 1) := dk_27 (dk_at dksX5_madeBy_0 15 rfl rfl)
theorem dX5_madeBy_16 : decode cX5_madeBy 16 = .ok (.invokevirtual 302, 3) := dk_182 1 46 (dk_at dksX5_madeBy_0 16 rfl rfl)
theorem dX5_madeBy_19 : decode cX5_madeBy 19 = .ok (.ifCond .eq 14, 3) := dk_153 0 14 (dk_at dksX5_madeBy_0 19 rfl rfl)
theorem dX5_madeBy_22 : decode cX5_madeBy 22 = .ok (.aload_n 0, 1) := dk_42 (dk_at dksX5_madeBy_0 22 rfl rfl)
theorem dX5_madeBy_23 : decode cX5_madeBy 23 = .ok (.iload_n 3, 1) := dk_29 (dk_at dksX5_madeBy_0 23 rfl rfl)
theorem dX5_madeBy_24 : decode cX5_madeBy 24 = .ok (.invokevirtual 308, 3) := dk_182 1 52 (dk_at dksX5_madeBy_1 0 rfl rfl)
theorem dX5_madeBy_27 : decode cX5_madeBy 27 = .ok (.invokestatic 311, 3) := dk_184 1 55 (dk_at dksX5_madeBy_1 3 rfl rfl)
theorem dX5_madeBy_30 : decode cX5_madeBy 30 = .ok (.goto 4, 3) := dk_167 0 4 (dk_at dksX5_madeBy_1 6 rfl rfl)
theorem dX5_madeBy_33 : decode cX5_madeBy 33 = .ok (.iconst 0, 1) := dk_3 (dk_at dksX5_madeBy_1 9 rfl rfl)
theorem dX5_madeBy_34 : decode cX5_madeBy 34 = .ok (.iadd, 1) := dk_96 (dk_at dksX5_madeBy_1 10 rfl rfl)
theorem dX5_madeBy_35 : decode cX5_madeBy 35 = .ok (.istore_n 2, 1) := dk_61 (dk_at dksX5_madeBy_1 11 rfl rfl)
theorem dX5_madeBy_36 : decode cX5_madeBy 36 = .ok (.iinc 3 1, 3) := dk_132 3 1 (dk_at dksX5_madeBy_1 12 rfl rfl)
theorem dX5_madeBy_39 : decode cX5_madeBy 39 = .ok (.goto (-35), 3) := dk_167 255 221 (dk_at dksX5_madeBy_1 15 rfl rfl)
theorem dX5_madeBy_42 : decode cX5_madeBy 42 = .ok (.iload_n 2, 1) := dk_28 (dk_at dksX5_madeBy_1 18 rfl rfl)
theorem dX5_madeBy_43 : decode cX5_madeBy 43 = .ok (.ireturn, 1) := dk_172 (dk_at dksX5_madeBy_1 19 rfl rfl)
abbrev cX5_rank : ByteArray := prog_10_method_109_code
def yX5_rank : MethodName := ⟨RX5, "rank", "(I)I"⟩
def dkwX5_rank_4 : List UInt8 := [167, 255, 202, 29, 27, 160, 0, 5, 28, 172, 132, 2, 1, 167, 255, 176, 2, 172]
abbrev dktX5_rank_4 : List UInt8 := dkwX5_rank_4 ++ []
def dkwX5_rank_3 : List UInt8 := [182, 1, 137, 160, 0, 13, 21, 4, 28, 162, 0, 7, 4, 167, 0, 4, 3, 96, 62, 132, 4, 1]
abbrev dktX5_rank_3 : List UInt8 := dkwX5_rank_3 ++ dktX5_rank_4
def dkwX5_rank_2 : List UInt8 := [42, 21, 4, 182, 1, 137, 42, 28, 182, 1, 137, 163, 0, 23, 42, 21, 4, 182, 1, 137, 42, 28]
abbrev dktX5_rank_2 : List UInt8 := dkwX5_rank_2 ++ dktX5_rank_3
def dkwX5_rank_1 : List UInt8 := [61, 28, 42, 182, 0, 232, 162, 0, 78, 3, 62, 3, 54, 4, 21, 4, 42, 182, 0, 232, 162, 0, 51, 29]
abbrev dktX5_rank_1 : List UInt8 := dkwX5_rank_1 ++ dktX5_rank_2
def dkwX5_rank_0 : List UInt8 := [42, 3, 181, 0, 96, 27, 155, 0, 11, 27, 42, 182, 0, 232, 161, 0, 5, 2, 172, 42, 182, 1, 70, 3]
abbrev dktX5_rank_0 : List UInt8 := dkwX5_rank_0 ++ dktX5_rank_1
theorem dksX5_rank_0 : cX5_rank.data.toList.drop 0 = dktX5_rank_0 := by decide +kernel
theorem dksX5_rank_1 : cX5_rank.data.toList.drop 24 = dktX5_rank_1 := dk_seg dksX5_rank_0 24 rfl rfl
theorem dksX5_rank_2 : cX5_rank.data.toList.drop 48 = dktX5_rank_2 := dk_seg dksX5_rank_1 24 rfl rfl
theorem dksX5_rank_3 : cX5_rank.data.toList.drop 70 = dktX5_rank_3 := dk_seg dksX5_rank_2 22 rfl rfl
theorem dksX5_rank_4 : cX5_rank.data.toList.drop 92 = dktX5_rank_4 := dk_seg dksX5_rank_3 22 rfl rfl
theorem dX5_rank_0 : decode cX5_rank 0 = .ok (.aload_n 0, 1) := dk_42 (dk_at dksX5_rank_0 0 rfl rfl)
theorem dX5_rank_1 : decode cX5_rank 1 = .ok (.iconst 0, 1) := dk_3 (dk_at dksX5_rank_0 1 rfl rfl)
theorem dX5_rank_2 : decode cX5_rank 2 = .ok (.putfield 96, 3) := dk_181 0 96 (dk_at dksX5_rank_0 2 rfl rfl)
theorem dX5_rank_5 : decode cX5_rank 5 = .ok (.iload_n 1, 1) := dk_27 (dk_at dksX5_rank_0 5 rfl rfl)
theorem dX5_rank_6 : decode cX5_rank 6 = .ok (.ifCond .lt 11, 3) := dk_155 0 11 (dk_at dksX5_rank_0 6 rfl rfl)
theorem dX5_rank_9 : decode cX5_rank 9 = .ok (.iload_n 1, 1) := dk_27 (dk_at dksX5_rank_0 9 rfl rfl)
theorem dX5_rank_10 : decode cX5_rank 10 = .ok (.aload_n 0, 1) := dk_42 (dk_at dksX5_rank_0 10 rfl rfl)
theorem dX5_rank_11 : decode cX5_rank 11 = .ok (.invokevirtual 232, 3) := dk_182 0 232 (dk_at dksX5_rank_0 11 rfl rfl)
theorem dX5_rank_14 : decode cX5_rank 14 = .ok (.if_icmp .lt 5, 3) := dk_161 0 5 (dk_at dksX5_rank_0 14 rfl rfl)
theorem dX5_rank_17 : decode cX5_rank 17 = .ok (.iconst (-1), 1) := dk_2 (dk_at dksX5_rank_0 17 rfl rfl)
theorem dX5_rank_18 : decode cX5_rank 18 = .ok (.ireturn, 1) := dk_172 (dk_at dksX5_rank_0 18 rfl rfl)
theorem dX5_rank_19 : decode cX5_rank 19 = .ok (.aload_n 0, 1) := dk_42 (dk_at dksX5_rank_0 19 rfl rfl)
theorem dX5_rank_20 : decode cX5_rank 20 = .ok (.invokevirtual 326, 3) := dk_182 1 70 (dk_at dksX5_rank_0 20 rfl rfl)
theorem dX5_rank_23 : decode cX5_rank 23 = .ok (.iconst 0, 1) := dk_3 (dk_at dksX5_rank_0 23 rfl rfl)
theorem dX5_rank_24 : decode cX5_rank 24 = .ok (.istore_n 2, 1) := dk_61 (dk_at dksX5_rank_1 0 rfl rfl)
theorem dX5_rank_25 : decode cX5_rank 25 = .ok (.iload_n 2, 1) := dk_28 (dk_at dksX5_rank_1 1 rfl rfl)
theorem dX5_rank_26 : decode cX5_rank 26 = .ok (.aload_n 0, 1) := dk_42 (dk_at dksX5_rank_1 2 rfl rfl)
theorem dX5_rank_27 : decode cX5_rank 27 = .ok (.invokevirtual 232, 3) := dk_182 0 232 (dk_at dksX5_rank_1 3 rfl rfl)
theorem dX5_rank_30 : decode cX5_rank 30 = .ok (.if_icmp .ge 78, 3) := dk_162 0 78 (dk_at dksX5_rank_1 6 rfl rfl)
theorem dX5_rank_33 : decode cX5_rank 33 = .ok (.iconst 0, 1) := dk_3 (dk_at dksX5_rank_1 9 rfl rfl)
theorem dX5_rank_34 : decode cX5_rank 34 = .ok (.istore_n 3, 1) := dk_62 (dk_at dksX5_rank_1 10 rfl rfl)
theorem dX5_rank_35 : decode cX5_rank 35 = .ok (.iconst 0, 1) := dk_3 (dk_at dksX5_rank_1 11 rfl rfl)
theorem dX5_rank_36 : decode cX5_rank 36 = .ok (.istore 4, 2) := dk_54 4 (dk_at dksX5_rank_1 12 rfl rfl)
theorem dX5_rank_38 : decode cX5_rank 38 = .ok (.iload 4, 2) := dk_21 4 (dk_at dksX5_rank_1 14 rfl rfl)
theorem dX5_rank_40 : decode cX5_rank 40 = .ok (.aload_n 0, 1) := dk_42 (dk_at dksX5_rank_1 16 rfl rfl)
theorem dX5_rank_41 : decode cX5_rank 41 = .ok (.invokevirtual 232, 3) := dk_182 0 232 (dk_at dksX5_rank_1 17 rfl rfl)
theorem dX5_rank_44 : decode cX5_rank 44 = .ok (.if_icmp .ge 51, 3) := dk_162 0 51 (dk_at dksX5_rank_1 20 rfl rfl)
theorem dX5_rank_47 : decode cX5_rank 47 = .ok (.iload_n 3, 1) := dk_29 (dk_at dksX5_rank_1 23 rfl rfl)
theorem dX5_rank_48 : decode cX5_rank 48 = .ok (.aload_n 0, 1) := dk_42 (dk_at dksX5_rank_2 0 rfl rfl)
theorem dX5_rank_49 : decode cX5_rank 49 = .ok (.iload 4, 2) := dk_21 4 (dk_at dksX5_rank_2 1 rfl rfl)
theorem dX5_rank_51 : decode cX5_rank 51 = .ok (.invokevirtual 393, 3) := dk_182 1 137 (dk_at dksX5_rank_2 3 rfl rfl)
theorem dX5_rank_54 : decode cX5_rank 54 = .ok (.aload_n 0, 1) := dk_42 (dk_at dksX5_rank_2 6 rfl rfl)
theorem dX5_rank_55 : decode cX5_rank 55 = .ok (.iload_n 2, 1) := dk_28 (dk_at dksX5_rank_2 7 rfl rfl)
theorem dX5_rank_56 : decode cX5_rank 56 = .ok (.invokevirtual 393, 3) := dk_182 1 137 (dk_at dksX5_rank_2 8 rfl rfl)
theorem dX5_rank_59 : decode cX5_rank 59 = .ok (.if_icmp .gt 23, 3) := dk_163 0 23 (dk_at dksX5_rank_2 11 rfl rfl)
theorem dX5_rank_62 : decode cX5_rank 62 = .ok (.aload_n 0, 1) := dk_42 (dk_at dksX5_rank_2 14 rfl rfl)
theorem dX5_rank_63 : decode cX5_rank 63 = .ok (.iload 4, 2) := dk_21 4 (dk_at dksX5_rank_2 15 rfl rfl)
theorem dX5_rank_65 : decode cX5_rank 65 = .ok (.invokevirtual 393, 3) := dk_182 1 137 (dk_at dksX5_rank_2 17 rfl rfl)
theorem dX5_rank_68 : decode cX5_rank 68 = .ok (.aload_n 0, 1) := dk_42 (dk_at dksX5_rank_2 20 rfl rfl)
theorem dX5_rank_69 : decode cX5_rank 69 = .ok (.iload_n 2, 1) := dk_28 (dk_at dksX5_rank_2 21 rfl rfl)
theorem dX5_rank_70 : decode cX5_rank 70 = .ok (.invokevirtual 393, 3) := dk_182 1 137 (dk_at dksX5_rank_3 0 rfl rfl)
theorem dX5_rank_73 : decode cX5_rank 73 = .ok (.if_icmp .ne 13, 3) := dk_160 0 13 (dk_at dksX5_rank_3 3 rfl rfl)
theorem dX5_rank_76 : decode cX5_rank 76 = .ok (.iload 4, 2) := dk_21 4 (dk_at dksX5_rank_3 6 rfl rfl)
theorem dX5_rank_78 : decode cX5_rank 78 = .ok (.iload_n 2, 1) := dk_28 (dk_at dksX5_rank_3 8 rfl rfl)
theorem dX5_rank_79 : decode cX5_rank 79 = .ok (.if_icmp .ge 7, 3) := dk_162 0 7 (dk_at dksX5_rank_3 9 rfl rfl)
theorem dX5_rank_82 : decode cX5_rank 82 = .ok (.iconst 1, 1) := dk_4 (dk_at dksX5_rank_3 12 rfl rfl)
theorem dX5_rank_83 : decode cX5_rank 83 = .ok (.goto 4, 3) := dk_167 0 4 (dk_at dksX5_rank_3 13 rfl rfl)
theorem dX5_rank_86 : decode cX5_rank 86 = .ok (.iconst 0, 1) := dk_3 (dk_at dksX5_rank_3 16 rfl rfl)
theorem dX5_rank_87 : decode cX5_rank 87 = .ok (.iadd, 1) := dk_96 (dk_at dksX5_rank_3 17 rfl rfl)
theorem dX5_rank_88 : decode cX5_rank 88 = .ok (.istore_n 3, 1) := dk_62 (dk_at dksX5_rank_3 18 rfl rfl)
theorem dX5_rank_89 : decode cX5_rank 89 = .ok (.iinc 4 1, 3) := dk_132 4 1 (dk_at dksX5_rank_3 19 rfl rfl)
theorem dX5_rank_92 : decode cX5_rank 92 = .ok (.goto (-54), 3) := dk_167 255 202 (dk_at dksX5_rank_4 0 rfl rfl)
theorem dX5_rank_95 : decode cX5_rank 95 = .ok (.iload_n 3, 1) := dk_29 (dk_at dksX5_rank_4 3 rfl rfl)
theorem dX5_rank_96 : decode cX5_rank 96 = .ok (.iload_n 1, 1) := dk_27 (dk_at dksX5_rank_4 4 rfl rfl)
theorem dX5_rank_97 : decode cX5_rank 97 = .ok (.if_icmp .ne 5, 3) := dk_160 0 5 (dk_at dksX5_rank_4 5 rfl rfl)
theorem dX5_rank_100 : decode cX5_rank 100 = .ok (.iload_n 2, 1) := dk_28 (dk_at dksX5_rank_4 8 rfl rfl)
theorem dX5_rank_101 : decode cX5_rank 101 = .ok (.ireturn, 1) := dk_172 (dk_at dksX5_rank_4 9 rfl rfl)
theorem dX5_rank_102 : decode cX5_rank 102 = .ok (.iinc 2 1, 3) := dk_132 2 1 (dk_at dksX5_rank_4 10 rfl rfl)
theorem dX5_rank_105 : decode cX5_rank 105 = .ok (.goto (-80), 3) := dk_167 255 176 (dk_at dksX5_rank_4 13 rfl rfl)
theorem dX5_rank_108 : decode cX5_rank 108 = .ok (.iconst (-1), 1) := dk_2 (dk_at dksX5_rank_4 16 rfl rfl)
theorem dX5_rank_109 : decode cX5_rank 109 = .ok (.ireturn, 1) := dk_172 (dk_at dksX5_rank_4 17 rfl rfl)
abbrev cX5_bySort : ByteArray := prog_10_method_110_code
def yX5_bySort : MethodName := ⟨RX5, "bySort", "(II)I"⟩
def dkwX5_bySort_4 : List UInt8 := [184, 1, 55, 96, 62, 132, 4, 1, 167, 255, 187, 29, 172]
abbrev dktX5_bySort_4 : List UInt8 := dkwX5_bySort_4 ++ []
def dkwX5_bySort_3 : List UInt8 := [42, 180, 0, 75, 21, 4, 46, 155, 0, 7, 4, 167, 0, 16, 3, 167, 0, 12, 42, 21, 4, 182, 1, 52]
abbrev dktX5_bySort_3 : List UInt8 := dkwX5_bySort_3 ++ dktX5_bySort_4
def dkwX5_bySort_2 : List UInt8 := [21, 4, 46, 27, 159, 0, 6, 167, 0, 46, 29, 28, 154, 0, 7, 4, 167, 0, 35, 28, 4, 160, 0, 21]
abbrev dktX5_bySort_2 : List UInt8 := dkwX5_bySort_2 ++ dktX5_bySort_3
def dkwX5_bySort_1 : List UInt8 := [2, 172, 42, 182, 1, 70, 3, 62, 3, 54, 4, 21, 4, 42, 180, 1, 24, 162, 0, 66, 42, 180, 0, 60]
abbrev dktX5_bySort_1 : List UInt8 := dkwX5_bySort_1 ++ dktX5_bySort_2
def dkwX5_bySort_0 : List UInt8 := [42, 3, 181, 0, 96, 27, 155, 0, 18, 27, 16, 6, 162, 0, 12, 28, 155, 0, 8, 28, 5, 164, 0, 5]
abbrev dktX5_bySort_0 : List UInt8 := dkwX5_bySort_0 ++ dktX5_bySort_1
theorem dksX5_bySort_0 : cX5_bySort.data.toList.drop 0 = dktX5_bySort_0 := by decide +kernel
theorem dksX5_bySort_1 : cX5_bySort.data.toList.drop 24 = dktX5_bySort_1 := dk_seg dksX5_bySort_0 24 rfl rfl
theorem dksX5_bySort_2 : cX5_bySort.data.toList.drop 48 = dktX5_bySort_2 := dk_seg dksX5_bySort_1 24 rfl rfl
theorem dksX5_bySort_3 : cX5_bySort.data.toList.drop 72 = dktX5_bySort_3 := dk_seg dksX5_bySort_2 24 rfl rfl
theorem dksX5_bySort_4 : cX5_bySort.data.toList.drop 96 = dktX5_bySort_4 := dk_seg dksX5_bySort_3 24 rfl rfl
theorem dX5_bySort_0 : decode cX5_bySort 0 = .ok (.aload_n 0, 1) := dk_42 (dk_at dksX5_bySort_0 0 rfl rfl)
theorem dX5_bySort_1 : decode cX5_bySort 1 = .ok (.iconst 0, 1) := dk_3 (dk_at dksX5_bySort_0 1 rfl rfl)
theorem dX5_bySort_2 : decode cX5_bySort 2 = .ok (.putfield 96, 3) := dk_181 0 96 (dk_at dksX5_bySort_0 2 rfl rfl)
theorem dX5_bySort_5 : decode cX5_bySort 5 = .ok (.iload_n 1, 1) := dk_27 (dk_at dksX5_bySort_0 5 rfl rfl)
theorem dX5_bySort_6 : decode cX5_bySort 6 = .ok (.ifCond .lt 18, 3) := dk_155 0 18 (dk_at dksX5_bySort_0 6 rfl rfl)
theorem dX5_bySort_9 : decode cX5_bySort 9 = .ok (.iload_n 1, 1) := dk_27 (dk_at dksX5_bySort_0 9 rfl rfl)
theorem dX5_bySort_10 : decode cX5_bySort 10 = .ok (.bipush 6, 2) := dk_16 6 (dk_at dksX5_bySort_0 10 rfl rfl)
theorem dX5_bySort_12 : decode cX5_bySort 12 = .ok (.if_icmp .ge 12, 3) := dk_162 0 12 (dk_at dksX5_bySort_0 12 rfl rfl)
theorem dX5_bySort_15 : decode cX5_bySort 15 = .ok (.iload_n 2, 1) := dk_28 (dk_at dksX5_bySort_0 15 rfl rfl)
theorem dX5_bySort_16 : decode cX5_bySort 16 = .ok (.ifCond .lt 8, 3) := dk_155 0 8 (dk_at dksX5_bySort_0 16 rfl rfl)
theorem dX5_bySort_19 : decode cX5_bySort 19 = .ok (.iload_n 2, 1) := dk_28 (dk_at dksX5_bySort_0 19 rfl rfl)
theorem dX5_bySort_20 : decode cX5_bySort 20 = .ok (.iconst 2, 1) := dk_5 (dk_at dksX5_bySort_0 20 rfl rfl)
theorem dX5_bySort_21 : decode cX5_bySort 21 = .ok (.if_icmp .le 5, 3) := dk_164 0 5 (dk_at dksX5_bySort_0 21 rfl rfl)
theorem dX5_bySort_24 : decode cX5_bySort 24 = .ok (.iconst (-1), 1) := dk_2 (dk_at dksX5_bySort_1 0 rfl rfl)
theorem dX5_bySort_25 : decode cX5_bySort 25 = .ok (.ireturn, 1) := dk_172 (dk_at dksX5_bySort_1 1 rfl rfl)
theorem dX5_bySort_26 : decode cX5_bySort 26 = .ok (.aload_n 0, 1) := dk_42 (dk_at dksX5_bySort_1 2 rfl rfl)
theorem dX5_bySort_27 : decode cX5_bySort 27 = .ok (.invokevirtual 326, 3) := dk_182 1 70 (dk_at dksX5_bySort_1 3 rfl rfl)
theorem dX5_bySort_30 : decode cX5_bySort 30 = .ok (.iconst 0, 1) := dk_3 (dk_at dksX5_bySort_1 6 rfl rfl)
theorem dX5_bySort_31 : decode cX5_bySort 31 = .ok (.istore_n 3, 1) := dk_62 (dk_at dksX5_bySort_1 7 rfl rfl)
theorem dX5_bySort_32 : decode cX5_bySort 32 = .ok (.iconst 0, 1) := dk_3 (dk_at dksX5_bySort_1 8 rfl rfl)
theorem dX5_bySort_33 : decode cX5_bySort 33 = .ok (.istore 4, 2) := dk_54 4 (dk_at dksX5_bySort_1 9 rfl rfl)
theorem dX5_bySort_35 : decode cX5_bySort 35 = .ok (.iload 4, 2) := dk_21 4 (dk_at dksX5_bySort_1 11 rfl rfl)
theorem dX5_bySort_37 : decode cX5_bySort 37 = .ok (.aload_n 0, 1) := dk_42 (dk_at dksX5_bySort_1 13 rfl rfl)
theorem dX5_bySort_38 : decode cX5_bySort 38 = .ok (.getfield 280, 3) := dk_180 1 24 (dk_at dksX5_bySort_1 14 rfl rfl)
theorem dX5_bySort_41 : decode cX5_bySort 41 = .ok (.if_icmp .ge 66, 3) := dk_162 0 66 (dk_at dksX5_bySort_1 17 rfl rfl)
theorem dX5_bySort_44 : decode cX5_bySort 44 = .ok (.aload_n 0, 1) := dk_42 (dk_at dksX5_bySort_1 20 rfl rfl)
theorem dX5_bySort_45 : decode cX5_bySort 45 = .ok (.getfield 60, 3) := dk_180 0 60 (dk_at dksX5_bySort_1 21 rfl rfl)
theorem dX5_bySort_48 : decode cX5_bySort 48 = .ok (.iload 4, 2) := dk_21 4 (dk_at dksX5_bySort_2 0 rfl rfl)
theorem dX5_bySort_50 : decode cX5_bySort 50 = .ok (.iaload, 1) := dk_46 (dk_at dksX5_bySort_2 2 rfl rfl)
theorem dX5_bySort_51 : decode cX5_bySort 51 = .ok (.iload_n 1, 1) := dk_27 (dk_at dksX5_bySort_2 3 rfl rfl)
theorem dX5_bySort_52 : decode cX5_bySort 52 = .ok (.if_icmp .eq 6, 3) := dk_159 0 6 (dk_at dksX5_bySort_2 4 rfl rfl)
theorem dX5_bySort_55 : decode cX5_bySort 55 = .ok (.goto 46, 3) := dk_167 0 46 (dk_at dksX5_bySort_2 7 rfl rfl)
theorem dX5_bySort_58 : decode cX5_bySort 58 = .ok (.iload_n 3, 1) := dk_29 (dk_at dksX5_bySort_2 10 rfl rfl)
theorem dX5_bySort_59 : decode cX5_bySort 59 = .ok (.iload_n 2, 1) := dk_28 (dk_at dksX5_bySort_2 11 rfl rfl)
theorem dX5_bySort_60 : decode cX5_bySort 60 = .ok (.ifCond .ne 7, 3) := dk_154 0 7 (dk_at dksX5_bySort_2 12 rfl rfl)
theorem dX5_bySort_63 : decode cX5_bySort 63 = .ok (.iconst 1, 1) := dk_4 (dk_at dksX5_bySort_2 15 rfl rfl)
theorem dX5_bySort_64 : decode cX5_bySort 64 = .ok (.goto 35, 3) := dk_167 0 35 (dk_at dksX5_bySort_2 16 rfl rfl)
theorem dX5_bySort_67 : decode cX5_bySort 67 = .ok (.iload_n 2, 1) := dk_28 (dk_at dksX5_bySort_2 19 rfl rfl)
theorem dX5_bySort_68 : decode cX5_bySort 68 = .ok (.iconst 1, 1) := dk_4 (dk_at dksX5_bySort_2 20 rfl rfl)
theorem dX5_bySort_69 : decode cX5_bySort 69 = .ok (.if_icmp .ne 21, 3) := dk_160 0 21 (dk_at dksX5_bySort_2 21 rfl rfl)
theorem dX5_bySort_72 : decode cX5_bySort 72 = .ok (.aload_n 0, 1) := dk_42 (dk_at dksX5_bySort_3 0 rfl rfl)
theorem dX5_bySort_73 : decode cX5_bySort 73 = .ok (.getfield 75, 3) := dk_180 0 75 (dk_at dksX5_bySort_3 1 rfl rfl)
theorem dX5_bySort_76 : decode cX5_bySort 76 = .ok (.iload 4, 2) := dk_21 4 (dk_at dksX5_bySort_3 4 rfl rfl)
theorem dX5_bySort_78 : decode cX5_bySort 78 = .ok (.iaload, 1) := dk_46 (dk_at dksX5_bySort_3 6 rfl rfl)
theorem dX5_bySort_79 : decode cX5_bySort 79 = .ok (.ifCond .lt 7, 3) := dk_155 0 7 (dk_at dksX5_bySort_3 7 rfl rfl)
theorem dX5_bySort_82 : decode cX5_bySort 82 = .ok (.iconst 1, 1) := dk_4 (dk_at dksX5_bySort_3 10 rfl rfl)
theorem dX5_bySort_83 : decode cX5_bySort 83 = .ok (.goto 16, 3) := dk_167 0 16 (dk_at dksX5_bySort_3 11 rfl rfl)
theorem dX5_bySort_86 : decode cX5_bySort 86 = .ok (.iconst 0, 1) := dk_3 (dk_at dksX5_bySort_3 14 rfl rfl)
theorem dX5_bySort_87 : decode cX5_bySort 87 = .ok (.goto 12, 3) := dk_167 0 12 (dk_at dksX5_bySort_3 15 rfl rfl)
theorem dX5_bySort_90 : decode cX5_bySort 90 = .ok (.aload_n 0, 1) := dk_42 (dk_at dksX5_bySort_3 18 rfl rfl)
theorem dX5_bySort_91 : decode cX5_bySort 91 = .ok (.iload 4, 2) := dk_21 4 (dk_at dksX5_bySort_3 19 rfl rfl)
theorem dX5_bySort_93 : decode cX5_bySort 93 = .ok (.invokevirtual 308, 3) := dk_182 1 52 (dk_at dksX5_bySort_3 21 rfl rfl)
theorem dX5_bySort_96 : decode cX5_bySort 96 = .ok (.invokestatic 311, 3) := dk_184 1 55 (dk_at dksX5_bySort_4 0 rfl rfl)
theorem dX5_bySort_99 : decode cX5_bySort 99 = .ok (.iadd, 1) := dk_96 (dk_at dksX5_bySort_4 3 rfl rfl)
theorem dX5_bySort_100 : decode cX5_bySort 100 = .ok (.istore_n 3, 1) := dk_62 (dk_at dksX5_bySort_4 4 rfl rfl)
theorem dX5_bySort_101 : decode cX5_bySort 101 = .ok (.iinc 4 1, 3) := dk_132 4 1 (dk_at dksX5_bySort_4 5 rfl rfl)
theorem dX5_bySort_104 : decode cX5_bySort 104 = .ok (.goto (-69), 3) := dk_167 255 187 (dk_at dksX5_bySort_4 8 rfl rfl)
theorem dX5_bySort_107 : decode cX5_bySort 107 = .ok (.iload_n 3, 1) := dk_29 (dk_at dksX5_bySort_4 11 rfl rfl)
theorem dX5_bySort_108 : decode cX5_bySort 108 = .ok (.ireturn, 1) := dk_172 (dk_at dksX5_bySort_4 12 rfl rfl)
abbrev cX5_loudest : ByteArray := prog_10_method_111_code
def yX5_loudest : MethodName := ⟨RX5, "loudest", "()I"⟩
def dkwX5_loudest_2 : List UInt8 := [164, 0, 5, 28, 60, 132, 2, 1, 167, 255, 214, 27, 172]
abbrev dktX5_loudest_2 : List UInt8 := dkwX5_loudest_2 ++ []
def dkwX5_loudest_1 : List UInt8 := [182, 1, 52, 153, 0, 26, 27, 16, 254, 159, 0, 18, 42, 180, 0, 75, 28, 46, 42, 180, 0, 75, 27, 46]
abbrev dktX5_loudest_1 : List UInt8 := dkwX5_loudest_1 ++ dktX5_loudest_2
def dkwX5_loudest_0 : List UInt8 := [42, 3, 181, 0, 96, 42, 182, 1, 70, 16, 254, 60, 3, 61, 28, 42, 180, 1, 24, 162, 0, 40, 42, 28]
abbrev dktX5_loudest_0 : List UInt8 := dkwX5_loudest_0 ++ dktX5_loudest_1
theorem dksX5_loudest_0 : cX5_loudest.data.toList.drop 0 = dktX5_loudest_0 := by decide +kernel
theorem dksX5_loudest_1 : cX5_loudest.data.toList.drop 24 = dktX5_loudest_1 := dk_seg dksX5_loudest_0 24 rfl rfl
theorem dksX5_loudest_2 : cX5_loudest.data.toList.drop 48 = dktX5_loudest_2 := dk_seg dksX5_loudest_1 24 rfl rfl
theorem dX5_loudest_0 : decode cX5_loudest 0 = .ok (.aload_n 0, 1) := dk_42 (dk_at dksX5_loudest_0 0 rfl rfl)
theorem dX5_loudest_1 : decode cX5_loudest 1 = .ok (.iconst 0, 1) := dk_3 (dk_at dksX5_loudest_0 1 rfl rfl)
theorem dX5_loudest_2 : decode cX5_loudest 2 = .ok (.putfield 96, 3) := dk_181 0 96 (dk_at dksX5_loudest_0 2 rfl rfl)
theorem dX5_loudest_5 : decode cX5_loudest 5 = .ok (.aload_n 0, 1) := dk_42 (dk_at dksX5_loudest_0 5 rfl rfl)
theorem dX5_loudest_6 : decode cX5_loudest 6 = .ok (.invokevirtual 326, 3) := dk_182 1 70 (dk_at dksX5_loudest_0 6 rfl rfl)
theorem dX5_loudest_9 : decode cX5_loudest 9 = .ok (.bipush (-2), 2) := dk_16 254 (dk_at dksX5_loudest_0 9 rfl rfl)
theorem dX5_loudest_11 : decode cX5_loudest 11 = .ok (.istore_n 1, 1) := dk_60 (dk_at dksX5_loudest_0 11 rfl rfl)
theorem dX5_loudest_12 : decode cX5_loudest 12 = .ok (.iconst 0, 1) := dk_3 (dk_at dksX5_loudest_0 12 rfl rfl)
theorem dX5_loudest_13 : decode cX5_loudest 13 = .ok (.istore_n 2, 1) := dk_61 (dk_at dksX5_loudest_0 13 rfl rfl)
theorem dX5_loudest_14 : decode cX5_loudest 14 = .ok (.iload_n 2, 1) := dk_28 (dk_at dksX5_loudest_0 14 rfl rfl)
theorem dX5_loudest_15 : decode cX5_loudest 15 = .ok (.aload_n 0, 1) := dk_42 (dk_at dksX5_loudest_0 15 rfl rfl)
theorem dX5_loudest_16 : decode cX5_loudest 16 = .ok (.getfield 280, 3) := dk_180 1 24 (dk_at dksX5_loudest_0 16 rfl rfl)
theorem dX5_loudest_19 : decode cX5_loudest 19 = .ok (.if_icmp .ge 40, 3) := dk_162 0 40 (dk_at dksX5_loudest_0 19 rfl rfl)
theorem dX5_loudest_22 : decode cX5_loudest 22 = .ok (.aload_n 0, 1) := dk_42 (dk_at dksX5_loudest_0 22 rfl rfl)
theorem dX5_loudest_23 : decode cX5_loudest 23 = .ok (.iload_n 2, 1) := dk_28 (dk_at dksX5_loudest_0 23 rfl rfl)
theorem dX5_loudest_24 : decode cX5_loudest 24 = .ok (.invokevirtual 308, 3) := dk_182 1 52 (dk_at dksX5_loudest_1 0 rfl rfl)
theorem dX5_loudest_27 : decode cX5_loudest 27 = .ok (.ifCond .eq 26, 3) := dk_153 0 26 (dk_at dksX5_loudest_1 3 rfl rfl)
theorem dX5_loudest_30 : decode cX5_loudest 30 = .ok (.iload_n 1, 1) := dk_27 (dk_at dksX5_loudest_1 6 rfl rfl)
theorem dX5_loudest_31 : decode cX5_loudest 31 = .ok (.bipush (-2), 2) := dk_16 254 (dk_at dksX5_loudest_1 7 rfl rfl)
theorem dX5_loudest_33 : decode cX5_loudest 33 = .ok (.if_icmp .eq 18, 3) := dk_159 0 18 (dk_at dksX5_loudest_1 9 rfl rfl)
theorem dX5_loudest_36 : decode cX5_loudest 36 = .ok (.aload_n 0, 1) := dk_42 (dk_at dksX5_loudest_1 12 rfl rfl)
theorem dX5_loudest_37 : decode cX5_loudest 37 = .ok (.getfield 75, 3) := dk_180 0 75 (dk_at dksX5_loudest_1 13 rfl rfl)
theorem dX5_loudest_40 : decode cX5_loudest 40 = .ok (.iload_n 2, 1) := dk_28 (dk_at dksX5_loudest_1 16 rfl rfl)
theorem dX5_loudest_41 : decode cX5_loudest 41 = .ok (.iaload, 1) := dk_46 (dk_at dksX5_loudest_1 17 rfl rfl)
theorem dX5_loudest_42 : decode cX5_loudest 42 = .ok (.aload_n 0, 1) := dk_42 (dk_at dksX5_loudest_1 18 rfl rfl)
theorem dX5_loudest_43 : decode cX5_loudest 43 = .ok (.getfield 75, 3) := dk_180 0 75 (dk_at dksX5_loudest_1 19 rfl rfl)
theorem dX5_loudest_46 : decode cX5_loudest 46 = .ok (.iload_n 1, 1) := dk_27 (dk_at dksX5_loudest_1 22 rfl rfl)
theorem dX5_loudest_47 : decode cX5_loudest 47 = .ok (.iaload, 1) := dk_46 (dk_at dksX5_loudest_1 23 rfl rfl)
theorem dX5_loudest_48 : decode cX5_loudest 48 = .ok (.if_icmp .le 5, 3) := dk_164 0 5 (dk_at dksX5_loudest_2 0 rfl rfl)
theorem dX5_loudest_51 : decode cX5_loudest 51 = .ok (.iload_n 2, 1) := dk_28 (dk_at dksX5_loudest_2 3 rfl rfl)
theorem dX5_loudest_52 : decode cX5_loudest 52 = .ok (.istore_n 1, 1) := dk_60 (dk_at dksX5_loudest_2 4 rfl rfl)
theorem dX5_loudest_53 : decode cX5_loudest 53 = .ok (.iinc 2 1, 3) := dk_132 2 1 (dk_at dksX5_loudest_2 5 rfl rfl)
theorem dX5_loudest_56 : decode cX5_loudest 56 = .ok (.goto (-42), 3) := dk_167 255 214 (dk_at dksX5_loudest_2 8 rfl rfl)
theorem dX5_loudest_59 : decode cX5_loudest 59 = .ok (.iload_n 1, 1) := dk_27 (dk_at dksX5_loudest_2 11 rfl rfl)
theorem dX5_loudest_60 : decode cX5_loudest 60 = .ok (.ireturn, 1) := dk_172 (dk_at dksX5_loudest_2 12 rfl rfl)
abbrev cX5_turned : ByteArray := prog_10_method_113_code
def yX5_turned : MethodName := ⟨RX5, "turned", "(I)I"⟩
def dkwX5_turned_2 : List UInt8 := [182, 1, 101, 29, 172]
abbrev dktX5_turned_2 : List UInt8 := dkwX5_turned_2 ++ []
def dkwX5_turned_1 : List UInt8 := [182, 1, 143, 61, 27, 2, 160, 0, 7, 28, 167, 0, 12, 42, 180, 0, 51, 16, 6, 27, 96, 46, 62, 42]
abbrev dktX5_turned_1 : List UInt8 := dkwX5_turned_1 ++ dktX5_turned_2
def dkwX5_turned_0 : List UInt8 := [42, 3, 181, 0, 96, 27, 2, 159, 0, 14, 42, 27, 182, 1, 3, 154, 0, 6, 16, 254, 172, 42]
abbrev dktX5_turned_0 : List UInt8 := dkwX5_turned_0 ++ dktX5_turned_1
theorem dksX5_turned_0 : cX5_turned.data.toList.drop 0 = dktX5_turned_0 := by decide +kernel
theorem dksX5_turned_1 : cX5_turned.data.toList.drop 22 = dktX5_turned_1 := dk_seg dksX5_turned_0 22 rfl rfl
theorem dksX5_turned_2 : cX5_turned.data.toList.drop 46 = dktX5_turned_2 := dk_seg dksX5_turned_1 24 rfl rfl
theorem dX5_turned_0 : decode cX5_turned 0 = .ok (.aload_n 0, 1) := dk_42 (dk_at dksX5_turned_0 0 rfl rfl)
theorem dX5_turned_1 : decode cX5_turned 1 = .ok (.iconst 0, 1) := dk_3 (dk_at dksX5_turned_0 1 rfl rfl)
theorem dX5_turned_2 : decode cX5_turned 2 = .ok (.putfield 96, 3) := dk_181 0 96 (dk_at dksX5_turned_0 2 rfl rfl)
theorem dX5_turned_5 : decode cX5_turned 5 = .ok (.iload_n 1, 1) := dk_27 (dk_at dksX5_turned_0 5 rfl rfl)
theorem dX5_turned_6 : decode cX5_turned 6 = .ok (.iconst (-1), 1) := dk_2 (dk_at dksX5_turned_0 6 rfl rfl)
theorem dX5_turned_7 : decode cX5_turned 7 = .ok (.if_icmp .eq 14, 3) := dk_159 0 14 (dk_at dksX5_turned_0 7 rfl rfl)
theorem dX5_turned_10 : decode cX5_turned 10 = .ok (.aload_n 0, 1) := dk_42 (dk_at dksX5_turned_0 10 rfl rfl)
theorem dX5_turned_11 : decode cX5_turned 11 = .ok (.iload_n 1, 1) := dk_27 (dk_at dksX5_turned_0 11 rfl rfl)
theorem dX5_turned_12 : decode cX5_turned 12 = .ok (.invokevirtual 259, 3) := dk_182 1 3 (dk_at dksX5_turned_0 12 rfl rfl)
theorem dX5_turned_15 : decode cX5_turned 15 = .ok (.ifCond .ne 6, 3) := dk_154 0 6 (dk_at dksX5_turned_0 15 rfl rfl)
theorem dX5_turned_18 : decode cX5_turned 18 = .ok (.bipush (-2), 2) := dk_16 254 (dk_at dksX5_turned_0 18 rfl rfl)
theorem dX5_turned_20 : decode cX5_turned 20 = .ok (.ireturn, 1) := dk_172 (dk_at dksX5_turned_0 20 rfl rfl)
theorem dX5_turned_21 : decode cX5_turned 21 = .ok (.aload_n 0, 1) := dk_42 (dk_at dksX5_turned_0 21 rfl rfl)
theorem dX5_turned_22 : decode cX5_turned 22 = .ok (.invokevirtual 399, 3) := dk_182 1 143 (dk_at dksX5_turned_1 0 rfl rfl)
theorem dX5_turned_25 : decode cX5_turned 25 = .ok (.istore_n 2, 1) := dk_61 (dk_at dksX5_turned_1 3 rfl rfl)
theorem dX5_turned_26 : decode cX5_turned 26 = .ok (.iload_n 1, 1) := dk_27 (dk_at dksX5_turned_1 4 rfl rfl)
theorem dX5_turned_27 : decode cX5_turned 27 = .ok (.iconst (-1), 1) := dk_2 (dk_at dksX5_turned_1 5 rfl rfl)
theorem dX5_turned_28 : decode cX5_turned 28 = .ok (.if_icmp .ne 7, 3) := dk_160 0 7 (dk_at dksX5_turned_1 6 rfl rfl)
theorem dX5_turned_31 : decode cX5_turned 31 = .ok (.iload_n 2, 1) := dk_28 (dk_at dksX5_turned_1 9 rfl rfl)
theorem dX5_turned_32 : decode cX5_turned 32 = .ok (.goto 12, 3) := dk_167 0 12 (dk_at dksX5_turned_1 10 rfl rfl)
theorem dX5_turned_35 : decode cX5_turned 35 = .ok (.aload_n 0, 1) := dk_42 (dk_at dksX5_turned_1 13 rfl rfl)
theorem dX5_turned_36 : decode cX5_turned 36 = .ok (.getfield 51, 3) := dk_180 0 51 (dk_at dksX5_turned_1 14 rfl rfl)
theorem dX5_turned_39 : decode cX5_turned 39 = .ok (.bipush 6, 2) := dk_16 6 (dk_at dksX5_turned_1 17 rfl rfl)
theorem dX5_turned_41 : decode cX5_turned 41 = .ok (.iload_n 1, 1) := dk_27 (dk_at dksX5_turned_1 19 rfl rfl)
theorem dX5_turned_42 : decode cX5_turned 42 = .ok (.iadd, 1) := dk_96 (dk_at dksX5_turned_1 20 rfl rfl)
theorem dX5_turned_43 : decode cX5_turned 43 = .ok (.iaload, 1) := dk_46 (dk_at dksX5_turned_1 21 rfl rfl)
theorem dX5_turned_44 : decode cX5_turned 44 = .ok (.istore_n 3, 1) := dk_62 (dk_at dksX5_turned_1 22 rfl rfl)
theorem dX5_turned_45 : decode cX5_turned 45 = .ok (.aload_n 0, 1) := dk_42 (dk_at dksX5_turned_1 23 rfl rfl)
theorem dX5_turned_46 : decode cX5_turned 46 = .ok (.invokevirtual 357, 3) := dk_182 1 101 (dk_at dksX5_turned_2 0 rfl rfl)
theorem dX5_turned_49 : decode cX5_turned 49 = .ok (.iload_n 3, 1) := dk_29 (dk_at dksX5_turned_2 3 rfl rfl)
theorem dX5_turned_50 : decode cX5_turned 50 = .ok (.ireturn, 1) := dk_172 (dk_at dksX5_turned_2 4 rfl rfl)
abbrev cX5_turnsDown : ByteArray := prog_10_method_112_code
def yX5_turnsDown : MethodName := ⟨RX5, "turnsDown", "()I"⟩
def dkwX5_turnsDown_2 : List UInt8 := [182, 1, 140, 61, 167, 255, 217, 27, 172]
abbrev dktX5_turnsDown_2 : List UInt8 := dkwX5_turnsDown_2 ++ []
def dkwX5_turnsDown_1 : List UInt8 := [96, 46, 158, 0, 27, 42, 180, 0, 51, 16, 6, 28, 96, 92, 46, 4, 100, 79, 132, 1, 1, 42]
abbrev dktX5_turnsDown_1 : List UInt8 := dkwX5_turnsDown_1 ++ dktX5_turnsDown_2
def dkwX5_turnsDown_0 : List UInt8 := [42, 182, 1, 92, 3, 60, 42, 182, 1, 140, 61, 28, 16, 254, 159, 0, 39, 42, 180, 0, 51, 16, 6, 28]
abbrev dktX5_turnsDown_0 : List UInt8 := dkwX5_turnsDown_0 ++ dktX5_turnsDown_1
theorem dksX5_turnsDown_0 : cX5_turnsDown.data.toList.drop 0 = dktX5_turnsDown_0 := by decide +kernel
theorem dksX5_turnsDown_1 : cX5_turnsDown.data.toList.drop 24 = dktX5_turnsDown_1 := dk_seg dksX5_turnsDown_0 24 rfl rfl
theorem dksX5_turnsDown_2 : cX5_turnsDown.data.toList.drop 46 = dktX5_turnsDown_2 := dk_seg dksX5_turnsDown_1 22 rfl rfl
theorem dX5_turnsDown_0 : decode cX5_turnsDown 0 = .ok (.aload_n 0, 1) := dk_42 (dk_at dksX5_turnsDown_0 0 rfl rfl)
theorem dX5_turnsDown_1 : decode cX5_turnsDown 1 = .ok (.invokevirtual 348, 3) := dk_182 1 92 (dk_at dksX5_turnsDown_0 1 rfl rfl)
theorem dX5_turnsDown_4 : decode cX5_turnsDown 4 = .ok (.iconst 0, 1) := dk_3 (dk_at dksX5_turnsDown_0 4 rfl rfl)
theorem dX5_turnsDown_5 : decode cX5_turnsDown 5 = .ok (.istore_n 1, 1) := dk_60 (dk_at dksX5_turnsDown_0 5 rfl rfl)
theorem dX5_turnsDown_6 : decode cX5_turnsDown 6 = .ok (.aload_n 0, 1) := dk_42 (dk_at dksX5_turnsDown_0 6 rfl rfl)
theorem dX5_turnsDown_7 : decode cX5_turnsDown 7 = .ok (.invokevirtual 396, 3) := dk_182 1 140 (dk_at dksX5_turnsDown_0 7 rfl rfl)
theorem dX5_turnsDown_10 : decode cX5_turnsDown 10 = .ok (.istore_n 2, 1) := dk_61 (dk_at dksX5_turnsDown_0 10 rfl rfl)
theorem dX5_turnsDown_11 : decode cX5_turnsDown 11 = .ok (.iload_n 2, 1) := dk_28 (dk_at dksX5_turnsDown_0 11 rfl rfl)
theorem dX5_turnsDown_12 : decode cX5_turnsDown 12 = .ok (.bipush (-2), 2) := dk_16 254 (dk_at dksX5_turnsDown_0 12 rfl rfl)
theorem dX5_turnsDown_14 : decode cX5_turnsDown 14 = .ok (.if_icmp .eq 39, 3) := dk_159 0 39 (dk_at dksX5_turnsDown_0 14 rfl rfl)
theorem dX5_turnsDown_17 : decode cX5_turnsDown 17 = .ok (.aload_n 0, 1) := dk_42 (dk_at dksX5_turnsDown_0 17 rfl rfl)
theorem dX5_turnsDown_18 : decode cX5_turnsDown 18 = .ok (.getfield 51, 3) := dk_180 0 51 (dk_at dksX5_turnsDown_0 18 rfl rfl)
theorem dX5_turnsDown_21 : decode cX5_turnsDown 21 = .ok (.bipush 6, 2) := dk_16 6 (dk_at dksX5_turnsDown_0 21 rfl rfl)
theorem dX5_turnsDown_23 : decode cX5_turnsDown 23 = .ok (.iload_n 2, 1) := dk_28 (dk_at dksX5_turnsDown_0 23 rfl rfl)
theorem dX5_turnsDown_24 : decode cX5_turnsDown 24 = .ok (.iadd, 1) := dk_96 (dk_at dksX5_turnsDown_1 0 rfl rfl)
theorem dX5_turnsDown_25 : decode cX5_turnsDown 25 = .ok (.iaload, 1) := dk_46 (dk_at dksX5_turnsDown_1 1 rfl rfl)
theorem dX5_turnsDown_26 : decode cX5_turnsDown 26 = .ok (.ifCond .le 27, 3) := dk_158 0 27 (dk_at dksX5_turnsDown_1 2 rfl rfl)
theorem dX5_turnsDown_29 : decode cX5_turnsDown 29 = .ok (.aload_n 0, 1) := dk_42 (dk_at dksX5_turnsDown_1 5 rfl rfl)
theorem dX5_turnsDown_30 : decode cX5_turnsDown 30 = .ok (.getfield 51, 3) := dk_180 0 51 (dk_at dksX5_turnsDown_1 6 rfl rfl)
theorem dX5_turnsDown_33 : decode cX5_turnsDown 33 = .ok (.bipush 6, 2) := dk_16 6 (dk_at dksX5_turnsDown_1 9 rfl rfl)
theorem dX5_turnsDown_35 : decode cX5_turnsDown 35 = .ok (.iload_n 2, 1) := dk_28 (dk_at dksX5_turnsDown_1 11 rfl rfl)
theorem dX5_turnsDown_36 : decode cX5_turnsDown 36 = .ok (.iadd, 1) := dk_96 (dk_at dksX5_turnsDown_1 12 rfl rfl)
theorem dX5_turnsDown_37 : decode cX5_turnsDown 37 = .ok (.dup2, 1) := dk_92 (dk_at dksX5_turnsDown_1 13 rfl rfl)
theorem dX5_turnsDown_38 : decode cX5_turnsDown 38 = .ok (.iaload, 1) := dk_46 (dk_at dksX5_turnsDown_1 14 rfl rfl)
theorem dX5_turnsDown_39 : decode cX5_turnsDown 39 = .ok (.iconst 1, 1) := dk_4 (dk_at dksX5_turnsDown_1 15 rfl rfl)
theorem dX5_turnsDown_40 : decode cX5_turnsDown 40 = .ok (.isub, 1) := dk_100 (dk_at dksX5_turnsDown_1 16 rfl rfl)
theorem dX5_turnsDown_41 : decode cX5_turnsDown 41 = .ok (.iastore, 1) := dk_79 (dk_at dksX5_turnsDown_1 17 rfl rfl)
theorem dX5_turnsDown_42 : decode cX5_turnsDown 42 = .ok (.iinc 1 1, 3) := dk_132 1 1 (dk_at dksX5_turnsDown_1 18 rfl rfl)
theorem dX5_turnsDown_45 : decode cX5_turnsDown 45 = .ok (.aload_n 0, 1) := dk_42 (dk_at dksX5_turnsDown_1 21 rfl rfl)
theorem dX5_turnsDown_46 : decode cX5_turnsDown 46 = .ok (.invokevirtual 396, 3) := dk_182 1 140 (dk_at dksX5_turnsDown_2 0 rfl rfl)
theorem dX5_turnsDown_49 : decode cX5_turnsDown 49 = .ok (.istore_n 2, 1) := dk_61 (dk_at dksX5_turnsDown_2 3 rfl rfl)
theorem dX5_turnsDown_50 : decode cX5_turnsDown 50 = .ok (.goto (-39), 3) := dk_167 255 217 (dk_at dksX5_turnsDown_2 4 rfl rfl)
theorem dX5_turnsDown_53 : decode cX5_turnsDown 53 = .ok (.iload_n 1, 1) := dk_27 (dk_at dksX5_turnsDown_2 7 rfl rfl)
theorem dX5_turnsDown_54 : decode cX5_turnsDown 54 = .ok (.ireturn, 1) := dk_172 (dk_at dksX5_turnsDown_2 8 rfl rfl)
abbrev cX5_left : ByteArray := prog_10_method_114_code
def yX5_left : MethodName := ⟨RX5, "left", "()I"⟩
def dkwX5_left_1 : List UInt8 := [172]
abbrev dktX5_left_1 : List UInt8 := dkwX5_left_1 ++ []
def dkwX5_left_0 : List UInt8 := [42, 3, 181, 0, 96, 42, 182, 1, 143, 87, 42, 182, 1, 70, 42, 182, 1, 125, 60, 42, 182, 1, 101, 27]
abbrev dktX5_left_0 : List UInt8 := dkwX5_left_0 ++ dktX5_left_1
theorem dksX5_left_0 : cX5_left.data.toList.drop 0 = dktX5_left_0 := by decide +kernel
theorem dksX5_left_1 : cX5_left.data.toList.drop 24 = dktX5_left_1 := dk_seg dksX5_left_0 24 rfl rfl
theorem dX5_left_0 : decode cX5_left 0 = .ok (.aload_n 0, 1) := dk_42 (dk_at dksX5_left_0 0 rfl rfl)
theorem dX5_left_1 : decode cX5_left 1 = .ok (.iconst 0, 1) := dk_3 (dk_at dksX5_left_0 1 rfl rfl)
theorem dX5_left_2 : decode cX5_left 2 = .ok (.putfield 96, 3) := dk_181 0 96 (dk_at dksX5_left_0 2 rfl rfl)
theorem dX5_left_5 : decode cX5_left 5 = .ok (.aload_n 0, 1) := dk_42 (dk_at dksX5_left_0 5 rfl rfl)
theorem dX5_left_6 : decode cX5_left 6 = .ok (.invokevirtual 399, 3) := dk_182 1 143 (dk_at dksX5_left_0 6 rfl rfl)
theorem dX5_left_9 : decode cX5_left 9 = .ok (.pop, 1) := dk_87 (dk_at dksX5_left_0 9 rfl rfl)
theorem dX5_left_10 : decode cX5_left 10 = .ok (.aload_n 0, 1) := dk_42 (dk_at dksX5_left_0 10 rfl rfl)
theorem dX5_left_11 : decode cX5_left 11 = .ok (.invokevirtual 326, 3) := dk_182 1 70 (dk_at dksX5_left_0 11 rfl rfl)
theorem dX5_left_14 : decode cX5_left 14 = .ok (.aload_n 0, 1) := dk_42 (dk_at dksX5_left_0 14 rfl rfl)
theorem dX5_left_15 : decode cX5_left 15 = .ok (.invokevirtual 381, 3) := dk_182 1 125 (dk_at dksX5_left_0 15 rfl rfl)
theorem dX5_left_18 : decode cX5_left 18 = .ok (.istore_n 1, 1) := dk_60 (dk_at dksX5_left_0 18 rfl rfl)
theorem dX5_left_19 : decode cX5_left 19 = .ok (.aload_n 0, 1) := dk_42 (dk_at dksX5_left_0 19 rfl rfl)
theorem dX5_left_20 : decode cX5_left 20 = .ok (.invokevirtual 357, 3) := dk_182 1 101 (dk_at dksX5_left_0 20 rfl rfl)
theorem dX5_left_23 : decode cX5_left 23 = .ok (.iload_n 1, 1) := dk_27 (dk_at dksX5_left_0 23 rfl rfl)
theorem dX5_left_24 : decode cX5_left 24 = .ok (.ireturn, 1) := dk_172 (dk_at dksX5_left_1 0 rfl rfl)
abbrev cX5_bestSwap : ByteArray := prog_10_method_116_code
def yX5_bestSwap : MethodName := ⟨RX5, "bestSwap", "()I"⟩
def dkwX5_bestSwap_5 : List UInt8 := [96, 61, 21, 5, 60, 132, 4, 1, 167, 255, 169, 132, 3, 1, 167, 255, 150, 28, 172]
abbrev dktX5_bestSwap_5 : List UInt8 := dkwX5_bestSwap_5 ++ []
def dkwX5_bestSwap_4 : List UInt8 := [54, 5, 42, 29, 21, 4, 182, 1, 146, 21, 5, 27, 161, 0, 6, 167, 0, 14, 16, 6, 29, 104, 21, 4]
abbrev dktX5_bestSwap_4 : List UInt8 := dkwX5_bestSwap_4 ++ dktX5_bestSwap_5
def dkwX5_bestSwap_3 : List UInt8 := [167, 0, 52, 42, 29, 21, 4, 182, 1, 146, 42, 182, 1, 70, 42, 182, 1, 125, 42, 182, 1, 128, 96]
abbrev dktX5_bestSwap_3 : List UInt8 := dkwX5_bestSwap_3 ++ dktX5_bestSwap_4
def dkwX5_bestSwap_2 : List UInt8 := [180, 0, 51, 3, 29, 96, 46, 153, 0, 67, 42, 180, 0, 51, 3, 21, 4, 96, 46, 154, 0, 6]
abbrev dktX5_bestSwap_2 : List UInt8 := dkwX5_bestSwap_2 ++ dktX5_bestSwap_3
def dkwX5_bestSwap_1 : List UInt8 := [29, 42, 182, 0, 232, 162, 0, 104, 29, 4, 96, 54, 4, 21, 4, 42, 182, 0, 232, 162, 0, 84, 42]
abbrev dktX5_bestSwap_1 : List UInt8 := dkwX5_bestSwap_1 ++ dktX5_bestSwap_2
def dkwX5_bestSwap_0 : List UInt8 := [42, 3, 181, 0, 96, 42, 182, 1, 70, 42, 182, 1, 125, 42, 182, 1, 128, 96, 60, 16, 254, 61, 3, 62]
abbrev dktX5_bestSwap_0 : List UInt8 := dkwX5_bestSwap_0 ++ dktX5_bestSwap_1
theorem dksX5_bestSwap_0 : cX5_bestSwap.data.toList.drop 0 = dktX5_bestSwap_0 := by decide +kernel
theorem dksX5_bestSwap_1 : cX5_bestSwap.data.toList.drop 24 = dktX5_bestSwap_1 := dk_seg dksX5_bestSwap_0 24 rfl rfl
theorem dksX5_bestSwap_2 : cX5_bestSwap.data.toList.drop 47 = dktX5_bestSwap_2 := dk_seg dksX5_bestSwap_1 23 rfl rfl
theorem dksX5_bestSwap_3 : cX5_bestSwap.data.toList.drop 69 = dktX5_bestSwap_3 := dk_seg dksX5_bestSwap_2 22 rfl rfl
theorem dksX5_bestSwap_4 : cX5_bestSwap.data.toList.drop 92 = dktX5_bestSwap_4 := dk_seg dksX5_bestSwap_3 23 rfl rfl
theorem dksX5_bestSwap_5 : cX5_bestSwap.data.toList.drop 116 = dktX5_bestSwap_5 := dk_seg dksX5_bestSwap_4 24 rfl rfl
theorem dX5_bestSwap_0 : decode cX5_bestSwap 0 = .ok (.aload_n 0, 1) := dk_42 (dk_at dksX5_bestSwap_0 0 rfl rfl)
theorem dX5_bestSwap_1 : decode cX5_bestSwap 1 = .ok (.iconst 0, 1) := dk_3 (dk_at dksX5_bestSwap_0 1 rfl rfl)
theorem dX5_bestSwap_2 : decode cX5_bestSwap 2 = .ok (.putfield 96, 3) := dk_181 0 96 (dk_at dksX5_bestSwap_0 2 rfl rfl)
theorem dX5_bestSwap_5 : decode cX5_bestSwap 5 = .ok (.aload_n 0, 1) := dk_42 (dk_at dksX5_bestSwap_0 5 rfl rfl)
theorem dX5_bestSwap_6 : decode cX5_bestSwap 6 = .ok (.invokevirtual 326, 3) := dk_182 1 70 (dk_at dksX5_bestSwap_0 6 rfl rfl)
theorem dX5_bestSwap_9 : decode cX5_bestSwap 9 = .ok (.aload_n 0, 1) := dk_42 (dk_at dksX5_bestSwap_0 9 rfl rfl)
theorem dX5_bestSwap_10 : decode cX5_bestSwap 10 = .ok (.invokevirtual 381, 3) := dk_182 1 125 (dk_at dksX5_bestSwap_0 10 rfl rfl)
theorem dX5_bestSwap_13 : decode cX5_bestSwap 13 = .ok (.aload_n 0, 1) := dk_42 (dk_at dksX5_bestSwap_0 13 rfl rfl)
theorem dX5_bestSwap_14 : decode cX5_bestSwap 14 = .ok (.invokevirtual 384, 3) := dk_182 1 128 (dk_at dksX5_bestSwap_0 14 rfl rfl)
theorem dX5_bestSwap_17 : decode cX5_bestSwap 17 = .ok (.iadd, 1) := dk_96 (dk_at dksX5_bestSwap_0 17 rfl rfl)
theorem dX5_bestSwap_18 : decode cX5_bestSwap 18 = .ok (.istore_n 1, 1) := dk_60 (dk_at dksX5_bestSwap_0 18 rfl rfl)
theorem dX5_bestSwap_19 : decode cX5_bestSwap 19 = .ok (.bipush (-2), 2) := dk_16 254 (dk_at dksX5_bestSwap_0 19 rfl rfl)
theorem dX5_bestSwap_21 : decode cX5_bestSwap 21 = .ok (.istore_n 2, 1) := dk_61 (dk_at dksX5_bestSwap_0 21 rfl rfl)
theorem dX5_bestSwap_22 : decode cX5_bestSwap 22 = .ok (.iconst 0, 1) := dk_3 (dk_at dksX5_bestSwap_0 22 rfl rfl)
theorem dX5_bestSwap_23 : decode cX5_bestSwap 23 = .ok (.istore_n 3, 1) := dk_62 (dk_at dksX5_bestSwap_0 23 rfl rfl)
theorem dX5_bestSwap_24 : decode cX5_bestSwap 24 = .ok (.iload_n 3, 1) := dk_29 (dk_at dksX5_bestSwap_1 0 rfl rfl)
theorem dX5_bestSwap_25 : decode cX5_bestSwap 25 = .ok (.aload_n 0, 1) := dk_42 (dk_at dksX5_bestSwap_1 1 rfl rfl)
theorem dX5_bestSwap_26 : decode cX5_bestSwap 26 = .ok (.invokevirtual 232, 3) := dk_182 0 232 (dk_at dksX5_bestSwap_1 2 rfl rfl)
theorem dX5_bestSwap_29 : decode cX5_bestSwap 29 = .ok (.if_icmp .ge 104, 3) := dk_162 0 104 (dk_at dksX5_bestSwap_1 5 rfl rfl)
theorem dX5_bestSwap_32 : decode cX5_bestSwap 32 = .ok (.iload_n 3, 1) := dk_29 (dk_at dksX5_bestSwap_1 8 rfl rfl)
theorem dX5_bestSwap_33 : decode cX5_bestSwap 33 = .ok (.iconst 1, 1) := dk_4 (dk_at dksX5_bestSwap_1 9 rfl rfl)
theorem dX5_bestSwap_34 : decode cX5_bestSwap 34 = .ok (.iadd, 1) := dk_96 (dk_at dksX5_bestSwap_1 10 rfl rfl)
theorem dX5_bestSwap_35 : decode cX5_bestSwap 35 = .ok (.istore 4, 2) := dk_54 4 (dk_at dksX5_bestSwap_1 11 rfl rfl)
theorem dX5_bestSwap_37 : decode cX5_bestSwap 37 = .ok (.iload 4, 2) := dk_21 4 (dk_at dksX5_bestSwap_1 13 rfl rfl)
theorem dX5_bestSwap_39 : decode cX5_bestSwap 39 = .ok (.aload_n 0, 1) := dk_42 (dk_at dksX5_bestSwap_1 15 rfl rfl)
theorem dX5_bestSwap_40 : decode cX5_bestSwap 40 = .ok (.invokevirtual 232, 3) := dk_182 0 232 (dk_at dksX5_bestSwap_1 16 rfl rfl)
theorem dX5_bestSwap_43 : decode cX5_bestSwap 43 = .ok (.if_icmp .ge 84, 3) := dk_162 0 84 (dk_at dksX5_bestSwap_1 19 rfl rfl)
theorem dX5_bestSwap_46 : decode cX5_bestSwap 46 = .ok (.aload_n 0, 1) := dk_42 (dk_at dksX5_bestSwap_1 22 rfl rfl)
theorem dX5_bestSwap_47 : decode cX5_bestSwap 47 = .ok (.getfield 51, 3) := dk_180 0 51 (dk_at dksX5_bestSwap_2 0 rfl rfl)
theorem dX5_bestSwap_50 : decode cX5_bestSwap 50 = .ok (.iconst 0, 1) := dk_3 (dk_at dksX5_bestSwap_2 3 rfl rfl)
theorem dX5_bestSwap_51 : decode cX5_bestSwap 51 = .ok (.iload_n 3, 1) := dk_29 (dk_at dksX5_bestSwap_2 4 rfl rfl)
theorem dX5_bestSwap_52 : decode cX5_bestSwap 52 = .ok (.iadd, 1) := dk_96 (dk_at dksX5_bestSwap_2 5 rfl rfl)
theorem dX5_bestSwap_53 : decode cX5_bestSwap 53 = .ok (.iaload, 1) := dk_46 (dk_at dksX5_bestSwap_2 6 rfl rfl)
theorem dX5_bestSwap_54 : decode cX5_bestSwap 54 = .ok (.ifCond .eq 67, 3) := dk_153 0 67 (dk_at dksX5_bestSwap_2 7 rfl rfl)
theorem dX5_bestSwap_57 : decode cX5_bestSwap 57 = .ok (.aload_n 0, 1) := dk_42 (dk_at dksX5_bestSwap_2 10 rfl rfl)
theorem dX5_bestSwap_58 : decode cX5_bestSwap 58 = .ok (.getfield 51, 3) := dk_180 0 51 (dk_at dksX5_bestSwap_2 11 rfl rfl)
theorem dX5_bestSwap_61 : decode cX5_bestSwap 61 = .ok (.iconst 0, 1) := dk_3 (dk_at dksX5_bestSwap_2 14 rfl rfl)
theorem dX5_bestSwap_62 : decode cX5_bestSwap 62 = .ok (.iload 4, 2) := dk_21 4 (dk_at dksX5_bestSwap_2 15 rfl rfl)
theorem dX5_bestSwap_64 : decode cX5_bestSwap 64 = .ok (.iadd, 1) := dk_96 (dk_at dksX5_bestSwap_2 17 rfl rfl)
theorem dX5_bestSwap_65 : decode cX5_bestSwap 65 = .ok (.iaload, 1) := dk_46 (dk_at dksX5_bestSwap_2 18 rfl rfl)
theorem dX5_bestSwap_66 : decode cX5_bestSwap 66 = .ok (.ifCond .ne 6, 3) := dk_154 0 6 (dk_at dksX5_bestSwap_2 19 rfl rfl)
theorem dX5_bestSwap_69 : decode cX5_bestSwap 69 = .ok (.goto 52, 3) := dk_167 0 52 (dk_at dksX5_bestSwap_3 0 rfl rfl)
theorem dX5_bestSwap_72 : decode cX5_bestSwap 72 = .ok (.aload_n 0, 1) := dk_42 (dk_at dksX5_bestSwap_3 3 rfl rfl)
theorem dX5_bestSwap_73 : decode cX5_bestSwap 73 = .ok (.iload_n 3, 1) := dk_29 (dk_at dksX5_bestSwap_3 4 rfl rfl)
theorem dX5_bestSwap_74 : decode cX5_bestSwap 74 = .ok (.iload 4, 2) := dk_21 4 (dk_at dksX5_bestSwap_3 5 rfl rfl)
theorem dX5_bestSwap_76 : decode cX5_bestSwap 76 = .ok (.invokevirtual 402, 3) := dk_182 1 146 (dk_at dksX5_bestSwap_3 7 rfl rfl)
theorem dX5_bestSwap_79 : decode cX5_bestSwap 79 = .ok (.aload_n 0, 1) := dk_42 (dk_at dksX5_bestSwap_3 10 rfl rfl)
theorem dX5_bestSwap_80 : decode cX5_bestSwap 80 = .ok (.invokevirtual 326, 3) := dk_182 1 70 (dk_at dksX5_bestSwap_3 11 rfl rfl)
theorem dX5_bestSwap_83 : decode cX5_bestSwap 83 = .ok (.aload_n 0, 1) := dk_42 (dk_at dksX5_bestSwap_3 14 rfl rfl)
theorem dX5_bestSwap_84 : decode cX5_bestSwap 84 = .ok (.invokevirtual 381, 3) := dk_182 1 125 (dk_at dksX5_bestSwap_3 15 rfl rfl)
theorem dX5_bestSwap_87 : decode cX5_bestSwap 87 = .ok (.aload_n 0, 1) := dk_42 (dk_at dksX5_bestSwap_3 18 rfl rfl)
theorem dX5_bestSwap_88 : decode cX5_bestSwap 88 = .ok (.invokevirtual 384, 3) := dk_182 1 128 (dk_at dksX5_bestSwap_3 19 rfl rfl)
theorem dX5_bestSwap_91 : decode cX5_bestSwap 91 = .ok (.iadd, 1) := dk_96 (dk_at dksX5_bestSwap_3 22 rfl rfl)
theorem dX5_bestSwap_92 : decode cX5_bestSwap 92 = .ok (.istore 5, 2) := dk_54 5 (dk_at dksX5_bestSwap_4 0 rfl rfl)
theorem dX5_bestSwap_94 : decode cX5_bestSwap 94 = .ok (.aload_n 0, 1) := dk_42 (dk_at dksX5_bestSwap_4 2 rfl rfl)
theorem dX5_bestSwap_95 : decode cX5_bestSwap 95 = .ok (.iload_n 3, 1) := dk_29 (dk_at dksX5_bestSwap_4 3 rfl rfl)
theorem dX5_bestSwap_96 : decode cX5_bestSwap 96 = .ok (.iload 4, 2) := dk_21 4 (dk_at dksX5_bestSwap_4 4 rfl rfl)
theorem dX5_bestSwap_98 : decode cX5_bestSwap 98 = .ok (.invokevirtual 402, 3) := dk_182 1 146 (dk_at dksX5_bestSwap_4 6 rfl rfl)
theorem dX5_bestSwap_101 : decode cX5_bestSwap 101 = .ok (.iload 5, 2) := dk_21 5 (dk_at dksX5_bestSwap_4 9 rfl rfl)
theorem dX5_bestSwap_103 : decode cX5_bestSwap 103 = .ok (.iload_n 1, 1) := dk_27 (dk_at dksX5_bestSwap_4 11 rfl rfl)
theorem dX5_bestSwap_104 : decode cX5_bestSwap 104 = .ok (.if_icmp .lt 6, 3) := dk_161 0 6 (dk_at dksX5_bestSwap_4 12 rfl rfl)
theorem dX5_bestSwap_107 : decode cX5_bestSwap 107 = .ok (.goto 14, 3) := dk_167 0 14 (dk_at dksX5_bestSwap_4 15 rfl rfl)
theorem dX5_bestSwap_110 : decode cX5_bestSwap 110 = .ok (.bipush 6, 2) := dk_16 6 (dk_at dksX5_bestSwap_4 18 rfl rfl)
theorem dX5_bestSwap_112 : decode cX5_bestSwap 112 = .ok (.iload_n 3, 1) := dk_29 (dk_at dksX5_bestSwap_4 20 rfl rfl)
theorem dX5_bestSwap_113 : decode cX5_bestSwap 113 = .ok (.imul, 1) := dk_104 (dk_at dksX5_bestSwap_4 21 rfl rfl)
theorem dX5_bestSwap_114 : decode cX5_bestSwap 114 = .ok (.iload 4, 2) := dk_21 4 (dk_at dksX5_bestSwap_4 22 rfl rfl)
theorem dX5_bestSwap_116 : decode cX5_bestSwap 116 = .ok (.iadd, 1) := dk_96 (dk_at dksX5_bestSwap_5 0 rfl rfl)
theorem dX5_bestSwap_117 : decode cX5_bestSwap 117 = .ok (.istore_n 2, 1) := dk_61 (dk_at dksX5_bestSwap_5 1 rfl rfl)
theorem dX5_bestSwap_118 : decode cX5_bestSwap 118 = .ok (.iload 5, 2) := dk_21 5 (dk_at dksX5_bestSwap_5 2 rfl rfl)
theorem dX5_bestSwap_120 : decode cX5_bestSwap 120 = .ok (.istore_n 1, 1) := dk_60 (dk_at dksX5_bestSwap_5 4 rfl rfl)
theorem dX5_bestSwap_121 : decode cX5_bestSwap 121 = .ok (.iinc 4 1, 3) := dk_132 4 1 (dk_at dksX5_bestSwap_5 5 rfl rfl)
theorem dX5_bestSwap_124 : decode cX5_bestSwap 124 = .ok (.goto (-87), 3) := dk_167 255 169 (dk_at dksX5_bestSwap_5 8 rfl rfl)
theorem dX5_bestSwap_127 : decode cX5_bestSwap 127 = .ok (.iinc 3 1, 3) := dk_132 3 1 (dk_at dksX5_bestSwap_5 11 rfl rfl)
theorem dX5_bestSwap_130 : decode cX5_bestSwap 130 = .ok (.goto (-106), 3) := dk_167 255 150 (dk_at dksX5_bestSwap_5 14 rfl rfl)
theorem dX5_bestSwap_133 : decode cX5_bestSwap 133 = .ok (.iload_n 2, 1) := dk_28 (dk_at dksX5_bestSwap_5 17 rfl rfl)
theorem dX5_bestSwap_134 : decode cX5_bestSwap 134 = .ok (.ireturn, 1) := dk_172 (dk_at dksX5_bestSwap_5 18 rfl rfl)
abbrev cX5_exchanges : ByteArray := prog_10_method_115_code
def yX5_exchanges : MethodName := ⟨RX5, "exchanges", "(II)V"⟩
def dkwX5_exchanges_1 : List UInt8 := [79, 42, 180, 0, 51, 3, 28, 96, 29, 79, 177]
abbrev dktX5_exchanges_1 : List UInt8 := dkwX5_exchanges_1 ++ []
def dkwX5_exchanges_0 : List UInt8 := [42, 180, 0, 51, 3, 27, 96, 46, 62, 42, 180, 0, 51, 3, 27, 96, 42, 180, 0, 51, 3, 28, 96, 46]
abbrev dktX5_exchanges_0 : List UInt8 := dkwX5_exchanges_0 ++ dktX5_exchanges_1
theorem dksX5_exchanges_0 : cX5_exchanges.data.toList.drop 0 = dktX5_exchanges_0 := by decide +kernel
theorem dksX5_exchanges_1 : cX5_exchanges.data.toList.drop 24 = dktX5_exchanges_1 := dk_seg dksX5_exchanges_0 24 rfl rfl
theorem dX5_exchanges_0 : decode cX5_exchanges 0 = .ok (.aload_n 0, 1) := dk_42 (dk_at dksX5_exchanges_0 0 rfl rfl)
theorem dX5_exchanges_1 : decode cX5_exchanges 1 = .ok (.getfield 51, 3) := dk_180 0 51 (dk_at dksX5_exchanges_0 1 rfl rfl)
theorem dX5_exchanges_4 : decode cX5_exchanges 4 = .ok (.iconst 0, 1) := dk_3 (dk_at dksX5_exchanges_0 4 rfl rfl)
theorem dX5_exchanges_5 : decode cX5_exchanges 5 = .ok (.iload_n 1, 1) := dk_27 (dk_at dksX5_exchanges_0 5 rfl rfl)
theorem dX5_exchanges_6 : decode cX5_exchanges 6 = .ok (.iadd, 1) := dk_96 (dk_at dksX5_exchanges_0 6 rfl rfl)
theorem dX5_exchanges_7 : decode cX5_exchanges 7 = .ok (.iaload, 1) := dk_46 (dk_at dksX5_exchanges_0 7 rfl rfl)
theorem dX5_exchanges_8 : decode cX5_exchanges 8 = .ok (.istore_n 3, 1) := dk_62 (dk_at dksX5_exchanges_0 8 rfl rfl)
theorem dX5_exchanges_9 : decode cX5_exchanges 9 = .ok (.aload_n 0, 1) := dk_42 (dk_at dksX5_exchanges_0 9 rfl rfl)
theorem dX5_exchanges_10 : decode cX5_exchanges 10 = .ok (.getfield 51, 3) := dk_180 0 51 (dk_at dksX5_exchanges_0 10 rfl rfl)
theorem dX5_exchanges_13 : decode cX5_exchanges 13 = .ok (.iconst 0, 1) := dk_3 (dk_at dksX5_exchanges_0 13 rfl rfl)
theorem dX5_exchanges_14 : decode cX5_exchanges 14 = .ok (.iload_n 1, 1) := dk_27 (dk_at dksX5_exchanges_0 14 rfl rfl)
theorem dX5_exchanges_15 : decode cX5_exchanges 15 = .ok (.iadd, 1) := dk_96 (dk_at dksX5_exchanges_0 15 rfl rfl)
theorem dX5_exchanges_16 : decode cX5_exchanges 16 = .ok (.aload_n 0, 1) := dk_42 (dk_at dksX5_exchanges_0 16 rfl rfl)
theorem dX5_exchanges_17 : decode cX5_exchanges 17 = .ok (.getfield 51, 3) := dk_180 0 51 (dk_at dksX5_exchanges_0 17 rfl rfl)
theorem dX5_exchanges_20 : decode cX5_exchanges 20 = .ok (.iconst 0, 1) := dk_3 (dk_at dksX5_exchanges_0 20 rfl rfl)
theorem dX5_exchanges_21 : decode cX5_exchanges 21 = .ok (.iload_n 2, 1) := dk_28 (dk_at dksX5_exchanges_0 21 rfl rfl)
theorem dX5_exchanges_22 : decode cX5_exchanges 22 = .ok (.iadd, 1) := dk_96 (dk_at dksX5_exchanges_0 22 rfl rfl)
theorem dX5_exchanges_23 : decode cX5_exchanges 23 = .ok (.iaload, 1) := dk_46 (dk_at dksX5_exchanges_0 23 rfl rfl)
theorem dX5_exchanges_24 : decode cX5_exchanges 24 = .ok (.iastore, 1) := dk_79 (dk_at dksX5_exchanges_1 0 rfl rfl)
theorem dX5_exchanges_25 : decode cX5_exchanges 25 = .ok (.aload_n 0, 1) := dk_42 (dk_at dksX5_exchanges_1 1 rfl rfl)
theorem dX5_exchanges_26 : decode cX5_exchanges 26 = .ok (.getfield 51, 3) := dk_180 0 51 (dk_at dksX5_exchanges_1 2 rfl rfl)
theorem dX5_exchanges_29 : decode cX5_exchanges 29 = .ok (.iconst 0, 1) := dk_3 (dk_at dksX5_exchanges_1 5 rfl rfl)
theorem dX5_exchanges_30 : decode cX5_exchanges 30 = .ok (.iload_n 2, 1) := dk_28 (dk_at dksX5_exchanges_1 6 rfl rfl)
theorem dX5_exchanges_31 : decode cX5_exchanges 31 = .ok (.iadd, 1) := dk_96 (dk_at dksX5_exchanges_1 7 rfl rfl)
theorem dX5_exchanges_32 : decode cX5_exchanges 32 = .ok (.iload_n 3, 1) := dk_29 (dk_at dksX5_exchanges_1 8 rfl rfl)
theorem dX5_exchanges_33 : decode cX5_exchanges 33 = .ok (.iastore, 1) := dk_79 (dk_at dksX5_exchanges_1 9 rfl rfl)
theorem dX5_exchanges_34 : decode cX5_exchanges 34 = .ok (.return_, 1) := dk_177 (dk_at dksX5_exchanges_1 10 rfl rfl)
abbrev cX5_when : ByteArray := prog_10_method_117_code
def yX5_when : MethodName := ⟨RX5, "when", "(I)I"⟩
def dkwX5_when_2 : List UInt8 := [180, 0, 51, 16, 73, 27, 96, 46, 126, 128, 61, 132, 3, 1, 167, 255, 217, 28, 172]
abbrev dktX5_when_2 : List UInt8 := dkwX5_when_2 ++ []
def dkwX5_when_1 : List UInt8 := [42, 180, 1, 24, 162, 0, 37, 42, 29, 27, 182, 1, 49, 153, 0, 22, 28, 42, 180, 0, 78, 29, 46, 42]
abbrev dktX5_when_1 : List UInt8 := dkwX5_when_1 ++ dktX5_when_2
def dkwX5_when_0 : List UInt8 := [42, 3, 181, 0, 96, 42, 27, 182, 1, 3, 154, 0, 5, 2, 172, 42, 182, 1, 70, 3, 61, 3, 62, 29]
abbrev dktX5_when_0 : List UInt8 := dkwX5_when_0 ++ dktX5_when_1
theorem dksX5_when_0 : cX5_when.data.toList.drop 0 = dktX5_when_0 := by decide +kernel
theorem dksX5_when_1 : cX5_when.data.toList.drop 24 = dktX5_when_1 := dk_seg dksX5_when_0 24 rfl rfl
theorem dksX5_when_2 : cX5_when.data.toList.drop 48 = dktX5_when_2 := dk_seg dksX5_when_1 24 rfl rfl
theorem dX5_when_0 : decode cX5_when 0 = .ok (.aload_n 0, 1) := dk_42 (dk_at dksX5_when_0 0 rfl rfl)
theorem dX5_when_1 : decode cX5_when 1 = .ok (.iconst 0, 1) := dk_3 (dk_at dksX5_when_0 1 rfl rfl)
theorem dX5_when_2 : decode cX5_when 2 = .ok (.putfield 96, 3) := dk_181 0 96 (dk_at dksX5_when_0 2 rfl rfl)
theorem dX5_when_5 : decode cX5_when 5 = .ok (.aload_n 0, 1) := dk_42 (dk_at dksX5_when_0 5 rfl rfl)
theorem dX5_when_6 : decode cX5_when 6 = .ok (.iload_n 1, 1) := dk_27 (dk_at dksX5_when_0 6 rfl rfl)
theorem dX5_when_7 : decode cX5_when 7 = .ok (.invokevirtual 259, 3) := dk_182 1 3 (dk_at dksX5_when_0 7 rfl rfl)
theorem dX5_when_10 : decode cX5_when 10 = .ok (.ifCond .ne 5, 3) := dk_154 0 5 (dk_at dksX5_when_0 10 rfl rfl)
theorem dX5_when_13 : decode cX5_when 13 = .ok (.iconst (-1), 1) := dk_2 (dk_at dksX5_when_0 13 rfl rfl)
theorem dX5_when_14 : decode cX5_when 14 = .ok (.ireturn, 1) := dk_172 (dk_at dksX5_when_0 14 rfl rfl)
theorem dX5_when_15 : decode cX5_when 15 = .ok (.aload_n 0, 1) := dk_42 (dk_at dksX5_when_0 15 rfl rfl)
theorem dX5_when_16 : decode cX5_when 16 = .ok (.invokevirtual 326, 3) := dk_182 1 70 (dk_at dksX5_when_0 16 rfl rfl)
theorem dX5_when_19 : decode cX5_when 19 = .ok (.iconst 0, 1) := dk_3 (dk_at dksX5_when_0 19 rfl rfl)
theorem dX5_when_20 : decode cX5_when 20 = .ok (.istore_n 2, 1) := dk_61 (dk_at dksX5_when_0 20 rfl rfl)
theorem dX5_when_21 : decode cX5_when 21 = .ok (.iconst 0, 1) := dk_3 (dk_at dksX5_when_0 21 rfl rfl)
theorem dX5_when_22 : decode cX5_when 22 = .ok (.istore_n 3, 1) := dk_62 (dk_at dksX5_when_0 22 rfl rfl)
theorem dX5_when_23 : decode cX5_when 23 = .ok (.iload_n 3, 1) := dk_29 (dk_at dksX5_when_0 23 rfl rfl)
theorem dX5_when_24 : decode cX5_when 24 = .ok (.aload_n 0, 1) := dk_42 (dk_at dksX5_when_1 0 rfl rfl)
theorem dX5_when_25 : decode cX5_when 25 = .ok (.getfield 280, 3) := dk_180 1 24 (dk_at dksX5_when_1 1 rfl rfl)
theorem dX5_when_28 : decode cX5_when 28 = .ok (.if_icmp .ge 37, 3) := dk_162 0 37 (dk_at dksX5_when_1 4 rfl rfl)
theorem dX5_when_31 : decode cX5_when 31 = .ok (.aload_n 0, 1) := dk_42 (dk_at dksX5_when_1 7 rfl rfl)
theorem dX5_when_32 : decode cX5_when 32 = .ok (.iload_n 3, 1) := dk_29 (dk_at dksX5_when_1 8 rfl rfl)
theorem dX5_when_33 : decode cX5_when 33 = .ok (.iload_n 1, 1) := dk_27 (dk_at dksX5_when_1 9 rfl rfl)
theorem dX5_when_34 : decode cX5_when 34 = .ok (.invokevirtual 305, 3) := dk_182 1 49 (dk_at dksX5_when_1 10 rfl rfl)
theorem dX5_when_37 : decode cX5_when 37 = .ok (.ifCond .eq 22, 3) := dk_153 0 22 (dk_at dksX5_when_1 13 rfl rfl)
theorem dX5_when_40 : decode cX5_when 40 = .ok (.iload_n 2, 1) := dk_28 (dk_at dksX5_when_1 16 rfl rfl)
theorem dX5_when_41 : decode cX5_when 41 = .ok (.aload_n 0, 1) := dk_42 (dk_at dksX5_when_1 17 rfl rfl)
theorem dX5_when_42 : decode cX5_when 42 = .ok (.getfield 78, 3) := dk_180 0 78 (dk_at dksX5_when_1 18 rfl rfl)
theorem dX5_when_45 : decode cX5_when 45 = .ok (.iload_n 3, 1) := dk_29 (dk_at dksX5_when_1 21 rfl rfl)
theorem dX5_when_46 : decode cX5_when 46 = .ok (.iaload, 1) := dk_46 (dk_at dksX5_when_1 22 rfl rfl)
theorem dX5_when_47 : decode cX5_when 47 = .ok (.aload_n 0, 1) := dk_42 (dk_at dksX5_when_1 23 rfl rfl)
theorem dX5_when_48 : decode cX5_when 48 = .ok (.getfield 51, 3) := dk_180 0 51 (dk_at dksX5_when_2 0 rfl rfl)
theorem dX5_when_51 : decode cX5_when 51 = .ok (.bipush 73, 2) := dk_16 73 (dk_at dksX5_when_2 3 rfl rfl)
theorem dX5_when_53 : decode cX5_when 53 = .ok (.iload_n 1, 1) := dk_27 (dk_at dksX5_when_2 5 rfl rfl)
theorem dX5_when_54 : decode cX5_when 54 = .ok (.iadd, 1) := dk_96 (dk_at dksX5_when_2 6 rfl rfl)
theorem dX5_when_55 : decode cX5_when 55 = .ok (.iaload, 1) := dk_46 (dk_at dksX5_when_2 7 rfl rfl)
theorem dX5_when_56 : decode cX5_when 56 = .ok (.iand, 1) := dk_126 (dk_at dksX5_when_2 8 rfl rfl)
theorem dX5_when_57 : decode cX5_when 57 = .ok (.ior, 1) := dk_128 (dk_at dksX5_when_2 9 rfl rfl)
theorem dX5_when_58 : decode cX5_when 58 = .ok (.istore_n 2, 1) := dk_61 (dk_at dksX5_when_2 10 rfl rfl)
theorem dX5_when_59 : decode cX5_when 59 = .ok (.iinc 3 1, 3) := dk_132 3 1 (dk_at dksX5_when_2 11 rfl rfl)
theorem dX5_when_62 : decode cX5_when 62 = .ok (.goto (-39), 3) := dk_167 255 217 (dk_at dksX5_when_2 14 rfl rfl)
theorem dX5_when_65 : decode cX5_when 65 = .ok (.iload_n 2, 1) := dk_28 (dk_at dksX5_when_2 17 rfl rfl)
theorem dX5_when_66 : decode cX5_when 66 = .ok (.ireturn, 1) := dk_172 (dk_at dksX5_when_2 18 rfl rfl)
abbrev cX5_linked : ByteArray := prog_10_method_118_code
def yX5_linked : MethodName := ⟨RX5, "linked", "(II)I"⟩
def dkwX5_linked_1 : List UInt8 := [28, 160, 0, 5, 2, 172, 42, 180, 0, 41, 6, 27, 104, 28, 96, 46, 172]
abbrev dktX5_linked_1 : List UInt8 := dkwX5_linked_1 ++ []
def dkwX5_linked_0 : List UInt8 := [42, 3, 181, 0, 96, 27, 155, 0, 22, 27, 6, 162, 0, 17, 28, 155, 0, 13, 28, 6, 162, 0, 8, 27]
abbrev dktX5_linked_0 : List UInt8 := dkwX5_linked_0 ++ dktX5_linked_1
theorem dksX5_linked_0 : cX5_linked.data.toList.drop 0 = dktX5_linked_0 := by decide +kernel
theorem dksX5_linked_1 : cX5_linked.data.toList.drop 24 = dktX5_linked_1 := dk_seg dksX5_linked_0 24 rfl rfl
theorem dX5_linked_0 : decode cX5_linked 0 = .ok (.aload_n 0, 1) := dk_42 (dk_at dksX5_linked_0 0 rfl rfl)
theorem dX5_linked_1 : decode cX5_linked 1 = .ok (.iconst 0, 1) := dk_3 (dk_at dksX5_linked_0 1 rfl rfl)
theorem dX5_linked_2 : decode cX5_linked 2 = .ok (.putfield 96, 3) := dk_181 0 96 (dk_at dksX5_linked_0 2 rfl rfl)
theorem dX5_linked_5 : decode cX5_linked 5 = .ok (.iload_n 1, 1) := dk_27 (dk_at dksX5_linked_0 5 rfl rfl)
theorem dX5_linked_6 : decode cX5_linked 6 = .ok (.ifCond .lt 22, 3) := dk_155 0 22 (dk_at dksX5_linked_0 6 rfl rfl)
theorem dX5_linked_9 : decode cX5_linked 9 = .ok (.iload_n 1, 1) := dk_27 (dk_at dksX5_linked_0 9 rfl rfl)
theorem dX5_linked_10 : decode cX5_linked 10 = .ok (.iconst 3, 1) := dk_6 (dk_at dksX5_linked_0 10 rfl rfl)
theorem dX5_linked_11 : decode cX5_linked 11 = .ok (.if_icmp .ge 17, 3) := dk_162 0 17 (dk_at dksX5_linked_0 11 rfl rfl)
theorem dX5_linked_14 : decode cX5_linked 14 = .ok (.iload_n 2, 1) := dk_28 (dk_at dksX5_linked_0 14 rfl rfl)
theorem dX5_linked_15 : decode cX5_linked 15 = .ok (.ifCond .lt 13, 3) := dk_155 0 13 (dk_at dksX5_linked_0 15 rfl rfl)
theorem dX5_linked_18 : decode cX5_linked 18 = .ok (.iload_n 2, 1) := dk_28 (dk_at dksX5_linked_0 18 rfl rfl)
theorem dX5_linked_19 : decode cX5_linked 19 = .ok (.iconst 3, 1) := dk_6 (dk_at dksX5_linked_0 19 rfl rfl)
theorem dX5_linked_20 : decode cX5_linked 20 = .ok (.if_icmp .ge 8, 3) := dk_162 0 8 (dk_at dksX5_linked_0 20 rfl rfl)
theorem dX5_linked_23 : decode cX5_linked 23 = .ok (.iload_n 1, 1) := dk_27 (dk_at dksX5_linked_0 23 rfl rfl)
theorem dX5_linked_24 : decode cX5_linked 24 = .ok (.iload_n 2, 1) := dk_28 (dk_at dksX5_linked_1 0 rfl rfl)
theorem dX5_linked_25 : decode cX5_linked 25 = .ok (.if_icmp .ne 5, 3) := dk_160 0 5 (dk_at dksX5_linked_1 1 rfl rfl)
theorem dX5_linked_28 : decode cX5_linked 28 = .ok (.iconst (-1), 1) := dk_2 (dk_at dksX5_linked_1 4 rfl rfl)
theorem dX5_linked_29 : decode cX5_linked 29 = .ok (.ireturn, 1) := dk_172 (dk_at dksX5_linked_1 5 rfl rfl)
theorem dX5_linked_30 : decode cX5_linked 30 = .ok (.aload_n 0, 1) := dk_42 (dk_at dksX5_linked_1 6 rfl rfl)
theorem dX5_linked_31 : decode cX5_linked 31 = .ok (.getfield 41, 3) := dk_180 0 41 (dk_at dksX5_linked_1 7 rfl rfl)
theorem dX5_linked_34 : decode cX5_linked 34 = .ok (.iconst 3, 1) := dk_6 (dk_at dksX5_linked_1 10 rfl rfl)
theorem dX5_linked_35 : decode cX5_linked 35 = .ok (.iload_n 1, 1) := dk_27 (dk_at dksX5_linked_1 11 rfl rfl)
theorem dX5_linked_36 : decode cX5_linked 36 = .ok (.imul, 1) := dk_104 (dk_at dksX5_linked_1 12 rfl rfl)
theorem dX5_linked_37 : decode cX5_linked 37 = .ok (.iload_n 2, 1) := dk_28 (dk_at dksX5_linked_1 13 rfl rfl)
theorem dX5_linked_38 : decode cX5_linked 38 = .ok (.iadd, 1) := dk_96 (dk_at dksX5_linked_1 14 rfl rfl)
theorem dX5_linked_39 : decode cX5_linked 39 = .ok (.iaload, 1) := dk_46 (dk_at dksX5_linked_1 15 rfl rfl)
theorem dX5_linked_40 : decode cX5_linked 40 = .ok (.ireturn, 1) := dk_172 (dk_at dksX5_linked_1 16 rfl rfl)
abbrev cX5_clearance : ByteArray := prog_10_method_119_code
def yX5_clearance : MethodName := ⟨RX5, "clearance", "(I)I"⟩
def dkwX5_clearance_3 : List UInt8 := [28, 162, 0, 8, 21, 4, 167, 0, 4, 28, 61, 132, 3, 1, 167, 255, 194, 28, 172]
abbrev dktX5_clearance_3 : List UInt8 := dkwX5_clearance_3 ++ []
def dkwX5_clearance_2 : List UInt8 := [3, 27, 96, 46, 42, 180, 0, 72, 29, 46, 100, 184, 1, 18, 54, 4, 28, 16, 254, 159, 0, 9, 21, 4]
abbrev dktX5_clearance_2 : List UInt8 := dkwX5_clearance_2 ++ dktX5_clearance_3
def dkwX5_clearance_1 : List UInt8 := [29, 42, 180, 1, 24, 162, 0, 60, 42, 29, 27, 182, 1, 43, 154, 0, 6, 167, 0, 42, 42, 180, 0, 51]
abbrev dktX5_clearance_1 : List UInt8 := dkwX5_clearance_1 ++ dktX5_clearance_2
def dkwX5_clearance_0 : List UInt8 := [42, 3, 181, 0, 96, 42, 27, 182, 1, 3, 154, 0, 5, 2, 172, 42, 182, 1, 70, 16, 254, 61, 3, 62]
abbrev dktX5_clearance_0 : List UInt8 := dkwX5_clearance_0 ++ dktX5_clearance_1
theorem dksX5_clearance_0 : cX5_clearance.data.toList.drop 0 = dktX5_clearance_0 := by decide +kernel
theorem dksX5_clearance_1 : cX5_clearance.data.toList.drop 24 = dktX5_clearance_1 := dk_seg dksX5_clearance_0 24 rfl rfl
theorem dksX5_clearance_2 : cX5_clearance.data.toList.drop 48 = dktX5_clearance_2 := dk_seg dksX5_clearance_1 24 rfl rfl
theorem dksX5_clearance_3 : cX5_clearance.data.toList.drop 72 = dktX5_clearance_3 := dk_seg dksX5_clearance_2 24 rfl rfl
theorem dX5_clearance_0 : decode cX5_clearance 0 = .ok (.aload_n 0, 1) := dk_42 (dk_at dksX5_clearance_0 0 rfl rfl)
theorem dX5_clearance_1 : decode cX5_clearance 1 = .ok (.iconst 0, 1) := dk_3 (dk_at dksX5_clearance_0 1 rfl rfl)
theorem dX5_clearance_2 : decode cX5_clearance 2 = .ok (.putfield 96, 3) := dk_181 0 96 (dk_at dksX5_clearance_0 2 rfl rfl)
theorem dX5_clearance_5 : decode cX5_clearance 5 = .ok (.aload_n 0, 1) := dk_42 (dk_at dksX5_clearance_0 5 rfl rfl)
theorem dX5_clearance_6 : decode cX5_clearance 6 = .ok (.iload_n 1, 1) := dk_27 (dk_at dksX5_clearance_0 6 rfl rfl)
theorem dX5_clearance_7 : decode cX5_clearance 7 = .ok (.invokevirtual 259, 3) := dk_182 1 3 (dk_at dksX5_clearance_0 7 rfl rfl)
theorem dX5_clearance_10 : decode cX5_clearance 10 = .ok (.ifCond .ne 5, 3) := dk_154 0 5 (dk_at dksX5_clearance_0 10 rfl rfl)
theorem dX5_clearance_13 : decode cX5_clearance 13 = .ok (.iconst (-1), 1) := dk_2 (dk_at dksX5_clearance_0 13 rfl rfl)
theorem dX5_clearance_14 : decode cX5_clearance 14 = .ok (.ireturn, 1) := dk_172 (dk_at dksX5_clearance_0 14 rfl rfl)
theorem dX5_clearance_15 : decode cX5_clearance 15 = .ok (.aload_n 0, 1) := dk_42 (dk_at dksX5_clearance_0 15 rfl rfl)
theorem dX5_clearance_16 : decode cX5_clearance 16 = .ok (.invokevirtual 326, 3) := dk_182 1 70 (dk_at dksX5_clearance_0 16 rfl rfl)
theorem dX5_clearance_19 : decode cX5_clearance 19 = .ok (.bipush (-2), 2) := dk_16 254 (dk_at dksX5_clearance_0 19 rfl rfl)
theorem dX5_clearance_21 : decode cX5_clearance 21 = .ok (.istore_n 2, 1) := dk_61 (dk_at dksX5_clearance_0 21 rfl rfl)
theorem dX5_clearance_22 : decode cX5_clearance 22 = .ok (.iconst 0, 1) := dk_3 (dk_at dksX5_clearance_0 22 rfl rfl)
theorem dX5_clearance_23 : decode cX5_clearance 23 = .ok (.istore_n 3, 1) := dk_62 (dk_at dksX5_clearance_0 23 rfl rfl)
theorem dX5_clearance_24 : decode cX5_clearance 24 = .ok (.iload_n 3, 1) := dk_29 (dk_at dksX5_clearance_1 0 rfl rfl)
theorem dX5_clearance_25 : decode cX5_clearance 25 = .ok (.aload_n 0, 1) := dk_42 (dk_at dksX5_clearance_1 1 rfl rfl)
theorem dX5_clearance_26 : decode cX5_clearance 26 = .ok (.getfield 280, 3) := dk_180 1 24 (dk_at dksX5_clearance_1 2 rfl rfl)
theorem dX5_clearance_29 : decode cX5_clearance 29 = .ok (.if_icmp .ge 60, 3) := dk_162 0 60 (dk_at dksX5_clearance_1 5 rfl rfl)
theorem dX5_clearance_32 : decode cX5_clearance 32 = .ok (.aload_n 0, 1) := dk_42 (dk_at dksX5_clearance_1 8 rfl rfl)
theorem dX5_clearance_33 : decode cX5_clearance 33 = .ok (.iload_n 3, 1) := dk_29 (dk_at dksX5_clearance_1 9 rfl rfl)
theorem dX5_clearance_34 : decode cX5_clearance 34 = .ok (.iload_n 1, 1) := dk_27 (dk_at dksX5_clearance_1 10 rfl rfl)
theorem dX5_clearance_35 : decode cX5_clearance 35 = .ok (.invokevirtual 299, 3) := dk_182 1 43 (dk_at dksX5_clearance_1 11 rfl rfl)
theorem dX5_clearance_38 : decode cX5_clearance 38 = .ok (.ifCond .ne 6, 3) := dk_154 0 6 (dk_at dksX5_clearance_1 14 rfl rfl)
theorem dX5_clearance_41 : decode cX5_clearance 41 = .ok (.goto 42, 3) := dk_167 0 42 (dk_at dksX5_clearance_1 17 rfl rfl)
theorem dX5_clearance_44 : decode cX5_clearance 44 = .ok (.aload_n 0, 1) := dk_42 (dk_at dksX5_clearance_1 20 rfl rfl)
theorem dX5_clearance_45 : decode cX5_clearance 45 = .ok (.getfield 51, 3) := dk_180 0 51 (dk_at dksX5_clearance_1 21 rfl rfl)
theorem dX5_clearance_48 : decode cX5_clearance 48 = .ok (.iconst 0, 1) := dk_3 (dk_at dksX5_clearance_2 0 rfl rfl)
theorem dX5_clearance_49 : decode cX5_clearance 49 = .ok (.iload_n 1, 1) := dk_27 (dk_at dksX5_clearance_2 1 rfl rfl)
theorem dX5_clearance_50 : decode cX5_clearance 50 = .ok (.iadd, 1) := dk_96 (dk_at dksX5_clearance_2 2 rfl rfl)
theorem dX5_clearance_51 : decode cX5_clearance 51 = .ok (.iaload, 1) := dk_46 (dk_at dksX5_clearance_2 3 rfl rfl)
theorem dX5_clearance_52 : decode cX5_clearance 52 = .ok (.aload_n 0, 1) := dk_42 (dk_at dksX5_clearance_2 4 rfl rfl)
theorem dX5_clearance_53 : decode cX5_clearance 53 = .ok (.getfield 72, 3) := dk_180 0 72 (dk_at dksX5_clearance_2 5 rfl rfl)
theorem dX5_clearance_56 : decode cX5_clearance 56 = .ok (.iload_n 3, 1) := dk_29 (dk_at dksX5_clearance_2 8 rfl rfl)
theorem dX5_clearance_57 : decode cX5_clearance 57 = .ok (.iaload, 1) := dk_46 (dk_at dksX5_clearance_2 9 rfl rfl)
theorem dX5_clearance_58 : decode cX5_clearance 58 = .ok (.isub, 1) := dk_100 (dk_at dksX5_clearance_2 10 rfl rfl)
theorem dX5_clearance_59 : decode cX5_clearance 59 = .ok (.invokestatic 274, 3) := dk_184 1 18 (dk_at dksX5_clearance_2 11 rfl rfl)
theorem dX5_clearance_62 : decode cX5_clearance 62 = .ok (.istore 4, 2) := dk_54 4 (dk_at dksX5_clearance_2 14 rfl rfl)
theorem dX5_clearance_64 : decode cX5_clearance 64 = .ok (.iload_n 2, 1) := dk_28 (dk_at dksX5_clearance_2 16 rfl rfl)
theorem dX5_clearance_65 : decode cX5_clearance 65 = .ok (.bipush (-2), 2) := dk_16 254 (dk_at dksX5_clearance_2 17 rfl rfl)
theorem dX5_clearance_67 : decode cX5_clearance 67 = .ok (.if_icmp .eq 9, 3) := dk_159 0 9 (dk_at dksX5_clearance_2 19 rfl rfl)
theorem dX5_clearance_70 : decode cX5_clearance 70 = .ok (.iload 4, 2) := dk_21 4 (dk_at dksX5_clearance_2 22 rfl rfl)
theorem dX5_clearance_72 : decode cX5_clearance 72 = .ok (.iload_n 2, 1) := dk_28 (dk_at dksX5_clearance_3 0 rfl rfl)
theorem dX5_clearance_73 : decode cX5_clearance 73 = .ok (.if_icmp .ge 8, 3) := dk_162 0 8 (dk_at dksX5_clearance_3 1 rfl rfl)
theorem dX5_clearance_76 : decode cX5_clearance 76 = .ok (.iload 4, 2) := dk_21 4 (dk_at dksX5_clearance_3 4 rfl rfl)
theorem dX5_clearance_78 : decode cX5_clearance 78 = .ok (.goto 4, 3) := dk_167 0 4 (dk_at dksX5_clearance_3 6 rfl rfl)
theorem dX5_clearance_81 : decode cX5_clearance 81 = .ok (.iload_n 2, 1) := dk_28 (dk_at dksX5_clearance_3 9 rfl rfl)
theorem dX5_clearance_82 : decode cX5_clearance 82 = .ok (.istore_n 2, 1) := dk_61 (dk_at dksX5_clearance_3 10 rfl rfl)
theorem dX5_clearance_83 : decode cX5_clearance 83 = .ok (.iinc 3 1, 3) := dk_132 3 1 (dk_at dksX5_clearance_3 11 rfl rfl)
theorem dX5_clearance_86 : decode cX5_clearance 86 = .ok (.goto (-62), 3) := dk_167 255 194 (dk_at dksX5_clearance_3 14 rfl rfl)
theorem dX5_clearance_89 : decode cX5_clearance 89 = .ok (.iload_n 2, 1) := dk_28 (dk_at dksX5_clearance_3 17 rfl rfl)
theorem dX5_clearance_90 : decode cX5_clearance 90 = .ok (.ireturn, 1) := dk_172 (dk_at dksX5_clearance_3 18 rfl rfl)
abbrev cX5_nearest : ByteArray := prog_10_method_120_code
def yX5_nearest : MethodName := ⟨RX5, "nearest", "(I)I"⟩
def dkwX5_nearest_5 : List UInt8 := [100, 184, 1, 18, 162, 0, 5, 29, 61, 132, 3, 1, 167, 255, 149, 28, 172]
abbrev dktX5_nearest_5 : List UInt8 := dkwX5_nearest_5 ++ []
def dkwX5_nearest_4 : List UInt8 := [3, 27, 96, 46, 100, 184, 1, 18, 42, 180, 0, 51, 3, 28, 96, 46, 42, 180, 0, 51, 3, 27, 96, 46]
abbrev dktX5_nearest_4 : List UInt8 := dkwX5_nearest_4 ++ dktX5_nearest_5
def dkwX5_nearest_3 : List UInt8 := [154, 0, 6, 167, 0, 54, 28, 16, 254, 159, 0, 46, 42, 180, 0, 51, 3, 29, 96, 46, 42, 180, 0, 51]
abbrev dktX5_nearest_3 : List UInt8 := dkwX5_nearest_3 ++ dktX5_nearest_4
def dkwX5_nearest_2 : List UInt8 := [160, 0, 79, 42, 180, 0, 51, 3, 29, 96, 46, 153, 0, 68, 42, 180, 0, 51, 3, 27, 96, 46]
abbrev dktX5_nearest_2 : List UInt8 := dkwX5_nearest_2 ++ dktX5_nearest_3
def dkwX5_nearest_1 : List UInt8 := [182, 0, 232, 162, 0, 105, 29, 27, 159, 0, 94, 42, 180, 0, 23, 29, 46, 42, 180, 0, 23, 27, 46]
abbrev dktX5_nearest_1 : List UInt8 := dkwX5_nearest_1 ++ dktX5_nearest_2
def dkwX5_nearest_0 : List UInt8 := [42, 3, 181, 0, 96, 42, 27, 182, 1, 3, 154, 0, 5, 2, 172, 16, 254, 61, 3, 62, 29, 42]
abbrev dktX5_nearest_0 : List UInt8 := dkwX5_nearest_0 ++ dktX5_nearest_1
theorem dksX5_nearest_0 : cX5_nearest.data.toList.drop 0 = dktX5_nearest_0 := by decide +kernel
theorem dksX5_nearest_1 : cX5_nearest.data.toList.drop 22 = dktX5_nearest_1 := dk_seg dksX5_nearest_0 22 rfl rfl
theorem dksX5_nearest_2 : cX5_nearest.data.toList.drop 45 = dktX5_nearest_2 := dk_seg dksX5_nearest_1 23 rfl rfl
theorem dksX5_nearest_3 : cX5_nearest.data.toList.drop 67 = dktX5_nearest_3 := dk_seg dksX5_nearest_2 22 rfl rfl
theorem dksX5_nearest_4 : cX5_nearest.data.toList.drop 91 = dktX5_nearest_4 := dk_seg dksX5_nearest_3 24 rfl rfl
theorem dksX5_nearest_5 : cX5_nearest.data.toList.drop 115 = dktX5_nearest_5 := dk_seg dksX5_nearest_4 24 rfl rfl
theorem dX5_nearest_0 : decode cX5_nearest 0 = .ok (.aload_n 0, 1) := dk_42 (dk_at dksX5_nearest_0 0 rfl rfl)
theorem dX5_nearest_1 : decode cX5_nearest 1 = .ok (.iconst 0, 1) := dk_3 (dk_at dksX5_nearest_0 1 rfl rfl)
theorem dX5_nearest_2 : decode cX5_nearest 2 = .ok (.putfield 96, 3) := dk_181 0 96 (dk_at dksX5_nearest_0 2 rfl rfl)
theorem dX5_nearest_5 : decode cX5_nearest 5 = .ok (.aload_n 0, 1) := dk_42 (dk_at dksX5_nearest_0 5 rfl rfl)
theorem dX5_nearest_6 : decode cX5_nearest 6 = .ok (.iload_n 1, 1) := dk_27 (dk_at dksX5_nearest_0 6 rfl rfl)
theorem dX5_nearest_7 : decode cX5_nearest 7 = .ok (.invokevirtual 259, 3) := dk_182 1 3 (dk_at dksX5_nearest_0 7 rfl rfl)
theorem dX5_nearest_10 : decode cX5_nearest 10 = .ok (.ifCond .ne 5, 3) := dk_154 0 5 (dk_at dksX5_nearest_0 10 rfl rfl)
theorem dX5_nearest_13 : decode cX5_nearest 13 = .ok (.iconst (-1), 1) := dk_2 (dk_at dksX5_nearest_0 13 rfl rfl)
theorem dX5_nearest_14 : decode cX5_nearest 14 = .ok (.ireturn, 1) := dk_172 (dk_at dksX5_nearest_0 14 rfl rfl)
theorem dX5_nearest_15 : decode cX5_nearest 15 = .ok (.bipush (-2), 2) := dk_16 254 (dk_at dksX5_nearest_0 15 rfl rfl)
theorem dX5_nearest_17 : decode cX5_nearest 17 = .ok (.istore_n 2, 1) := dk_61 (dk_at dksX5_nearest_0 17 rfl rfl)
theorem dX5_nearest_18 : decode cX5_nearest 18 = .ok (.iconst 0, 1) := dk_3 (dk_at dksX5_nearest_0 18 rfl rfl)
theorem dX5_nearest_19 : decode cX5_nearest 19 = .ok (.istore_n 3, 1) := dk_62 (dk_at dksX5_nearest_0 19 rfl rfl)
theorem dX5_nearest_20 : decode cX5_nearest 20 = .ok (.iload_n 3, 1) := dk_29 (dk_at dksX5_nearest_0 20 rfl rfl)
theorem dX5_nearest_21 : decode cX5_nearest 21 = .ok (.aload_n 0, 1) := dk_42 (dk_at dksX5_nearest_0 21 rfl rfl)
theorem dX5_nearest_22 : decode cX5_nearest 22 = .ok (.invokevirtual 232, 3) := dk_182 0 232 (dk_at dksX5_nearest_1 0 rfl rfl)
theorem dX5_nearest_25 : decode cX5_nearest 25 = .ok (.if_icmp .ge 105, 3) := dk_162 0 105 (dk_at dksX5_nearest_1 3 rfl rfl)
theorem dX5_nearest_28 : decode cX5_nearest 28 = .ok (.iload_n 3, 1) := dk_29 (dk_at dksX5_nearest_1 6 rfl rfl)
theorem dX5_nearest_29 : decode cX5_nearest 29 = .ok (.iload_n 1, 1) := dk_27 (dk_at dksX5_nearest_1 7 rfl rfl)
theorem dX5_nearest_30 : decode cX5_nearest 30 = .ok (.if_icmp .eq 94, 3) := dk_159 0 94 (dk_at dksX5_nearest_1 8 rfl rfl)
theorem dX5_nearest_33 : decode cX5_nearest 33 = .ok (.aload_n 0, 1) := dk_42 (dk_at dksX5_nearest_1 11 rfl rfl)
theorem dX5_nearest_34 : decode cX5_nearest 34 = .ok (.getfield 23, 3) := dk_180 0 23 (dk_at dksX5_nearest_1 12 rfl rfl)
theorem dX5_nearest_37 : decode cX5_nearest 37 = .ok (.iload_n 3, 1) := dk_29 (dk_at dksX5_nearest_1 15 rfl rfl)
theorem dX5_nearest_38 : decode cX5_nearest 38 = .ok (.iaload, 1) := dk_46 (dk_at dksX5_nearest_1 16 rfl rfl)
theorem dX5_nearest_39 : decode cX5_nearest 39 = .ok (.aload_n 0, 1) := dk_42 (dk_at dksX5_nearest_1 17 rfl rfl)
theorem dX5_nearest_40 : decode cX5_nearest 40 = .ok (.getfield 23, 3) := dk_180 0 23 (dk_at dksX5_nearest_1 18 rfl rfl)
theorem dX5_nearest_43 : decode cX5_nearest 43 = .ok (.iload_n 1, 1) := dk_27 (dk_at dksX5_nearest_1 21 rfl rfl)
theorem dX5_nearest_44 : decode cX5_nearest 44 = .ok (.iaload, 1) := dk_46 (dk_at dksX5_nearest_1 22 rfl rfl)
theorem dX5_nearest_45 : decode cX5_nearest 45 = .ok (.if_icmp .ne 79, 3) := dk_160 0 79 (dk_at dksX5_nearest_2 0 rfl rfl)
theorem dX5_nearest_48 : decode cX5_nearest 48 = .ok (.aload_n 0, 1) := dk_42 (dk_at dksX5_nearest_2 3 rfl rfl)
theorem dX5_nearest_49 : decode cX5_nearest 49 = .ok (.getfield 51, 3) := dk_180 0 51 (dk_at dksX5_nearest_2 4 rfl rfl)
theorem dX5_nearest_52 : decode cX5_nearest 52 = .ok (.iconst 0, 1) := dk_3 (dk_at dksX5_nearest_2 7 rfl rfl)
theorem dX5_nearest_53 : decode cX5_nearest 53 = .ok (.iload_n 3, 1) := dk_29 (dk_at dksX5_nearest_2 8 rfl rfl)
theorem dX5_nearest_54 : decode cX5_nearest 54 = .ok (.iadd, 1) := dk_96 (dk_at dksX5_nearest_2 9 rfl rfl)
theorem dX5_nearest_55 : decode cX5_nearest 55 = .ok (.iaload, 1) := dk_46 (dk_at dksX5_nearest_2 10 rfl rfl)
theorem dX5_nearest_56 : decode cX5_nearest 56 = .ok (.ifCond .eq 68, 3) := dk_153 0 68 (dk_at dksX5_nearest_2 11 rfl rfl)
theorem dX5_nearest_59 : decode cX5_nearest 59 = .ok (.aload_n 0, 1) := dk_42 (dk_at dksX5_nearest_2 14 rfl rfl)
theorem dX5_nearest_60 : decode cX5_nearest 60 = .ok (.getfield 51, 3) := dk_180 0 51 (dk_at dksX5_nearest_2 15 rfl rfl)
theorem dX5_nearest_63 : decode cX5_nearest 63 = .ok (.iconst 0, 1) := dk_3 (dk_at dksX5_nearest_2 18 rfl rfl)
theorem dX5_nearest_64 : decode cX5_nearest 64 = .ok (.iload_n 1, 1) := dk_27 (dk_at dksX5_nearest_2 19 rfl rfl)
theorem dX5_nearest_65 : decode cX5_nearest 65 = .ok (.iadd, 1) := dk_96 (dk_at dksX5_nearest_2 20 rfl rfl)
theorem dX5_nearest_66 : decode cX5_nearest 66 = .ok (.iaload, 1) := dk_46 (dk_at dksX5_nearest_2 21 rfl rfl)
theorem dX5_nearest_67 : decode cX5_nearest 67 = .ok (.ifCond .ne 6, 3) := dk_154 0 6 (dk_at dksX5_nearest_3 0 rfl rfl)
theorem dX5_nearest_70 : decode cX5_nearest 70 = .ok (.goto 54, 3) := dk_167 0 54 (dk_at dksX5_nearest_3 3 rfl rfl)
theorem dX5_nearest_73 : decode cX5_nearest 73 = .ok (.iload_n 2, 1) := dk_28 (dk_at dksX5_nearest_3 6 rfl rfl)
theorem dX5_nearest_74 : decode cX5_nearest 74 = .ok (.bipush (-2), 2) := dk_16 254 (dk_at dksX5_nearest_3 7 rfl rfl)
theorem dX5_nearest_76 : decode cX5_nearest 76 = .ok (.if_icmp .eq 46, 3) := dk_159 0 46 (dk_at dksX5_nearest_3 9 rfl rfl)
theorem dX5_nearest_79 : decode cX5_nearest 79 = .ok (.aload_n 0, 1) := dk_42 (dk_at dksX5_nearest_3 12 rfl rfl)
theorem dX5_nearest_80 : decode cX5_nearest 80 = .ok (.getfield 51, 3) := dk_180 0 51 (dk_at dksX5_nearest_3 13 rfl rfl)
theorem dX5_nearest_83 : decode cX5_nearest 83 = .ok (.iconst 0, 1) := dk_3 (dk_at dksX5_nearest_3 16 rfl rfl)
theorem dX5_nearest_84 : decode cX5_nearest 84 = .ok (.iload_n 3, 1) := dk_29 (dk_at dksX5_nearest_3 17 rfl rfl)
theorem dX5_nearest_85 : decode cX5_nearest 85 = .ok (.iadd, 1) := dk_96 (dk_at dksX5_nearest_3 18 rfl rfl)
theorem dX5_nearest_86 : decode cX5_nearest 86 = .ok (.iaload, 1) := dk_46 (dk_at dksX5_nearest_3 19 rfl rfl)
theorem dX5_nearest_87 : decode cX5_nearest 87 = .ok (.aload_n 0, 1) := dk_42 (dk_at dksX5_nearest_3 20 rfl rfl)
theorem dX5_nearest_88 : decode cX5_nearest 88 = .ok (.getfield 51, 3) := dk_180 0 51 (dk_at dksX5_nearest_3 21 rfl rfl)
theorem dX5_nearest_91 : decode cX5_nearest 91 = .ok (.iconst 0, 1) := dk_3 (dk_at dksX5_nearest_4 0 rfl rfl)
theorem dX5_nearest_92 : decode cX5_nearest 92 = .ok (.iload_n 1, 1) := dk_27 (dk_at dksX5_nearest_4 1 rfl rfl)
theorem dX5_nearest_93 : decode cX5_nearest 93 = .ok (.iadd, 1) := dk_96 (dk_at dksX5_nearest_4 2 rfl rfl)
theorem dX5_nearest_94 : decode cX5_nearest 94 = .ok (.iaload, 1) := dk_46 (dk_at dksX5_nearest_4 3 rfl rfl)
theorem dX5_nearest_95 : decode cX5_nearest 95 = .ok (.isub, 1) := dk_100 (dk_at dksX5_nearest_4 4 rfl rfl)
theorem dX5_nearest_96 : decode cX5_nearest 96 = .ok (.invokestatic 274, 3) := dk_184 1 18 (dk_at dksX5_nearest_4 5 rfl rfl)
theorem dX5_nearest_99 : decode cX5_nearest 99 = .ok (.aload_n 0, 1) := dk_42 (dk_at dksX5_nearest_4 8 rfl rfl)
theorem dX5_nearest_100 : decode cX5_nearest 100 = .ok (.getfield 51, 3) := dk_180 0 51 (dk_at dksX5_nearest_4 9 rfl rfl)
theorem dX5_nearest_103 : decode cX5_nearest 103 = .ok (.iconst 0, 1) := dk_3 (dk_at dksX5_nearest_4 12 rfl rfl)
theorem dX5_nearest_104 : decode cX5_nearest 104 = .ok (.iload_n 2, 1) := dk_28 (dk_at dksX5_nearest_4 13 rfl rfl)
theorem dX5_nearest_105 : decode cX5_nearest 105 = .ok (.iadd, 1) := dk_96 (dk_at dksX5_nearest_4 14 rfl rfl)
theorem dX5_nearest_106 : decode cX5_nearest 106 = .ok (.iaload, 1) := dk_46 (dk_at dksX5_nearest_4 15 rfl rfl)
theorem dX5_nearest_107 : decode cX5_nearest 107 = .ok (.aload_n 0, 1) := dk_42 (dk_at dksX5_nearest_4 16 rfl rfl)
theorem dX5_nearest_108 : decode cX5_nearest 108 = .ok (.getfield 51, 3) := dk_180 0 51 (dk_at dksX5_nearest_4 17 rfl rfl)
theorem dX5_nearest_111 : decode cX5_nearest 111 = .ok (.iconst 0, 1) := dk_3 (dk_at dksX5_nearest_4 20 rfl rfl)
theorem dX5_nearest_112 : decode cX5_nearest 112 = .ok (.iload_n 1, 1) := dk_27 (dk_at dksX5_nearest_4 21 rfl rfl)
theorem dX5_nearest_113 : decode cX5_nearest 113 = .ok (.iadd, 1) := dk_96 (dk_at dksX5_nearest_4 22 rfl rfl)
theorem dX5_nearest_114 : decode cX5_nearest 114 = .ok (.iaload, 1) := dk_46 (dk_at dksX5_nearest_4 23 rfl rfl)
theorem dX5_nearest_115 : decode cX5_nearest 115 = .ok (.isub, 1) := dk_100 (dk_at dksX5_nearest_5 0 rfl rfl)
theorem dX5_nearest_116 : decode cX5_nearest 116 = .ok (.invokestatic 274, 3) := dk_184 1 18 (dk_at dksX5_nearest_5 1 rfl rfl)
theorem dX5_nearest_119 : decode cX5_nearest 119 = .ok (.if_icmp .ge 5, 3) := dk_162 0 5 (dk_at dksX5_nearest_5 4 rfl rfl)
theorem dX5_nearest_122 : decode cX5_nearest 122 = .ok (.iload_n 3, 1) := dk_29 (dk_at dksX5_nearest_5 7 rfl rfl)
theorem dX5_nearest_123 : decode cX5_nearest 123 = .ok (.istore_n 2, 1) := dk_61 (dk_at dksX5_nearest_5 8 rfl rfl)
theorem dX5_nearest_124 : decode cX5_nearest 124 = .ok (.iinc 3 1, 3) := dk_132 3 1 (dk_at dksX5_nearest_5 9 rfl rfl)
theorem dX5_nearest_127 : decode cX5_nearest 127 = .ok (.goto (-107), 3) := dk_167 255 149 (dk_at dksX5_nearest_5 12 rfl rfl)
theorem dX5_nearest_130 : decode cX5_nearest 130 = .ok (.iload_n 2, 1) := dk_28 (dk_at dksX5_nearest_5 15 rfl rfl)
theorem dX5_nearest_131 : decode cX5_nearest 131 = .ok (.ireturn, 1) := dk_172 (dk_at dksX5_nearest_5 16 rfl rfl)
abbrev cX5_mostSpace : ByteArray := prog_10_method_121_code
def yX5_mostSpace : MethodName := ⟨RX5, "mostSpace", "()I"⟩
def dkwX5_mostSpace_2 : List UInt8 := [16, 254, 167, 0, 7, 42, 180, 0, 244, 60, 42, 182, 0, 235, 27, 172]
abbrev dktX5_mostSpace_2 : List UInt8 := dkwX5_mostSpace_2 ++ []
def dkwX5_mostSpace_1 : List UInt8 := [158, 0, 16, 42, 89, 180, 0, 244, 4, 100, 181, 0, 244, 167, 255, 232, 42, 180, 0, 244, 154, 0, 8]
abbrev dktX5_mostSpace_1 : List UInt8 := dkwX5_mostSpace_1 ++ dktX5_mostSpace_2
def dkwX5_mostSpace_0 : List UInt8 := [42, 3, 181, 0, 96, 42, 16, 20, 181, 0, 244, 42, 180, 0, 244, 158, 0, 23, 42, 182, 1, 128]
abbrev dktX5_mostSpace_0 : List UInt8 := dkwX5_mostSpace_0 ++ dktX5_mostSpace_1
theorem dksX5_mostSpace_0 : cX5_mostSpace.data.toList.drop 0 = dktX5_mostSpace_0 := by decide +kernel
theorem dksX5_mostSpace_1 : cX5_mostSpace.data.toList.drop 22 = dktX5_mostSpace_1 := dk_seg dksX5_mostSpace_0 22 rfl rfl
theorem dksX5_mostSpace_2 : cX5_mostSpace.data.toList.drop 45 = dktX5_mostSpace_2 := dk_seg dksX5_mostSpace_1 23 rfl rfl
theorem dX5_mostSpace_0 : decode cX5_mostSpace 0 = .ok (.aload_n 0, 1) := dk_42 (dk_at dksX5_mostSpace_0 0 rfl rfl)
theorem dX5_mostSpace_1 : decode cX5_mostSpace 1 = .ok (.iconst 0, 1) := dk_3 (dk_at dksX5_mostSpace_0 1 rfl rfl)
theorem dX5_mostSpace_2 : decode cX5_mostSpace 2 = .ok (.putfield 96, 3) := dk_181 0 96 (dk_at dksX5_mostSpace_0 2 rfl rfl)
theorem dX5_mostSpace_5 : decode cX5_mostSpace 5 = .ok (.aload_n 0, 1) := dk_42 (dk_at dksX5_mostSpace_0 5 rfl rfl)
theorem dX5_mostSpace_6 : decode cX5_mostSpace 6 = .ok (.bipush 20, 2) := dk_16 20 (dk_at dksX5_mostSpace_0 6 rfl rfl)
theorem dX5_mostSpace_8 : decode cX5_mostSpace 8 = .ok (.putfield 244, 3) := dk_181 0 244 (dk_at dksX5_mostSpace_0 8 rfl rfl)
theorem dX5_mostSpace_11 : decode cX5_mostSpace 11 = .ok (.aload_n 0, 1) := dk_42 (dk_at dksX5_mostSpace_0 11 rfl rfl)
theorem dX5_mostSpace_12 : decode cX5_mostSpace 12 = .ok (.getfield 244, 3) := dk_180 0 244 (dk_at dksX5_mostSpace_0 12 rfl rfl)
theorem dX5_mostSpace_15 : decode cX5_mostSpace 15 = .ok (.ifCond .le 23, 3) := dk_158 0 23 (dk_at dksX5_mostSpace_0 15 rfl rfl)
theorem dX5_mostSpace_18 : decode cX5_mostSpace 18 = .ok (.aload_n 0, 1) := dk_42 (dk_at dksX5_mostSpace_0 18 rfl rfl)
theorem dX5_mostSpace_19 : decode cX5_mostSpace 19 = .ok (.invokevirtual 384, 3) := dk_182 1 128 (dk_at dksX5_mostSpace_0 19 rfl rfl)
theorem dX5_mostSpace_22 : decode cX5_mostSpace 22 = .ok (.ifCond .le 16, 3) := dk_158 0 16 (dk_at dksX5_mostSpace_1 0 rfl rfl)
theorem dX5_mostSpace_25 : decode cX5_mostSpace 25 = .ok (.aload_n 0, 1) := dk_42 (dk_at dksX5_mostSpace_1 3 rfl rfl)
theorem dX5_mostSpace_26 : decode cX5_mostSpace 26 = .ok (.dup, 1) := dk_89 (dk_at dksX5_mostSpace_1 4 rfl rfl)
theorem dX5_mostSpace_27 : decode cX5_mostSpace 27 = .ok (.getfield 244, 3) := dk_180 0 244 (dk_at dksX5_mostSpace_1 5 rfl rfl)
theorem dX5_mostSpace_30 : decode cX5_mostSpace 30 = .ok (.iconst 1, 1) := dk_4 (dk_at dksX5_mostSpace_1 8 rfl rfl)
theorem dX5_mostSpace_31 : decode cX5_mostSpace 31 = .ok (.isub, 1) := dk_100 (dk_at dksX5_mostSpace_1 9 rfl rfl)
theorem dX5_mostSpace_32 : decode cX5_mostSpace 32 = .ok (.putfield 244, 3) := dk_181 0 244 (dk_at dksX5_mostSpace_1 10 rfl rfl)
theorem dX5_mostSpace_35 : decode cX5_mostSpace 35 = .ok (.goto (-24), 3) := dk_167 255 232 (dk_at dksX5_mostSpace_1 13 rfl rfl)
theorem dX5_mostSpace_38 : decode cX5_mostSpace 38 = .ok (.aload_n 0, 1) := dk_42 (dk_at dksX5_mostSpace_1 16 rfl rfl)
theorem dX5_mostSpace_39 : decode cX5_mostSpace 39 = .ok (.getfield 244, 3) := dk_180 0 244 (dk_at dksX5_mostSpace_1 17 rfl rfl)
theorem dX5_mostSpace_42 : decode cX5_mostSpace 42 = .ok (.ifCond .ne 8, 3) := dk_154 0 8 (dk_at dksX5_mostSpace_1 20 rfl rfl)
theorem dX5_mostSpace_45 : decode cX5_mostSpace 45 = .ok (.bipush (-2), 2) := dk_16 254 (dk_at dksX5_mostSpace_2 0 rfl rfl)
theorem dX5_mostSpace_47 : decode cX5_mostSpace 47 = .ok (.goto 7, 3) := dk_167 0 7 (dk_at dksX5_mostSpace_2 2 rfl rfl)
theorem dX5_mostSpace_50 : decode cX5_mostSpace 50 = .ok (.aload_n 0, 1) := dk_42 (dk_at dksX5_mostSpace_2 5 rfl rfl)
theorem dX5_mostSpace_51 : decode cX5_mostSpace 51 = .ok (.getfield 244, 3) := dk_180 0 244 (dk_at dksX5_mostSpace_2 6 rfl rfl)
theorem dX5_mostSpace_54 : decode cX5_mostSpace 54 = .ok (.istore_n 1, 1) := dk_60 (dk_at dksX5_mostSpace_2 9 rfl rfl)
theorem dX5_mostSpace_55 : decode cX5_mostSpace 55 = .ok (.aload_n 0, 1) := dk_42 (dk_at dksX5_mostSpace_2 10 rfl rfl)
theorem dX5_mostSpace_56 : decode cX5_mostSpace 56 = .ok (.invokevirtual 235, 3) := dk_182 0 235 (dk_at dksX5_mostSpace_2 11 rfl rfl)
theorem dX5_mostSpace_59 : decode cX5_mostSpace 59 = .ok (.iload_n 1, 1) := dk_27 (dk_at dksX5_mostSpace_2 14 rfl rfl)
theorem dX5_mostSpace_60 : decode cX5_mostSpace 60 = .ok (.ireturn, 1) := dk_172 (dk_at dksX5_mostSpace_2 15 rfl rfl)
abbrev cX5_spare : ByteArray := prog_10_method_122_code
def yX5_spare : MethodName := ⟨RX5, "spare", "(I)I"⟩
def dkwX5_spare_3 : List UInt8 := [172]
abbrev dktX5_spare_3 : List UInt8 := dkwX5_spare_3 ++ []
def dkwX5_spare_2 : List UInt8 := [42, 182, 1, 95, 182, 1, 98, 155, 0, 6, 132, 2, 1, 42, 182, 1, 101, 132, 3, 1, 167, 255, 211, 28]
abbrev dktX5_spare_2 : List UInt8 := dkwX5_spare_2 ++ dktX5_spare_3
def dkwX5_spare_1 : List UInt8 := [42, 180, 0, 238, 163, 0, 43, 42, 180, 0, 51, 3, 27, 96, 29, 79, 42, 182, 1, 76, 153, 0, 17, 42]
abbrev dktX5_spare_1 : List UInt8 := dkwX5_spare_1 ++ dktX5_spare_2
def dkwX5_spare_0 : List UInt8 := [42, 3, 181, 0, 96, 42, 27, 182, 1, 3, 154, 0, 5, 2, 172, 42, 182, 1, 92, 3, 61, 4, 62, 29]
abbrev dktX5_spare_0 : List UInt8 := dkwX5_spare_0 ++ dktX5_spare_1
theorem dksX5_spare_0 : cX5_spare.data.toList.drop 0 = dktX5_spare_0 := by decide +kernel
theorem dksX5_spare_1 : cX5_spare.data.toList.drop 24 = dktX5_spare_1 := dk_seg dksX5_spare_0 24 rfl rfl
theorem dksX5_spare_2 : cX5_spare.data.toList.drop 48 = dktX5_spare_2 := dk_seg dksX5_spare_1 24 rfl rfl
theorem dksX5_spare_3 : cX5_spare.data.toList.drop 72 = dktX5_spare_3 := dk_seg dksX5_spare_2 24 rfl rfl
theorem dX5_spare_0 : decode cX5_spare 0 = .ok (.aload_n 0, 1) := dk_42 (dk_at dksX5_spare_0 0 rfl rfl)
theorem dX5_spare_1 : decode cX5_spare 1 = .ok (.iconst 0, 1) := dk_3 (dk_at dksX5_spare_0 1 rfl rfl)
theorem dX5_spare_2 : decode cX5_spare 2 = .ok (.putfield 96, 3) := dk_181 0 96 (dk_at dksX5_spare_0 2 rfl rfl)
theorem dX5_spare_5 : decode cX5_spare 5 = .ok (.aload_n 0, 1) := dk_42 (dk_at dksX5_spare_0 5 rfl rfl)
theorem dX5_spare_6 : decode cX5_spare 6 = .ok (.iload_n 1, 1) := dk_27 (dk_at dksX5_spare_0 6 rfl rfl)
theorem dX5_spare_7 : decode cX5_spare 7 = .ok (.invokevirtual 259, 3) := dk_182 1 3 (dk_at dksX5_spare_0 7 rfl rfl)
theorem dX5_spare_10 : decode cX5_spare 10 = .ok (.ifCond .ne 5, 3) := dk_154 0 5 (dk_at dksX5_spare_0 10 rfl rfl)
theorem dX5_spare_13 : decode cX5_spare 13 = .ok (.iconst (-1), 1) := dk_2 (dk_at dksX5_spare_0 13 rfl rfl)
theorem dX5_spare_14 : decode cX5_spare 14 = .ok (.ireturn, 1) := dk_172 (dk_at dksX5_spare_0 14 rfl rfl)
theorem dX5_spare_15 : decode cX5_spare 15 = .ok (.aload_n 0, 1) := dk_42 (dk_at dksX5_spare_0 15 rfl rfl)
theorem dX5_spare_16 : decode cX5_spare 16 = .ok (.invokevirtual 348, 3) := dk_182 1 92 (dk_at dksX5_spare_0 16 rfl rfl)
theorem dX5_spare_19 : decode cX5_spare 19 = .ok (.iconst 0, 1) := dk_3 (dk_at dksX5_spare_0 19 rfl rfl)
theorem dX5_spare_20 : decode cX5_spare 20 = .ok (.istore_n 2, 1) := dk_61 (dk_at dksX5_spare_0 20 rfl rfl)
theorem dX5_spare_21 : decode cX5_spare 21 = .ok (.iconst 1, 1) := dk_4 (dk_at dksX5_spare_0 21 rfl rfl)
theorem dX5_spare_22 : decode cX5_spare 22 = .ok (.istore_n 3, 1) := dk_62 (dk_at dksX5_spare_0 22 rfl rfl)
theorem dX5_spare_23 : decode cX5_spare 23 = .ok (.iload_n 3, 1) := dk_29 (dk_at dksX5_spare_0 23 rfl rfl)
theorem dX5_spare_24 : decode cX5_spare 24 = .ok (.aload_n 0, 1) := dk_42 (dk_at dksX5_spare_1 0 rfl rfl)
theorem dX5_spare_25 : decode cX5_spare 25 = .ok (.getfield 238, 3) := dk_180 0 238 (dk_at dksX5_spare_1 1 rfl rfl)
theorem dX5_spare_28 : decode cX5_spare 28 = .ok (.if_icmp .gt 43, 3) := dk_163 0 43 (dk_at dksX5_spare_1 4 rfl rfl)
theorem dX5_spare_31 : decode cX5_spare 31 = .ok (.aload_n 0, 1) := dk_42 (dk_at dksX5_spare_1 7 rfl rfl)
theorem dX5_spare_32 : decode cX5_spare 32 = .ok (.getfield 51, 3) := dk_180 0 51 (dk_at dksX5_spare_1 8 rfl rfl)
theorem dX5_spare_35 : decode cX5_spare 35 = .ok (.iconst 0, 1) := dk_3 (dk_at dksX5_spare_1 11 rfl rfl)
theorem dX5_spare_36 : decode cX5_spare 36 = .ok (.iload_n 1, 1) := dk_27 (dk_at dksX5_spare_1 12 rfl rfl)
theorem dX5_spare_37 : decode cX5_spare 37 = .ok (.iadd, 1) := dk_96 (dk_at dksX5_spare_1 13 rfl rfl)
theorem dX5_spare_38 : decode cX5_spare 38 = .ok (.iload_n 3, 1) := dk_29 (dk_at dksX5_spare_1 14 rfl rfl)
theorem dX5_spare_39 : decode cX5_spare 39 = .ok (.iastore, 1) := dk_79 (dk_at dksX5_spare_1 15 rfl rfl)
theorem dX5_spare_40 : decode cX5_spare 40 = .ok (.aload_n 0, 1) := dk_42 (dk_at dksX5_spare_1 16 rfl rfl)
theorem dX5_spare_41 : decode cX5_spare 41 = .ok (.invokevirtual 332, 3) := dk_182 1 76 (dk_at dksX5_spare_1 17 rfl rfl)
theorem dX5_spare_44 : decode cX5_spare 44 = .ok (.ifCond .eq 17, 3) := dk_153 0 17 (dk_at dksX5_spare_1 20 rfl rfl)
theorem dX5_spare_47 : decode cX5_spare 47 = .ok (.aload_n 0, 1) := dk_42 (dk_at dksX5_spare_1 23 rfl rfl)
theorem dX5_spare_48 : decode cX5_spare 48 = .ok (.aload_n 0, 1) := dk_42 (dk_at dksX5_spare_2 0 rfl rfl)
theorem dX5_spare_49 : decode cX5_spare 49 = .ok (.invokevirtual 351, 3) := dk_182 1 95 (dk_at dksX5_spare_2 1 rfl rfl)
theorem dX5_spare_52 : decode cX5_spare 52 = .ok (.invokevirtual 354, 3) := dk_182 1 98 (dk_at dksX5_spare_2 4 rfl rfl)
theorem dX5_spare_55 : decode cX5_spare 55 = .ok (.ifCond .lt 6, 3) := dk_155 0 6 (dk_at dksX5_spare_2 7 rfl rfl)
theorem dX5_spare_58 : decode cX5_spare 58 = .ok (.iinc 2 1, 3) := dk_132 2 1 (dk_at dksX5_spare_2 10 rfl rfl)
theorem dX5_spare_61 : decode cX5_spare 61 = .ok (.aload_n 0, 1) := dk_42 (dk_at dksX5_spare_2 13 rfl rfl)
theorem dX5_spare_62 : decode cX5_spare 62 = .ok (.invokevirtual 357, 3) := dk_182 1 101 (dk_at dksX5_spare_2 14 rfl rfl)
theorem dX5_spare_65 : decode cX5_spare 65 = .ok (.iinc 3 1, 3) := dk_132 3 1 (dk_at dksX5_spare_2 17 rfl rfl)
theorem dX5_spare_68 : decode cX5_spare 68 = .ok (.goto (-45), 3) := dk_167 255 211 (dk_at dksX5_spare_2 20 rfl rfl)
theorem dX5_spare_71 : decode cX5_spare 71 = .ok (.iload_n 2, 1) := dk_28 (dk_at dksX5_spare_2 23 rfl rfl)
theorem dX5_spare_72 : decode cX5_spare 72 = .ok (.ireturn, 1) := dk_172 (dk_at dksX5_spare_3 0 rfl rfl)
abbrev cX5_mostPower : ByteArray := prog_10_method_124_code
def yX5_mostPower : MethodName := ⟨RX5, "mostPower", "(I)I"⟩
def dkwX5_mostPower_3 : List UInt8 := [16, 6, 27, 96, 28, 79, 29, 156, 0, 8, 16, 254, 167, 0, 4, 29, 172]
abbrev dktX5_mostPower_3 : List UInt8 := dkwX5_mostPower_3 ++ []
def dkwX5_mostPower_2 : List UInt8 := [153, 0, 19, 132, 3, 255, 42, 180, 0, 51, 16, 6, 27, 96, 29, 79, 167, 255, 232, 42, 180, 0, 51]
abbrev dktX5_mostPower_2 : List UInt8 := dkwX5_mostPower_2 ++ dktX5_mostPower_3
def dkwX5_mostPower_1 : List UInt8 := [61, 16, 30, 62, 42, 180, 0, 51, 16, 6, 27, 96, 29, 79, 29, 155, 0, 26, 42, 182, 1, 149]
abbrev dktX5_mostPower_1 : List UInt8 := dkwX5_mostPower_1 ++ dktX5_mostPower_2
def dkwX5_mostPower_0 : List UInt8 := [42, 3, 181, 0, 96, 42, 27, 182, 1, 3, 154, 0, 5, 2, 172, 42, 180, 0, 51, 16, 6, 27, 96, 46]
abbrev dktX5_mostPower_0 : List UInt8 := dkwX5_mostPower_0 ++ dktX5_mostPower_1
theorem dksX5_mostPower_0 : cX5_mostPower.data.toList.drop 0 = dktX5_mostPower_0 := by decide +kernel
theorem dksX5_mostPower_1 : cX5_mostPower.data.toList.drop 24 = dktX5_mostPower_1 := dk_seg dksX5_mostPower_0 24 rfl rfl
theorem dksX5_mostPower_2 : cX5_mostPower.data.toList.drop 46 = dktX5_mostPower_2 := dk_seg dksX5_mostPower_1 22 rfl rfl
theorem dksX5_mostPower_3 : cX5_mostPower.data.toList.drop 69 = dktX5_mostPower_3 := dk_seg dksX5_mostPower_2 23 rfl rfl
theorem dX5_mostPower_0 : decode cX5_mostPower 0 = .ok (.aload_n 0, 1) := dk_42 (dk_at dksX5_mostPower_0 0 rfl rfl)
theorem dX5_mostPower_1 : decode cX5_mostPower 1 = .ok (.iconst 0, 1) := dk_3 (dk_at dksX5_mostPower_0 1 rfl rfl)
theorem dX5_mostPower_2 : decode cX5_mostPower 2 = .ok (.putfield 96, 3) := dk_181 0 96 (dk_at dksX5_mostPower_0 2 rfl rfl)
theorem dX5_mostPower_5 : decode cX5_mostPower 5 = .ok (.aload_n 0, 1) := dk_42 (dk_at dksX5_mostPower_0 5 rfl rfl)
theorem dX5_mostPower_6 : decode cX5_mostPower 6 = .ok (.iload_n 1, 1) := dk_27 (dk_at dksX5_mostPower_0 6 rfl rfl)
theorem dX5_mostPower_7 : decode cX5_mostPower 7 = .ok (.invokevirtual 259, 3) := dk_182 1 3 (dk_at dksX5_mostPower_0 7 rfl rfl)
theorem dX5_mostPower_10 : decode cX5_mostPower 10 = .ok (.ifCond .ne 5, 3) := dk_154 0 5 (dk_at dksX5_mostPower_0 10 rfl rfl)
theorem dX5_mostPower_13 : decode cX5_mostPower 13 = .ok (.iconst (-1), 1) := dk_2 (dk_at dksX5_mostPower_0 13 rfl rfl)
theorem dX5_mostPower_14 : decode cX5_mostPower 14 = .ok (.ireturn, 1) := dk_172 (dk_at dksX5_mostPower_0 14 rfl rfl)
theorem dX5_mostPower_15 : decode cX5_mostPower 15 = .ok (.aload_n 0, 1) := dk_42 (dk_at dksX5_mostPower_0 15 rfl rfl)
theorem dX5_mostPower_16 : decode cX5_mostPower 16 = .ok (.getfield 51, 3) := dk_180 0 51 (dk_at dksX5_mostPower_0 16 rfl rfl)
theorem dX5_mostPower_19 : decode cX5_mostPower 19 = .ok (.bipush 6, 2) := dk_16 6 (dk_at dksX5_mostPower_0 19 rfl rfl)
theorem dX5_mostPower_21 : decode cX5_mostPower 21 = .ok (.iload_n 1, 1) := dk_27 (dk_at dksX5_mostPower_0 21 rfl rfl)
theorem dX5_mostPower_22 : decode cX5_mostPower 22 = .ok (.iadd, 1) := dk_96 (dk_at dksX5_mostPower_0 22 rfl rfl)
theorem dX5_mostPower_23 : decode cX5_mostPower 23 = .ok (.iaload, 1) := dk_46 (dk_at dksX5_mostPower_0 23 rfl rfl)
theorem dX5_mostPower_24 : decode cX5_mostPower 24 = .ok (.istore_n 2, 1) := dk_61 (dk_at dksX5_mostPower_1 0 rfl rfl)
theorem dX5_mostPower_25 : decode cX5_mostPower 25 = .ok (.bipush 30, 2) := dk_16 30 (dk_at dksX5_mostPower_1 1 rfl rfl)
theorem dX5_mostPower_27 : decode cX5_mostPower 27 = .ok (.istore_n 3, 1) := dk_62 (dk_at dksX5_mostPower_1 3 rfl rfl)
theorem dX5_mostPower_28 : decode cX5_mostPower 28 = .ok (.aload_n 0, 1) := dk_42 (dk_at dksX5_mostPower_1 4 rfl rfl)
theorem dX5_mostPower_29 : decode cX5_mostPower 29 = .ok (.getfield 51, 3) := dk_180 0 51 (dk_at dksX5_mostPower_1 5 rfl rfl)
theorem dX5_mostPower_32 : decode cX5_mostPower 32 = .ok (.bipush 6, 2) := dk_16 6 (dk_at dksX5_mostPower_1 8 rfl rfl)
theorem dX5_mostPower_34 : decode cX5_mostPower 34 = .ok (.iload_n 1, 1) := dk_27 (dk_at dksX5_mostPower_1 10 rfl rfl)
theorem dX5_mostPower_35 : decode cX5_mostPower 35 = .ok (.iadd, 1) := dk_96 (dk_at dksX5_mostPower_1 11 rfl rfl)
theorem dX5_mostPower_36 : decode cX5_mostPower 36 = .ok (.iload_n 3, 1) := dk_29 (dk_at dksX5_mostPower_1 12 rfl rfl)
theorem dX5_mostPower_37 : decode cX5_mostPower 37 = .ok (.iastore, 1) := dk_79 (dk_at dksX5_mostPower_1 13 rfl rfl)
theorem dX5_mostPower_38 : decode cX5_mostPower 38 = .ok (.iload_n 3, 1) := dk_29 (dk_at dksX5_mostPower_1 14 rfl rfl)
theorem dX5_mostPower_39 : decode cX5_mostPower 39 = .ok (.ifCond .lt 26, 3) := dk_155 0 26 (dk_at dksX5_mostPower_1 15 rfl rfl)
theorem dX5_mostPower_42 : decode cX5_mostPower 42 = .ok (.aload_n 0, 1) := dk_42 (dk_at dksX5_mostPower_1 18 rfl rfl)
theorem dX5_mostPower_43 : decode cX5_mostPower 43 = .ok (.invokevirtual 405, 3) := dk_182 1 149 (dk_at dksX5_mostPower_1 19 rfl rfl)
theorem dX5_mostPower_46 : decode cX5_mostPower 46 = .ok (.ifCond .eq 19, 3) := dk_153 0 19 (dk_at dksX5_mostPower_2 0 rfl rfl)
theorem dX5_mostPower_49 : decode cX5_mostPower 49 = .ok (.iinc 3 (-1), 3) := dk_132 3 255 (dk_at dksX5_mostPower_2 3 rfl rfl)
theorem dX5_mostPower_52 : decode cX5_mostPower 52 = .ok (.aload_n 0, 1) := dk_42 (dk_at dksX5_mostPower_2 6 rfl rfl)
theorem dX5_mostPower_53 : decode cX5_mostPower 53 = .ok (.getfield 51, 3) := dk_180 0 51 (dk_at dksX5_mostPower_2 7 rfl rfl)
theorem dX5_mostPower_56 : decode cX5_mostPower 56 = .ok (.bipush 6, 2) := dk_16 6 (dk_at dksX5_mostPower_2 10 rfl rfl)
theorem dX5_mostPower_58 : decode cX5_mostPower 58 = .ok (.iload_n 1, 1) := dk_27 (dk_at dksX5_mostPower_2 12 rfl rfl)
theorem dX5_mostPower_59 : decode cX5_mostPower 59 = .ok (.iadd, 1) := dk_96 (dk_at dksX5_mostPower_2 13 rfl rfl)
theorem dX5_mostPower_60 : decode cX5_mostPower 60 = .ok (.iload_n 3, 1) := dk_29 (dk_at dksX5_mostPower_2 14 rfl rfl)
theorem dX5_mostPower_61 : decode cX5_mostPower 61 = .ok (.iastore, 1) := dk_79 (dk_at dksX5_mostPower_2 15 rfl rfl)
theorem dX5_mostPower_62 : decode cX5_mostPower 62 = .ok (.goto (-24), 3) := dk_167 255 232 (dk_at dksX5_mostPower_2 16 rfl rfl)
theorem dX5_mostPower_65 : decode cX5_mostPower 65 = .ok (.aload_n 0, 1) := dk_42 (dk_at dksX5_mostPower_2 19 rfl rfl)
theorem dX5_mostPower_66 : decode cX5_mostPower 66 = .ok (.getfield 51, 3) := dk_180 0 51 (dk_at dksX5_mostPower_2 20 rfl rfl)
theorem dX5_mostPower_69 : decode cX5_mostPower 69 = .ok (.bipush 6, 2) := dk_16 6 (dk_at dksX5_mostPower_3 0 rfl rfl)
theorem dX5_mostPower_71 : decode cX5_mostPower 71 = .ok (.iload_n 1, 1) := dk_27 (dk_at dksX5_mostPower_3 2 rfl rfl)
theorem dX5_mostPower_72 : decode cX5_mostPower 72 = .ok (.iadd, 1) := dk_96 (dk_at dksX5_mostPower_3 3 rfl rfl)
theorem dX5_mostPower_73 : decode cX5_mostPower 73 = .ok (.iload_n 2, 1) := dk_28 (dk_at dksX5_mostPower_3 4 rfl rfl)
theorem dX5_mostPower_74 : decode cX5_mostPower 74 = .ok (.iastore, 1) := dk_79 (dk_at dksX5_mostPower_3 5 rfl rfl)
theorem dX5_mostPower_75 : decode cX5_mostPower 75 = .ok (.iload_n 3, 1) := dk_29 (dk_at dksX5_mostPower_3 6 rfl rfl)
theorem dX5_mostPower_76 : decode cX5_mostPower 76 = .ok (.ifCond .ge 8, 3) := dk_156 0 8 (dk_at dksX5_mostPower_3 7 rfl rfl)
theorem dX5_mostPower_79 : decode cX5_mostPower 79 = .ok (.bipush (-2), 2) := dk_16 254 (dk_at dksX5_mostPower_3 10 rfl rfl)
theorem dX5_mostPower_81 : decode cX5_mostPower 81 = .ok (.goto 4, 3) := dk_167 0 4 (dk_at dksX5_mostPower_3 12 rfl rfl)
theorem dX5_mostPower_84 : decode cX5_mostPower 84 = .ok (.iload_n 3, 1) := dk_29 (dk_at dksX5_mostPower_3 15 rfl rfl)
theorem dX5_mostPower_85 : decode cX5_mostPower 85 = .ok (.ireturn, 1) := dk_172 (dk_at dksX5_mostPower_3 16 rfl rfl)
abbrev cX5_hasHits : ByteArray := prog_10_method_123_code
def yX5_hasHits : MethodName := ⟨RX5, "hasHits", "()Z"⟩
def dkwX5_hasHits_0 : List UInt8 := [42, 182, 1, 70, 42, 182, 1, 125, 158, 0, 7, 4, 167, 0, 4, 3, 172]
abbrev dktX5_hasHits_0 : List UInt8 := dkwX5_hasHits_0 ++ []
theorem dksX5_hasHits_0 : cX5_hasHits.data.toList.drop 0 = dktX5_hasHits_0 := by decide +kernel
theorem dX5_hasHits_0 : decode cX5_hasHits 0 = .ok (.aload_n 0, 1) := dk_42 (dk_at dksX5_hasHits_0 0 rfl rfl)
theorem dX5_hasHits_1 : decode cX5_hasHits 1 = .ok (.invokevirtual 326, 3) := dk_182 1 70 (dk_at dksX5_hasHits_0 1 rfl rfl)
theorem dX5_hasHits_4 : decode cX5_hasHits 4 = .ok (.aload_n 0, 1) := dk_42 (dk_at dksX5_hasHits_0 4 rfl rfl)
theorem dX5_hasHits_5 : decode cX5_hasHits 5 = .ok (.invokevirtual 381, 3) := dk_182 1 125 (dk_at dksX5_hasHits_0 5 rfl rfl)
theorem dX5_hasHits_8 : decode cX5_hasHits 8 = .ok (.ifCond .le 7, 3) := dk_158 0 7 (dk_at dksX5_hasHits_0 8 rfl rfl)
theorem dX5_hasHits_11 : decode cX5_hasHits 11 = .ok (.iconst 1, 1) := dk_4 (dk_at dksX5_hasHits_0 11 rfl rfl)
theorem dX5_hasHits_12 : decode cX5_hasHits 12 = .ok (.goto 4, 3) := dk_167 0 4 (dk_at dksX5_hasHits_0 12 rfl rfl)
theorem dX5_hasHits_15 : decode cX5_hasHits 15 = .ok (.iconst 0, 1) := dk_3 (dk_at dksX5_hasHits_0 15 rfl rfl)
theorem dX5_hasHits_16 : decode cX5_hasHits 16 = .ok (.ireturn, 1) := dk_172 (dk_at dksX5_hasHits_0 16 rfl rfl)
abbrev cX5_mostGuard : ByteArray := prog_10_method_125_code
def yX5_mostGuard : MethodName := ⟨RX5, "mostGuard", "()I"⟩
def dkwX5_mostGuard_2 : List UInt8 := [167, 0, 7, 42, 180, 0, 241, 60, 42, 182, 0, 235, 27, 172]
abbrev dktX5_mostGuard_2 : List UInt8 := dkwX5_mostGuard_2 ++ []
def dkwX5_mostGuard_1 : List UInt8 := [42, 89, 180, 0, 241, 4, 100, 181, 0, 241, 167, 255, 232, 42, 180, 0, 241, 156, 0, 8, 16, 254]
abbrev dktX5_mostGuard_1 : List UInt8 := dkwX5_mostGuard_1 ++ dktX5_mostGuard_2
def dkwX5_mostGuard_0 : List UInt8 := [42, 3, 181, 0, 96, 42, 8, 181, 0, 241, 42, 180, 0, 241, 155, 0, 23, 42, 182, 1, 149, 153, 0, 16]
abbrev dktX5_mostGuard_0 : List UInt8 := dkwX5_mostGuard_0 ++ dktX5_mostGuard_1
theorem dksX5_mostGuard_0 : cX5_mostGuard.data.toList.drop 0 = dktX5_mostGuard_0 := by decide +kernel
theorem dksX5_mostGuard_1 : cX5_mostGuard.data.toList.drop 24 = dktX5_mostGuard_1 := dk_seg dksX5_mostGuard_0 24 rfl rfl
theorem dksX5_mostGuard_2 : cX5_mostGuard.data.toList.drop 46 = dktX5_mostGuard_2 := dk_seg dksX5_mostGuard_1 22 rfl rfl
theorem dX5_mostGuard_0 : decode cX5_mostGuard 0 = .ok (.aload_n 0, 1) := dk_42 (dk_at dksX5_mostGuard_0 0 rfl rfl)
theorem dX5_mostGuard_1 : decode cX5_mostGuard 1 = .ok (.iconst 0, 1) := dk_3 (dk_at dksX5_mostGuard_0 1 rfl rfl)
theorem dX5_mostGuard_2 : decode cX5_mostGuard 2 = .ok (.putfield 96, 3) := dk_181 0 96 (dk_at dksX5_mostGuard_0 2 rfl rfl)
theorem dX5_mostGuard_5 : decode cX5_mostGuard 5 = .ok (.aload_n 0, 1) := dk_42 (dk_at dksX5_mostGuard_0 5 rfl rfl)
theorem dX5_mostGuard_6 : decode cX5_mostGuard 6 = .ok (.iconst 5, 1) := dk_8 (dk_at dksX5_mostGuard_0 6 rfl rfl)
theorem dX5_mostGuard_7 : decode cX5_mostGuard 7 = .ok (.putfield 241, 3) := dk_181 0 241 (dk_at dksX5_mostGuard_0 7 rfl rfl)
theorem dX5_mostGuard_10 : decode cX5_mostGuard 10 = .ok (.aload_n 0, 1) := dk_42 (dk_at dksX5_mostGuard_0 10 rfl rfl)
theorem dX5_mostGuard_11 : decode cX5_mostGuard 11 = .ok (.getfield 241, 3) := dk_180 0 241 (dk_at dksX5_mostGuard_0 11 rfl rfl)
theorem dX5_mostGuard_14 : decode cX5_mostGuard 14 = .ok (.ifCond .lt 23, 3) := dk_155 0 23 (dk_at dksX5_mostGuard_0 14 rfl rfl)
theorem dX5_mostGuard_17 : decode cX5_mostGuard 17 = .ok (.aload_n 0, 1) := dk_42 (dk_at dksX5_mostGuard_0 17 rfl rfl)
theorem dX5_mostGuard_18 : decode cX5_mostGuard 18 = .ok (.invokevirtual 405, 3) := dk_182 1 149 (dk_at dksX5_mostGuard_0 18 rfl rfl)
theorem dX5_mostGuard_21 : decode cX5_mostGuard 21 = .ok (.ifCond .eq 16, 3) := dk_153 0 16 (dk_at dksX5_mostGuard_0 21 rfl rfl)
theorem dX5_mostGuard_24 : decode cX5_mostGuard 24 = .ok (.aload_n 0, 1) := dk_42 (dk_at dksX5_mostGuard_1 0 rfl rfl)
theorem dX5_mostGuard_25 : decode cX5_mostGuard 25 = .ok (.dup, 1) := dk_89 (dk_at dksX5_mostGuard_1 1 rfl rfl)
theorem dX5_mostGuard_26 : decode cX5_mostGuard 26 = .ok (.getfield 241, 3) := dk_180 0 241 (dk_at dksX5_mostGuard_1 2 rfl rfl)
theorem dX5_mostGuard_29 : decode cX5_mostGuard 29 = .ok (.iconst 1, 1) := dk_4 (dk_at dksX5_mostGuard_1 5 rfl rfl)
theorem dX5_mostGuard_30 : decode cX5_mostGuard 30 = .ok (.isub, 1) := dk_100 (dk_at dksX5_mostGuard_1 6 rfl rfl)
theorem dX5_mostGuard_31 : decode cX5_mostGuard 31 = .ok (.putfield 241, 3) := dk_181 0 241 (dk_at dksX5_mostGuard_1 7 rfl rfl)
theorem dX5_mostGuard_34 : decode cX5_mostGuard 34 = .ok (.goto (-24), 3) := dk_167 255 232 (dk_at dksX5_mostGuard_1 10 rfl rfl)
theorem dX5_mostGuard_37 : decode cX5_mostGuard 37 = .ok (.aload_n 0, 1) := dk_42 (dk_at dksX5_mostGuard_1 13 rfl rfl)
theorem dX5_mostGuard_38 : decode cX5_mostGuard 38 = .ok (.getfield 241, 3) := dk_180 0 241 (dk_at dksX5_mostGuard_1 14 rfl rfl)
theorem dX5_mostGuard_41 : decode cX5_mostGuard 41 = .ok (.ifCond .ge 8, 3) := dk_156 0 8 (dk_at dksX5_mostGuard_1 17 rfl rfl)
theorem dX5_mostGuard_44 : decode cX5_mostGuard 44 = .ok (.bipush (-2), 2) := dk_16 254 (dk_at dksX5_mostGuard_1 20 rfl rfl)
theorem dX5_mostGuard_46 : decode cX5_mostGuard 46 = .ok (.goto 7, 3) := dk_167 0 7 (dk_at dksX5_mostGuard_2 0 rfl rfl)
theorem dX5_mostGuard_49 : decode cX5_mostGuard 49 = .ok (.aload_n 0, 1) := dk_42 (dk_at dksX5_mostGuard_2 3 rfl rfl)
theorem dX5_mostGuard_50 : decode cX5_mostGuard 50 = .ok (.getfield 241, 3) := dk_180 0 241 (dk_at dksX5_mostGuard_2 4 rfl rfl)
theorem dX5_mostGuard_53 : decode cX5_mostGuard 53 = .ok (.istore_n 1, 1) := dk_60 (dk_at dksX5_mostGuard_2 7 rfl rfl)
theorem dX5_mostGuard_54 : decode cX5_mostGuard 54 = .ok (.aload_n 0, 1) := dk_42 (dk_at dksX5_mostGuard_2 8 rfl rfl)
theorem dX5_mostGuard_55 : decode cX5_mostGuard 55 = .ok (.invokevirtual 235, 3) := dk_182 0 235 (dk_at dksX5_mostGuard_2 9 rfl rfl)
theorem dX5_mostGuard_58 : decode cX5_mostGuard 58 = .ok (.iload_n 1, 1) := dk_27 (dk_at dksX5_mostGuard_2 12 rfl rfl)
theorem dX5_mostGuard_59 : decode cX5_mostGuard 59 = .ok (.ireturn, 1) := dk_172 (dk_at dksX5_mostGuard_2 13 rfl rfl)
abbrev cX5_chance : ByteArray := prog_10_method_127_code
def yX5_chance : MethodName := ⟨RX5, "chance", "(III)I"⟩
def dkwX5_chance_10 : List UInt8 := [21, 6, 42, 180, 0, 84, 21, 6, 46, 79, 132, 6, 1, 167, 255, 232, 21, 5, 172]
abbrev dktX5_chance_10 : List UInt8 := dkwX5_chance_10 ++ []
def dkwX5_chance_9 : List UInt8 := [153, 0, 7, 4, 167, 0, 4, 3, 54, 5, 3, 54, 6, 21, 6, 16, 79, 162, 0, 23, 42, 180, 0, 51]
abbrev dktX5_chance_9 : List UInt8 := dkwX5_chance_9 ++ dktX5_chance_10
def dkwX5_chance_8 : List UInt8 := [154, 0, 10, 42, 182, 1, 0, 167, 0, 25, 29, 4, 160, 0, 8, 21, 4, 167, 0, 15, 42, 182, 1, 76]
abbrev dktX5_chance_8 : List UInt8 := dkwX5_chance_8 ++ dktX5_chance_9
def dkwX5_chance_7 : List UInt8 := [180, 0, 51, 3, 21, 7, 96, 3, 79, 132, 7, 1, 167, 255, 203, 132, 5, 1, 167, 255, 165, 29]
abbrev dktX5_chance_7 : List UInt8 := dkwX5_chance_7 ++ dktX5_chance_8
def dkwX5_chance_6 : List UInt8 := [21, 6, 159, 0, 6, 167, 0, 27, 132, 4, 1, 42, 4, 21, 7, 120, 182, 1, 98, 156, 0, 13, 42]
abbrev dktX5_chance_6 : List UInt8 := dkwX5_chance_6 ++ dktX5_chance_7
def dkwX5_chance_5 : List UInt8 := [4, 79, 3, 54, 7, 21, 7, 42, 182, 0, 232, 162, 0, 50, 42, 180, 0, 51, 3, 21, 7, 96, 46]
abbrev dktX5_chance_5 : List UInt8 := dkwX5_chance_5 ++ dktX5_chance_6
def dkwX5_chance_4 : List UInt8 := [162, 0, 91, 42, 42, 180, 0, 238, 182, 1, 157, 4, 96, 54, 6, 42, 180, 0, 51, 16, 12, 21, 6, 96]
abbrev dktX5_chance_4 : List UInt8 := dkwX5_chance_4 ++ dktX5_chance_5
def dkwX5_chance_3 : List UInt8 := [180, 0, 51, 21, 4, 46, 79, 132, 4, 1, 167, 255, 232, 3, 54, 4, 3, 54, 5, 21, 5, 28]
abbrev dktX5_chance_3 : List UInt8 := dkwX5_chance_3 ++ dktX5_chance_4
def dkwX5_chance_2 : List UInt8 := [167, 0, 4, 27, 181, 1, 152, 3, 54, 4, 21, 4, 16, 79, 162, 0, 23, 42, 180, 0, 84, 21, 4, 42]
abbrev dktX5_chance_2 : List UInt8 := dkwX5_chance_2 ++ dktX5_chance_3
def dkwX5_chance_1 : List UInt8 := [155, 0, 8, 29, 5, 164, 0, 5, 2, 172, 42, 27, 2, 160, 0, 13, 42, 180, 0, 13, 16, 9, 46]
abbrev dktX5_chance_1 : List UInt8 := dkwX5_chance_1 ++ dktX5_chance_2
def dkwX5_chance_0 : List UInt8 := [42, 3, 181, 0, 96, 27, 2, 161, 0, 23, 28, 4, 161, 0, 18, 28, 16, 20, 163, 0, 12, 29]
abbrev dktX5_chance_0 : List UInt8 := dkwX5_chance_0 ++ dktX5_chance_1
theorem dksX5_chance_0 : cX5_chance.data.toList.drop 0 = dktX5_chance_0 := by decide +kernel
theorem dksX5_chance_1 : cX5_chance.data.toList.drop 22 = dktX5_chance_1 := dk_seg dksX5_chance_0 22 rfl rfl
theorem dksX5_chance_2 : cX5_chance.data.toList.drop 45 = dktX5_chance_2 := dk_seg dksX5_chance_1 23 rfl rfl
theorem dksX5_chance_3 : cX5_chance.data.toList.drop 69 = dktX5_chance_3 := dk_seg dksX5_chance_2 24 rfl rfl
theorem dksX5_chance_4 : cX5_chance.data.toList.drop 91 = dktX5_chance_4 := dk_seg dksX5_chance_3 22 rfl rfl
theorem dksX5_chance_5 : cX5_chance.data.toList.drop 115 = dktX5_chance_5 := dk_seg dksX5_chance_4 24 rfl rfl
theorem dksX5_chance_6 : cX5_chance.data.toList.drop 138 = dktX5_chance_6 := dk_seg dksX5_chance_5 23 rfl rfl
theorem dksX5_chance_7 : cX5_chance.data.toList.drop 161 = dktX5_chance_7 := dk_seg dksX5_chance_6 23 rfl rfl
theorem dksX5_chance_8 : cX5_chance.data.toList.drop 183 = dktX5_chance_8 := dk_seg dksX5_chance_7 22 rfl rfl
theorem dksX5_chance_9 : cX5_chance.data.toList.drop 207 = dktX5_chance_9 := dk_seg dksX5_chance_8 24 rfl rfl
theorem dksX5_chance_10 : cX5_chance.data.toList.drop 231 = dktX5_chance_10 := dk_seg dksX5_chance_9 24 rfl rfl
theorem dX5_chance_0 : decode cX5_chance 0 = .ok (.aload_n 0, 1) := dk_42 (dk_at dksX5_chance_0 0 rfl rfl)
theorem dX5_chance_1 : decode cX5_chance 1 = .ok (.iconst 0, 1) := dk_3 (dk_at dksX5_chance_0 1 rfl rfl)
theorem dX5_chance_2 : decode cX5_chance 2 = .ok (.putfield 96, 3) := dk_181 0 96 (dk_at dksX5_chance_0 2 rfl rfl)
theorem dX5_chance_5 : decode cX5_chance 5 = .ok (.iload_n 1, 1) := dk_27 (dk_at dksX5_chance_0 5 rfl rfl)
theorem dX5_chance_6 : decode cX5_chance 6 = .ok (.iconst (-1), 1) := dk_2 (dk_at dksX5_chance_0 6 rfl rfl)
theorem dX5_chance_7 : decode cX5_chance 7 = .ok (.if_icmp .lt 23, 3) := dk_161 0 23 (dk_at dksX5_chance_0 7 rfl rfl)
theorem dX5_chance_10 : decode cX5_chance 10 = .ok (.iload_n 2, 1) := dk_28 (dk_at dksX5_chance_0 10 rfl rfl)
theorem dX5_chance_11 : decode cX5_chance 11 = .ok (.iconst 1, 1) := dk_4 (dk_at dksX5_chance_0 11 rfl rfl)
theorem dX5_chance_12 : decode cX5_chance 12 = .ok (.if_icmp .lt 18, 3) := dk_161 0 18 (dk_at dksX5_chance_0 12 rfl rfl)
theorem dX5_chance_15 : decode cX5_chance 15 = .ok (.iload_n 2, 1) := dk_28 (dk_at dksX5_chance_0 15 rfl rfl)
theorem dX5_chance_16 : decode cX5_chance 16 = .ok (.bipush 20, 2) := dk_16 20 (dk_at dksX5_chance_0 16 rfl rfl)
theorem dX5_chance_18 : decode cX5_chance 18 = .ok (.if_icmp .gt 12, 3) := dk_163 0 12 (dk_at dksX5_chance_0 18 rfl rfl)
theorem dX5_chance_21 : decode cX5_chance 21 = .ok (.iload_n 3, 1) := dk_29 (dk_at dksX5_chance_0 21 rfl rfl)
theorem dX5_chance_22 : decode cX5_chance 22 = .ok (.ifCond .lt 8, 3) := dk_155 0 8 (dk_at dksX5_chance_1 0 rfl rfl)
theorem dX5_chance_25 : decode cX5_chance 25 = .ok (.iload_n 3, 1) := dk_29 (dk_at dksX5_chance_1 3 rfl rfl)
theorem dX5_chance_26 : decode cX5_chance 26 = .ok (.iconst 2, 1) := dk_5 (dk_at dksX5_chance_1 4 rfl rfl)
theorem dX5_chance_27 : decode cX5_chance 27 = .ok (.if_icmp .le 5, 3) := dk_164 0 5 (dk_at dksX5_chance_1 5 rfl rfl)
theorem dX5_chance_30 : decode cX5_chance 30 = .ok (.iconst (-1), 1) := dk_2 (dk_at dksX5_chance_1 8 rfl rfl)
theorem dX5_chance_31 : decode cX5_chance 31 = .ok (.ireturn, 1) := dk_172 (dk_at dksX5_chance_1 9 rfl rfl)
theorem dX5_chance_32 : decode cX5_chance 32 = .ok (.aload_n 0, 1) := dk_42 (dk_at dksX5_chance_1 10 rfl rfl)
theorem dX5_chance_33 : decode cX5_chance 33 = .ok (.iload_n 1, 1) := dk_27 (dk_at dksX5_chance_1 11 rfl rfl)
theorem dX5_chance_34 : decode cX5_chance 34 = .ok (.iconst (-1), 1) := dk_2 (dk_at dksX5_chance_1 12 rfl rfl)
theorem dX5_chance_35 : decode cX5_chance 35 = .ok (.if_icmp .ne 13, 3) := dk_160 0 13 (dk_at dksX5_chance_1 13 rfl rfl)
theorem dX5_chance_38 : decode cX5_chance 38 = .ok (.aload_n 0, 1) := dk_42 (dk_at dksX5_chance_1 16 rfl rfl)
theorem dX5_chance_39 : decode cX5_chance 39 = .ok (.getfield 13, 3) := dk_180 0 13 (dk_at dksX5_chance_1 17 rfl rfl)
theorem dX5_chance_42 : decode cX5_chance 42 = .ok (.bipush 9, 2) := dk_16 9 (dk_at dksX5_chance_1 20 rfl rfl)
theorem dX5_chance_44 : decode cX5_chance 44 = .ok (.iaload, 1) := dk_46 (dk_at dksX5_chance_1 22 rfl rfl)
theorem dX5_chance_45 : decode cX5_chance 45 = .ok (.goto 4, 3) := dk_167 0 4 (dk_at dksX5_chance_2 0 rfl rfl)
theorem dX5_chance_48 : decode cX5_chance 48 = .ok (.iload_n 1, 1) := dk_27 (dk_at dksX5_chance_2 3 rfl rfl)
theorem dX5_chance_49 : decode cX5_chance 49 = .ok (.putfield 408, 3) := dk_181 1 152 (dk_at dksX5_chance_2 4 rfl rfl)
theorem dX5_chance_52 : decode cX5_chance 52 = .ok (.iconst 0, 1) := dk_3 (dk_at dksX5_chance_2 7 rfl rfl)
theorem dX5_chance_53 : decode cX5_chance 53 = .ok (.istore 4, 2) := dk_54 4 (dk_at dksX5_chance_2 8 rfl rfl)
theorem dX5_chance_55 : decode cX5_chance 55 = .ok (.iload 4, 2) := dk_21 4 (dk_at dksX5_chance_2 10 rfl rfl)
theorem dX5_chance_57 : decode cX5_chance 57 = .ok (.bipush 79, 2) := dk_16 79 (dk_at dksX5_chance_2 12 rfl rfl)
theorem dX5_chance_59 : decode cX5_chance 59 = .ok (.if_icmp .ge 23, 3) := dk_162 0 23 (dk_at dksX5_chance_2 14 rfl rfl)
theorem dX5_chance_62 : decode cX5_chance 62 = .ok (.aload_n 0, 1) := dk_42 (dk_at dksX5_chance_2 17 rfl rfl)
theorem dX5_chance_63 : decode cX5_chance 63 = .ok (.getfield 84, 3) := dk_180 0 84 (dk_at dksX5_chance_2 18 rfl rfl)
theorem dX5_chance_66 : decode cX5_chance 66 = .ok (.iload 4, 2) := dk_21 4 (dk_at dksX5_chance_2 21 rfl rfl)
theorem dX5_chance_68 : decode cX5_chance 68 = .ok (.aload_n 0, 1) := dk_42 (dk_at dksX5_chance_2 23 rfl rfl)
theorem dX5_chance_69 : decode cX5_chance 69 = .ok (.getfield 51, 3) := dk_180 0 51 (dk_at dksX5_chance_3 0 rfl rfl)
theorem dX5_chance_72 : decode cX5_chance 72 = .ok (.iload 4, 2) := dk_21 4 (dk_at dksX5_chance_3 3 rfl rfl)
theorem dX5_chance_74 : decode cX5_chance 74 = .ok (.iaload, 1) := dk_46 (dk_at dksX5_chance_3 5 rfl rfl)
theorem dX5_chance_75 : decode cX5_chance 75 = .ok (.iastore, 1) := dk_79 (dk_at dksX5_chance_3 6 rfl rfl)
theorem dX5_chance_76 : decode cX5_chance 76 = .ok (.iinc 4 1, 3) := dk_132 4 1 (dk_at dksX5_chance_3 7 rfl rfl)
theorem dX5_chance_79 : decode cX5_chance 79 = .ok (.goto (-24), 3) := dk_167 255 232 (dk_at dksX5_chance_3 10 rfl rfl)
theorem dX5_chance_82 : decode cX5_chance 82 = .ok (.iconst 0, 1) := dk_3 (dk_at dksX5_chance_3 13 rfl rfl)
theorem dX5_chance_83 : decode cX5_chance 83 = .ok (.istore 4, 2) := dk_54 4 (dk_at dksX5_chance_3 14 rfl rfl)
theorem dX5_chance_85 : decode cX5_chance 85 = .ok (.iconst 0, 1) := dk_3 (dk_at dksX5_chance_3 16 rfl rfl)
theorem dX5_chance_86 : decode cX5_chance 86 = .ok (.istore 5, 2) := dk_54 5 (dk_at dksX5_chance_3 17 rfl rfl)
theorem dX5_chance_88 : decode cX5_chance 88 = .ok (.iload 5, 2) := dk_21 5 (dk_at dksX5_chance_3 19 rfl rfl)
theorem dX5_chance_90 : decode cX5_chance 90 = .ok (.iload_n 2, 1) := dk_28 (dk_at dksX5_chance_3 21 rfl rfl)
theorem dX5_chance_91 : decode cX5_chance 91 = .ok (.if_icmp .ge 91, 3) := dk_162 0 91 (dk_at dksX5_chance_4 0 rfl rfl)
theorem dX5_chance_94 : decode cX5_chance 94 = .ok (.aload_n 0, 1) := dk_42 (dk_at dksX5_chance_4 3 rfl rfl)
theorem dX5_chance_95 : decode cX5_chance 95 = .ok (.aload_n 0, 1) := dk_42 (dk_at dksX5_chance_4 4 rfl rfl)
theorem dX5_chance_96 : decode cX5_chance 96 = .ok (.getfield 238, 3) := dk_180 0 238 (dk_at dksX5_chance_4 5 rfl rfl)
theorem dX5_chance_99 : decode cX5_chance 99 = .ok (.invokevirtual 413, 3) := dk_182 1 157 (dk_at dksX5_chance_4 8 rfl rfl)
theorem dX5_chance_102 : decode cX5_chance 102 = .ok (.iconst 1, 1) := dk_4 (dk_at dksX5_chance_4 11 rfl rfl)
theorem dX5_chance_103 : decode cX5_chance 103 = .ok (.iadd, 1) := dk_96 (dk_at dksX5_chance_4 12 rfl rfl)
theorem dX5_chance_104 : decode cX5_chance 104 = .ok (.istore 6, 2) := dk_54 6 (dk_at dksX5_chance_4 13 rfl rfl)
theorem dX5_chance_106 : decode cX5_chance 106 = .ok (.aload_n 0, 1) := dk_42 (dk_at dksX5_chance_4 15 rfl rfl)
theorem dX5_chance_107 : decode cX5_chance 107 = .ok (.getfield 51, 3) := dk_180 0 51 (dk_at dksX5_chance_4 16 rfl rfl)
theorem dX5_chance_110 : decode cX5_chance 110 = .ok (.bipush 12, 2) := dk_16 12 (dk_at dksX5_chance_4 19 rfl rfl)
theorem dX5_chance_112 : decode cX5_chance 112 = .ok (.iload 6, 2) := dk_21 6 (dk_at dksX5_chance_4 21 rfl rfl)
theorem dX5_chance_114 : decode cX5_chance 114 = .ok (.iadd, 1) := dk_96 (dk_at dksX5_chance_4 23 rfl rfl)
theorem dX5_chance_115 : decode cX5_chance 115 = .ok (.iconst 1, 1) := dk_4 (dk_at dksX5_chance_5 0 rfl rfl)
theorem dX5_chance_116 : decode cX5_chance 116 = .ok (.iastore, 1) := dk_79 (dk_at dksX5_chance_5 1 rfl rfl)
theorem dX5_chance_117 : decode cX5_chance 117 = .ok (.iconst 0, 1) := dk_3 (dk_at dksX5_chance_5 2 rfl rfl)
theorem dX5_chance_118 : decode cX5_chance 118 = .ok (.istore 7, 2) := dk_54 7 (dk_at dksX5_chance_5 3 rfl rfl)
theorem dX5_chance_120 : decode cX5_chance 120 = .ok (.iload 7, 2) := dk_21 7 (dk_at dksX5_chance_5 5 rfl rfl)
theorem dX5_chance_122 : decode cX5_chance 122 = .ok (.aload_n 0, 1) := dk_42 (dk_at dksX5_chance_5 7 rfl rfl)
theorem dX5_chance_123 : decode cX5_chance 123 = .ok (.invokevirtual 232, 3) := dk_182 0 232 (dk_at dksX5_chance_5 8 rfl rfl)
theorem dX5_chance_126 : decode cX5_chance 126 = .ok (.if_icmp .ge 50, 3) := dk_162 0 50 (dk_at dksX5_chance_5 11 rfl rfl)
theorem dX5_chance_129 : decode cX5_chance 129 = .ok (.aload_n 0, 1) := dk_42 (dk_at dksX5_chance_5 14 rfl rfl)
theorem dX5_chance_130 : decode cX5_chance 130 = .ok (.getfield 51, 3) := dk_180 0 51 (dk_at dksX5_chance_5 15 rfl rfl)
theorem dX5_chance_133 : decode cX5_chance 133 = .ok (.iconst 0, 1) := dk_3 (dk_at dksX5_chance_5 18 rfl rfl)
theorem dX5_chance_134 : decode cX5_chance 134 = .ok (.iload 7, 2) := dk_21 7 (dk_at dksX5_chance_5 19 rfl rfl)
theorem dX5_chance_136 : decode cX5_chance 136 = .ok (.iadd, 1) := dk_96 (dk_at dksX5_chance_5 21 rfl rfl)
theorem dX5_chance_137 : decode cX5_chance 137 = .ok (.iaload, 1) := dk_46 (dk_at dksX5_chance_5 22 rfl rfl)
theorem dX5_chance_138 : decode cX5_chance 138 = .ok (.iload 6, 2) := dk_21 6 (dk_at dksX5_chance_6 0 rfl rfl)
theorem dX5_chance_140 : decode cX5_chance 140 = .ok (.if_icmp .eq 6, 3) := dk_159 0 6 (dk_at dksX5_chance_6 2 rfl rfl)
theorem dX5_chance_143 : decode cX5_chance 143 = .ok (.goto 27, 3) := dk_167 0 27 (dk_at dksX5_chance_6 5 rfl rfl)
theorem dX5_chance_146 : decode cX5_chance 146 = .ok (.iinc 4 1, 3) := dk_132 4 1 (dk_at dksX5_chance_6 8 rfl rfl)
theorem dX5_chance_149 : decode cX5_chance 149 = .ok (.aload_n 0, 1) := dk_42 (dk_at dksX5_chance_6 11 rfl rfl)
theorem dX5_chance_150 : decode cX5_chance 150 = .ok (.iconst 1, 1) := dk_4 (dk_at dksX5_chance_6 12 rfl rfl)
theorem dX5_chance_151 : decode cX5_chance 151 = .ok (.iload 7, 2) := dk_21 7 (dk_at dksX5_chance_6 13 rfl rfl)
theorem dX5_chance_153 : decode cX5_chance 153 = .ok (.ishl, 1) := dk_120 (dk_at dksX5_chance_6 15 rfl rfl)
theorem dX5_chance_154 : decode cX5_chance 154 = .ok (.invokevirtual 354, 3) := dk_182 1 98 (dk_at dksX5_chance_6 16 rfl rfl)
theorem dX5_chance_157 : decode cX5_chance 157 = .ok (.ifCond .ge 13, 3) := dk_156 0 13 (dk_at dksX5_chance_6 19 rfl rfl)
theorem dX5_chance_160 : decode cX5_chance 160 = .ok (.aload_n 0, 1) := dk_42 (dk_at dksX5_chance_6 22 rfl rfl)
theorem dX5_chance_161 : decode cX5_chance 161 = .ok (.getfield 51, 3) := dk_180 0 51 (dk_at dksX5_chance_7 0 rfl rfl)
theorem dX5_chance_164 : decode cX5_chance 164 = .ok (.iconst 0, 1) := dk_3 (dk_at dksX5_chance_7 3 rfl rfl)
theorem dX5_chance_165 : decode cX5_chance 165 = .ok (.iload 7, 2) := dk_21 7 (dk_at dksX5_chance_7 4 rfl rfl)
theorem dX5_chance_167 : decode cX5_chance 167 = .ok (.iadd, 1) := dk_96 (dk_at dksX5_chance_7 6 rfl rfl)
theorem dX5_chance_168 : decode cX5_chance 168 = .ok (.iconst 0, 1) := dk_3 (dk_at dksX5_chance_7 7 rfl rfl)
theorem dX5_chance_169 : decode cX5_chance 169 = .ok (.iastore, 1) := dk_79 (dk_at dksX5_chance_7 8 rfl rfl)
theorem dX5_chance_170 : decode cX5_chance 170 = .ok (.iinc 7 1, 3) := dk_132 7 1 (dk_at dksX5_chance_7 9 rfl rfl)
theorem dX5_chance_173 : decode cX5_chance 173 = .ok (.goto (-53), 3) := dk_167 255 203 (dk_at dksX5_chance_7 12 rfl rfl)
theorem dX5_chance_176 : decode cX5_chance 176 = .ok (.iinc 5 1, 3) := dk_132 5 1 (dk_at dksX5_chance_7 15 rfl rfl)
theorem dX5_chance_179 : decode cX5_chance 179 = .ok (.goto (-91), 3) := dk_167 255 165 (dk_at dksX5_chance_7 18 rfl rfl)
theorem dX5_chance_182 : decode cX5_chance 182 = .ok (.iload_n 3, 1) := dk_29 (dk_at dksX5_chance_7 21 rfl rfl)
theorem dX5_chance_183 : decode cX5_chance 183 = .ok (.ifCond .ne 10, 3) := dk_154 0 10 (dk_at dksX5_chance_8 0 rfl rfl)
theorem dX5_chance_186 : decode cX5_chance 186 = .ok (.aload_n 0, 1) := dk_42 (dk_at dksX5_chance_8 3 rfl rfl)
theorem dX5_chance_187 : decode cX5_chance 187 = .ok (.invokevirtual 256, 3) := dk_182 1 0 (dk_at dksX5_chance_8 4 rfl rfl)
theorem dX5_chance_190 : decode cX5_chance 190 = .ok (.goto 25, 3) := dk_167 0 25 (dk_at dksX5_chance_8 7 rfl rfl)
theorem dX5_chance_193 : decode cX5_chance 193 = .ok (.iload_n 3, 1) := dk_29 (dk_at dksX5_chance_8 10 rfl rfl)
theorem dX5_chance_194 : decode cX5_chance 194 = .ok (.iconst 1, 1) := dk_4 (dk_at dksX5_chance_8 11 rfl rfl)
theorem dX5_chance_195 : decode cX5_chance 195 = .ok (.if_icmp .ne 8, 3) := dk_160 0 8 (dk_at dksX5_chance_8 12 rfl rfl)
theorem dX5_chance_198 : decode cX5_chance 198 = .ok (.iload 4, 2) := dk_21 4 (dk_at dksX5_chance_8 15 rfl rfl)
theorem dX5_chance_200 : decode cX5_chance 200 = .ok (.goto 15, 3) := dk_167 0 15 (dk_at dksX5_chance_8 17 rfl rfl)
theorem dX5_chance_203 : decode cX5_chance 203 = .ok (.aload_n 0, 1) := dk_42 (dk_at dksX5_chance_8 20 rfl rfl)
theorem dX5_chance_204 : decode cX5_chance 204 = .ok (.invokevirtual 332, 3) := dk_182 1 76 (dk_at dksX5_chance_8 21 rfl rfl)
theorem dX5_chance_207 : decode cX5_chance 207 = .ok (.ifCond .eq 7, 3) := dk_153 0 7 (dk_at dksX5_chance_9 0 rfl rfl)
theorem dX5_chance_210 : decode cX5_chance 210 = .ok (.iconst 1, 1) := dk_4 (dk_at dksX5_chance_9 3 rfl rfl)
theorem dX5_chance_211 : decode cX5_chance 211 = .ok (.goto 4, 3) := dk_167 0 4 (dk_at dksX5_chance_9 4 rfl rfl)
theorem dX5_chance_214 : decode cX5_chance 214 = .ok (.iconst 0, 1) := dk_3 (dk_at dksX5_chance_9 7 rfl rfl)
theorem dX5_chance_215 : decode cX5_chance 215 = .ok (.istore 5, 2) := dk_54 5 (dk_at dksX5_chance_9 8 rfl rfl)
theorem dX5_chance_217 : decode cX5_chance 217 = .ok (.iconst 0, 1) := dk_3 (dk_at dksX5_chance_9 10 rfl rfl)
theorem dX5_chance_218 : decode cX5_chance 218 = .ok (.istore 6, 2) := dk_54 6 (dk_at dksX5_chance_9 11 rfl rfl)
theorem dX5_chance_220 : decode cX5_chance 220 = .ok (.iload 6, 2) := dk_21 6 (dk_at dksX5_chance_9 13 rfl rfl)
theorem dX5_chance_222 : decode cX5_chance 222 = .ok (.bipush 79, 2) := dk_16 79 (dk_at dksX5_chance_9 15 rfl rfl)
theorem dX5_chance_224 : decode cX5_chance 224 = .ok (.if_icmp .ge 23, 3) := dk_162 0 23 (dk_at dksX5_chance_9 17 rfl rfl)
theorem dX5_chance_227 : decode cX5_chance 227 = .ok (.aload_n 0, 1) := dk_42 (dk_at dksX5_chance_9 20 rfl rfl)
theorem dX5_chance_228 : decode cX5_chance 228 = .ok (.getfield 51, 3) := dk_180 0 51 (dk_at dksX5_chance_9 21 rfl rfl)
theorem dX5_chance_231 : decode cX5_chance 231 = .ok (.iload 6, 2) := dk_21 6 (dk_at dksX5_chance_10 0 rfl rfl)
theorem dX5_chance_233 : decode cX5_chance 233 = .ok (.aload_n 0, 1) := dk_42 (dk_at dksX5_chance_10 2 rfl rfl)
theorem dX5_chance_234 : decode cX5_chance 234 = .ok (.getfield 84, 3) := dk_180 0 84 (dk_at dksX5_chance_10 3 rfl rfl)
theorem dX5_chance_237 : decode cX5_chance 237 = .ok (.iload 6, 2) := dk_21 6 (dk_at dksX5_chance_10 6 rfl rfl)
theorem dX5_chance_239 : decode cX5_chance 239 = .ok (.iaload, 1) := dk_46 (dk_at dksX5_chance_10 8 rfl rfl)
theorem dX5_chance_240 : decode cX5_chance 240 = .ok (.iastore, 1) := dk_79 (dk_at dksX5_chance_10 9 rfl rfl)
theorem dX5_chance_241 : decode cX5_chance 241 = .ok (.iinc 6 1, 3) := dk_132 6 1 (dk_at dksX5_chance_10 10 rfl rfl)
theorem dX5_chance_244 : decode cX5_chance 244 = .ok (.goto (-24), 3) := dk_167 255 232 (dk_at dksX5_chance_10 13 rfl rfl)
theorem dX5_chance_247 : decode cX5_chance 247 = .ok (.iload 5, 2) := dk_21 5 (dk_at dksX5_chance_10 16 rfl rfl)
theorem dX5_chance_249 : decode cX5_chance 249 = .ok (.ireturn, 1) := dk_172 (dk_at dksX5_chance_10 18 rfl rfl)
abbrev cX5_draw : ByteArray := prog_10_method_126_code
def yX5_draw : MethodName := ⟨RX5, "draw", "(I)I"⟩
def dkwX5_draw_1 : List UInt8 := [16, 16, 122, 27, 112, 172]
abbrev dktX5_draw_1 : List UInt8 := dkwX5_draw_1 ++ []
def dkwX5_draw_0 : List UInt8 := [42, 42, 180, 1, 152, 19, 1, 155, 104, 17, 48, 57, 96, 19, 1, 156, 126, 181, 1, 152, 42, 180, 1, 152]
abbrev dktX5_draw_0 : List UInt8 := dkwX5_draw_0 ++ dktX5_draw_1
theorem dksX5_draw_0 : cX5_draw.data.toList.drop 0 = dktX5_draw_0 := by decide +kernel
theorem dksX5_draw_1 : cX5_draw.data.toList.drop 24 = dktX5_draw_1 := dk_seg dksX5_draw_0 24 rfl rfl
theorem dX5_draw_0 : decode cX5_draw 0 = .ok (.aload_n 0, 1) := dk_42 (dk_at dksX5_draw_0 0 rfl rfl)
theorem dX5_draw_1 : decode cX5_draw 1 = .ok (.aload_n 0, 1) := dk_42 (dk_at dksX5_draw_0 1 rfl rfl)
theorem dX5_draw_2 : decode cX5_draw 2 = .ok (.getfield 408, 3) := dk_180 1 152 (dk_at dksX5_draw_0 2 rfl rfl)
theorem dX5_draw_5 : decode cX5_draw 5 = .ok (.ldc_w 411, 3) := dk_19 1 155 (dk_at dksX5_draw_0 5 rfl rfl)
theorem dX5_draw_8 : decode cX5_draw 8 = .ok (.imul, 1) := dk_104 (dk_at dksX5_draw_0 8 rfl rfl)
theorem dX5_draw_9 : decode cX5_draw 9 = .ok (.sipush 12345, 3) := dk_17 48 57 (dk_at dksX5_draw_0 9 rfl rfl)
theorem dX5_draw_12 : decode cX5_draw 12 = .ok (.iadd, 1) := dk_96 (dk_at dksX5_draw_0 12 rfl rfl)
theorem dX5_draw_13 : decode cX5_draw 13 = .ok (.ldc_w 412, 3) := dk_19 1 156 (dk_at dksX5_draw_0 13 rfl rfl)
theorem dX5_draw_16 : decode cX5_draw 16 = .ok (.iand, 1) := dk_126 (dk_at dksX5_draw_0 16 rfl rfl)
theorem dX5_draw_17 : decode cX5_draw 17 = .ok (.putfield 408, 3) := dk_181 1 152 (dk_at dksX5_draw_0 17 rfl rfl)
theorem dX5_draw_20 : decode cX5_draw 20 = .ok (.aload_n 0, 1) := dk_42 (dk_at dksX5_draw_0 20 rfl rfl)
theorem dX5_draw_21 : decode cX5_draw 21 = .ok (.getfield 408, 3) := dk_180 1 152 (dk_at dksX5_draw_0 21 rfl rfl)
theorem dX5_draw_24 : decode cX5_draw 24 = .ok (.bipush 16, 2) := dk_16 16 (dk_at dksX5_draw_1 0 rfl rfl)
theorem dX5_draw_26 : decode cX5_draw 26 = .ok (.ishr, 1) := dk_122 (dk_at dksX5_draw_1 2 rfl rfl)
theorem dX5_draw_27 : decode cX5_draw 27 = .ok (.iload_n 1, 1) := dk_27 (dk_at dksX5_draw_1 3 rfl rfl)
theorem dX5_draw_28 : decode cX5_draw 28 = .ok (.irem, 1) := dk_112 (dk_at dksX5_draw_1 4 rfl rfl)
theorem dX5_draw_29 : decode cX5_draw 29 = .ok (.ireturn, 1) := dk_172 (dk_at dksX5_draw_1 5 rfl rfl)
abbrev cX5_count : ByteArray := prog_10_method_129_code
def yX5_count : MethodName := ⟨RX5, "count", "(I)I"⟩
def dkwX5_count_4 : List UInt8 := [42, 180, 0, 99, 172, 2, 172]
abbrev dktX5_count_4 : List UInt8 := dkwX5_count_4 ++ []
def dkwX5_count_3 : List UInt8 := [46, 172, 42, 180, 0, 13, 6, 46, 172, 42, 182, 1, 160, 172, 42, 182, 1, 0, 172, 42, 180, 0, 226, 172]
abbrev dktX5_count_3 : List UInt8 := dkwX5_count_3 ++ dktX5_count_4
def dkwX5_count_2 : List UInt8 := [42, 182, 0, 232, 172, 42, 180, 0, 13, 3, 46, 172, 42, 180, 0, 13, 4, 46, 172, 42, 180, 0, 13, 5]
abbrev dktX5_count_2 : List UInt8 := dkwX5_count_2 ++ dktX5_count_3
def dkwX5_count_1 : List UInt8 := [170, 0, 0, 0, 0, 103, 0, 0, 0, 0, 0, 0, 0, 8, 0, 0, 0, 50, 0, 0, 0, 55, 0, 0, 0, 62, 0, 0, 0, 69, 0, 0, 0, 76, 0, 0, 0, 83, 0, 0, 0, 88, 0, 0, 0, 93, 0, 0, 0, 98]
abbrev dktX5_count_1 : List UInt8 := dkwX5_count_1 ++ dktX5_count_2
def dkwX5_count_0 : List UInt8 := [42, 3, 181, 0, 96, 27]
abbrev dktX5_count_0 : List UInt8 := dkwX5_count_0 ++ dktX5_count_1
theorem dksX5_count_0 : cX5_count.data.toList.drop 0 = dktX5_count_0 := by decide +kernel
theorem dksX5_count_1 : cX5_count.data.toList.drop 6 = dktX5_count_1 := dk_seg dksX5_count_0 6 rfl rfl
theorem dksX5_count_2 : cX5_count.data.toList.drop 56 = dktX5_count_2 := dk_seg dksX5_count_1 50 rfl rfl
theorem dksX5_count_3 : cX5_count.data.toList.drop 80 = dktX5_count_3 := dk_seg dksX5_count_2 24 rfl rfl
theorem dksX5_count_4 : cX5_count.data.toList.drop 104 = dktX5_count_4 := dk_seg dksX5_count_3 24 rfl rfl
theorem dX5_count_0 : decode cX5_count 0 = .ok (.aload_n 0, 1) := dk_42 (dk_at dksX5_count_0 0 rfl rfl)
theorem dX5_count_1 : decode cX5_count 1 = .ok (.iconst 0, 1) := dk_3 (dk_at dksX5_count_0 1 rfl rfl)
theorem dX5_count_2 : decode cX5_count 2 = .ok (.putfield 96, 3) := dk_181 0 96 (dk_at dksX5_count_0 2 rfl rfl)
theorem dX5_count_5 : decode cX5_count 5 = .ok (.iload_n 1, 1) := dk_27 (dk_at dksX5_count_0 5 rfl rfl)
theorem dX5_count_6 : decode cX5_count 6 = .ok (.tableswitch 103 0 8 #[50, 55, 62, 69, 76, 83, 88, 93, 98], 50) := by decide +kernel
theorem dX5_count_56 : decode cX5_count 56 = .ok (.aload_n 0, 1) := dk_42 (dk_at dksX5_count_2 0 rfl rfl)
theorem dX5_count_57 : decode cX5_count 57 = .ok (.invokevirtual 232, 3) := dk_182 0 232 (dk_at dksX5_count_2 1 rfl rfl)
theorem dX5_count_60 : decode cX5_count 60 = .ok (.ireturn, 1) := dk_172 (dk_at dksX5_count_2 4 rfl rfl)
theorem dX5_count_61 : decode cX5_count 61 = .ok (.aload_n 0, 1) := dk_42 (dk_at dksX5_count_2 5 rfl rfl)
theorem dX5_count_62 : decode cX5_count 62 = .ok (.getfield 13, 3) := dk_180 0 13 (dk_at dksX5_count_2 6 rfl rfl)
theorem dX5_count_65 : decode cX5_count 65 = .ok (.iconst 0, 1) := dk_3 (dk_at dksX5_count_2 9 rfl rfl)
theorem dX5_count_66 : decode cX5_count 66 = .ok (.iaload, 1) := dk_46 (dk_at dksX5_count_2 10 rfl rfl)
theorem dX5_count_67 : decode cX5_count 67 = .ok (.ireturn, 1) := dk_172 (dk_at dksX5_count_2 11 rfl rfl)
theorem dX5_count_68 : decode cX5_count 68 = .ok (.aload_n 0, 1) := dk_42 (dk_at dksX5_count_2 12 rfl rfl)
theorem dX5_count_69 : decode cX5_count 69 = .ok (.getfield 13, 3) := dk_180 0 13 (dk_at dksX5_count_2 13 rfl rfl)
theorem dX5_count_72 : decode cX5_count 72 = .ok (.iconst 1, 1) := dk_4 (dk_at dksX5_count_2 16 rfl rfl)
theorem dX5_count_73 : decode cX5_count 73 = .ok (.iaload, 1) := dk_46 (dk_at dksX5_count_2 17 rfl rfl)
theorem dX5_count_74 : decode cX5_count 74 = .ok (.ireturn, 1) := dk_172 (dk_at dksX5_count_2 18 rfl rfl)
theorem dX5_count_75 : decode cX5_count 75 = .ok (.aload_n 0, 1) := dk_42 (dk_at dksX5_count_2 19 rfl rfl)
theorem dX5_count_76 : decode cX5_count 76 = .ok (.getfield 13, 3) := dk_180 0 13 (dk_at dksX5_count_2 20 rfl rfl)
theorem dX5_count_79 : decode cX5_count 79 = .ok (.iconst 2, 1) := dk_5 (dk_at dksX5_count_2 23 rfl rfl)
theorem dX5_count_80 : decode cX5_count 80 = .ok (.iaload, 1) := dk_46 (dk_at dksX5_count_3 0 rfl rfl)
theorem dX5_count_81 : decode cX5_count 81 = .ok (.ireturn, 1) := dk_172 (dk_at dksX5_count_3 1 rfl rfl)
theorem dX5_count_82 : decode cX5_count 82 = .ok (.aload_n 0, 1) := dk_42 (dk_at dksX5_count_3 2 rfl rfl)
theorem dX5_count_83 : decode cX5_count 83 = .ok (.getfield 13, 3) := dk_180 0 13 (dk_at dksX5_count_3 3 rfl rfl)
theorem dX5_count_86 : decode cX5_count 86 = .ok (.iconst 3, 1) := dk_6 (dk_at dksX5_count_3 6 rfl rfl)
theorem dX5_count_87 : decode cX5_count 87 = .ok (.iaload, 1) := dk_46 (dk_at dksX5_count_3 7 rfl rfl)
theorem dX5_count_88 : decode cX5_count 88 = .ok (.ireturn, 1) := dk_172 (dk_at dksX5_count_3 8 rfl rfl)
theorem dX5_count_89 : decode cX5_count 89 = .ok (.aload_n 0, 1) := dk_42 (dk_at dksX5_count_3 9 rfl rfl)
theorem dX5_count_90 : decode cX5_count 90 = .ok (.invokevirtual 416, 3) := dk_182 1 160 (dk_at dksX5_count_3 10 rfl rfl)
theorem dX5_count_93 : decode cX5_count 93 = .ok (.ireturn, 1) := dk_172 (dk_at dksX5_count_3 13 rfl rfl)
theorem dX5_count_94 : decode cX5_count 94 = .ok (.aload_n 0, 1) := dk_42 (dk_at dksX5_count_3 14 rfl rfl)
theorem dX5_count_95 : decode cX5_count 95 = .ok (.invokevirtual 256, 3) := dk_182 1 0 (dk_at dksX5_count_3 15 rfl rfl)
theorem dX5_count_98 : decode cX5_count 98 = .ok (.ireturn, 1) := dk_172 (dk_at dksX5_count_3 18 rfl rfl)
theorem dX5_count_99 : decode cX5_count 99 = .ok (.aload_n 0, 1) := dk_42 (dk_at dksX5_count_3 19 rfl rfl)
theorem dX5_count_100 : decode cX5_count 100 = .ok (.getfield 226, 3) := dk_180 0 226 (dk_at dksX5_count_3 20 rfl rfl)
theorem dX5_count_103 : decode cX5_count 103 = .ok (.ireturn, 1) := dk_172 (dk_at dksX5_count_3 23 rfl rfl)
theorem dX5_count_104 : decode cX5_count 104 = .ok (.aload_n 0, 1) := dk_42 (dk_at dksX5_count_4 0 rfl rfl)
theorem dX5_count_105 : decode cX5_count 105 = .ok (.getfield 99, 3) := dk_180 0 99 (dk_at dksX5_count_4 1 rfl rfl)
theorem dX5_count_108 : decode cX5_count 108 = .ok (.ireturn, 1) := dk_172 (dk_at dksX5_count_4 4 rfl rfl)
theorem dX5_count_109 : decode cX5_count 109 = .ok (.iconst (-1), 1) := dk_2 (dk_at dksX5_count_4 5 rfl rfl)
theorem dX5_count_110 : decode cX5_count 110 = .ok (.ireturn, 1) := dk_172 (dk_at dksX5_count_4 6 rfl rfl)
abbrev cX5_blockedMany : ByteArray := prog_10_method_128_code
def yX5_blockedMany : MethodName := ⟨RX5, "blockedMany", "()I"⟩
def dkwX5_blockedMany_1 : List UInt8 := [96, 60, 132, 2, 1, 167, 255, 231, 27, 172]
abbrev dktX5_blockedMany_1 : List UInt8 := dkwX5_blockedMany_1 ++ []
def dkwX5_blockedMany_0 : List UInt8 := [3, 60, 4, 61, 28, 42, 180, 0, 13, 3, 46, 163, 0, 21, 27, 42, 180, 0, 51, 16, 12, 28, 96, 46]
abbrev dktX5_blockedMany_0 : List UInt8 := dkwX5_blockedMany_0 ++ dktX5_blockedMany_1
theorem dksX5_blockedMany_0 : cX5_blockedMany.data.toList.drop 0 = dktX5_blockedMany_0 := by decide +kernel
theorem dksX5_blockedMany_1 : cX5_blockedMany.data.toList.drop 24 = dktX5_blockedMany_1 := dk_seg dksX5_blockedMany_0 24 rfl rfl
theorem dX5_blockedMany_0 : decode cX5_blockedMany 0 = .ok (.iconst 0, 1) := dk_3 (dk_at dksX5_blockedMany_0 0 rfl rfl)
theorem dX5_blockedMany_1 : decode cX5_blockedMany 1 = .ok (.istore_n 1, 1) := dk_60 (dk_at dksX5_blockedMany_0 1 rfl rfl)
theorem dX5_blockedMany_2 : decode cX5_blockedMany 2 = .ok (.iconst 1, 1) := dk_4 (dk_at dksX5_blockedMany_0 2 rfl rfl)
theorem dX5_blockedMany_3 : decode cX5_blockedMany 3 = .ok (.istore_n 2, 1) := dk_61 (dk_at dksX5_blockedMany_0 3 rfl rfl)
theorem dX5_blockedMany_4 : decode cX5_blockedMany 4 = .ok (.iload_n 2, 1) := dk_28 (dk_at dksX5_blockedMany_0 4 rfl rfl)
theorem dX5_blockedMany_5 : decode cX5_blockedMany 5 = .ok (.aload_n 0, 1) := dk_42 (dk_at dksX5_blockedMany_0 5 rfl rfl)
theorem dX5_blockedMany_6 : decode cX5_blockedMany 6 = .ok (.getfield 13, 3) := dk_180 0 13 (dk_at dksX5_blockedMany_0 6 rfl rfl)
theorem dX5_blockedMany_9 : decode cX5_blockedMany 9 = .ok (.iconst 0, 1) := dk_3 (dk_at dksX5_blockedMany_0 9 rfl rfl)
theorem dX5_blockedMany_10 : decode cX5_blockedMany 10 = .ok (.iaload, 1) := dk_46 (dk_at dksX5_blockedMany_0 10 rfl rfl)
theorem dX5_blockedMany_11 : decode cX5_blockedMany 11 = .ok (.if_icmp .gt 21, 3) := dk_163 0 21 (dk_at dksX5_blockedMany_0 11 rfl rfl)
theorem dX5_blockedMany_14 : decode cX5_blockedMany 14 = .ok (.iload_n 1, 1) := dk_27 (dk_at dksX5_blockedMany_0 14 rfl rfl)
theorem dX5_blockedMany_15 : decode cX5_blockedMany 15 = .ok (.aload_n 0, 1) := dk_42 (dk_at dksX5_blockedMany_0 15 rfl rfl)
theorem dX5_blockedMany_16 : decode cX5_blockedMany 16 = .ok (.getfield 51, 3) := dk_180 0 51 (dk_at dksX5_blockedMany_0 16 rfl rfl)
theorem dX5_blockedMany_19 : decode cX5_blockedMany 19 = .ok (.bipush 12, 2) := dk_16 12 (dk_at dksX5_blockedMany_0 19 rfl rfl)
theorem dX5_blockedMany_21 : decode cX5_blockedMany 21 = .ok (.iload_n 2, 1) := dk_28 (dk_at dksX5_blockedMany_0 21 rfl rfl)
theorem dX5_blockedMany_22 : decode cX5_blockedMany 22 = .ok (.iadd, 1) := dk_96 (dk_at dksX5_blockedMany_0 22 rfl rfl)
theorem dX5_blockedMany_23 : decode cX5_blockedMany 23 = .ok (.iaload, 1) := dk_46 (dk_at dksX5_blockedMany_0 23 rfl rfl)
theorem dX5_blockedMany_24 : decode cX5_blockedMany 24 = .ok (.iadd, 1) := dk_96 (dk_at dksX5_blockedMany_1 0 rfl rfl)
theorem dX5_blockedMany_25 : decode cX5_blockedMany 25 = .ok (.istore_n 1, 1) := dk_60 (dk_at dksX5_blockedMany_1 1 rfl rfl)
theorem dX5_blockedMany_26 : decode cX5_blockedMany 26 = .ok (.iinc 2 1, 3) := dk_132 2 1 (dk_at dksX5_blockedMany_1 2 rfl rfl)
theorem dX5_blockedMany_29 : decode cX5_blockedMany 29 = .ok (.goto (-25), 3) := dk_167 255 231 (dk_at dksX5_blockedMany_1 5 rfl rfl)
theorem dX5_blockedMany_32 : decode cX5_blockedMany 32 = .ok (.iload_n 1, 1) := dk_27 (dk_at dksX5_blockedMany_1 8 rfl rfl)
theorem dX5_blockedMany_33 : decode cX5_blockedMany 33 = .ok (.ireturn, 1) := dk_172 (dk_at dksX5_blockedMany_1 9 rfl rfl)
theorem q117 : (Jvm.Cond.initialized "QuietChannelsModel") ∈ lw_all := lw_g (lw_at lw_m1 5 rfl) rfl
theorem q1207 : (Jvm.Cond.instantiable "QuietChannelsModel" (46 : Nat)) ∈ lw_all := lw_g (lw_at lw_m5 135 rfl) rfl
theorem q1209 : (Jvm.Cond.instanceMethod ({ cls := "QuietChannelsModel", name := "<init>", desc := "()V" } : Jvm.MethodName)) ∈ lw_all := lw_g (lw_at lw_m5 137 rfl) rfl
theorem q1210 : (Jvm.Cond.code ({ cls := "QuietChannelsModel", name := "<init>", desc := "()V" } : Jvm.MethodName) prog_10_method_1_code (1 : Nat) (Option.none : Option Jvm.ClassFile.FieldType)) ∈ lw_all := lw_g (lw_at lw_m5 138 rfl) rfl
theorem q1211 : (Jvm.Cond.methodLink "QuietChannelsModel" (1 : Nat) ({ cls := "java/lang/Object", name := "<init>", desc := "()V" } : Jvm.MethodName)) ∈ lw_all := lw_g (lw_at lw_m5 139 rfl) rfl
theorem q1212 : (Jvm.Cond.methodLink "QuietChannelsModel" (87 : Nat) ({ cls := "QuietChannelsModel", name := "freshText", desc := "()V" } : Jvm.MethodName)) ∈ lw_all := lw_g (lw_at lw_m5 140 rfl) rfl
theorem q1213 : (Jvm.Cond.privateMethod ({ cls := "QuietChannelsModel", name := "freshText", desc := "()V" } : Jvm.MethodName)) ∈ lw_tbl := lw_at lw_m5 141 rfl
theorem q1214 : (Jvm.Cond.instanceMethod ({ cls := "QuietChannelsModel", name := "freshText", desc := "()V" } : Jvm.MethodName)) ∈ lw_all := lw_g (lw_at lw_m5 142 rfl) rfl
theorem q1215 : (Jvm.Cond.code ({ cls := "QuietChannelsModel", name := "freshText", desc := "()V" } : Jvm.MethodName) prog_10_method_27_code (2 : Nat) (Option.none : Option Jvm.ClassFile.FieldType)) ∈ lw_all := lw_g (lw_at lw_m5 143 rfl) rfl
theorem q1216 : (Jvm.Cond.methodLink "QuietChannelsModel" (169 : Nat) ({ cls := "QuietChannelsModel", name := "reads", desc := "(II)V" } : Jvm.MethodName)) ∈ lw_all := lw_g (lw_at lw_m5 144 rfl) rfl
theorem q1217 : (Jvm.Cond.privateMethod ({ cls := "QuietChannelsModel", name := "reads", desc := "(II)V" } : Jvm.MethodName)) ∈ lw_tbl := lw_at lw_m5 145 rfl
theorem q1218 : (Jvm.Cond.instanceMethod ({ cls := "QuietChannelsModel", name := "reads", desc := "(II)V" } : Jvm.MethodName)) ∈ lw_all := lw_g (lw_at lw_m5 146 rfl) rfl
theorem q1219 : (Jvm.Cond.code ({ cls := "QuietChannelsModel", name := "reads", desc := "(II)V" } : Jvm.MethodName) prog_10_method_14_code (3 : Nat) (Option.none : Option Jvm.ClassFile.FieldType)) ∈ lw_all := lw_g (lw_at lw_m5 147 rfl) rfl
theorem q1220 : (Jvm.Cond.methodLink "QuietChannelsModel" (90 : Nat) ({ cls := "QuietChannelsModel", name := "takeText", desc := "()V" } : Jvm.MethodName)) ∈ lw_all := lw_g (lw_at lw_m5 148 rfl) rfl
theorem q1221 : (Jvm.Cond.privateMethod ({ cls := "QuietChannelsModel", name := "takeText", desc := "()V" } : Jvm.MethodName)) ∈ lw_tbl := lw_at lw_m5 149 rfl
theorem q1222 : (Jvm.Cond.instanceMethod ({ cls := "QuietChannelsModel", name := "takeText", desc := "()V" } : Jvm.MethodName)) ∈ lw_all := lw_g (lw_at lw_m5 150 rfl) rfl
theorem q1223 : (Jvm.Cond.code ({ cls := "QuietChannelsModel", name := "takeText", desc := "()V" } : Jvm.MethodName) prog_10_method_29_code (2 : Nat) (Option.none : Option Jvm.ClassFile.FieldType)) ∈ lw_all := lw_g (lw_at lw_m5 151 rfl) rfl
theorem q1224 : (Jvm.Cond.methodLink "QuietChannelsModel" (181 : Nat) ({ cls := "QuietChannelsModel", name := "reading", desc := "(I)I" } : Jvm.MethodName)) ∈ lw_all := lw_g (lw_at lw_m5 152 rfl) rfl
theorem q1225 : (Jvm.Cond.privateMethod ({ cls := "QuietChannelsModel", name := "reading", desc := "(I)I" } : Jvm.MethodName)) ∈ lw_tbl := lw_at lw_m5 153 rfl
theorem q1226 : (Jvm.Cond.instanceMethod ({ cls := "QuietChannelsModel", name := "reading", desc := "(I)I" } : Jvm.MethodName)) ∈ lw_all := lw_g (lw_at lw_m5 154 rfl) rfl
theorem q1227 : (Jvm.Cond.code ({ cls := "QuietChannelsModel", name := "reading", desc := "(I)I" } : Jvm.MethodName) prog_10_method_13_code (2 : Nat) (Option.some Jvm.ClassFile.FieldType.int)) ∈ lw_all := lw_g (lw_at lw_m5 155 rfl) rfl
theorem q1228 : (Jvm.Cond.methodLink "QuietChannelsModel" (93 : Nat) ({ cls := "QuietChannelsModel", name := "begins", desc := "()V" } : Jvm.MethodName)) ∈ lw_all := lw_g (lw_at lw_m5 156 rfl) rfl
theorem q1229 : (Jvm.Cond.privateMethod ({ cls := "QuietChannelsModel", name := "begins", desc := "()V" } : Jvm.MethodName)) ∈ lw_tbl := lw_at lw_m5 157 rfl
theorem q1230 : (Jvm.Cond.instanceMethod ({ cls := "QuietChannelsModel", name := "begins", desc := "()V" } : Jvm.MethodName)) ∈ lw_all := lw_g (lw_at lw_m5 158 rfl) rfl
theorem q1231 : (Jvm.Cond.code ({ cls := "QuietChannelsModel", name := "begins", desc := "()V" } : Jvm.MethodName) prog_10_method_34_code (2 : Nat) (Option.none : Option Jvm.ClassFile.FieldType)) ∈ lw_all := lw_g (lw_at lw_m5 159 rfl) rfl
theorem q1232 : (Jvm.Cond.methodLink "QuietChannelsModel" (232 : Nat) ({ cls := "QuietChannelsModel", name := "users", desc := "()I" } : Jvm.MethodName)) ∈ lw_all := lw_g (lw_at lw_m5 160 rfl) rfl
theorem q1233 : (Jvm.Cond.privateMethod ({ cls := "QuietChannelsModel", name := "users", desc := "()I" } : Jvm.MethodName)) ∈ lw_tbl := lw_at lw_m5 161 rfl
theorem q1234 : (Jvm.Cond.instanceMethod ({ cls := "QuietChannelsModel", name := "users", desc := "()I" } : Jvm.MethodName)) ∈ lw_all := lw_g (lw_at lw_m5 162 rfl) rfl
theorem q1235 : (Jvm.Cond.code ({ cls := "QuietChannelsModel", name := "users", desc := "()I" } : Jvm.MethodName) prog_10_method_32_code (1 : Nat) (Option.some Jvm.ClassFile.FieldType.int)) ∈ lw_all := lw_g (lw_at lw_m5 163 rfl) rfl
theorem q1236 : (Jvm.Cond.methodLink "QuietChannelsModel" (235 : Nat) ({ cls := "QuietChannelsModel", name := "asTold", desc := "()V" } : Jvm.MethodName)) ∈ lw_all := lw_g (lw_at lw_m5 164 rfl) rfl
theorem q1237 : (Jvm.Cond.privateMethod ({ cls := "QuietChannelsModel", name := "asTold", desc := "()V" } : Jvm.MethodName)) ∈ lw_tbl := lw_at lw_m5 165 rfl
theorem q1238 : (Jvm.Cond.instanceMethod ({ cls := "QuietChannelsModel", name := "asTold", desc := "()V" } : Jvm.MethodName)) ∈ lw_all := lw_g (lw_at lw_m5 166 rfl) rfl
theorem q1239 : (Jvm.Cond.code ({ cls := "QuietChannelsModel", name := "asTold", desc := "()V" } : Jvm.MethodName) prog_10_method_35_code (1 : Nat) (Option.none : Option Jvm.ClassFile.FieldType)) ∈ lw_all := lw_g (lw_at lw_m5 167 rfl) rfl
theorem q1240 : (Jvm.Cond.fieldLink "QuietChannelsModel" (96 : Nat) "QuietChannelsModel" "thrown" "I") ∈ lw_all := lw_g (lw_at lw_m5 168 rfl) rfl
theorem q1241 : (Jvm.Cond.fieldLink "QuietChannelsModel" (7 : Nat) "QuietChannelsModel" "tape" "[I") ∈ lw_all := lw_g (lw_at lw_m5 169 rfl) rfl
theorem q1242 : (Jvm.Cond.fieldLink "QuietChannelsModel" (99 : Nat) "QuietChannelsModel" "taped" "I") ∈ lw_all := lw_g (lw_at lw_m5 170 rfl) rfl
theorem q1243 : (Jvm.Cond.fieldLink "QuietChannelsModel" (13 : Nat) "QuietChannelsModel" "number" "[I") ∈ lw_all := lw_g (lw_at lw_m5 171 rfl) rfl
theorem q1244 : (Jvm.Cond.fieldLink "QuietChannelsModel" (16 : Nat) "QuietChannelsModel" "isTold" "[Z") ∈ lw_all := lw_g (lw_at lw_m5 172 rfl) rfl
theorem q1245 : (Jvm.Cond.fieldLink "QuietChannelsModel" (20 : Nat) "QuietChannelsModel" "name" "[I") ∈ lw_all := lw_g (lw_at lw_m5 173 rfl) rfl
theorem q1246 : (Jvm.Cond.fieldLink "QuietChannelsModel" (23 : Nat) "QuietChannelsModel" "site" "[I") ∈ lw_all := lw_g (lw_at lw_m5 174 rfl) rfl
theorem q1247 : (Jvm.Cond.fieldLink "QuietChannelsModel" (26 : Nat) "QuietChannelsModel" "powerTold" "[I") ∈ lw_all := lw_g (lw_at lw_m5 175 rfl) rfl
theorem q1248 : (Jvm.Cond.fieldLink "QuietChannelsModel" (29 : Nat) "QuietChannelsModel" "low" "[I") ∈ lw_all := lw_g (lw_at lw_m5 176 rfl) rfl
theorem q1249 : (Jvm.Cond.fieldLink "QuietChannelsModel" (32 : Nat) "QuietChannelsModel" "high" "[I") ∈ lw_all := lw_g (lw_at lw_m5 177 rfl) rfl
theorem q1250 : (Jvm.Cond.fieldLink "QuietChannelsModel" (35 : Nat) "QuietChannelsModel" "fixed" "[I") ∈ lw_all := lw_g (lw_at lw_m5 178 rfl) rfl
theorem q1251 : (Jvm.Cond.fieldLink "QuietChannelsModel" (38 : Nat) "QuietChannelsModel" "slotsTold" "[I") ∈ lw_all := lw_g (lw_at lw_m5 179 rfl) rfl
theorem q1252 : (Jvm.Cond.fieldLink "QuietChannelsModel" (41 : Nat) "QuietChannelsModel" "linkLoss" "[I") ∈ lw_all := lw_g (lw_at lw_m5 180 rfl) rfl
theorem q1253 : (Jvm.Cond.fieldLink "QuietChannelsModel" (44 : Nat) "QuietChannelsModel" "isBlocked" "[Z") ∈ lw_all := lw_g (lw_at lw_m5 181 rfl) rfl
theorem q1254 : (Jvm.Cond.fieldLink "QuietChannelsModel" (173 : Nat) "QuietChannelsModel" "isBehind" "Z") ∈ lw_all := lw_g (lw_at lw_m5 182 rfl) rfl
theorem q1255 : (Jvm.Cond.fieldLink "QuietChannelsModel" (214 : Nat) "QuietChannelsModel" "lines" "I") ∈ lw_all := lw_g (lw_at lw_m5 183 rfl) rfl
theorem q1256 : (Jvm.Cond.fieldLink "QuietChannelsModel" (105 : Nat) "QuietChannelsModel" "size" "I") ∈ lw_all := lw_g (lw_at lw_m5 184 rfl) rfl
theorem q1257 : (Jvm.Cond.fieldLink "QuietChannelsModel" (102 : Nat) "QuietChannelsModel" "at" "I") ∈ lw_all := lw_g (lw_at lw_m5 185 rfl) rfl
theorem q1258 : (Jvm.Cond.fieldLink "QuietChannelsModel" (112 : Nat) "QuietChannelsModel" "place" "I") ∈ lw_all := lw_g (lw_at lw_m5 186 rfl) rfl
theorem q1259 : (Jvm.Cond.fieldLink "QuietChannelsModel" (115 : Nat) "QuietChannelsModel" "sort" "I") ∈ lw_all := lw_g (lw_at lw_m5 187 rfl) rfl
theorem q1260 : (Jvm.Cond.fieldLink "QuietChannelsModel" (125 : Nat) "QuietChannelsModel" "value" "I") ∈ lw_all := lw_g (lw_at lw_m5 188 rfl) rfl
theorem q1261 : (Jvm.Cond.fieldLink "QuietChannelsModel" (146 : Nat) "QuietChannelsModel" "fault" "I") ∈ lw_all := lw_g (lw_at lw_m5 189 rfl) rfl
theorem q1262 : (Jvm.Cond.fieldLink "QuietChannelsModel" (149 : Nat) "QuietChannelsModel" "faultPlace" "I") ∈ lw_all := lw_g (lw_at lw_m5 190 rfl) rfl
theorem q1263 : (Jvm.Cond.fieldLink "QuietChannelsModel" (223 : Nat) "QuietChannelsModel" "lastFault" "I") ∈ lw_all := lw_g (lw_at lw_m5 191 rfl) rfl
theorem q1264 : (Jvm.Cond.fieldLink "QuietChannelsModel" (47 : Nat) "QuietChannelsModel" "lastPlace" "I") ∈ lw_all := lw_g (lw_at lw_m5 192 rfl) rfl
theorem q1265 : (Jvm.Cond.fieldLink "QuietChannelsModel" (51 : Nat) "QuietChannelsModel" "s" "[I") ∈ lw_all := lw_g (lw_at lw_m5 193 rfl) rfl
theorem q1266 : (Jvm.Cond.fieldLink "QuietChannelsModel" (54 : Nat) "QuietChannelsModel" "kept" "[I") ∈ lw_all := lw_g (lw_at lw_m5 194 rfl) rfl
theorem q1267 : (Jvm.Cond.fieldLink "QuietChannelsModel" (57 : Nat) "QuietChannelsModel" "aside" "[I") ∈ lw_all := lw_g (lw_at lw_m5 195 rfl) rfl
theorem q1268 : (Jvm.Cond.fieldLink "QuietChannelsModel" (226 : Nat) "QuietChannelsModel" "undoable" "I") ∈ lw_all := lw_g (lw_at lw_m5 196 rfl) rfl
theorem q1269 : (Jvm.Cond.fieldLink "QuietChannelsModel" (229 : Nat) "QuietChannelsModel" "hasImage" "Z") ∈ lw_all := lw_g (lw_at lw_m5 197 rfl) rfl
theorem q1270 : (Jvm.Cond.fieldLink "QuietChannelsModel" (238 : Nat) "QuietChannelsModel" "band" "I") ∈ lw_all := lw_g (lw_at lw_m5 198 rfl) rfl
theorem q1271 : (Jvm.Cond.fieldLink "QuietChannelsModel" (241 : Nat) "QuietChannelsModel" "guard" "I") ∈ lw_all := lw_g (lw_at lw_m5 199 rfl) rfl
theorem q1272 : (Jvm.Cond.fieldLink "QuietChannelsModel" (244 : Nat) "QuietChannelsModel" "space" "I") ∈ lw_all := lw_g (lw_at lw_m5 200 rfl) rfl
theorem q1273 : (Jvm.Cond.fieldLink "QuietChannelsModel" (247 : Nat) "QuietChannelsModel" "orders" "I") ∈ lw_all := lw_g (lw_at lw_m5 201 rfl) rfl
theorem q1274 : (Jvm.Cond.fieldLink "QuietChannelsModel" (60 : Nat) "QuietChannelsModel" "pSort" "[I") ∈ lw_all := lw_g (lw_at lw_m5 202 rfl) rfl
theorem q1275 : (Jvm.Cond.fieldLink "QuietChannelsModel" (63 : Nat) "QuietChannelsModel" "pA" "[I") ∈ lw_all := lw_g (lw_at lw_m5 203 rfl) rfl
theorem q1276 : (Jvm.Cond.fieldLink "QuietChannelsModel" (66 : Nat) "QuietChannelsModel" "pB" "[I") ∈ lw_all := lw_g (lw_at lw_m5 204 rfl) rfl
theorem q1277 : (Jvm.Cond.fieldLink "QuietChannelsModel" (69 : Nat) "QuietChannelsModel" "pC" "[I") ∈ lw_all := lw_g (lw_at lw_m5 205 rfl) rfl
theorem q1278 : (Jvm.Cond.fieldLink "QuietChannelsModel" (72 : Nat) "QuietChannelsModel" "pChannel" "[I") ∈ lw_all := lw_g (lw_at lw_m5 206 rfl) rfl
theorem q1279 : (Jvm.Cond.fieldLink "QuietChannelsModel" (75 : Nat) "QuietChannelsModel" "pLevel" "[I") ∈ lw_all := lw_g (lw_at lw_m5 207 rfl) rfl
theorem q1280 : (Jvm.Cond.fieldLink "QuietChannelsModel" (78 : Nat) "QuietChannelsModel" "pSlots" "[I") ∈ lw_all := lw_g (lw_at lw_m5 208 rfl) rfl
theorem q1281 : (Jvm.Cond.fieldLink "QuietChannelsModel" (280 : Nat) "QuietChannelsModel" "products" "I") ∈ lw_all := lw_g (lw_at lw_m5 209 rfl) rfl
theorem q1282 : (Jvm.Cond.fieldLink "QuietChannelsModel" (329 : Nat) "QuietChannelsModel" "looks" "I") ∈ lw_all := lw_g (lw_at lw_m5 210 rfl) rfl
theorem q1283 : (Jvm.Cond.fieldLink "QuietChannelsModel" (81 : Nat) "QuietChannelsModel" "row" "[I") ∈ lw_all := lw_g (lw_at lw_m5 211 rfl) rfl
theorem q1284 : (Jvm.Cond.fieldLink "QuietChannelsModel" (408 : Nat) "QuietChannelsModel" "drawn" "I") ∈ lw_all := lw_g (lw_at lw_m5 212 rfl) rfl
theorem q1285 : (Jvm.Cond.fieldLink "QuietChannelsModel" (84 : Nat) "QuietChannelsModel" "first" "[I") ∈ lw_all := lw_g (lw_at lw_m5 213 rfl) rfl
theorem q1286 : (Jvm.Cond.lays "QuietChannelsModel" "QuietChannelsModel" "thrown" "I") ∈ lw_all := lw_g (lw_at lw_m5 214 rfl) rfl
theorem q1287 : (Jvm.Cond.soleField "QuietChannelsModel" "thrown") ∈ lw_all := lw_g (lw_at lw_m5 215 rfl) rfl
theorem q1288 : (Jvm.Cond.laysFinal "QuietChannelsModel" "QuietChannelsModel" "tape" "[I") ∈ lw_all := lw_g (lw_at lw_m5 216 rfl) rfl
theorem q1289 : (Jvm.Cond.soleField "QuietChannelsModel" "tape") ∈ lw_all := lw_g (lw_at lw_m5 217 rfl) rfl
theorem q1290 : (Jvm.Cond.lays "QuietChannelsModel" "QuietChannelsModel" "taped" "I") ∈ lw_all := lw_g (lw_at lw_m5 218 rfl) rfl
theorem q1291 : (Jvm.Cond.soleField "QuietChannelsModel" "taped") ∈ lw_all := lw_g (lw_at lw_m5 219 rfl) rfl
theorem q1292 : (Jvm.Cond.laysFinal "QuietChannelsModel" "QuietChannelsModel" "number" "[I") ∈ lw_all := lw_g (lw_at lw_m5 220 rfl) rfl
theorem q1293 : (Jvm.Cond.soleField "QuietChannelsModel" "number") ∈ lw_all := lw_g (lw_at lw_m5 221 rfl) rfl
theorem q1294 : (Jvm.Cond.laysFinal "QuietChannelsModel" "QuietChannelsModel" "isTold" "[Z") ∈ lw_all := lw_g (lw_at lw_m5 222 rfl) rfl
theorem q1295 : (Jvm.Cond.soleField "QuietChannelsModel" "isTold") ∈ lw_all := lw_g (lw_at lw_m5 223 rfl) rfl
theorem q1296 : (Jvm.Cond.laysFinal "QuietChannelsModel" "QuietChannelsModel" "name" "[I") ∈ lw_all := lw_g (lw_at lw_m5 224 rfl) rfl
theorem q1297 : (Jvm.Cond.soleField "QuietChannelsModel" "name") ∈ lw_all := lw_g (lw_at lw_m5 225 rfl) rfl
theorem q1298 : (Jvm.Cond.laysFinal "QuietChannelsModel" "QuietChannelsModel" "site" "[I") ∈ lw_all := lw_g (lw_at lw_m5 226 rfl) rfl
theorem q1299 : (Jvm.Cond.soleField "QuietChannelsModel" "site") ∈ lw_all := lw_g (lw_at lw_m5 227 rfl) rfl
theorem q1300 : (Jvm.Cond.laysFinal "QuietChannelsModel" "QuietChannelsModel" "powerTold" "[I") ∈ lw_all := lw_g (lw_at lw_m5 228 rfl) rfl
theorem q1301 : (Jvm.Cond.soleField "QuietChannelsModel" "powerTold") ∈ lw_all := lw_g (lw_at lw_m5 229 rfl) rfl
theorem q1302 : (Jvm.Cond.laysFinal "QuietChannelsModel" "QuietChannelsModel" "low" "[I") ∈ lw_all := lw_g (lw_at lw_m5 230 rfl) rfl
theorem q1303 : (Jvm.Cond.soleField "QuietChannelsModel" "low") ∈ lw_all := lw_g (lw_at lw_m5 231 rfl) rfl
theorem q1304 : (Jvm.Cond.laysFinal "QuietChannelsModel" "QuietChannelsModel" "high" "[I") ∈ lw_all := lw_g (lw_at lw_m5 232 rfl) rfl
theorem q1305 : (Jvm.Cond.soleField "QuietChannelsModel" "high") ∈ lw_all := lw_g (lw_at lw_m5 233 rfl) rfl
theorem q1306 : (Jvm.Cond.laysFinal "QuietChannelsModel" "QuietChannelsModel" "fixed" "[I") ∈ lw_all := lw_g (lw_at lw_m5 234 rfl) rfl
theorem q1307 : (Jvm.Cond.soleField "QuietChannelsModel" "fixed") ∈ lw_all := lw_g (lw_at lw_m5 235 rfl) rfl
theorem q1308 : (Jvm.Cond.laysFinal "QuietChannelsModel" "QuietChannelsModel" "slotsTold" "[I") ∈ lw_all := lw_g (lw_at lw_m5 236 rfl) rfl
theorem q1309 : (Jvm.Cond.soleField "QuietChannelsModel" "slotsTold") ∈ lw_all := lw_g (lw_at lw_m5 237 rfl) rfl
theorem q1310 : (Jvm.Cond.laysFinal "QuietChannelsModel" "QuietChannelsModel" "linkLoss" "[I") ∈ lw_all := lw_g (lw_at lw_m5 238 rfl) rfl
theorem q1311 : (Jvm.Cond.soleField "QuietChannelsModel" "linkLoss") ∈ lw_all := lw_g (lw_at lw_m5 239 rfl) rfl
theorem q1312 : (Jvm.Cond.laysFinal "QuietChannelsModel" "QuietChannelsModel" "isBlocked" "[Z") ∈ lw_all := lw_g (lw_at lw_m6 0 rfl) rfl
theorem q1313 : (Jvm.Cond.soleField "QuietChannelsModel" "isBlocked") ∈ lw_all := lw_g (lw_at lw_m6 1 rfl) rfl
theorem q1314 : (Jvm.Cond.lays "QuietChannelsModel" "QuietChannelsModel" "isBehind" "Z") ∈ lw_all := lw_g (lw_at lw_m6 2 rfl) rfl
theorem q1315 : (Jvm.Cond.soleField "QuietChannelsModel" "isBehind") ∈ lw_all := lw_g (lw_at lw_m6 3 rfl) rfl
theorem q1316 : (Jvm.Cond.lays "QuietChannelsModel" "QuietChannelsModel" "lines" "I") ∈ lw_all := lw_g (lw_at lw_m6 4 rfl) rfl
theorem q1317 : (Jvm.Cond.soleField "QuietChannelsModel" "lines") ∈ lw_all := lw_g (lw_at lw_m6 5 rfl) rfl
theorem q1318 : (Jvm.Cond.lays "QuietChannelsModel" "QuietChannelsModel" "size" "I") ∈ lw_all := lw_g (lw_at lw_m6 6 rfl) rfl
theorem q1319 : (Jvm.Cond.soleField "QuietChannelsModel" "size") ∈ lw_all := lw_g (lw_at lw_m6 7 rfl) rfl
theorem q1320 : (Jvm.Cond.lays "QuietChannelsModel" "QuietChannelsModel" "at" "I") ∈ lw_all := lw_g (lw_at lw_m6 8 rfl) rfl
theorem q1321 : (Jvm.Cond.soleField "QuietChannelsModel" "at") ∈ lw_all := lw_g (lw_at lw_m6 9 rfl) rfl
theorem q1322 : (Jvm.Cond.lays "QuietChannelsModel" "QuietChannelsModel" "place" "I") ∈ lw_all := lw_g (lw_at lw_m6 10 rfl) rfl
theorem q1323 : (Jvm.Cond.soleField "QuietChannelsModel" "place") ∈ lw_all := lw_g (lw_at lw_m6 11 rfl) rfl
theorem q1324 : (Jvm.Cond.lays "QuietChannelsModel" "QuietChannelsModel" "sort" "I") ∈ lw_all := lw_g (lw_at lw_m6 12 rfl) rfl
theorem q1325 : (Jvm.Cond.soleField "QuietChannelsModel" "sort") ∈ lw_all := lw_g (lw_at lw_m6 13 rfl) rfl
theorem q1326 : (Jvm.Cond.lays "QuietChannelsModel" "QuietChannelsModel" "value" "I") ∈ lw_all := lw_g (lw_at lw_m6 14 rfl) rfl
theorem q1327 : (Jvm.Cond.soleField "QuietChannelsModel" "value") ∈ lw_all := lw_g (lw_at lw_m6 15 rfl) rfl
theorem q1328 : (Jvm.Cond.lays "QuietChannelsModel" "QuietChannelsModel" "fault" "I") ∈ lw_all := lw_g (lw_at lw_m6 16 rfl) rfl
theorem q1329 : (Jvm.Cond.soleField "QuietChannelsModel" "fault") ∈ lw_all := lw_g (lw_at lw_m6 17 rfl) rfl
theorem q1330 : (Jvm.Cond.lays "QuietChannelsModel" "QuietChannelsModel" "faultPlace" "I") ∈ lw_all := lw_g (lw_at lw_m6 18 rfl) rfl
theorem q1331 : (Jvm.Cond.soleField "QuietChannelsModel" "faultPlace") ∈ lw_all := lw_g (lw_at lw_m6 19 rfl) rfl
theorem q1332 : (Jvm.Cond.lays "QuietChannelsModel" "QuietChannelsModel" "lastFault" "I") ∈ lw_all := lw_g (lw_at lw_m6 20 rfl) rfl
theorem q1333 : (Jvm.Cond.soleField "QuietChannelsModel" "lastFault") ∈ lw_all := lw_g (lw_at lw_m6 21 rfl) rfl
theorem q1334 : (Jvm.Cond.lays "QuietChannelsModel" "QuietChannelsModel" "lastPlace" "I") ∈ lw_all := lw_g (lw_at lw_m6 22 rfl) rfl
theorem q1335 : (Jvm.Cond.soleField "QuietChannelsModel" "lastPlace") ∈ lw_all := lw_g (lw_at lw_m6 23 rfl) rfl
theorem q1336 : (Jvm.Cond.laysFinal "QuietChannelsModel" "QuietChannelsModel" "s" "[I") ∈ lw_all := lw_g (lw_at lw_m6 24 rfl) rfl
theorem q1337 : (Jvm.Cond.soleField "QuietChannelsModel" "s") ∈ lw_all := lw_g (lw_at lw_m6 25 rfl) rfl
theorem q1338 : (Jvm.Cond.laysFinal "QuietChannelsModel" "QuietChannelsModel" "kept" "[I") ∈ lw_all := lw_g (lw_at lw_m6 26 rfl) rfl
theorem q1339 : (Jvm.Cond.soleField "QuietChannelsModel" "kept") ∈ lw_all := lw_g (lw_at lw_m6 27 rfl) rfl
theorem q1340 : (Jvm.Cond.laysFinal "QuietChannelsModel" "QuietChannelsModel" "aside" "[I") ∈ lw_all := lw_g (lw_at lw_m6 28 rfl) rfl
theorem q1341 : (Jvm.Cond.soleField "QuietChannelsModel" "aside") ∈ lw_all := lw_g (lw_at lw_m6 29 rfl) rfl
theorem q1342 : (Jvm.Cond.lays "QuietChannelsModel" "QuietChannelsModel" "undoable" "I") ∈ lw_all := lw_g (lw_at lw_m6 30 rfl) rfl
theorem q1343 : (Jvm.Cond.soleField "QuietChannelsModel" "undoable") ∈ lw_all := lw_g (lw_at lw_m6 31 rfl) rfl
theorem q1344 : (Jvm.Cond.lays "QuietChannelsModel" "QuietChannelsModel" "hasImage" "Z") ∈ lw_all := lw_g (lw_at lw_m6 32 rfl) rfl
theorem q1345 : (Jvm.Cond.soleField "QuietChannelsModel" "hasImage") ∈ lw_all := lw_g (lw_at lw_m6 33 rfl) rfl
theorem q1346 : (Jvm.Cond.lays "QuietChannelsModel" "QuietChannelsModel" "band" "I") ∈ lw_all := lw_g (lw_at lw_m6 34 rfl) rfl
theorem q1347 : (Jvm.Cond.soleField "QuietChannelsModel" "band") ∈ lw_all := lw_g (lw_at lw_m6 35 rfl) rfl
theorem q1348 : (Jvm.Cond.lays "QuietChannelsModel" "QuietChannelsModel" "guard" "I") ∈ lw_all := lw_g (lw_at lw_m6 36 rfl) rfl
theorem q1349 : (Jvm.Cond.soleField "QuietChannelsModel" "guard") ∈ lw_all := lw_g (lw_at lw_m6 37 rfl) rfl
theorem q1350 : (Jvm.Cond.lays "QuietChannelsModel" "QuietChannelsModel" "space" "I") ∈ lw_all := lw_g (lw_at lw_m6 38 rfl) rfl
theorem q1351 : (Jvm.Cond.soleField "QuietChannelsModel" "space") ∈ lw_all := lw_g (lw_at lw_m6 39 rfl) rfl
theorem q1352 : (Jvm.Cond.lays "QuietChannelsModel" "QuietChannelsModel" "orders" "I") ∈ lw_all := lw_g (lw_at lw_m6 40 rfl) rfl
theorem q1353 : (Jvm.Cond.soleField "QuietChannelsModel" "orders") ∈ lw_all := lw_g (lw_at lw_m6 41 rfl) rfl
theorem q1354 : (Jvm.Cond.laysFinal "QuietChannelsModel" "QuietChannelsModel" "pSort" "[I") ∈ lw_all := lw_g (lw_at lw_m6 42 rfl) rfl
theorem q1355 : (Jvm.Cond.soleField "QuietChannelsModel" "pSort") ∈ lw_all := lw_g (lw_at lw_m6 43 rfl) rfl
theorem q1356 : (Jvm.Cond.laysFinal "QuietChannelsModel" "QuietChannelsModel" "pA" "[I") ∈ lw_all := lw_g (lw_at lw_m6 44 rfl) rfl
theorem q1357 : (Jvm.Cond.soleField "QuietChannelsModel" "pA") ∈ lw_all := lw_g (lw_at lw_m6 45 rfl) rfl
theorem q1358 : (Jvm.Cond.laysFinal "QuietChannelsModel" "QuietChannelsModel" "pB" "[I") ∈ lw_all := lw_g (lw_at lw_m6 46 rfl) rfl
theorem q1359 : (Jvm.Cond.soleField "QuietChannelsModel" "pB") ∈ lw_all := lw_g (lw_at lw_m6 47 rfl) rfl
theorem q1360 : (Jvm.Cond.laysFinal "QuietChannelsModel" "QuietChannelsModel" "pC" "[I") ∈ lw_all := lw_g (lw_at lw_m6 48 rfl) rfl
theorem q1361 : (Jvm.Cond.soleField "QuietChannelsModel" "pC") ∈ lw_all := lw_g (lw_at lw_m6 49 rfl) rfl
theorem q1362 : (Jvm.Cond.laysFinal "QuietChannelsModel" "QuietChannelsModel" "pChannel" "[I") ∈ lw_all := lw_g (lw_at lw_m6 50 rfl) rfl
theorem q1363 : (Jvm.Cond.soleField "QuietChannelsModel" "pChannel") ∈ lw_all := lw_g (lw_at lw_m6 51 rfl) rfl
theorem q1364 : (Jvm.Cond.laysFinal "QuietChannelsModel" "QuietChannelsModel" "pLevel" "[I") ∈ lw_all := lw_g (lw_at lw_m6 52 rfl) rfl
theorem q1365 : (Jvm.Cond.soleField "QuietChannelsModel" "pLevel") ∈ lw_all := lw_g (lw_at lw_m6 53 rfl) rfl
theorem q1366 : (Jvm.Cond.laysFinal "QuietChannelsModel" "QuietChannelsModel" "pSlots" "[I") ∈ lw_all := lw_g (lw_at lw_m6 54 rfl) rfl
theorem q1367 : (Jvm.Cond.soleField "QuietChannelsModel" "pSlots") ∈ lw_all := lw_g (lw_at lw_m6 55 rfl) rfl
theorem q1368 : (Jvm.Cond.lays "QuietChannelsModel" "QuietChannelsModel" "products" "I") ∈ lw_all := lw_g (lw_at lw_m6 56 rfl) rfl
theorem q1369 : (Jvm.Cond.soleField "QuietChannelsModel" "products") ∈ lw_all := lw_g (lw_at lw_m6 57 rfl) rfl
theorem q1370 : (Jvm.Cond.lays "QuietChannelsModel" "QuietChannelsModel" "looks" "I") ∈ lw_all := lw_g (lw_at lw_m6 58 rfl) rfl
theorem q1371 : (Jvm.Cond.soleField "QuietChannelsModel" "looks") ∈ lw_all := lw_g (lw_at lw_m6 59 rfl) rfl
theorem q1372 : (Jvm.Cond.laysFinal "QuietChannelsModel" "QuietChannelsModel" "row" "[I") ∈ lw_all := lw_g (lw_at lw_m6 60 rfl) rfl
theorem q1373 : (Jvm.Cond.soleField "QuietChannelsModel" "row") ∈ lw_all := lw_g (lw_at lw_m6 61 rfl) rfl
theorem q1374 : (Jvm.Cond.lays "QuietChannelsModel" "QuietChannelsModel" "drawn" "I") ∈ lw_all := lw_g (lw_at lw_m6 62 rfl) rfl
theorem q1375 : (Jvm.Cond.soleField "QuietChannelsModel" "drawn") ∈ lw_all := lw_g (lw_at lw_m6 63 rfl) rfl
theorem q1376 : (Jvm.Cond.laysFinal "QuietChannelsModel" "QuietChannelsModel" "first" "[I") ∈ lw_all := lw_g (lw_at lw_m6 64 rfl) rfl
theorem q1377 : (Jvm.Cond.soleField "QuietChannelsModel" "first") ∈ lw_all := lw_g (lw_at lw_m6 65 rfl) rfl
theorem q1378 : (Jvm.Cond.superclass "QuietChannelsModel" "java/lang/Object") ∈ lw_all := lw_g (lw_at lw_m6 66 rfl) rfl
theorem q1380 : (Jvm.Cond.instanceMethod ({ cls := "QuietChannelsModel", name := "thrown", desc := "()I" } : Jvm.MethodName)) ∈ lw_all := lw_g (lw_at lw_m6 68 rfl) rfl
theorem q1381 : (Jvm.Cond.selects "QuietChannelsModel" ({ cls := "QuietChannelsModel", name := "thrown", desc := "()I" } : Jvm.MethodName) ({ cls := "QuietChannelsModel", name := "thrown", desc := "()I" } : Jvm.MethodName)) ∈ lw_all := lw_g (lw_at lw_m6 69 rfl) rfl
theorem q1382 : (Jvm.Cond.code ({ cls := "QuietChannelsModel", name := "thrown", desc := "()I" } : Jvm.MethodName) prog_10_method_2_code (1 : Nat) (Option.some Jvm.ClassFile.FieldType.int)) ∈ lw_all := lw_g (lw_at lw_m6 70 rfl) rfl
theorem q1384 : (Jvm.Cond.instanceMethod ({ cls := "QuietChannelsModel", name := "feed", desc := "(IIIII)I" } : Jvm.MethodName)) ∈ lw_all := lw_g (lw_at lw_m6 72 rfl) rfl
theorem q1385 : (Jvm.Cond.selects "QuietChannelsModel" ({ cls := "QuietChannelsModel", name := "feed", desc := "(IIIII)I" } : Jvm.MethodName) ({ cls := "QuietChannelsModel", name := "feed", desc := "(IIIII)I" } : Jvm.MethodName)) ∈ lw_all := lw_g (lw_at lw_m6 73 rfl) rfl
theorem q1386 : (Jvm.Cond.code ({ cls := "QuietChannelsModel", name := "feed", desc := "(IIIII)I" } : Jvm.MethodName) prog_10_method_3_code (8 : Nat) (Option.some Jvm.ClassFile.FieldType.int)) ∈ lw_all := lw_g (lw_at lw_m6 74 rfl) rfl
theorem q1388 : (Jvm.Cond.instanceMethod ({ cls := "QuietChannelsModel", name := "text", desc := "(I)I" } : Jvm.MethodName)) ∈ lw_all := lw_g (lw_at lw_m6 76 rfl) rfl
theorem q1389 : (Jvm.Cond.selects "QuietChannelsModel" ({ cls := "QuietChannelsModel", name := "text", desc := "(I)I" } : Jvm.MethodName) ({ cls := "QuietChannelsModel", name := "text", desc := "(I)I" } : Jvm.MethodName)) ∈ lw_all := lw_g (lw_at lw_m6 77 rfl) rfl
theorem q1390 : (Jvm.Cond.code ({ cls := "QuietChannelsModel", name := "text", desc := "(I)I" } : Jvm.MethodName) prog_10_method_30_code (2 : Nat) (Option.some Jvm.ClassFile.FieldType.int)) ∈ lw_all := lw_g (lw_at lw_m6 78 rfl) rfl
theorem q1391 : (Jvm.Cond.methodLink "QuietChannelsModel" (220 : Nat) ({ cls := "QuietChannelsModel", name := "readText", desc := "(I)V" } : Jvm.MethodName)) ∈ lw_all := lw_g (lw_at lw_m6 79 rfl) rfl
theorem q1392 : (Jvm.Cond.privateMethod ({ cls := "QuietChannelsModel", name := "readText", desc := "(I)V" } : Jvm.MethodName)) ∈ lw_tbl := lw_at lw_m6 80 rfl
theorem q1393 : (Jvm.Cond.instanceMethod ({ cls := "QuietChannelsModel", name := "readText", desc := "(I)V" } : Jvm.MethodName)) ∈ lw_all := lw_g (lw_at lw_m6 81 rfl) rfl
theorem q1394 : (Jvm.Cond.code ({ cls := "QuietChannelsModel", name := "readText", desc := "(I)V" } : Jvm.MethodName) prog_10_method_28_code (2 : Nat) (Option.none : Option Jvm.ClassFile.FieldType)) ∈ lw_all := lw_g (lw_at lw_m6 82 rfl) rfl
theorem q1395 : (Jvm.Cond.methodLink "QuietChannelsModel" (152 : Nat) ({ cls := "QuietChannelsModel", name := "token", desc := "()V" } : Jvm.MethodName)) ∈ lw_all := lw_g (lw_at lw_m6 83 rfl) rfl
theorem q1396 : (Jvm.Cond.privateMethod ({ cls := "QuietChannelsModel", name := "token", desc := "()V" } : Jvm.MethodName)) ∈ lw_tbl := lw_at lw_m6 84 rfl
theorem q1397 : (Jvm.Cond.instanceMethod ({ cls := "QuietChannelsModel", name := "token", desc := "()V" } : Jvm.MethodName)) ∈ lw_all := lw_g (lw_at lw_m6 85 rfl) rfl
theorem q1398 : (Jvm.Cond.code ({ cls := "QuietChannelsModel", name := "token", desc := "()V" } : Jvm.MethodName) prog_10_method_7_code (2 : Nat) (Option.none : Option Jvm.ClassFile.FieldType)) ∈ lw_all := lw_g (lw_at lw_m6 86 rfl) rfl
theorem q1399 : (Jvm.Cond.methodLink "QuietChannelsModel" (108 : Nat) ({ cls := "QuietChannelsModel", name := "here", desc := "()I" } : Jvm.MethodName)) ∈ lw_all := lw_g (lw_at lw_m6 87 rfl) rfl
theorem q1400 : (Jvm.Cond.privateMethod ({ cls := "QuietChannelsModel", name := "here", desc := "()I" } : Jvm.MethodName)) ∈ lw_tbl := lw_at lw_m6 88 rfl
theorem q1401 : (Jvm.Cond.instanceMethod ({ cls := "QuietChannelsModel", name := "here", desc := "()I" } : Jvm.MethodName)) ∈ lw_all := lw_g (lw_at lw_m6 89 rfl) rfl
theorem q1402 : (Jvm.Cond.code ({ cls := "QuietChannelsModel", name := "here", desc := "()I" } : Jvm.MethodName) prog_10_method_4_code (1 : Nat) (Option.some Jvm.ClassFile.FieldType.int)) ∈ lw_all := lw_g (lw_at lw_m6 90 rfl) rfl
theorem q1403 : (Jvm.Cond.methodLink "QuietChannelsModel" (118 : Nat) ({ cls := "QuietChannelsModel", name := "isSmall", desc := "(I)Z" } : Jvm.MethodName)) ∈ lw_all := lw_g (lw_at lw_m6 91 rfl) rfl
theorem q1404 : (Jvm.Cond.static ({ cls := "QuietChannelsModel", name := "isSmall", desc := "(I)Z" } : Jvm.MethodName)) ∈ lw_all := lw_g (lw_at lw_m6 92 rfl) rfl
theorem q1405 : (Jvm.Cond.code ({ cls := "QuietChannelsModel", name := "isSmall", desc := "(I)Z" } : Jvm.MethodName) prog_10_method_5_code (1 : Nat) (Option.some Jvm.ClassFile.FieldType.boolean)) ∈ lw_all := lw_g (lw_at lw_m6 93 rfl) rfl
theorem q1406 : (Jvm.Cond.methodLink "QuietChannelsModel" (122 : Nat) ({ cls := "QuietChannelsModel", name := "wordHere", desc := "()I" } : Jvm.MethodName)) ∈ lw_all := lw_g (lw_at lw_m6 94 rfl) rfl
theorem q1407 : (Jvm.Cond.privateMethod ({ cls := "QuietChannelsModel", name := "wordHere", desc := "()I" } : Jvm.MethodName)) ∈ lw_tbl := lw_at lw_m6 95 rfl
theorem q1408 : (Jvm.Cond.instanceMethod ({ cls := "QuietChannelsModel", name := "wordHere", desc := "()I" } : Jvm.MethodName)) ∈ lw_all := lw_g (lw_at lw_m6 96 rfl) rfl
theorem q1409 : (Jvm.Cond.code ({ cls := "QuietChannelsModel", name := "wordHere", desc := "()I" } : Jvm.MethodName) prog_10_method_8_code (4 : Nat) (Option.some Jvm.ClassFile.FieldType.int)) ∈ lw_all := lw_g (lw_at lw_m6 97 rfl) rfl
theorem q1410 : (Jvm.Cond.stringRef "QuietChannelsModel" (135 : Nat) "band guard space orders loss user fixed block link slots seed ") ∈ lw_tbl := lw_at lw_m6 98 rfl
theorem q1411 : (Jvm.Cond.methodLink "QuietChannelsModel" (137 : Nat) ({ cls := "java/lang/String", name := "length", desc := "()I" } : Jvm.MethodName)) ∈ lw_all := lw_g (lw_at lw_m6 99 rfl) rfl
theorem q1412 : (Jvm.Cond.methodLink "QuietChannelsModel" (142 : Nat) ({ cls := "java/lang/String", name := "charAt", desc := "(I)C" } : Jvm.MethodName)) ∈ lw_all := lw_g (lw_at lw_m6 100 rfl) rfl
theorem q1413 : (Jvm.Cond.methodLink "QuietChannelsModel" (128 : Nat) ({ cls := "QuietChannelsModel", name := "nameHere", desc := "()V" } : Jvm.MethodName)) ∈ lw_all := lw_g (lw_at lw_m6 101 rfl) rfl
theorem q1414 : (Jvm.Cond.privateMethod ({ cls := "QuietChannelsModel", name := "nameHere", desc := "()V" } : Jvm.MethodName)) ∈ lw_tbl := lw_at lw_m6 102 rfl
theorem q1415 : (Jvm.Cond.instanceMethod ({ cls := "QuietChannelsModel", name := "nameHere", desc := "()V" } : Jvm.MethodName)) ∈ lw_all := lw_g (lw_at lw_m6 103 rfl) rfl
theorem q1416 : (Jvm.Cond.code ({ cls := "QuietChannelsModel", name := "nameHere", desc := "()V" } : Jvm.MethodName) prog_10_method_9_code (2 : Nat) (Option.none : Option Jvm.ClassFile.FieldType)) ∈ lw_all := lw_g (lw_at lw_m6 104 rfl) rfl
theorem q1417 : (Jvm.Cond.methodLink "QuietChannelsModel" (131 : Nat) ({ cls := "QuietChannelsModel", name := "isDigit", desc := "(I)Z" } : Jvm.MethodName)) ∈ lw_all := lw_g (lw_at lw_m6 105 rfl) rfl
theorem q1418 : (Jvm.Cond.static ({ cls := "QuietChannelsModel", name := "isDigit", desc := "(I)Z" } : Jvm.MethodName)) ∈ lw_all := lw_g (lw_at lw_m6 106 rfl) rfl
theorem q1419 : (Jvm.Cond.code ({ cls := "QuietChannelsModel", name := "isDigit", desc := "(I)Z" } : Jvm.MethodName) prog_10_method_6_code (1 : Nat) (Option.some Jvm.ClassFile.FieldType.boolean)) ∈ lw_all := lw_g (lw_at lw_m6 107 rfl) rfl
theorem q1420 : (Jvm.Cond.constant "QuietChannelsModel" (134 : Nat) (99999 : Int32)) ∈ lw_all := lw_g (lw_at lw_m6 108 rfl) rfl
theorem q1421 : (Jvm.Cond.methodLink "QuietChannelsModel" (217 : Nat) ({ cls := "QuietChannelsModel", name := "readLine", desc := "()V" } : Jvm.MethodName)) ∈ lw_all := lw_g (lw_at lw_m6 109 rfl) rfl
theorem q1422 : (Jvm.Cond.privateMethod ({ cls := "QuietChannelsModel", name := "readLine", desc := "()V" } : Jvm.MethodName)) ∈ lw_tbl := lw_at lw_m6 110 rfl
theorem q1423 : (Jvm.Cond.instanceMethod ({ cls := "QuietChannelsModel", name := "readLine", desc := "()V" } : Jvm.MethodName)) ∈ lw_all := lw_g (lw_at lw_m6 111 rfl) rfl
theorem q1424 : (Jvm.Cond.code ({ cls := "QuietChannelsModel", name := "readLine", desc := "()V" } : Jvm.MethodName) prog_10_method_26_code (1 : Nat) (Option.none : Option Jvm.ClassFile.FieldType)) ∈ lw_all := lw_g (lw_at lw_m6 112 rfl) rfl
theorem q1425 : (Jvm.Cond.methodLink "QuietChannelsModel" (155 : Nat) ({ cls := "QuietChannelsModel", name := "wrong", desc := "(I)V" } : Jvm.MethodName)) ∈ lw_all := lw_g (lw_at lw_m6 113 rfl) rfl
theorem q1426 : (Jvm.Cond.privateMethod ({ cls := "QuietChannelsModel", name := "wrong", desc := "(I)V" } : Jvm.MethodName)) ∈ lw_tbl := lw_at lw_m6 114 rfl
theorem q1427 : (Jvm.Cond.instanceMethod ({ cls := "QuietChannelsModel", name := "wrong", desc := "(I)V" } : Jvm.MethodName)) ∈ lw_all := lw_g (lw_at lw_m6 115 rfl) rfl
theorem q1428 : (Jvm.Cond.code ({ cls := "QuietChannelsModel", name := "wrong", desc := "(I)V" } : Jvm.MethodName) prog_10_method_10_code (2 : Nat) (Option.none : Option Jvm.ClassFile.FieldType)) ∈ lw_all := lw_g (lw_at lw_m6 116 rfl) rfl
theorem q1429 : (Jvm.Cond.methodLink "QuietChannelsModel" (193 : Nat) ({ cls := "QuietChannelsModel", name := "readBand", desc := "()V" } : Jvm.MethodName)) ∈ lw_all := lw_g (lw_at lw_m6 117 rfl) rfl
theorem q1430 : (Jvm.Cond.privateMethod ({ cls := "QuietChannelsModel", name := "readBand", desc := "()V" } : Jvm.MethodName)) ∈ lw_tbl := lw_at lw_m6 118 rfl
theorem q1431 : (Jvm.Cond.instanceMethod ({ cls := "QuietChannelsModel", name := "readBand", desc := "()V" } : Jvm.MethodName)) ∈ lw_all := lw_g (lw_at lw_m6 119 rfl) rfl
theorem q1432 : (Jvm.Cond.code ({ cls := "QuietChannelsModel", name := "readBand", desc := "()V" } : Jvm.MethodName) prog_10_method_18_code (1 : Nat) (Option.none : Option Jvm.ClassFile.FieldType)) ∈ lw_all := lw_g (lw_at lw_m6 120 rfl) rfl
theorem q1433 : (Jvm.Cond.methodLink "QuietChannelsModel" (177 : Nat) ({ cls := "QuietChannelsModel", name := "readOnce", desc := "(IIII)V" } : Jvm.MethodName)) ∈ lw_all := lw_g (lw_at lw_m6 121 rfl) rfl
theorem q1434 : (Jvm.Cond.privateMethod ({ cls := "QuietChannelsModel", name := "readOnce", desc := "(IIII)V" } : Jvm.MethodName)) ∈ lw_tbl := lw_at lw_m6 122 rfl
theorem q1435 : (Jvm.Cond.instanceMethod ({ cls := "QuietChannelsModel", name := "readOnce", desc := "(IIII)V" } : Jvm.MethodName)) ∈ lw_all := lw_g (lw_at lw_m6 123 rfl) rfl
theorem q1436 : (Jvm.Cond.code ({ cls := "QuietChannelsModel", name := "readOnce", desc := "(IIII)V" } : Jvm.MethodName) prog_10_method_16_code (5 : Nat) (Option.none : Option Jvm.ClassFile.FieldType)) ∈ lw_all := lw_g (lw_at lw_m6 124 rfl) rfl
theorem q1437 : (Jvm.Cond.methodLink "QuietChannelsModel" (162 : Nat) ({ cls := "QuietChannelsModel", name := "once", desc := "(I)V" } : Jvm.MethodName)) ∈ lw_all := lw_g (lw_at lw_m6 125 rfl) rfl
theorem q1438 : (Jvm.Cond.privateMethod ({ cls := "QuietChannelsModel", name := "once", desc := "(I)V" } : Jvm.MethodName)) ∈ lw_tbl := lw_at lw_m6 126 rfl
theorem q1439 : (Jvm.Cond.instanceMethod ({ cls := "QuietChannelsModel", name := "once", desc := "(I)V" } : Jvm.MethodName)) ∈ lw_all := lw_g (lw_at lw_m6 127 rfl) rfl
theorem q1440 : (Jvm.Cond.code ({ cls := "QuietChannelsModel", name := "once", desc := "(I)V" } : Jvm.MethodName) prog_10_method_15_code (2 : Nat) (Option.none : Option Jvm.ClassFile.FieldType)) ∈ lw_all := lw_g (lw_at lw_m6 128 rfl) rfl
theorem q1441 : (Jvm.Cond.methodLink "QuietChannelsModel" (159 : Nat) ({ cls := "QuietChannelsModel", name := "goOn", desc := "()V" } : Jvm.MethodName)) ∈ lw_all := lw_g (lw_at lw_m6 129 rfl) rfl
theorem q1442 : (Jvm.Cond.privateMethod ({ cls := "QuietChannelsModel", name := "goOn", desc := "()V" } : Jvm.MethodName)) ∈ lw_tbl := lw_at lw_m6 130 rfl
theorem q1443 : (Jvm.Cond.instanceMethod ({ cls := "QuietChannelsModel", name := "goOn", desc := "()V" } : Jvm.MethodName)) ∈ lw_all := lw_g (lw_at lw_m6 131 rfl) rfl
theorem q1444 : (Jvm.Cond.code ({ cls := "QuietChannelsModel", name := "goOn", desc := "()V" } : Jvm.MethodName) prog_10_method_11_code (1 : Nat) (Option.none : Option Jvm.ClassFile.FieldType)) ∈ lw_all := lw_g (lw_at lw_m6 132 rfl) rfl
theorem q1445 : (Jvm.Cond.methodLink "QuietChannelsModel" (165 : Nat) ({ cls := "QuietChannelsModel", name := "numeral", desc := "(II)I" } : Jvm.MethodName)) ∈ lw_all := lw_g (lw_at lw_m6 133 rfl) rfl
theorem q1446 : (Jvm.Cond.privateMethod ({ cls := "QuietChannelsModel", name := "numeral", desc := "(II)I" } : Jvm.MethodName)) ∈ lw_tbl := lw_at lw_m6 134 rfl
theorem q1447 : (Jvm.Cond.instanceMethod ({ cls := "QuietChannelsModel", name := "numeral", desc := "(II)I" } : Jvm.MethodName)) ∈ lw_all := lw_g (lw_at lw_m6 135 rfl) rfl
theorem q1448 : (Jvm.Cond.code ({ cls := "QuietChannelsModel", name := "numeral", desc := "(II)I" } : Jvm.MethodName) prog_10_method_12_code (4 : Nat) (Option.some Jvm.ClassFile.FieldType.int)) ∈ lw_all := lw_g (lw_at lw_m6 136 rfl) rfl
theorem q1449 : (Jvm.Cond.methodLink "QuietChannelsModel" (196 : Nat) ({ cls := "QuietChannelsModel", name := "readLoss", desc := "()V" } : Jvm.MethodName)) ∈ lw_all := lw_g (lw_at lw_m6 137 rfl) rfl
theorem q1450 : (Jvm.Cond.privateMethod ({ cls := "QuietChannelsModel", name := "readLoss", desc := "()V" } : Jvm.MethodName)) ∈ lw_tbl := lw_at lw_m6 138 rfl
theorem q1451 : (Jvm.Cond.instanceMethod ({ cls := "QuietChannelsModel", name := "readLoss", desc := "()V" } : Jvm.MethodName)) ∈ lw_all := lw_g (lw_at lw_m6 139 rfl) rfl
theorem q1452 : (Jvm.Cond.code ({ cls := "QuietChannelsModel", name := "readLoss", desc := "()V" } : Jvm.MethodName) prog_10_method_19_code (2 : Nat) (Option.none : Option Jvm.ClassFile.FieldType)) ∈ lw_all := lw_g (lw_at lw_m6 140 rfl) rfl
theorem q1453 : (Jvm.Cond.methodLink "QuietChannelsModel" (199 : Nat) ({ cls := "QuietChannelsModel", name := "readUser", desc := "()V" } : Jvm.MethodName)) ∈ lw_all := lw_g (lw_at lw_m6 141 rfl) rfl
theorem q1454 : (Jvm.Cond.privateMethod ({ cls := "QuietChannelsModel", name := "readUser", desc := "()V" } : Jvm.MethodName)) ∈ lw_tbl := lw_at lw_m6 142 rfl
theorem q1455 : (Jvm.Cond.instanceMethod ({ cls := "QuietChannelsModel", name := "readUser", desc := "()V" } : Jvm.MethodName)) ∈ lw_all := lw_g (lw_at lw_m6 143 rfl) rfl
theorem q1456 : (Jvm.Cond.code ({ cls := "QuietChannelsModel", name := "readUser", desc := "()V" } : Jvm.MethodName) prog_10_method_20_code (2 : Nat) (Option.none : Option Jvm.ClassFile.FieldType)) ∈ lw_all := lw_g (lw_at lw_m6 144 rfl) rfl
theorem q1457 : (Jvm.Cond.methodLink "QuietChannelsModel" (185 : Nat) ({ cls := "QuietChannelsModel", name := "namedAt", desc := "(III)I" } : Jvm.MethodName)) ∈ lw_all := lw_g (lw_at lw_m6 145 rfl) rfl
theorem q1458 : (Jvm.Cond.privateMethod ({ cls := "QuietChannelsModel", name := "namedAt", desc := "(III)I" } : Jvm.MethodName)) ∈ lw_tbl := lw_at lw_m6 146 rfl
theorem q1459 : (Jvm.Cond.instanceMethod ({ cls := "QuietChannelsModel", name := "namedAt", desc := "(III)I" } : Jvm.MethodName)) ∈ lw_all := lw_g (lw_at lw_m6 147 rfl) rfl
theorem q1460 : (Jvm.Cond.code ({ cls := "QuietChannelsModel", name := "namedAt", desc := "(III)I" } : Jvm.MethodName) prog_10_method_17_code (5 : Nat) (Option.some Jvm.ClassFile.FieldType.int)) ∈ lw_all := lw_g (lw_at lw_m6 148 rfl) rfl
theorem q1461 : (Jvm.Cond.methodLink "QuietChannelsModel" (202 : Nat) ({ cls := "QuietChannelsModel", name := "readFixed", desc := "()V" } : Jvm.MethodName)) ∈ lw_all := lw_g (lw_at lw_m6 149 rfl) rfl
theorem q1462 : (Jvm.Cond.privateMethod ({ cls := "QuietChannelsModel", name := "readFixed", desc := "()V" } : Jvm.MethodName)) ∈ lw_tbl := lw_at lw_m6 150 rfl
theorem q1463 : (Jvm.Cond.instanceMethod ({ cls := "QuietChannelsModel", name := "readFixed", desc := "()V" } : Jvm.MethodName)) ∈ lw_all := lw_g (lw_at lw_m6 151 rfl) rfl
theorem q1464 : (Jvm.Cond.code ({ cls := "QuietChannelsModel", name := "readFixed", desc := "()V" } : Jvm.MethodName) prog_10_method_22_code (3 : Nat) (Option.none : Option Jvm.ClassFile.FieldType)) ∈ lw_all := lw_g (lw_at lw_m6 152 rfl) rfl
theorem q1465 : (Jvm.Cond.methodLink "QuietChannelsModel" (189 : Nat) ({ cls := "QuietChannelsModel", name := "userOnce", desc := "([I)I" } : Jvm.MethodName)) ∈ lw_all := lw_g (lw_at lw_m6 153 rfl) rfl
theorem q1466 : (Jvm.Cond.privateMethod ({ cls := "QuietChannelsModel", name := "userOnce", desc := "([I)I" } : Jvm.MethodName)) ∈ lw_tbl := lw_at lw_m6 154 rfl
theorem q1467 : (Jvm.Cond.instanceMethod ({ cls := "QuietChannelsModel", name := "userOnce", desc := "([I)I" } : Jvm.MethodName)) ∈ lw_all := lw_g (lw_at lw_m6 155 rfl) rfl
theorem q1468 : (Jvm.Cond.code ({ cls := "QuietChannelsModel", name := "userOnce", desc := "([I)I" } : Jvm.MethodName) prog_10_method_21_code (3 : Nat) (Option.some Jvm.ClassFile.FieldType.int)) ∈ lw_all := lw_g (lw_at lw_m6 156 rfl) rfl
theorem q1469 : (Jvm.Cond.methodLink "QuietChannelsModel" (205 : Nat) ({ cls := "QuietChannelsModel", name := "readBlock", desc := "()V" } : Jvm.MethodName)) ∈ lw_all := lw_g (lw_at lw_m6 157 rfl) rfl
theorem q1470 : (Jvm.Cond.privateMethod ({ cls := "QuietChannelsModel", name := "readBlock", desc := "()V" } : Jvm.MethodName)) ∈ lw_tbl := lw_at lw_m6 158 rfl
theorem q1471 : (Jvm.Cond.instanceMethod ({ cls := "QuietChannelsModel", name := "readBlock", desc := "()V" } : Jvm.MethodName)) ∈ lw_all := lw_g (lw_at lw_m6 159 rfl) rfl
theorem q1472 : (Jvm.Cond.code ({ cls := "QuietChannelsModel", name := "readBlock", desc := "()V" } : Jvm.MethodName) prog_10_method_25_code (4 : Nat) (Option.none : Option Jvm.ClassFile.FieldType)) ∈ lw_all := lw_g (lw_at lw_m6 160 rfl) rfl
theorem q1473 : (Jvm.Cond.methodLink "QuietChannelsModel" (208 : Nat) ({ cls := "QuietChannelsModel", name := "readLink", desc := "()V" } : Jvm.MethodName)) ∈ lw_all := lw_g (lw_at lw_m6 161 rfl) rfl
theorem q1474 : (Jvm.Cond.privateMethod ({ cls := "QuietChannelsModel", name := "readLink", desc := "()V" } : Jvm.MethodName)) ∈ lw_tbl := lw_at lw_m6 162 rfl
theorem q1475 : (Jvm.Cond.instanceMethod ({ cls := "QuietChannelsModel", name := "readLink", desc := "()V" } : Jvm.MethodName)) ∈ lw_all := lw_g (lw_at lw_m6 163 rfl) rfl
theorem q1476 : (Jvm.Cond.code ({ cls := "QuietChannelsModel", name := "readLink", desc := "()V" } : Jvm.MethodName) prog_10_method_24_code (4 : Nat) (Option.none : Option Jvm.ClassFile.FieldType)) ∈ lw_all := lw_g (lw_at lw_m6 164 rfl) rfl
theorem q1477 : (Jvm.Cond.methodLink "QuietChannelsModel" (211 : Nat) ({ cls := "QuietChannelsModel", name := "readSlots", desc := "()V" } : Jvm.MethodName)) ∈ lw_all := lw_g (lw_at lw_m6 165 rfl) rfl
theorem q1478 : (Jvm.Cond.privateMethod ({ cls := "QuietChannelsModel", name := "readSlots", desc := "()V" } : Jvm.MethodName)) ∈ lw_tbl := lw_at lw_m6 166 rfl
theorem q1479 : (Jvm.Cond.instanceMethod ({ cls := "QuietChannelsModel", name := "readSlots", desc := "()V" } : Jvm.MethodName)) ∈ lw_all := lw_g (lw_at lw_m6 167 rfl) rfl
theorem q1480 : (Jvm.Cond.code ({ cls := "QuietChannelsModel", name := "readSlots", desc := "()V" } : Jvm.MethodName) prog_10_method_23_code (3 : Nat) (Option.none : Option Jvm.ClassFile.FieldType)) ∈ lw_all := lw_g (lw_at lw_m6 168 rfl) rfl
theorem q1482 : (Jvm.Cond.instanceMethod ({ cls := "QuietChannelsModel", name := "fault", desc := "(I)I" } : Jvm.MethodName)) ∈ lw_all := lw_g (lw_at lw_m6 170 rfl) rfl
theorem q1483 : (Jvm.Cond.selects "QuietChannelsModel" ({ cls := "QuietChannelsModel", name := "fault", desc := "(I)I" } : Jvm.MethodName) ({ cls := "QuietChannelsModel", name := "fault", desc := "(I)I" } : Jvm.MethodName)) ∈ lw_all := lw_g (lw_at lw_m6 171 rfl) rfl
theorem q1484 : (Jvm.Cond.code ({ cls := "QuietChannelsModel", name := "fault", desc := "(I)I" } : Jvm.MethodName) prog_10_method_31_code (2 : Nat) (Option.some Jvm.ClassFile.FieldType.int)) ∈ lw_all := lw_g (lw_at lw_m6 172 rfl) rfl
theorem q1486 : (Jvm.Cond.instanceMethod ({ cls := "QuietChannelsModel", name := "named", desc := "(I)I" } : Jvm.MethodName)) ∈ lw_all := lw_g (lw_at lw_m6 174 rfl) rfl
theorem q1487 : (Jvm.Cond.selects "QuietChannelsModel" ({ cls := "QuietChannelsModel", name := "named", desc := "(I)I" } : Jvm.MethodName) ({ cls := "QuietChannelsModel", name := "named", desc := "(I)I" } : Jvm.MethodName)) ∈ lw_all := lw_g (lw_at lw_m6 175 rfl) rfl
theorem q1488 : (Jvm.Cond.code ({ cls := "QuietChannelsModel", name := "named", desc := "(I)I" } : Jvm.MethodName) prog_10_method_33_code (2 : Nat) (Option.some Jvm.ClassFile.FieldType.int)) ∈ lw_all := lw_g (lw_at lw_m6 176 rfl) rfl
theorem q1490 : (Jvm.Cond.instanceMethod ({ cls := "QuietChannelsModel", name := "undo", desc := "()I" } : Jvm.MethodName)) ∈ lw_all := lw_g (lw_at lw_m6 178 rfl) rfl
theorem q1491 : (Jvm.Cond.selects "QuietChannelsModel" ({ cls := "QuietChannelsModel", name := "undo", desc := "()I" } : Jvm.MethodName) ({ cls := "QuietChannelsModel", name := "undo", desc := "()I" } : Jvm.MethodName)) ∈ lw_all := lw_g (lw_at lw_m6 179 rfl) rfl
theorem q1492 : (Jvm.Cond.code ({ cls := "QuietChannelsModel", name := "undo", desc := "()I" } : Jvm.MethodName) prog_10_method_41_code (1 : Nat) (Option.some Jvm.ClassFile.FieldType.int)) ∈ lw_all := lw_g (lw_at lw_m6 180 rfl) rfl
theorem q1493 : (Jvm.Cond.methodLink "QuietChannelsModel" (253 : Nat) ({ cls := "QuietChannelsModel", name := "laysBack", desc := "(I)V" } : Jvm.MethodName)) ∈ lw_all := lw_g (lw_at lw_m6 181 rfl) rfl
theorem q1494 : (Jvm.Cond.privateMethod ({ cls := "QuietChannelsModel", name := "laysBack", desc := "(I)V" } : Jvm.MethodName)) ∈ lw_tbl := lw_at lw_m6 182 rfl
theorem q1495 : (Jvm.Cond.instanceMethod ({ cls := "QuietChannelsModel", name := "laysBack", desc := "(I)V" } : Jvm.MethodName)) ∈ lw_all := lw_g (lw_at lw_m6 183 rfl) rfl
theorem q1496 : (Jvm.Cond.code ({ cls := "QuietChannelsModel", name := "laysBack", desc := "(I)V" } : Jvm.MethodName) prog_10_method_37_code (3 : Nat) (Option.none : Option Jvm.ClassFile.FieldType)) ∈ lw_all := lw_g (lw_at lw_m6 184 rfl) rfl
theorem q1498 : (Jvm.Cond.instanceMethod ({ cls := "QuietChannelsModel", name := "keep", desc := "()I" } : Jvm.MethodName)) ∈ lw_all := lw_g (lw_at lw_m6 186 rfl) rfl
theorem q1499 : (Jvm.Cond.selects "QuietChannelsModel" ({ cls := "QuietChannelsModel", name := "keep", desc := "()I" } : Jvm.MethodName) ({ cls := "QuietChannelsModel", name := "keep", desc := "()I" } : Jvm.MethodName)) ∈ lw_all := lw_g (lw_at lw_m6 187 rfl) rfl
theorem q1500 : (Jvm.Cond.code ({ cls := "QuietChannelsModel", name := "keep", desc := "()I" } : Jvm.MethodName) prog_10_method_43_code (1 : Nat) (Option.some Jvm.ClassFile.FieldType.int)) ∈ lw_all := lw_g (lw_at lw_m6 188 rfl) rfl
theorem q1501 : (Jvm.Cond.methodLink "QuietChannelsModel" (250 : Nat) ({ cls := "QuietChannelsModel", name := "lays", desc := "(I)V" } : Jvm.MethodName)) ∈ lw_all := lw_g (lw_at lw_m6 189 rfl) rfl
theorem q1502 : (Jvm.Cond.privateMethod ({ cls := "QuietChannelsModel", name := "lays", desc := "(I)V" } : Jvm.MethodName)) ∈ lw_tbl := lw_at lw_m6 190 rfl
theorem q1503 : (Jvm.Cond.instanceMethod ({ cls := "QuietChannelsModel", name := "lays", desc := "(I)V" } : Jvm.MethodName)) ∈ lw_all := lw_g (lw_at lw_m6 191 rfl) rfl
theorem q1504 : (Jvm.Cond.code ({ cls := "QuietChannelsModel", name := "lays", desc := "(I)V" } : Jvm.MethodName) prog_10_method_36_code (3 : Nat) (Option.none : Option Jvm.ClassFile.FieldType)) ∈ lw_all := lw_g (lw_at lw_m6 192 rfl) rfl
theorem q1505 : (Jvm.Cond.methodLink "QuietChannelsModel" (256 : Nat) ({ cls := "QuietChannelsModel", name := "tuned", desc := "()I" } : Jvm.MethodName)) ∈ lw_all := lw_g (lw_at lw_m6 193 rfl) rfl
theorem q1506 : (Jvm.Cond.privateMethod ({ cls := "QuietChannelsModel", name := "tuned", desc := "()I" } : Jvm.MethodName)) ∈ lw_tbl := lw_at lw_m6 194 rfl
theorem q1507 : (Jvm.Cond.instanceMethod ({ cls := "QuietChannelsModel", name := "tuned", desc := "()I" } : Jvm.MethodName)) ∈ lw_all := lw_g (lw_at lw_m6 195 rfl) rfl
theorem q1508 : (Jvm.Cond.code ({ cls := "QuietChannelsModel", name := "tuned", desc := "()I" } : Jvm.MethodName) prog_10_method_42_code (3 : Nat) (Option.some Jvm.ClassFile.FieldType.int)) ∈ lw_all := lw_g (lw_at lw_m6 196 rfl) rfl
theorem q1510 : (Jvm.Cond.instanceMethod ({ cls := "QuietChannelsModel", name := "back", desc := "()I" } : Jvm.MethodName)) ∈ lw_all := lw_g (lw_at lw_m6 198 rfl) rfl
theorem q1511 : (Jvm.Cond.selects "QuietChannelsModel" ({ cls := "QuietChannelsModel", name := "back", desc := "()I" } : Jvm.MethodName) ({ cls := "QuietChannelsModel", name := "back", desc := "()I" } : Jvm.MethodName)) ∈ lw_all := lw_g (lw_at lw_m6 199 rfl) rfl
theorem q1512 : (Jvm.Cond.code ({ cls := "QuietChannelsModel", name := "back", desc := "()I" } : Jvm.MethodName) prog_10_method_44_code (1 : Nat) (Option.some Jvm.ClassFile.FieldType.int)) ∈ lw_all := lw_g (lw_at lw_m6 200 rfl) rfl
theorem q1514 : (Jvm.Cond.instanceMethod ({ cls := "QuietChannelsModel", name := "tune", desc := "(II)I" } : Jvm.MethodName)) ∈ lw_all := lw_g (lw_at lw_m6 202 rfl) rfl
theorem q1515 : (Jvm.Cond.selects "QuietChannelsModel" ({ cls := "QuietChannelsModel", name := "tune", desc := "(II)I" } : Jvm.MethodName) ({ cls := "QuietChannelsModel", name := "tune", desc := "(II)I" } : Jvm.MethodName)) ∈ lw_all := lw_g (lw_at lw_m6 203 rfl) rfl
theorem q1516 : (Jvm.Cond.code ({ cls := "QuietChannelsModel", name := "tune", desc := "(II)I" } : Jvm.MethodName) prog_10_method_47_code (4 : Nat) (Option.some Jvm.ClassFile.FieldType.int)) ∈ lw_all := lw_g (lw_at lw_m6 204 rfl) rfl
theorem q1517 : (Jvm.Cond.methodLink "QuietChannelsModel" (259 : Nat) ({ cls := "QuietChannelsModel", name := "isUser", desc := "(I)Z" } : Jvm.MethodName)) ∈ lw_all := lw_g (lw_at lw_m6 205 rfl) rfl
theorem q1518 : (Jvm.Cond.privateMethod ({ cls := "QuietChannelsModel", name := "isUser", desc := "(I)Z" } : Jvm.MethodName)) ∈ lw_tbl := lw_at lw_m6 206 rfl
theorem q1519 : (Jvm.Cond.instanceMethod ({ cls := "QuietChannelsModel", name := "isUser", desc := "(I)Z" } : Jvm.MethodName)) ∈ lw_all := lw_g (lw_at lw_m6 207 rfl) rfl
theorem q1520 : (Jvm.Cond.code ({ cls := "QuietChannelsModel", name := "isUser", desc := "(I)Z" } : Jvm.MethodName) prog_10_method_45_code (2 : Nat) (Option.some Jvm.ClassFile.FieldType.boolean)) ∈ lw_all := lw_g (lw_at lw_m6 208 rfl) rfl
theorem q1521 : (Jvm.Cond.methodLink "QuietChannelsModel" (262 : Nat) ({ cls := "QuietChannelsModel", name := "isChannel", desc := "(I)Z" } : Jvm.MethodName)) ∈ lw_all := lw_g (lw_at lw_m6 209 rfl) rfl
theorem q1522 : (Jvm.Cond.privateMethod ({ cls := "QuietChannelsModel", name := "isChannel", desc := "(I)Z" } : Jvm.MethodName)) ∈ lw_tbl := lw_at lw_m6 210 rfl
theorem q1523 : (Jvm.Cond.instanceMethod ({ cls := "QuietChannelsModel", name := "isChannel", desc := "(I)Z" } : Jvm.MethodName)) ∈ lw_all := lw_g (lw_at lw_m6 211 rfl) rfl
theorem q1524 : (Jvm.Cond.code ({ cls := "QuietChannelsModel", name := "isChannel", desc := "(I)Z" } : Jvm.MethodName) prog_10_method_46_code (2 : Nat) (Option.some Jvm.ClassFile.FieldType.boolean)) ∈ lw_all := lw_g (lw_at lw_m6 212 rfl) rfl
theorem q1525 : (Jvm.Cond.methodLink "QuietChannelsModel" (265 : Nat) ({ cls := "QuietChannelsModel", name := "remembers", desc := "()V" } : Jvm.MethodName)) ∈ lw_all := lw_g (lw_at lw_m6 213 rfl) rfl
theorem q1526 : (Jvm.Cond.privateMethod ({ cls := "QuietChannelsModel", name := "remembers", desc := "()V" } : Jvm.MethodName)) ∈ lw_tbl := lw_at lw_m6 214 rfl
theorem q1527 : (Jvm.Cond.instanceMethod ({ cls := "QuietChannelsModel", name := "remembers", desc := "()V" } : Jvm.MethodName)) ∈ lw_all := lw_g (lw_at lw_m6 215 rfl) rfl
theorem q1528 : (Jvm.Cond.code ({ cls := "QuietChannelsModel", name := "remembers", desc := "()V" } : Jvm.MethodName) prog_10_method_40_code (2 : Nat) (Option.none : Option Jvm.ClassFile.FieldType)) ∈ lw_all := lw_g (lw_at lw_m6 216 rfl) rfl
theorem q1530 : (Jvm.Cond.instanceMethod ({ cls := "QuietChannelsModel", name := "block", desc := "(I)I" } : Jvm.MethodName)) ∈ lw_all := lw_g (lw_at lw_m6 218 rfl) rfl
theorem q1531 : (Jvm.Cond.selects "QuietChannelsModel" ({ cls := "QuietChannelsModel", name := "block", desc := "(I)I" } : Jvm.MethodName) ({ cls := "QuietChannelsModel", name := "block", desc := "(I)I" } : Jvm.MethodName)) ∈ lw_all := lw_g (lw_at lw_m6 219 rfl) rfl
theorem q1532 : (Jvm.Cond.code ({ cls := "QuietChannelsModel", name := "block", desc := "(I)I" } : Jvm.MethodName) prog_10_method_48_code (2 : Nat) (Option.some Jvm.ClassFile.FieldType.int)) ∈ lw_all := lw_g (lw_at lw_m6 220 rfl) rfl
theorem q1534 : (Jvm.Cond.instanceMethod ({ cls := "QuietChannelsModel", name := "power", desc := "(II)I" } : Jvm.MethodName)) ∈ lw_all := lw_g (lw_at lw_m6 222 rfl) rfl
theorem q1535 : (Jvm.Cond.selects "QuietChannelsModel" ({ cls := "QuietChannelsModel", name := "power", desc := "(II)I" } : Jvm.MethodName) ({ cls := "QuietChannelsModel", name := "power", desc := "(II)I" } : Jvm.MethodName)) ∈ lw_all := lw_g (lw_at lw_m6 223 rfl) rfl
theorem q1536 : (Jvm.Cond.code ({ cls := "QuietChannelsModel", name := "power", desc := "(II)I" } : Jvm.MethodName) prog_10_method_49_code (4 : Nat) (Option.some Jvm.ClassFile.FieldType.int)) ∈ lw_all := lw_g (lw_at lw_m6 224 rfl) rfl
theorem q1538 : (Jvm.Cond.instanceMethod ({ cls := "QuietChannelsModel", name := "slots", desc := "(II)I" } : Jvm.MethodName)) ∈ lw_all := lw_g (lw_at lw_m6 226 rfl) rfl
theorem q1539 : (Jvm.Cond.selects "QuietChannelsModel" ({ cls := "QuietChannelsModel", name := "slots", desc := "(II)I" } : Jvm.MethodName) ({ cls := "QuietChannelsModel", name := "slots", desc := "(II)I" } : Jvm.MethodName)) ∈ lw_all := lw_g (lw_at lw_m6 227 rfl) rfl
theorem q1540 : (Jvm.Cond.code ({ cls := "QuietChannelsModel", name := "slots", desc := "(II)I" } : Jvm.MethodName) prog_10_method_50_code (4 : Nat) (Option.some Jvm.ClassFile.FieldType.int)) ∈ lw_all := lw_g (lw_at lw_m6 228 rfl) rfl
theorem q1542 : (Jvm.Cond.instanceMethod ({ cls := "QuietChannelsModel", name := "complete", desc := "()I" } : Jvm.MethodName)) ∈ lw_all := lw_g (lw_at lw_m6 230 rfl) rfl
theorem q1543 : (Jvm.Cond.selects "QuietChannelsModel" ({ cls := "QuietChannelsModel", name := "complete", desc := "()I" } : Jvm.MethodName) ({ cls := "QuietChannelsModel", name := "complete", desc := "()I" } : Jvm.MethodName)) ∈ lw_all := lw_g (lw_at lw_m6 231 rfl) rfl
theorem q1544 : (Jvm.Cond.code ({ cls := "QuietChannelsModel", name := "complete", desc := "()I" } : Jvm.MethodName) prog_10_method_79_code (2 : Nat) (Option.some Jvm.ClassFile.FieldType.int)) ∈ lw_all := lw_g (lw_at lw_m6 232 rfl) rfl
theorem q1545 : (Jvm.Cond.methodLink "QuietChannelsModel" (348 : Nat) ({ cls := "QuietChannelsModel", name := "goesAside", desc := "()V" } : Jvm.MethodName)) ∈ lw_all := lw_g (lw_at lw_m6 233 rfl) rfl
theorem q1546 : (Jvm.Cond.privateMethod ({ cls := "QuietChannelsModel", name := "goesAside", desc := "()V" } : Jvm.MethodName)) ∈ lw_tbl := lw_at lw_m6 234 rfl
theorem q1547 : (Jvm.Cond.instanceMethod ({ cls := "QuietChannelsModel", name := "goesAside", desc := "()V" } : Jvm.MethodName)) ∈ lw_all := lw_g (lw_at lw_m6 235 rfl) rfl
theorem q1548 : (Jvm.Cond.code ({ cls := "QuietChannelsModel", name := "goesAside", desc := "()V" } : Jvm.MethodName) prog_10_method_38_code (2 : Nat) (Option.none : Option Jvm.ClassFile.FieldType)) ∈ lw_all := lw_g (lw_at lw_m6 236 rfl) rfl
theorem q1549 : (Jvm.Cond.methodLink "QuietChannelsModel" (351 : Nat) ({ cls := "QuietChannelsModel", name := "withoutChannels", desc := "()I" } : Jvm.MethodName)) ∈ lw_all := lw_g (lw_at lw_m6 237 rfl) rfl
theorem q1550 : (Jvm.Cond.privateMethod ({ cls := "QuietChannelsModel", name := "withoutChannels", desc := "()I" } : Jvm.MethodName)) ∈ lw_tbl := lw_at lw_m6 238 rfl
theorem q1551 : (Jvm.Cond.instanceMethod ({ cls := "QuietChannelsModel", name := "withoutChannels", desc := "()I" } : Jvm.MethodName)) ∈ lw_all := lw_g (lw_at lw_m6 239 rfl) rfl
theorem q1552 : (Jvm.Cond.code ({ cls := "QuietChannelsModel", name := "withoutChannels", desc := "()I" } : Jvm.MethodName) prog_10_method_78_code (3 : Nat) (Option.some Jvm.ClassFile.FieldType.int)) ∈ lw_all := lw_g (lw_at lw_m7 0 rfl) rfl
theorem q1553 : (Jvm.Cond.methodLink "QuietChannelsModel" (354 : Nat) ({ cls := "QuietChannelsModel", name := "searches", desc := "(I)I" } : Jvm.MethodName)) ∈ lw_all := lw_g (lw_at lw_m7 1 rfl) rfl
theorem q1554 : (Jvm.Cond.privateMethod ({ cls := "QuietChannelsModel", name := "searches", desc := "(I)I" } : Jvm.MethodName)) ∈ lw_tbl := lw_at lw_m7 2 rfl
theorem q1555 : (Jvm.Cond.instanceMethod ({ cls := "QuietChannelsModel", name := "searches", desc := "(I)I" } : Jvm.MethodName)) ∈ lw_all := lw_g (lw_at lw_m7 3 rfl) rfl
theorem q1556 : (Jvm.Cond.code ({ cls := "QuietChannelsModel", name := "searches", desc := "(I)I" } : Jvm.MethodName) prog_10_method_73_code (4 : Nat) (Option.some Jvm.ClassFile.FieldType.int)) ∈ lw_all := lw_g (lw_at lw_m7 4 rfl) rfl
theorem q1557 : (Jvm.Cond.methodLink "QuietChannelsModel" (332 : Nat) ({ cls := "QuietChannelsModel", name := "isClean", desc := "()Z" } : Jvm.MethodName)) ∈ lw_all := lw_g (lw_at lw_m7 5 rfl) rfl
theorem q1558 : (Jvm.Cond.privateMethod ({ cls := "QuietChannelsModel", name := "isClean", desc := "()Z" } : Jvm.MethodName)) ∈ lw_tbl := lw_at lw_m7 6 rfl
theorem q1559 : (Jvm.Cond.instanceMethod ({ cls := "QuietChannelsModel", name := "isClean", desc := "()Z" } : Jvm.MethodName)) ∈ lw_all := lw_g (lw_at lw_m7 7 rfl) rfl
theorem q1560 : (Jvm.Cond.code ({ cls := "QuietChannelsModel", name := "isClean", desc := "()Z" } : Jvm.MethodName) prog_10_method_72_code (2 : Nat) (Option.some Jvm.ClassFile.FieldType.boolean)) ∈ lw_all := lw_g (lw_at lw_m7 8 rfl) rfl
theorem q1561 : (Jvm.Cond.methodLink "QuietChannelsModel" (323 : Nat) ({ cls := "QuietChannelsModel", name := "isRight", desc := "(I)Z" } : Jvm.MethodName)) ∈ lw_all := lw_g (lw_at lw_m7 9 rfl) rfl
theorem q1562 : (Jvm.Cond.privateMethod ({ cls := "QuietChannelsModel", name := "isRight", desc := "(I)Z" } : Jvm.MethodName)) ∈ lw_tbl := lw_at lw_m7 10 rfl
theorem q1563 : (Jvm.Cond.instanceMethod ({ cls := "QuietChannelsModel", name := "isRight", desc := "(I)Z" } : Jvm.MethodName)) ∈ lw_all := lw_g (lw_at lw_m7 11 rfl) rfl
theorem q1564 : (Jvm.Cond.code ({ cls := "QuietChannelsModel", name := "isRight", desc := "(I)Z" } : Jvm.MethodName) prog_10_method_71_code (3 : Nat) (Option.some Jvm.ClassFile.FieldType.boolean)) ∈ lw_all := lw_g (lw_at lw_m7 12 rfl) rfl
theorem q1565 : (Jvm.Cond.methodLink "QuietChannelsModel" (320 : Nat) ({ cls := "QuietChannelsModel", name := "highOf", desc := "(I)I" } : Jvm.MethodName)) ∈ lw_all := lw_g (lw_at lw_m7 13 rfl) rfl
theorem q1566 : (Jvm.Cond.privateMethod ({ cls := "QuietChannelsModel", name := "highOf", desc := "(I)I" } : Jvm.MethodName)) ∈ lw_tbl := lw_at lw_m7 14 rfl
theorem q1567 : (Jvm.Cond.instanceMethod ({ cls := "QuietChannelsModel", name := "highOf", desc := "(I)I" } : Jvm.MethodName)) ∈ lw_all := lw_g (lw_at lw_m7 15 rfl) rfl
theorem q1568 : (Jvm.Cond.code ({ cls := "QuietChannelsModel", name := "highOf", desc := "(I)I" } : Jvm.MethodName) prog_10_method_70_code (2 : Nat) (Option.some Jvm.ClassFile.FieldType.int)) ∈ lw_all := lw_g (lw_at lw_m7 16 rfl) rfl
theorem q1569 : (Jvm.Cond.methodLink "QuietChannelsModel" (317 : Nat) ({ cls := "QuietChannelsModel", name := "crowdsOf", desc := "(I)I" } : Jvm.MethodName)) ∈ lw_all := lw_g (lw_at lw_m7 17 rfl) rfl
theorem q1570 : (Jvm.Cond.privateMethod ({ cls := "QuietChannelsModel", name := "crowdsOf", desc := "(I)I" } : Jvm.MethodName)) ∈ lw_tbl := lw_at lw_m7 18 rfl
theorem q1571 : (Jvm.Cond.instanceMethod ({ cls := "QuietChannelsModel", name := "crowdsOf", desc := "(I)I" } : Jvm.MethodName)) ∈ lw_all := lw_g (lw_at lw_m7 19 rfl) rfl
theorem q1572 : (Jvm.Cond.code ({ cls := "QuietChannelsModel", name := "crowdsOf", desc := "(I)I" } : Jvm.MethodName) prog_10_method_68_code (4 : Nat) (Option.some Jvm.ClassFile.FieldType.int)) ∈ lw_all := lw_g (lw_at lw_m7 20 rfl) rfl
theorem q1573 : (Jvm.Cond.methodLink "QuietChannelsModel" (314 : Nat) ({ cls := "QuietChannelsModel", name := "crowd", desc := "(II)Z" } : Jvm.MethodName)) ∈ lw_all := lw_g (lw_at lw_m7 21 rfl) rfl
theorem q1574 : (Jvm.Cond.privateMethod ({ cls := "QuietChannelsModel", name := "crowd", desc := "(II)Z" } : Jvm.MethodName)) ∈ lw_tbl := lw_at lw_m7 22 rfl
theorem q1575 : (Jvm.Cond.instanceMethod ({ cls := "QuietChannelsModel", name := "crowd", desc := "(II)Z" } : Jvm.MethodName)) ∈ lw_all := lw_g (lw_at lw_m7 23 rfl) rfl
theorem q1576 : (Jvm.Cond.code ({ cls := "QuietChannelsModel", name := "crowd", desc := "(II)Z" } : Jvm.MethodName) prog_10_method_67_code (3 : Nat) (Option.some Jvm.ClassFile.FieldType.boolean)) ∈ lw_all := lw_g (lw_at lw_m7 24 rfl) rfl
theorem q1577 : (Jvm.Cond.methodLink "QuietChannelsModel" (274 : Nat) ({ cls := "QuietChannelsModel", name := "without", desc := "(I)I" } : Jvm.MethodName)) ∈ lw_all := lw_g (lw_at lw_m7 25 rfl) rfl
theorem q1578 : (Jvm.Cond.static ({ cls := "QuietChannelsModel", name := "without", desc := "(I)I" } : Jvm.MethodName)) ∈ lw_all := lw_g (lw_at lw_m7 26 rfl) rfl
theorem q1579 : (Jvm.Cond.code ({ cls := "QuietChannelsModel", name := "without", desc := "(I)I" } : Jvm.MethodName) prog_10_method_57_code (1 : Nat) (Option.some Jvm.ClassFile.FieldType.int)) ∈ lw_all := lw_g (lw_at lw_m7 27 rfl) rfl
theorem q1580 : (Jvm.Cond.methodLink "QuietChannelsModel" (326 : Nat) ({ cls := "QuietChannelsModel", name := "laysProducts", desc := "()V" } : Jvm.MethodName)) ∈ lw_all := lw_g (lw_at lw_m7 28 rfl) rfl
theorem q1581 : (Jvm.Cond.privateMethod ({ cls := "QuietChannelsModel", name := "laysProducts", desc := "()V" } : Jvm.MethodName)) ∈ lw_tbl := lw_at lw_m7 29 rfl
theorem q1582 : (Jvm.Cond.instanceMethod ({ cls := "QuietChannelsModel", name := "laysProducts", desc := "()V" } : Jvm.MethodName)) ∈ lw_all := lw_g (lw_at lw_m7 30 rfl) rfl
theorem q1583 : (Jvm.Cond.code ({ cls := "QuietChannelsModel", name := "laysProducts", desc := "()V" } : Jvm.MethodName) prog_10_method_59_code (3 : Nat) (Option.none : Option Jvm.ClassFile.FieldType)) ∈ lw_all := lw_g (lw_at lw_m7 31 rfl) rfl
theorem q1584 : (Jvm.Cond.methodLink "QuietChannelsModel" (286 : Nat) ({ cls := "QuietChannelsModel", name := "bitOf", desc := "(I)I" } : Jvm.MethodName)) ∈ lw_all := lw_g (lw_at lw_m7 32 rfl) rfl
theorem q1585 : (Jvm.Cond.static ({ cls := "QuietChannelsModel", name := "bitOf", desc := "(I)I" } : Jvm.MethodName)) ∈ lw_all := lw_g (lw_at lw_m7 33 rfl) rfl
theorem q1586 : (Jvm.Cond.code ({ cls := "QuietChannelsModel", name := "bitOf", desc := "(I)I" } : Jvm.MethodName) prog_10_method_51_code (1 : Nat) (Option.some Jvm.ClassFile.FieldType.int)) ∈ lw_all := lw_g (lw_at lw_m7 34 rfl) rfl
theorem q1587 : (Jvm.Cond.methodLink "QuietChannelsModel" (289 : Nat) ({ cls := "QuietChannelsModel", name := "laysSort", desc := "(II)V" } : Jvm.MethodName)) ∈ lw_all := lw_g (lw_at lw_m7 35 rfl) rfl
theorem q1588 : (Jvm.Cond.privateMethod ({ cls := "QuietChannelsModel", name := "laysSort", desc := "(II)V" } : Jvm.MethodName)) ∈ lw_tbl := lw_at lw_m7 36 rfl
theorem q1589 : (Jvm.Cond.instanceMethod ({ cls := "QuietChannelsModel", name := "laysSort", desc := "(II)V" } : Jvm.MethodName)) ∈ lw_all := lw_g (lw_at lw_m7 37 rfl) rfl
theorem q1590 : (Jvm.Cond.code ({ cls := "QuietChannelsModel", name := "laysSort", desc := "(II)V" } : Jvm.MethodName) prog_10_method_60_code (7 : Nat) (Option.none : Option Jvm.ClassFile.FieldType)) ∈ lw_all := lw_g (lw_at lw_m7 38 rfl) rfl
theorem q1591 : (Jvm.Cond.methodLink "QuietChannelsModel" (292 : Nat) ({ cls := "QuietChannelsModel", name := "isThere", desc := "(II)Z" } : Jvm.MethodName)) ∈ lw_all := lw_g (lw_at lw_m7 39 rfl) rfl
theorem q1592 : (Jvm.Cond.privateMethod ({ cls := "QuietChannelsModel", name := "isThere", desc := "(II)Z" } : Jvm.MethodName)) ∈ lw_tbl := lw_at lw_m7 40 rfl
theorem q1593 : (Jvm.Cond.instanceMethod ({ cls := "QuietChannelsModel", name := "isThere", desc := "(II)Z" } : Jvm.MethodName)) ∈ lw_all := lw_g (lw_at lw_m7 41 rfl) rfl
theorem q1594 : (Jvm.Cond.code ({ cls := "QuietChannelsModel", name := "isThere", desc := "(II)Z" } : Jvm.MethodName) prog_10_method_53_code (3 : Nat) (Option.some Jvm.ClassFile.FieldType.boolean)) ∈ lw_all := lw_g (lw_at lw_m7 42 rfl) rfl
theorem q1595 : (Jvm.Cond.methodLink "QuietChannelsModel" (296 : Nat) ({ cls := "QuietChannelsModel", name := "adds", desc := "(IIII)V" } : Jvm.MethodName)) ∈ lw_all := lw_g (lw_at lw_m7 43 rfl) rfl
theorem q1596 : (Jvm.Cond.privateMethod ({ cls := "QuietChannelsModel", name := "adds", desc := "(IIII)V" } : Jvm.MethodName)) ∈ lw_tbl := lw_at lw_m7 44 rfl
theorem q1597 : (Jvm.Cond.instanceMethod ({ cls := "QuietChannelsModel", name := "adds", desc := "(IIII)V" } : Jvm.MethodName)) ∈ lw_all := lw_g (lw_at lw_m7 45 rfl) rfl
theorem q1598 : (Jvm.Cond.code ({ cls := "QuietChannelsModel", name := "adds", desc := "(IIII)V" } : Jvm.MethodName) prog_10_method_58_code (8 : Nat) (Option.none : Option Jvm.ClassFile.FieldType)) ∈ lw_all := lw_g (lw_at lw_m7 46 rfl) rfl
theorem q1599 : (Jvm.Cond.methodLink "QuietChannelsModel" (268 : Nat) ({ cls := "QuietChannelsModel", name := "timesA", desc := "(I)I" } : Jvm.MethodName)) ∈ lw_all := lw_g (lw_at lw_m7 47 rfl) rfl
theorem q1600 : (Jvm.Cond.static ({ cls := "QuietChannelsModel", name := "timesA", desc := "(I)I" } : Jvm.MethodName)) ∈ lw_all := lw_g (lw_at lw_m7 48 rfl) rfl
theorem q1601 : (Jvm.Cond.code ({ cls := "QuietChannelsModel", name := "timesA", desc := "(I)I" } : Jvm.MethodName) prog_10_method_54_code (1 : Nat) (Option.some Jvm.ClassFile.FieldType.int)) ∈ lw_all := lw_g (lw_at lw_m7 49 rfl) rfl
theorem q1602 : (Jvm.Cond.methodLink "QuietChannelsModel" (271 : Nat) ({ cls := "QuietChannelsModel", name := "timesB", desc := "(I)I" } : Jvm.MethodName)) ∈ lw_all := lw_g (lw_at lw_m7 50 rfl) rfl
theorem q1603 : (Jvm.Cond.static ({ cls := "QuietChannelsModel", name := "timesB", desc := "(I)I" } : Jvm.MethodName)) ∈ lw_all := lw_g (lw_at lw_m7 51 rfl) rfl
theorem q1604 : (Jvm.Cond.code ({ cls := "QuietChannelsModel", name := "timesB", desc := "(I)I" } : Jvm.MethodName) prog_10_method_55_code (1 : Nat) (Option.some Jvm.ClassFile.FieldType.int)) ∈ lw_all := lw_g (lw_at lw_m7 52 rfl) rfl
theorem q1605 : (Jvm.Cond.methodLink "QuietChannelsModel" (277 : Nat) ({ cls := "QuietChannelsModel", name := "timesC", desc := "(I)I" } : Jvm.MethodName)) ∈ lw_all := lw_g (lw_at lw_m7 53 rfl) rfl
theorem q1606 : (Jvm.Cond.static ({ cls := "QuietChannelsModel", name := "timesC", desc := "(I)I" } : Jvm.MethodName)) ∈ lw_all := lw_g (lw_at lw_m7 54 rfl) rfl
theorem q1607 : (Jvm.Cond.code ({ cls := "QuietChannelsModel", name := "timesC", desc := "(I)I" } : Jvm.MethodName) prog_10_method_56_code (1 : Nat) (Option.some Jvm.ClassFile.FieldType.int)) ∈ lw_all := lw_g (lw_at lw_m7 55 rfl) rfl
theorem q1608 : (Jvm.Cond.methodLink "QuietChannelsModel" (283 : Nat) ({ cls := "QuietChannelsModel", name := "lossOf", desc := "(I)I" } : Jvm.MethodName)) ∈ lw_all := lw_g (lw_at lw_m7 56 rfl) rfl
theorem q1609 : (Jvm.Cond.privateMethod ({ cls := "QuietChannelsModel", name := "lossOf", desc := "(I)I" } : Jvm.MethodName)) ∈ lw_tbl := lw_at lw_m7 57 rfl
theorem q1610 : (Jvm.Cond.instanceMethod ({ cls := "QuietChannelsModel", name := "lossOf", desc := "(I)I" } : Jvm.MethodName)) ∈ lw_all := lw_g (lw_at lw_m7 58 rfl) rfl
theorem q1611 : (Jvm.Cond.code ({ cls := "QuietChannelsModel", name := "lossOf", desc := "(I)I" } : Jvm.MethodName) prog_10_method_52_code (2 : Nat) (Option.some Jvm.ClassFile.FieldType.int)) ∈ lw_all := lw_g (lw_at lw_m7 59 rfl) rfl
theorem q1612 : (Jvm.Cond.methodLink "QuietChannelsModel" (308 : Nat) ({ cls := "QuietChannelsModel", name := "hitsOf", desc := "(I)I" } : Jvm.MethodName)) ∈ lw_all := lw_g (lw_at lw_m7 60 rfl) rfl
theorem q1613 : (Jvm.Cond.privateMethod ({ cls := "QuietChannelsModel", name := "hitsOf", desc := "(I)I" } : Jvm.MethodName)) ∈ lw_tbl := lw_at lw_m7 61 rfl
theorem q1614 : (Jvm.Cond.instanceMethod ({ cls := "QuietChannelsModel", name := "hitsOf", desc := "(I)I" } : Jvm.MethodName)) ∈ lw_all := lw_g (lw_at lw_m7 62 rfl) rfl
theorem q1615 : (Jvm.Cond.code ({ cls := "QuietChannelsModel", name := "hitsOf", desc := "(I)I" } : Jvm.MethodName) prog_10_method_64_code (4 : Nat) (Option.some Jvm.ClassFile.FieldType.int)) ∈ lw_all := lw_g (lw_at lw_m7 63 rfl) rfl
theorem q1616 : (Jvm.Cond.methodLink "QuietChannelsModel" (305 : Nat) ({ cls := "QuietChannelsModel", name := "hits", desc := "(II)Z" } : Jvm.MethodName)) ∈ lw_all := lw_g (lw_at lw_m7 64 rfl) rfl
theorem q1617 : (Jvm.Cond.privateMethod ({ cls := "QuietChannelsModel", name := "hits", desc := "(II)Z" } : Jvm.MethodName)) ∈ lw_tbl := lw_at lw_m7 65 rfl
theorem q1618 : (Jvm.Cond.instanceMethod ({ cls := "QuietChannelsModel", name := "hits", desc := "(II)Z" } : Jvm.MethodName)) ∈ lw_all := lw_g (lw_at lw_m7 66 rfl) rfl
theorem q1619 : (Jvm.Cond.code ({ cls := "QuietChannelsModel", name := "hits", desc := "(II)Z" } : Jvm.MethodName) prog_10_method_62_code (3 : Nat) (Option.some Jvm.ClassFile.FieldType.boolean)) ∈ lw_all := lw_g (lw_at lw_m7 67 rfl) rfl
theorem q1620 : (Jvm.Cond.methodLink "QuietChannelsModel" (299 : Nat) ({ cls := "QuietChannelsModel", name := "mayHit", desc := "(II)Z" } : Jvm.MethodName)) ∈ lw_all := lw_g (lw_at lw_m7 68 rfl) rfl
theorem q1621 : (Jvm.Cond.privateMethod ({ cls := "QuietChannelsModel", name := "mayHit", desc := "(II)Z" } : Jvm.MethodName)) ∈ lw_tbl := lw_at lw_m7 69 rfl
theorem q1622 : (Jvm.Cond.instanceMethod ({ cls := "QuietChannelsModel", name := "mayHit", desc := "(II)Z" } : Jvm.MethodName)) ∈ lw_all := lw_g (lw_at lw_m7 70 rfl) rfl
theorem q1623 : (Jvm.Cond.code ({ cls := "QuietChannelsModel", name := "mayHit", desc := "(II)Z" } : Jvm.MethodName) prog_10_method_63_code (5 : Nat) (Option.some Jvm.ClassFile.FieldType.boolean)) ∈ lw_all := lw_g (lw_at lw_m7 71 rfl) rfl
theorem q1624 : (Jvm.Cond.methodLink "QuietChannelsModel" (302 : Nat) ({ cls := "QuietChannelsModel", name := "isIn", desc := "(II)Z" } : Jvm.MethodName)) ∈ lw_all := lw_g (lw_at lw_m7 72 rfl) rfl
theorem q1625 : (Jvm.Cond.privateMethod ({ cls := "QuietChannelsModel", name := "isIn", desc := "(II)Z" } : Jvm.MethodName)) ∈ lw_tbl := lw_at lw_m7 73 rfl
theorem q1626 : (Jvm.Cond.instanceMethod ({ cls := "QuietChannelsModel", name := "isIn", desc := "(II)Z" } : Jvm.MethodName)) ∈ lw_all := lw_g (lw_at lw_m7 74 rfl) rfl
theorem q1627 : (Jvm.Cond.code ({ cls := "QuietChannelsModel", name := "isIn", desc := "(II)Z" } : Jvm.MethodName) prog_10_method_61_code (3 : Nat) (Option.some Jvm.ClassFile.FieldType.boolean)) ∈ lw_all := lw_g (lw_at lw_m7 75 rfl) rfl
theorem q1628 : (Jvm.Cond.methodLink "QuietChannelsModel" (336 : Nat) ({ cls := "QuietChannelsModel", name := "nextOf", desc := "(II)I" } : Jvm.MethodName)) ∈ lw_all := lw_g (lw_at lw_m7 76 rfl) rfl
theorem q1629 : (Jvm.Cond.privateMethod ({ cls := "QuietChannelsModel", name := "nextOf", desc := "(II)I" } : Jvm.MethodName)) ∈ lw_tbl := lw_at lw_m7 77 rfl
theorem q1630 : (Jvm.Cond.instanceMethod ({ cls := "QuietChannelsModel", name := "nextOf", desc := "(II)I" } : Jvm.MethodName)) ∈ lw_all := lw_g (lw_at lw_m7 78 rfl) rfl
theorem q1631 : (Jvm.Cond.code ({ cls := "QuietChannelsModel", name := "nextOf", desc := "(II)I" } : Jvm.MethodName) prog_10_method_75_code (4 : Nat) (Option.some Jvm.ClassFile.FieldType.int)) ∈ lw_all := lw_g (lw_at lw_m7 79 rfl) rfl
theorem q1632 : (Jvm.Cond.methodLink "QuietChannelsModel" (339 : Nat) ({ cls := "QuietChannelsModel", name := "nextFit", desc := "(I)I" } : Jvm.MethodName)) ∈ lw_all := lw_g (lw_at lw_m7 80 rfl) rfl
theorem q1633 : (Jvm.Cond.privateMethod ({ cls := "QuietChannelsModel", name := "nextFit", desc := "(I)I" } : Jvm.MethodName)) ∈ lw_tbl := lw_at lw_m7 81 rfl
theorem q1634 : (Jvm.Cond.instanceMethod ({ cls := "QuietChannelsModel", name := "nextFit", desc := "(I)I" } : Jvm.MethodName)) ∈ lw_all := lw_g (lw_at lw_m7 82 rfl) rfl
theorem q1635 : (Jvm.Cond.code ({ cls := "QuietChannelsModel", name := "nextFit", desc := "(I)I" } : Jvm.MethodName) prog_10_method_77_code (4 : Nat) (Option.some Jvm.ClassFile.FieldType.int)) ∈ lw_all := lw_g (lw_at lw_m7 83 rfl) rfl
theorem q1636 : (Jvm.Cond.methodLink "QuietChannelsModel" (342 : Nat) ({ cls := "QuietChannelsModel", name := "clears", desc := "(I)V" } : Jvm.MethodName)) ∈ lw_all := lw_g (lw_at lw_m7 84 rfl) rfl
theorem q1637 : (Jvm.Cond.privateMethod ({ cls := "QuietChannelsModel", name := "clears", desc := "(I)V" } : Jvm.MethodName)) ∈ lw_tbl := lw_at lw_m7 85 rfl
theorem q1638 : (Jvm.Cond.instanceMethod ({ cls := "QuietChannelsModel", name := "clears", desc := "(I)V" } : Jvm.MethodName)) ∈ lw_all := lw_g (lw_at lw_m7 86 rfl) rfl
theorem q1639 : (Jvm.Cond.code ({ cls := "QuietChannelsModel", name := "clears", desc := "(I)V" } : Jvm.MethodName) prog_10_method_74_code (3 : Nat) (Option.none : Option Jvm.ClassFile.FieldType)) ∈ lw_all := lw_g (lw_at lw_m7 87 rfl) rfl
theorem q1640 : (Jvm.Cond.methodLink "QuietChannelsModel" (345 : Nat) ({ cls := "QuietChannelsModel", name := "aheadOf", desc := "(II)I" } : Jvm.MethodName)) ∈ lw_all := lw_g (lw_at lw_m7 88 rfl) rfl
theorem q1641 : (Jvm.Cond.privateMethod ({ cls := "QuietChannelsModel", name := "aheadOf", desc := "(II)I" } : Jvm.MethodName)) ∈ lw_tbl := lw_at lw_m7 89 rfl
theorem q1642 : (Jvm.Cond.instanceMethod ({ cls := "QuietChannelsModel", name := "aheadOf", desc := "(II)I" } : Jvm.MethodName)) ∈ lw_all := lw_g (lw_at lw_m7 90 rfl) rfl
theorem q1643 : (Jvm.Cond.code ({ cls := "QuietChannelsModel", name := "aheadOf", desc := "(II)I" } : Jvm.MethodName) prog_10_method_76_code (4 : Nat) (Option.some Jvm.ClassFile.FieldType.int)) ∈ lw_all := lw_g (lw_at lw_m7 91 rfl) rfl
theorem q1644 : (Jvm.Cond.methodLink "QuietChannelsModel" (357 : Nat) ({ cls := "QuietChannelsModel", name := "comesBack", desc := "()V" } : Jvm.MethodName)) ∈ lw_all := lw_g (lw_at lw_m7 92 rfl) rfl
theorem q1645 : (Jvm.Cond.privateMethod ({ cls := "QuietChannelsModel", name := "comesBack", desc := "()V" } : Jvm.MethodName)) ∈ lw_tbl := lw_at lw_m7 93 rfl
theorem q1646 : (Jvm.Cond.instanceMethod ({ cls := "QuietChannelsModel", name := "comesBack", desc := "()V" } : Jvm.MethodName)) ∈ lw_all := lw_g (lw_at lw_m7 94 rfl) rfl
theorem q1647 : (Jvm.Cond.code ({ cls := "QuietChannelsModel", name := "comesBack", desc := "()V" } : Jvm.MethodName) prog_10_method_39_code (2 : Nat) (Option.none : Option Jvm.ClassFile.FieldType)) ∈ lw_all := lw_g (lw_at lw_m7 95 rfl) rfl
theorem q1648 : (Jvm.Cond.methodLink "QuietChannelsModel" (360 : Nat) ({ cls := "QuietChannelsModel", name := "swapsIn", desc := "()V" } : Jvm.MethodName)) ∈ lw_all := lw_g (lw_at lw_m7 96 rfl) rfl
theorem q1649 : (Jvm.Cond.privateMethod ({ cls := "QuietChannelsModel", name := "swapsIn", desc := "()V" } : Jvm.MethodName)) ∈ lw_tbl := lw_at lw_m7 97 rfl
theorem q1650 : (Jvm.Cond.instanceMethod ({ cls := "QuietChannelsModel", name := "swapsIn", desc := "()V" } : Jvm.MethodName)) ∈ lw_all := lw_g (lw_at lw_m7 98 rfl) rfl
theorem q1651 : (Jvm.Cond.code ({ cls := "QuietChannelsModel", name := "swapsIn", desc := "()V" } : Jvm.MethodName) prog_10_method_80_code (3 : Nat) (Option.none : Option Jvm.ClassFile.FieldType)) ∈ lw_all := lw_g (lw_at lw_m7 99 rfl) rfl
theorem q1653 : (Jvm.Cond.instanceMethod ({ cls := "QuietChannelsModel", name := "mend", desc := "()I" } : Jvm.MethodName)) ∈ lw_all := lw_g (lw_at lw_m7 101 rfl) rfl
theorem q1654 : (Jvm.Cond.selects "QuietChannelsModel" ({ cls := "QuietChannelsModel", name := "mend", desc := "()I" } : Jvm.MethodName) ({ cls := "QuietChannelsModel", name := "mend", desc := "()I" } : Jvm.MethodName)) ∈ lw_all := lw_g (lw_at lw_m7 102 rfl) rfl
theorem q1655 : (Jvm.Cond.code ({ cls := "QuietChannelsModel", name := "mend", desc := "()I" } : Jvm.MethodName) prog_10_method_82_code (2 : Nat) (Option.some Jvm.ClassFile.FieldType.int)) ∈ lw_all := lw_g (lw_at lw_m7 103 rfl) rfl
theorem q1656 : (Jvm.Cond.methodLink "QuietChannelsModel" (363 : Nat) ({ cls := "QuietChannelsModel", name := "mends", desc := "()I" } : Jvm.MethodName)) ∈ lw_all := lw_g (lw_at lw_m7 104 rfl) rfl
theorem q1657 : (Jvm.Cond.privateMethod ({ cls := "QuietChannelsModel", name := "mends", desc := "()I" } : Jvm.MethodName)) ∈ lw_tbl := lw_at lw_m7 105 rfl
theorem q1658 : (Jvm.Cond.instanceMethod ({ cls := "QuietChannelsModel", name := "mends", desc := "()I" } : Jvm.MethodName)) ∈ lw_all := lw_g (lw_at lw_m7 106 rfl) rfl
theorem q1659 : (Jvm.Cond.code ({ cls := "QuietChannelsModel", name := "mends", desc := "()I" } : Jvm.MethodName) prog_10_method_81_code (4 : Nat) (Option.some Jvm.ClassFile.FieldType.int)) ∈ lw_all := lw_g (lw_at lw_m7 107 rfl) rfl
theorem q1660 : (Jvm.Cond.methodLink "QuietChannelsModel" (311 : Nat) ({ cls := "QuietChannelsModel", name := "bits", desc := "(I)I" } : Jvm.MethodName)) ∈ lw_all := lw_g (lw_at lw_m7 108 rfl) rfl
theorem q1661 : (Jvm.Cond.static ({ cls := "QuietChannelsModel", name := "bits", desc := "(I)I" } : Jvm.MethodName)) ∈ lw_all := lw_g (lw_at lw_m7 109 rfl) rfl
theorem q1662 : (Jvm.Cond.code ({ cls := "QuietChannelsModel", name := "bits", desc := "(I)I" } : Jvm.MethodName) prog_10_method_65_code (3 : Nat) (Option.some Jvm.ClassFile.FieldType.int)) ∈ lw_all := lw_g (lw_at lw_m7 110 rfl) rfl
theorem q1664 : (Jvm.Cond.instanceMethod ({ cls := "QuietChannelsModel", name := "mended", desc := "()I" } : Jvm.MethodName)) ∈ lw_all := lw_g (lw_at lw_m7 112 rfl) rfl
theorem q1665 : (Jvm.Cond.selects "QuietChannelsModel" ({ cls := "QuietChannelsModel", name := "mended", desc := "()I" } : Jvm.MethodName) ({ cls := "QuietChannelsModel", name := "mended", desc := "()I" } : Jvm.MethodName)) ∈ lw_all := lw_g (lw_at lw_m7 113 rfl) rfl
theorem q1666 : (Jvm.Cond.code ({ cls := "QuietChannelsModel", name := "mended", desc := "()I" } : Jvm.MethodName) prog_10_method_83_code (2 : Nat) (Option.some Jvm.ClassFile.FieldType.int)) ∈ lw_all := lw_g (lw_at lw_m7 114 rfl) rfl
theorem q1668 : (Jvm.Cond.instanceMethod ({ cls := "QuietChannelsModel", name := "planned", desc := "(I)I" } : Jvm.MethodName)) ∈ lw_all := lw_g (lw_at lw_m7 116 rfl) rfl
theorem q1669 : (Jvm.Cond.selects "QuietChannelsModel" ({ cls := "QuietChannelsModel", name := "planned", desc := "(I)I" } : Jvm.MethodName) ({ cls := "QuietChannelsModel", name := "planned", desc := "(I)I" } : Jvm.MethodName)) ∈ lw_all := lw_g (lw_at lw_m7 117 rfl) rfl
theorem q1670 : (Jvm.Cond.code ({ cls := "QuietChannelsModel", name := "planned", desc := "(I)I" } : Jvm.MethodName) prog_10_method_84_code (4 : Nat) (Option.some Jvm.ClassFile.FieldType.int)) ∈ lw_all := lw_g (lw_at lw_m7 118 rfl) rfl
theorem q1672 : (Jvm.Cond.instanceMethod ({ cls := "QuietChannelsModel", name := "leastBand", desc := "()I" } : Jvm.MethodName)) ∈ lw_all := lw_g (lw_at lw_m7 120 rfl) rfl
theorem q1673 : (Jvm.Cond.selects "QuietChannelsModel" ({ cls := "QuietChannelsModel", name := "leastBand", desc := "()I" } : Jvm.MethodName) ({ cls := "QuietChannelsModel", name := "leastBand", desc := "()I" } : Jvm.MethodName)) ∈ lw_all := lw_g (lw_at lw_m7 121 rfl) rfl
theorem q1674 : (Jvm.Cond.code ({ cls := "QuietChannelsModel", name := "leastBand", desc := "()I" } : Jvm.MethodName) prog_10_method_85_code (3 : Nat) (Option.some Jvm.ClassFile.FieldType.int)) ∈ lw_all := lw_g (lw_at lw_m7 122 rfl) rfl
theorem q1676 : (Jvm.Cond.instanceMethod ({ cls := "QuietChannelsModel", name := "grown", desc := "(IIII)I" } : Jvm.MethodName)) ∈ lw_all := lw_g (lw_at lw_m7 124 rfl) rfl
theorem q1677 : (Jvm.Cond.selects "QuietChannelsModel" ({ cls := "QuietChannelsModel", name := "grown", desc := "(IIII)I" } : Jvm.MethodName) ({ cls := "QuietChannelsModel", name := "grown", desc := "(IIII)I" } : Jvm.MethodName)) ∈ lw_all := lw_g (lw_at lw_m7 125 rfl) rfl
theorem q1678 : (Jvm.Cond.code ({ cls := "QuietChannelsModel", name := "grown", desc := "(IIII)I" } : Jvm.MethodName) prog_10_method_89_code (6 : Nat) (Option.some Jvm.ClassFile.FieldType.int)) ∈ lw_all := lw_g (lw_at lw_m7 126 rfl) rfl
theorem q1679 : (Jvm.Cond.methodLink "QuietChannelsModel" (374 : Nat) ({ cls := "QuietChannelsModel", name := "isRowClean", desc := "(IIII)Z" } : Jvm.MethodName)) ∈ lw_all := lw_g (lw_at lw_m7 127 rfl) rfl
theorem q1680 : (Jvm.Cond.privateMethod ({ cls := "QuietChannelsModel", name := "isRowClean", desc := "(IIII)Z" } : Jvm.MethodName)) ∈ lw_tbl := lw_at lw_m7 128 rfl
theorem q1681 : (Jvm.Cond.instanceMethod ({ cls := "QuietChannelsModel", name := "isRowClean", desc := "(IIII)Z" } : Jvm.MethodName)) ∈ lw_all := lw_g (lw_at lw_m7 129 rfl) rfl
theorem q1682 : (Jvm.Cond.code ({ cls := "QuietChannelsModel", name := "isRowClean", desc := "(IIII)Z" } : Jvm.MethodName) prog_10_method_88_code (10 : Nat) (Option.some Jvm.ClassFile.FieldType.boolean)) ∈ lw_all := lw_g (lw_at lw_m7 130 rfl) rfl
theorem q1683 : (Jvm.Cond.methodLink "QuietChannelsModel" (366 : Nat) ({ cls := "QuietChannelsModel", name := "sumOf", desc := "(IIII)I" } : Jvm.MethodName)) ∈ lw_all := lw_g (lw_at lw_m7 131 rfl) rfl
theorem q1684 : (Jvm.Cond.privateMethod ({ cls := "QuietChannelsModel", name := "sumOf", desc := "(IIII)I" } : Jvm.MethodName)) ∈ lw_tbl := lw_at lw_m7 132 rfl
theorem q1685 : (Jvm.Cond.instanceMethod ({ cls := "QuietChannelsModel", name := "sumOf", desc := "(IIII)I" } : Jvm.MethodName)) ∈ lw_all := lw_g (lw_at lw_m7 133 rfl) rfl
theorem q1686 : (Jvm.Cond.code ({ cls := "QuietChannelsModel", name := "sumOf", desc := "(IIII)I" } : Jvm.MethodName) prog_10_method_86_code (5 : Nat) (Option.some Jvm.ClassFile.FieldType.int)) ∈ lw_all := lw_g (lw_at lw_m7 134 rfl) rfl
theorem q1687 : (Jvm.Cond.methodLink "QuietChannelsModel" (370 : Nat) ({ cls := "QuietChannelsModel", name := "hitsRow", desc := "(IIIIII)Z" } : Jvm.MethodName)) ∈ lw_all := lw_g (lw_at lw_m7 135 rfl) rfl
theorem q1688 : (Jvm.Cond.privateMethod ({ cls := "QuietChannelsModel", name := "hitsRow", desc := "(IIIIII)Z" } : Jvm.MethodName)) ∈ lw_tbl := lw_at lw_m7 136 rfl
theorem q1689 : (Jvm.Cond.instanceMethod ({ cls := "QuietChannelsModel", name := "hitsRow", desc := "(IIIIII)Z" } : Jvm.MethodName)) ∈ lw_all := lw_g (lw_at lw_m7 137 rfl) rfl
theorem q1690 : (Jvm.Cond.code ({ cls := "QuietChannelsModel", name := "hitsRow", desc := "(IIIIII)Z" } : Jvm.MethodName) prog_10_method_87_code (8 : Nat) (Option.some Jvm.ClassFile.FieldType.boolean)) ∈ lw_all := lw_g (lw_at lw_m7 138 rfl) rfl
theorem q1692 : (Jvm.Cond.instanceMethod ({ cls := "QuietChannelsModel", name := "user", desc := "(II)I" } : Jvm.MethodName)) ∈ lw_all := lw_g (lw_at lw_m7 140 rfl) rfl
theorem q1693 : (Jvm.Cond.selects "QuietChannelsModel" ({ cls := "QuietChannelsModel", name := "user", desc := "(II)I" } : Jvm.MethodName) ({ cls := "QuietChannelsModel", name := "user", desc := "(II)I" } : Jvm.MethodName)) ∈ lw_all := lw_g (lw_at lw_m7 141 rfl) rfl
theorem q1694 : (Jvm.Cond.code ({ cls := "QuietChannelsModel", name := "user", desc := "(II)I" } : Jvm.MethodName) prog_10_method_90_code (3 : Nat) (Option.some Jvm.ClassFile.FieldType.int)) ∈ lw_all := lw_g (lw_at lw_m7 142 rfl) rfl
theorem q1696 : (Jvm.Cond.instanceMethod ({ cls := "QuietChannelsModel", name := "blocked", desc := "(I)I" } : Jvm.MethodName)) ∈ lw_all := lw_g (lw_at lw_m7 144 rfl) rfl
theorem q1697 : (Jvm.Cond.selects "QuietChannelsModel" ({ cls := "QuietChannelsModel", name := "blocked", desc := "(I)I" } : Jvm.MethodName) ({ cls := "QuietChannelsModel", name := "blocked", desc := "(I)I" } : Jvm.MethodName)) ∈ lw_all := lw_g (lw_at lw_m7 145 rfl) rfl
theorem q1698 : (Jvm.Cond.code ({ cls := "QuietChannelsModel", name := "blocked", desc := "(I)I" } : Jvm.MethodName) prog_10_method_91_code (2 : Nat) (Option.some Jvm.ClassFile.FieldType.int)) ∈ lw_all := lw_g (lw_at lw_m7 146 rfl) rfl
theorem q1700 : (Jvm.Cond.instanceMethod ({ cls := "QuietChannelsModel", name := "products", desc := "(I)I" } : Jvm.MethodName)) ∈ lw_all := lw_g (lw_at lw_m7 148 rfl) rfl
theorem q1701 : (Jvm.Cond.selects "QuietChannelsModel" ({ cls := "QuietChannelsModel", name := "products", desc := "(I)I" } : Jvm.MethodName) ({ cls := "QuietChannelsModel", name := "products", desc := "(I)I" } : Jvm.MethodName)) ∈ lw_all := lw_g (lw_at lw_m7 149 rfl) rfl
theorem q1702 : (Jvm.Cond.code ({ cls := "QuietChannelsModel", name := "products", desc := "(I)I" } : Jvm.MethodName) prog_10_method_92_code (2 : Nat) (Option.some Jvm.ClassFile.FieldType.int)) ∈ lw_all := lw_g (lw_at lw_m7 150 rfl) rfl
theorem q1703 : (Jvm.Cond.methodLink "QuietChannelsModel" (378 : Nat) ({ cls := "QuietChannelsModel", name := "heard", desc := "()I" } : Jvm.MethodName)) ∈ lw_all := lw_g (lw_at lw_m7 151 rfl) rfl
theorem q1704 : (Jvm.Cond.privateMethod ({ cls := "QuietChannelsModel", name := "heard", desc := "()I" } : Jvm.MethodName)) ∈ lw_tbl := lw_at lw_m7 152 rfl
theorem q1705 : (Jvm.Cond.instanceMethod ({ cls := "QuietChannelsModel", name := "heard", desc := "()I" } : Jvm.MethodName)) ∈ lw_all := lw_g (lw_at lw_m7 153 rfl) rfl
theorem q1706 : (Jvm.Cond.code ({ cls := "QuietChannelsModel", name := "heard", desc := "()I" } : Jvm.MethodName) prog_10_method_93_code (3 : Nat) (Option.some Jvm.ClassFile.FieldType.int)) ∈ lw_all := lw_g (lw_at lw_m7 154 rfl) rfl
theorem q1707 : (Jvm.Cond.methodLink "QuietChannelsModel" (381 : Nat) ({ cls := "QuietChannelsModel", name := "allHits", desc := "()I" } : Jvm.MethodName)) ∈ lw_all := lw_g (lw_at lw_m7 155 rfl) rfl
theorem q1708 : (Jvm.Cond.privateMethod ({ cls := "QuietChannelsModel", name := "allHits", desc := "()I" } : Jvm.MethodName)) ∈ lw_tbl := lw_at lw_m7 156 rfl
theorem q1709 : (Jvm.Cond.instanceMethod ({ cls := "QuietChannelsModel", name := "allHits", desc := "()I" } : Jvm.MethodName)) ∈ lw_all := lw_g (lw_at lw_m7 157 rfl) rfl
theorem q1710 : (Jvm.Cond.code ({ cls := "QuietChannelsModel", name := "allHits", desc := "()I" } : Jvm.MethodName) prog_10_method_66_code (3 : Nat) (Option.some Jvm.ClassFile.FieldType.int)) ∈ lw_all := lw_g (lw_at lw_m7 158 rfl) rfl
theorem q1711 : (Jvm.Cond.methodLink "QuietChannelsModel" (384 : Nat) ({ cls := "QuietChannelsModel", name := "allCrowds", desc := "()I" } : Jvm.MethodName)) ∈ lw_all := lw_g (lw_at lw_m7 159 rfl) rfl
theorem q1712 : (Jvm.Cond.privateMethod ({ cls := "QuietChannelsModel", name := "allCrowds", desc := "()I" } : Jvm.MethodName)) ∈ lw_tbl := lw_at lw_m7 160 rfl
theorem q1713 : (Jvm.Cond.instanceMethod ({ cls := "QuietChannelsModel", name := "allCrowds", desc := "()I" } : Jvm.MethodName)) ∈ lw_all := lw_g (lw_at lw_m7 161 rfl) rfl
theorem q1714 : (Jvm.Cond.code ({ cls := "QuietChannelsModel", name := "allCrowds", desc := "()I" } : Jvm.MethodName) prog_10_method_69_code (3 : Nat) (Option.some Jvm.ClassFile.FieldType.int)) ∈ lw_all := lw_g (lw_at lw_m7 162 rfl) rfl
theorem q1716 : (Jvm.Cond.instanceMethod ({ cls := "QuietChannelsModel", name := "product", desc := "(II)I" } : Jvm.MethodName)) ∈ lw_all := lw_g (lw_at lw_m7 164 rfl) rfl
theorem q1717 : (Jvm.Cond.selects "QuietChannelsModel" ({ cls := "QuietChannelsModel", name := "product", desc := "(II)I" } : Jvm.MethodName) ({ cls := "QuietChannelsModel", name := "product", desc := "(II)I" } : Jvm.MethodName)) ∈ lw_all := lw_g (lw_at lw_m7 165 rfl) rfl
theorem q1718 : (Jvm.Cond.code ({ cls := "QuietChannelsModel", name := "product", desc := "(II)I" } : Jvm.MethodName) prog_10_method_94_code (3 : Nat) (Option.some Jvm.ClassFile.FieldType.int)) ∈ lw_all := lw_g (lw_at lw_m7 166 rfl) rfl
theorem q1720 : (Jvm.Cond.instanceMethod ({ cls := "QuietChannelsModel", name := "hits", desc := "(I)I" } : Jvm.MethodName)) ∈ lw_all := lw_g (lw_at lw_m7 168 rfl) rfl
theorem q1721 : (Jvm.Cond.selects "QuietChannelsModel" ({ cls := "QuietChannelsModel", name := "hits", desc := "(I)I" } : Jvm.MethodName) ({ cls := "QuietChannelsModel", name := "hits", desc := "(I)I" } : Jvm.MethodName)) ∈ lw_all := lw_g (lw_at lw_m7 169 rfl) rfl
theorem q1722 : (Jvm.Cond.code ({ cls := "QuietChannelsModel", name := "hits", desc := "(I)I" } : Jvm.MethodName) prog_10_method_95_code (4 : Nat) (Option.some Jvm.ClassFile.FieldType.int)) ∈ lw_all := lw_g (lw_at lw_m7 170 rfl) rfl
theorem q1724 : (Jvm.Cond.instanceMethod ({ cls := "QuietChannelsModel", name := "hitBy", desc := "(II)I" } : Jvm.MethodName)) ∈ lw_all := lw_g (lw_at lw_m7 172 rfl) rfl
theorem q1725 : (Jvm.Cond.selects "QuietChannelsModel" ({ cls := "QuietChannelsModel", name := "hitBy", desc := "(II)I" } : Jvm.MethodName) ({ cls := "QuietChannelsModel", name := "hitBy", desc := "(II)I" } : Jvm.MethodName)) ∈ lw_all := lw_g (lw_at lw_m7 173 rfl) rfl
theorem q1726 : (Jvm.Cond.code ({ cls := "QuietChannelsModel", name := "hitBy", desc := "(II)I" } : Jvm.MethodName) prog_10_method_96_code (5 : Nat) (Option.some Jvm.ClassFile.FieldType.int)) ∈ lw_all := lw_g (lw_at lw_m7 174 rfl) rfl
theorem q1728 : (Jvm.Cond.instanceMethod ({ cls := "QuietChannelsModel", name := "crowds", desc := "(I)I" } : Jvm.MethodName)) ∈ lw_all := lw_g (lw_at lw_m7 176 rfl) rfl
theorem q1729 : (Jvm.Cond.selects "QuietChannelsModel" ({ cls := "QuietChannelsModel", name := "crowds", desc := "(I)I" } : Jvm.MethodName) ({ cls := "QuietChannelsModel", name := "crowds", desc := "(I)I" } : Jvm.MethodName)) ∈ lw_all := lw_g (lw_at lw_m7 177 rfl) rfl
theorem q1730 : (Jvm.Cond.code ({ cls := "QuietChannelsModel", name := "crowds", desc := "(I)I" } : Jvm.MethodName) prog_10_method_97_code (2 : Nat) (Option.some Jvm.ClassFile.FieldType.int)) ∈ lw_all := lw_g (lw_at lw_m7 178 rfl) rfl
theorem q1732 : (Jvm.Cond.instanceMethod ({ cls := "QuietChannelsModel", name := "clean", desc := "()I" } : Jvm.MethodName)) ∈ lw_all := lw_g (lw_at lw_m7 180 rfl) rfl
theorem q1733 : (Jvm.Cond.selects "QuietChannelsModel" ({ cls := "QuietChannelsModel", name := "clean", desc := "()I" } : Jvm.MethodName) ({ cls := "QuietChannelsModel", name := "clean", desc := "()I" } : Jvm.MethodName)) ∈ lw_all := lw_g (lw_at lw_m7 181 rfl) rfl
theorem q1734 : (Jvm.Cond.code ({ cls := "QuietChannelsModel", name := "clean", desc := "()I" } : Jvm.MethodName) prog_10_method_98_code (1 : Nat) (Option.some Jvm.ClassFile.FieldType.int)) ∈ lw_all := lw_g (lw_at lw_m7 182 rfl) rfl
theorem q1736 : (Jvm.Cond.instanceMethod ({ cls := "QuietChannelsModel", name := "fits", desc := "(II)I" } : Jvm.MethodName)) ∈ lw_all := lw_g (lw_at lw_m7 184 rfl) rfl
theorem q1737 : (Jvm.Cond.selects "QuietChannelsModel" ({ cls := "QuietChannelsModel", name := "fits", desc := "(II)I" } : Jvm.MethodName) ({ cls := "QuietChannelsModel", name := "fits", desc := "(II)I" } : Jvm.MethodName)) ∈ lw_all := lw_g (lw_at lw_m7 185 rfl) rfl
theorem q1738 : (Jvm.Cond.code ({ cls := "QuietChannelsModel", name := "fits", desc := "(II)I" } : Jvm.MethodName) prog_10_method_100_code (3 : Nat) (Option.some Jvm.ClassFile.FieldType.int)) ∈ lw_all := lw_g (lw_at lw_m7 186 rfl) rfl
theorem q1739 : (Jvm.Cond.methodLink "QuietChannelsModel" (387 : Nat) ({ cls := "QuietChannelsModel", name := "fitsAt", desc := "(II)Z" } : Jvm.MethodName)) ∈ lw_all := lw_g (lw_at lw_m7 187 rfl) rfl
theorem q1740 : (Jvm.Cond.privateMethod ({ cls := "QuietChannelsModel", name := "fitsAt", desc := "(II)Z" } : Jvm.MethodName)) ∈ lw_tbl := lw_at lw_m7 188 rfl
theorem q1741 : (Jvm.Cond.instanceMethod ({ cls := "QuietChannelsModel", name := "fitsAt", desc := "(II)Z" } : Jvm.MethodName)) ∈ lw_all := lw_g (lw_at lw_m7 189 rfl) rfl
theorem q1742 : (Jvm.Cond.code ({ cls := "QuietChannelsModel", name := "fitsAt", desc := "(II)Z" } : Jvm.MethodName) prog_10_method_99_code (5 : Nat) (Option.some Jvm.ClassFile.FieldType.boolean)) ∈ lw_all := lw_g (lw_at lw_m7 190 rfl) rfl
theorem q1744 : (Jvm.Cond.instanceMethod ({ cls := "QuietChannelsModel", name := "free", desc := "(I)I" } : Jvm.MethodName)) ∈ lw_all := lw_g (lw_at lw_m7 192 rfl) rfl
theorem q1745 : (Jvm.Cond.selects "QuietChannelsModel" ({ cls := "QuietChannelsModel", name := "free", desc := "(I)I" } : Jvm.MethodName) ({ cls := "QuietChannelsModel", name := "free", desc := "(I)I" } : Jvm.MethodName)) ∈ lw_all := lw_g (lw_at lw_m7 193 rfl) rfl
theorem q1746 : (Jvm.Cond.code ({ cls := "QuietChannelsModel", name := "free", desc := "(I)I" } : Jvm.MethodName) prog_10_method_101_code (4 : Nat) (Option.some Jvm.ClassFile.FieldType.int)) ∈ lw_all := lw_g (lw_at lw_m7 194 rfl) rfl
theorem q1748 : (Jvm.Cond.instanceMethod ({ cls := "QuietChannelsModel", name := "freeAt", desc := "(II)I" } : Jvm.MethodName)) ∈ lw_all := lw_g (lw_at lw_m7 196 rfl) rfl
theorem q1749 : (Jvm.Cond.selects "QuietChannelsModel" ({ cls := "QuietChannelsModel", name := "freeAt", desc := "(II)I" } : Jvm.MethodName) ({ cls := "QuietChannelsModel", name := "freeAt", desc := "(II)I" } : Jvm.MethodName)) ∈ lw_all := lw_g (lw_at lw_m7 197 rfl) rfl
theorem q1750 : (Jvm.Cond.code ({ cls := "QuietChannelsModel", name := "freeAt", desc := "(II)I" } : Jvm.MethodName) prog_10_method_102_code (5 : Nat) (Option.some Jvm.ClassFile.FieldType.int)) ∈ lw_all := lw_g (lw_at lw_m7 198 rfl) rfl
theorem q1752 : (Jvm.Cond.instanceMethod ({ cls := "QuietChannelsModel", name := "quietest", desc := "(I)I" } : Jvm.MethodName)) ∈ lw_all := lw_g (lw_at lw_m7 200 rfl) rfl
theorem q1753 : (Jvm.Cond.selects "QuietChannelsModel" ({ cls := "QuietChannelsModel", name := "quietest", desc := "(I)I" } : Jvm.MethodName) ({ cls := "QuietChannelsModel", name := "quietest", desc := "(I)I" } : Jvm.MethodName)) ∈ lw_all := lw_g (lw_at lw_m7 201 rfl) rfl
theorem q1754 : (Jvm.Cond.code ({ cls := "QuietChannelsModel", name := "quietest", desc := "(I)I" } : Jvm.MethodName) prog_10_method_104_code (6 : Nat) (Option.some Jvm.ClassFile.FieldType.int)) ∈ lw_all := lw_g (lw_at lw_m7 202 rfl) rfl
theorem q1755 : (Jvm.Cond.methodLink "QuietChannelsModel" (390 : Nat) ({ cls := "QuietChannelsModel", name := "noiseAt", desc := "(II)I" } : Jvm.MethodName)) ∈ lw_all := lw_g (lw_at lw_m7 203 rfl) rfl
theorem q1756 : (Jvm.Cond.privateMethod ({ cls := "QuietChannelsModel", name := "noiseAt", desc := "(II)I" } : Jvm.MethodName)) ∈ lw_tbl := lw_at lw_m7 204 rfl
theorem q1757 : (Jvm.Cond.instanceMethod ({ cls := "QuietChannelsModel", name := "noiseAt", desc := "(II)I" } : Jvm.MethodName)) ∈ lw_all := lw_g (lw_at lw_m7 205 rfl) rfl
theorem q1758 : (Jvm.Cond.code ({ cls := "QuietChannelsModel", name := "noiseAt", desc := "(II)I" } : Jvm.MethodName) prog_10_method_103_code (5 : Nat) (Option.some Jvm.ClassFile.FieldType.int)) ∈ lw_all := lw_g (lw_at lw_m7 206 rfl) rfl
theorem q1760 : (Jvm.Cond.instanceMethod ({ cls := "QuietChannelsModel", name := "ifTuned", desc := "(II)I" } : Jvm.MethodName)) ∈ lw_all := lw_g (lw_at lw_m7 208 rfl) rfl
theorem q1761 : (Jvm.Cond.selects "QuietChannelsModel" ({ cls := "QuietChannelsModel", name := "ifTuned", desc := "(II)I" } : Jvm.MethodName) ({ cls := "QuietChannelsModel", name := "ifTuned", desc := "(II)I" } : Jvm.MethodName)) ∈ lw_all := lw_g (lw_at lw_m7 209 rfl) rfl
theorem q1762 : (Jvm.Cond.code ({ cls := "QuietChannelsModel", name := "ifTuned", desc := "(II)I" } : Jvm.MethodName) prog_10_method_105_code (3 : Nat) (Option.some Jvm.ClassFile.FieldType.int)) ∈ lw_all := lw_g (lw_at lw_m7 210 rfl) rfl
theorem q1764 : (Jvm.Cond.instanceMethod ({ cls := "QuietChannelsModel", name := "worst", desc := "()I" } : Jvm.MethodName)) ∈ lw_all := lw_g (lw_at lw_m7 212 rfl) rfl
theorem q1765 : (Jvm.Cond.selects "QuietChannelsModel" ({ cls := "QuietChannelsModel", name := "worst", desc := "()I" } : Jvm.MethodName) ({ cls := "QuietChannelsModel", name := "worst", desc := "()I" } : Jvm.MethodName)) ∈ lw_all := lw_g (lw_at lw_m7 213 rfl) rfl
theorem q1766 : (Jvm.Cond.code ({ cls := "QuietChannelsModel", name := "worst", desc := "()I" } : Jvm.MethodName) prog_10_method_108_code (1 : Nat) (Option.some Jvm.ClassFile.FieldType.int)) ∈ lw_all := lw_g (lw_at lw_m7 214 rfl) rfl
theorem q1767 : (Jvm.Cond.methodLink "QuietChannelsModel" (396 : Nat) ({ cls := "QuietChannelsModel", name := "worstNow", desc := "()I" } : Jvm.MethodName)) ∈ lw_all := lw_g (lw_at lw_m7 215 rfl) rfl
theorem q1768 : (Jvm.Cond.privateMethod ({ cls := "QuietChannelsModel", name := "worstNow", desc := "()I" } : Jvm.MethodName)) ∈ lw_tbl := lw_at lw_m7 216 rfl
theorem q1769 : (Jvm.Cond.instanceMethod ({ cls := "QuietChannelsModel", name := "worstNow", desc := "()I" } : Jvm.MethodName)) ∈ lw_all := lw_g (lw_at lw_m7 217 rfl) rfl
theorem q1770 : (Jvm.Cond.code ({ cls := "QuietChannelsModel", name := "worstNow", desc := "()I" } : Jvm.MethodName) prog_10_method_107_code (5 : Nat) (Option.some Jvm.ClassFile.FieldType.int)) ∈ lw_all := lw_g (lw_at lw_m7 218 rfl) rfl
theorem q1771 : (Jvm.Cond.methodLink "QuietChannelsModel" (393 : Nat) ({ cls := "QuietChannelsModel", name := "madeBy", desc := "(I)I" } : Jvm.MethodName)) ∈ lw_all := lw_g (lw_at lw_m7 219 rfl) rfl
theorem q1772 : (Jvm.Cond.privateMethod ({ cls := "QuietChannelsModel", name := "madeBy", desc := "(I)I" } : Jvm.MethodName)) ∈ lw_tbl := lw_at lw_m7 220 rfl
theorem q1773 : (Jvm.Cond.instanceMethod ({ cls := "QuietChannelsModel", name := "madeBy", desc := "(I)I" } : Jvm.MethodName)) ∈ lw_all := lw_g (lw_at lw_m7 221 rfl) rfl
theorem q1774 : (Jvm.Cond.code ({ cls := "QuietChannelsModel", name := "madeBy", desc := "(I)I" } : Jvm.MethodName) prog_10_method_106_code (4 : Nat) (Option.some Jvm.ClassFile.FieldType.int)) ∈ lw_all := lw_g (lw_at lw_m7 222 rfl) rfl
theorem q1776 : (Jvm.Cond.instanceMethod ({ cls := "QuietChannelsModel", name := "rank", desc := "(I)I" } : Jvm.MethodName)) ∈ lw_all := lw_g (lw_at lw_m7 224 rfl) rfl
theorem q1777 : (Jvm.Cond.selects "QuietChannelsModel" ({ cls := "QuietChannelsModel", name := "rank", desc := "(I)I" } : Jvm.MethodName) ({ cls := "QuietChannelsModel", name := "rank", desc := "(I)I" } : Jvm.MethodName)) ∈ lw_all := lw_g (lw_at lw_m7 225 rfl) rfl
theorem q1778 : (Jvm.Cond.code ({ cls := "QuietChannelsModel", name := "rank", desc := "(I)I" } : Jvm.MethodName) prog_10_method_109_code (5 : Nat) (Option.some Jvm.ClassFile.FieldType.int)) ∈ lw_all := lw_g (lw_at lw_m7 226 rfl) rfl
theorem q1780 : (Jvm.Cond.instanceMethod ({ cls := "QuietChannelsModel", name := "bySort", desc := "(II)I" } : Jvm.MethodName)) ∈ lw_all := lw_g (lw_at lw_m7 228 rfl) rfl
theorem q1781 : (Jvm.Cond.selects "QuietChannelsModel" ({ cls := "QuietChannelsModel", name := "bySort", desc := "(II)I" } : Jvm.MethodName) ({ cls := "QuietChannelsModel", name := "bySort", desc := "(II)I" } : Jvm.MethodName)) ∈ lw_all := lw_g (lw_at lw_m7 229 rfl) rfl
theorem q1782 : (Jvm.Cond.code ({ cls := "QuietChannelsModel", name := "bySort", desc := "(II)I" } : Jvm.MethodName) prog_10_method_110_code (5 : Nat) (Option.some Jvm.ClassFile.FieldType.int)) ∈ lw_all := lw_g (lw_at lw_m7 230 rfl) rfl
theorem q1784 : (Jvm.Cond.instanceMethod ({ cls := "QuietChannelsModel", name := "loudest", desc := "()I" } : Jvm.MethodName)) ∈ lw_all := lw_g (lw_at lw_m7 232 rfl) rfl
theorem q1785 : (Jvm.Cond.selects "QuietChannelsModel" ({ cls := "QuietChannelsModel", name := "loudest", desc := "()I" } : Jvm.MethodName) ({ cls := "QuietChannelsModel", name := "loudest", desc := "()I" } : Jvm.MethodName)) ∈ lw_all := lw_g (lw_at lw_m7 233 rfl) rfl
theorem q1786 : (Jvm.Cond.code ({ cls := "QuietChannelsModel", name := "loudest", desc := "()I" } : Jvm.MethodName) prog_10_method_111_code (3 : Nat) (Option.some Jvm.ClassFile.FieldType.int)) ∈ lw_all := lw_g (lw_at lw_m7 234 rfl) rfl
theorem q1788 : (Jvm.Cond.instanceMethod ({ cls := "QuietChannelsModel", name := "turned", desc := "(I)I" } : Jvm.MethodName)) ∈ lw_all := lw_g (lw_at lw_m7 236 rfl) rfl
theorem q1789 : (Jvm.Cond.selects "QuietChannelsModel" ({ cls := "QuietChannelsModel", name := "turned", desc := "(I)I" } : Jvm.MethodName) ({ cls := "QuietChannelsModel", name := "turned", desc := "(I)I" } : Jvm.MethodName)) ∈ lw_all := lw_g (lw_at lw_m7 237 rfl) rfl
theorem q1790 : (Jvm.Cond.code ({ cls := "QuietChannelsModel", name := "turned", desc := "(I)I" } : Jvm.MethodName) prog_10_method_113_code (4 : Nat) (Option.some Jvm.ClassFile.FieldType.int)) ∈ lw_all := lw_g (lw_at lw_m7 238 rfl) rfl
theorem q1791 : (Jvm.Cond.methodLink "QuietChannelsModel" (399 : Nat) ({ cls := "QuietChannelsModel", name := "turnsDown", desc := "()I" } : Jvm.MethodName)) ∈ lw_all := lw_g (lw_at lw_m7 239 rfl) rfl
theorem q1792 : (Jvm.Cond.privateMethod ({ cls := "QuietChannelsModel", name := "turnsDown", desc := "()I" } : Jvm.MethodName)) ∈ lw_tbl := lw_at lw_m8 0 rfl
theorem q1793 : (Jvm.Cond.instanceMethod ({ cls := "QuietChannelsModel", name := "turnsDown", desc := "()I" } : Jvm.MethodName)) ∈ lw_all := lw_g (lw_at lw_m8 1 rfl) rfl
theorem q1794 : (Jvm.Cond.code ({ cls := "QuietChannelsModel", name := "turnsDown", desc := "()I" } : Jvm.MethodName) prog_10_method_112_code (3 : Nat) (Option.some Jvm.ClassFile.FieldType.int)) ∈ lw_all := lw_g (lw_at lw_m8 2 rfl) rfl
theorem q1796 : (Jvm.Cond.instanceMethod ({ cls := "QuietChannelsModel", name := "left", desc := "()I" } : Jvm.MethodName)) ∈ lw_all := lw_g (lw_at lw_m8 4 rfl) rfl
theorem q1797 : (Jvm.Cond.selects "QuietChannelsModel" ({ cls := "QuietChannelsModel", name := "left", desc := "()I" } : Jvm.MethodName) ({ cls := "QuietChannelsModel", name := "left", desc := "()I" } : Jvm.MethodName)) ∈ lw_all := lw_g (lw_at lw_m8 5 rfl) rfl
theorem q1798 : (Jvm.Cond.code ({ cls := "QuietChannelsModel", name := "left", desc := "()I" } : Jvm.MethodName) prog_10_method_114_code (2 : Nat) (Option.some Jvm.ClassFile.FieldType.int)) ∈ lw_all := lw_g (lw_at lw_m8 6 rfl) rfl
theorem q1800 : (Jvm.Cond.instanceMethod ({ cls := "QuietChannelsModel", name := "bestSwap", desc := "()I" } : Jvm.MethodName)) ∈ lw_all := lw_g (lw_at lw_m8 8 rfl) rfl
theorem q1801 : (Jvm.Cond.selects "QuietChannelsModel" ({ cls := "QuietChannelsModel", name := "bestSwap", desc := "()I" } : Jvm.MethodName) ({ cls := "QuietChannelsModel", name := "bestSwap", desc := "()I" } : Jvm.MethodName)) ∈ lw_all := lw_g (lw_at lw_m8 9 rfl) rfl
theorem q1802 : (Jvm.Cond.code ({ cls := "QuietChannelsModel", name := "bestSwap", desc := "()I" } : Jvm.MethodName) prog_10_method_116_code (6 : Nat) (Option.some Jvm.ClassFile.FieldType.int)) ∈ lw_all := lw_g (lw_at lw_m8 10 rfl) rfl
theorem q1803 : (Jvm.Cond.methodLink "QuietChannelsModel" (402 : Nat) ({ cls := "QuietChannelsModel", name := "exchanges", desc := "(II)V" } : Jvm.MethodName)) ∈ lw_all := lw_g (lw_at lw_m8 11 rfl) rfl
theorem q1804 : (Jvm.Cond.privateMethod ({ cls := "QuietChannelsModel", name := "exchanges", desc := "(II)V" } : Jvm.MethodName)) ∈ lw_tbl := lw_at lw_m8 12 rfl
theorem q1805 : (Jvm.Cond.instanceMethod ({ cls := "QuietChannelsModel", name := "exchanges", desc := "(II)V" } : Jvm.MethodName)) ∈ lw_all := lw_g (lw_at lw_m8 13 rfl) rfl
theorem q1806 : (Jvm.Cond.code ({ cls := "QuietChannelsModel", name := "exchanges", desc := "(II)V" } : Jvm.MethodName) prog_10_method_115_code (4 : Nat) (Option.none : Option Jvm.ClassFile.FieldType)) ∈ lw_all := lw_g (lw_at lw_m8 14 rfl) rfl
theorem q1808 : (Jvm.Cond.instanceMethod ({ cls := "QuietChannelsModel", name := "when", desc := "(I)I" } : Jvm.MethodName)) ∈ lw_all := lw_g (lw_at lw_m8 16 rfl) rfl
theorem q1809 : (Jvm.Cond.selects "QuietChannelsModel" ({ cls := "QuietChannelsModel", name := "when", desc := "(I)I" } : Jvm.MethodName) ({ cls := "QuietChannelsModel", name := "when", desc := "(I)I" } : Jvm.MethodName)) ∈ lw_all := lw_g (lw_at lw_m8 17 rfl) rfl
theorem q1810 : (Jvm.Cond.code ({ cls := "QuietChannelsModel", name := "when", desc := "(I)I" } : Jvm.MethodName) prog_10_method_117_code (4 : Nat) (Option.some Jvm.ClassFile.FieldType.int)) ∈ lw_all := lw_g (lw_at lw_m8 18 rfl) rfl
theorem q1812 : (Jvm.Cond.instanceMethod ({ cls := "QuietChannelsModel", name := "linked", desc := "(II)I" } : Jvm.MethodName)) ∈ lw_all := lw_g (lw_at lw_m8 20 rfl) rfl
theorem q1813 : (Jvm.Cond.selects "QuietChannelsModel" ({ cls := "QuietChannelsModel", name := "linked", desc := "(II)I" } : Jvm.MethodName) ({ cls := "QuietChannelsModel", name := "linked", desc := "(II)I" } : Jvm.MethodName)) ∈ lw_all := lw_g (lw_at lw_m8 21 rfl) rfl
theorem q1814 : (Jvm.Cond.code ({ cls := "QuietChannelsModel", name := "linked", desc := "(II)I" } : Jvm.MethodName) prog_10_method_118_code (3 : Nat) (Option.some Jvm.ClassFile.FieldType.int)) ∈ lw_all := lw_g (lw_at lw_m8 22 rfl) rfl
theorem q1816 : (Jvm.Cond.instanceMethod ({ cls := "QuietChannelsModel", name := "clearance", desc := "(I)I" } : Jvm.MethodName)) ∈ lw_all := lw_g (lw_at lw_m8 24 rfl) rfl
theorem q1817 : (Jvm.Cond.selects "QuietChannelsModel" ({ cls := "QuietChannelsModel", name := "clearance", desc := "(I)I" } : Jvm.MethodName) ({ cls := "QuietChannelsModel", name := "clearance", desc := "(I)I" } : Jvm.MethodName)) ∈ lw_all := lw_g (lw_at lw_m8 25 rfl) rfl
theorem q1818 : (Jvm.Cond.code ({ cls := "QuietChannelsModel", name := "clearance", desc := "(I)I" } : Jvm.MethodName) prog_10_method_119_code (5 : Nat) (Option.some Jvm.ClassFile.FieldType.int)) ∈ lw_all := lw_g (lw_at lw_m8 26 rfl) rfl
theorem q1820 : (Jvm.Cond.instanceMethod ({ cls := "QuietChannelsModel", name := "nearest", desc := "(I)I" } : Jvm.MethodName)) ∈ lw_all := lw_g (lw_at lw_m8 28 rfl) rfl
theorem q1821 : (Jvm.Cond.selects "QuietChannelsModel" ({ cls := "QuietChannelsModel", name := "nearest", desc := "(I)I" } : Jvm.MethodName) ({ cls := "QuietChannelsModel", name := "nearest", desc := "(I)I" } : Jvm.MethodName)) ∈ lw_all := lw_g (lw_at lw_m8 29 rfl) rfl
theorem q1822 : (Jvm.Cond.code ({ cls := "QuietChannelsModel", name := "nearest", desc := "(I)I" } : Jvm.MethodName) prog_10_method_120_code (4 : Nat) (Option.some Jvm.ClassFile.FieldType.int)) ∈ lw_all := lw_g (lw_at lw_m8 30 rfl) rfl
theorem q1824 : (Jvm.Cond.instanceMethod ({ cls := "QuietChannelsModel", name := "mostSpace", desc := "()I" } : Jvm.MethodName)) ∈ lw_all := lw_g (lw_at lw_m8 32 rfl) rfl
theorem q1825 : (Jvm.Cond.selects "QuietChannelsModel" ({ cls := "QuietChannelsModel", name := "mostSpace", desc := "()I" } : Jvm.MethodName) ({ cls := "QuietChannelsModel", name := "mostSpace", desc := "()I" } : Jvm.MethodName)) ∈ lw_all := lw_g (lw_at lw_m8 33 rfl) rfl
theorem q1826 : (Jvm.Cond.code ({ cls := "QuietChannelsModel", name := "mostSpace", desc := "()I" } : Jvm.MethodName) prog_10_method_121_code (2 : Nat) (Option.some Jvm.ClassFile.FieldType.int)) ∈ lw_all := lw_g (lw_at lw_m8 34 rfl) rfl
theorem q1828 : (Jvm.Cond.instanceMethod ({ cls := "QuietChannelsModel", name := "spare", desc := "(I)I" } : Jvm.MethodName)) ∈ lw_all := lw_g (lw_at lw_m8 36 rfl) rfl
theorem q1829 : (Jvm.Cond.selects "QuietChannelsModel" ({ cls := "QuietChannelsModel", name := "spare", desc := "(I)I" } : Jvm.MethodName) ({ cls := "QuietChannelsModel", name := "spare", desc := "(I)I" } : Jvm.MethodName)) ∈ lw_all := lw_g (lw_at lw_m8 37 rfl) rfl
theorem q1830 : (Jvm.Cond.code ({ cls := "QuietChannelsModel", name := "spare", desc := "(I)I" } : Jvm.MethodName) prog_10_method_122_code (4 : Nat) (Option.some Jvm.ClassFile.FieldType.int)) ∈ lw_all := lw_g (lw_at lw_m8 38 rfl) rfl
theorem q1832 : (Jvm.Cond.instanceMethod ({ cls := "QuietChannelsModel", name := "mostPower", desc := "(I)I" } : Jvm.MethodName)) ∈ lw_all := lw_g (lw_at lw_m8 40 rfl) rfl
theorem q1833 : (Jvm.Cond.selects "QuietChannelsModel" ({ cls := "QuietChannelsModel", name := "mostPower", desc := "(I)I" } : Jvm.MethodName) ({ cls := "QuietChannelsModel", name := "mostPower", desc := "(I)I" } : Jvm.MethodName)) ∈ lw_all := lw_g (lw_at lw_m8 41 rfl) rfl
theorem q1834 : (Jvm.Cond.code ({ cls := "QuietChannelsModel", name := "mostPower", desc := "(I)I" } : Jvm.MethodName) prog_10_method_124_code (4 : Nat) (Option.some Jvm.ClassFile.FieldType.int)) ∈ lw_all := lw_g (lw_at lw_m8 42 rfl) rfl
theorem q1835 : (Jvm.Cond.methodLink "QuietChannelsModel" (405 : Nat) ({ cls := "QuietChannelsModel", name := "hasHits", desc := "()Z" } : Jvm.MethodName)) ∈ lw_all := lw_g (lw_at lw_m8 43 rfl) rfl
theorem q1836 : (Jvm.Cond.privateMethod ({ cls := "QuietChannelsModel", name := "hasHits", desc := "()Z" } : Jvm.MethodName)) ∈ lw_tbl := lw_at lw_m8 44 rfl
theorem q1837 : (Jvm.Cond.instanceMethod ({ cls := "QuietChannelsModel", name := "hasHits", desc := "()Z" } : Jvm.MethodName)) ∈ lw_all := lw_g (lw_at lw_m8 45 rfl) rfl
theorem q1838 : (Jvm.Cond.code ({ cls := "QuietChannelsModel", name := "hasHits", desc := "()Z" } : Jvm.MethodName) prog_10_method_123_code (1 : Nat) (Option.some Jvm.ClassFile.FieldType.boolean)) ∈ lw_all := lw_g (lw_at lw_m8 46 rfl) rfl
theorem q1840 : (Jvm.Cond.instanceMethod ({ cls := "QuietChannelsModel", name := "mostGuard", desc := "()I" } : Jvm.MethodName)) ∈ lw_all := lw_g (lw_at lw_m8 48 rfl) rfl
theorem q1841 : (Jvm.Cond.selects "QuietChannelsModel" ({ cls := "QuietChannelsModel", name := "mostGuard", desc := "()I" } : Jvm.MethodName) ({ cls := "QuietChannelsModel", name := "mostGuard", desc := "()I" } : Jvm.MethodName)) ∈ lw_all := lw_g (lw_at lw_m8 49 rfl) rfl
theorem q1842 : (Jvm.Cond.code ({ cls := "QuietChannelsModel", name := "mostGuard", desc := "()I" } : Jvm.MethodName) prog_10_method_125_code (2 : Nat) (Option.some Jvm.ClassFile.FieldType.int)) ∈ lw_all := lw_g (lw_at lw_m8 50 rfl) rfl
theorem q1844 : (Jvm.Cond.instanceMethod ({ cls := "QuietChannelsModel", name := "chance", desc := "(III)I" } : Jvm.MethodName)) ∈ lw_all := lw_g (lw_at lw_m8 52 rfl) rfl
theorem q1845 : (Jvm.Cond.selects "QuietChannelsModel" ({ cls := "QuietChannelsModel", name := "chance", desc := "(III)I" } : Jvm.MethodName) ({ cls := "QuietChannelsModel", name := "chance", desc := "(III)I" } : Jvm.MethodName)) ∈ lw_all := lw_g (lw_at lw_m8 53 rfl) rfl
theorem q1846 : (Jvm.Cond.code ({ cls := "QuietChannelsModel", name := "chance", desc := "(III)I" } : Jvm.MethodName) prog_10_method_127_code (8 : Nat) (Option.some Jvm.ClassFile.FieldType.int)) ∈ lw_all := lw_g (lw_at lw_m8 54 rfl) rfl
theorem q1847 : (Jvm.Cond.methodLink "QuietChannelsModel" (413 : Nat) ({ cls := "QuietChannelsModel", name := "draw", desc := "(I)I" } : Jvm.MethodName)) ∈ lw_all := lw_g (lw_at lw_m8 55 rfl) rfl
theorem q1848 : (Jvm.Cond.privateMethod ({ cls := "QuietChannelsModel", name := "draw", desc := "(I)I" } : Jvm.MethodName)) ∈ lw_tbl := lw_at lw_m8 56 rfl
theorem q1849 : (Jvm.Cond.instanceMethod ({ cls := "QuietChannelsModel", name := "draw", desc := "(I)I" } : Jvm.MethodName)) ∈ lw_all := lw_g (lw_at lw_m8 57 rfl) rfl
theorem q1850 : (Jvm.Cond.code ({ cls := "QuietChannelsModel", name := "draw", desc := "(I)I" } : Jvm.MethodName) prog_10_method_126_code (2 : Nat) (Option.some Jvm.ClassFile.FieldType.int)) ∈ lw_all := lw_g (lw_at lw_m8 58 rfl) rfl
theorem q1851 : (Jvm.Cond.constant "QuietChannelsModel" (411 : Nat) (1103515245 : Int32)) ∈ lw_all := lw_g (lw_at lw_m8 59 rfl) rfl
theorem q1852 : (Jvm.Cond.constant "QuietChannelsModel" (412 : Nat) (2147483647 : Int32)) ∈ lw_all := lw_g (lw_at lw_m8 60 rfl) rfl
theorem q1854 : (Jvm.Cond.instanceMethod ({ cls := "QuietChannelsModel", name := "count", desc := "(I)I" } : Jvm.MethodName)) ∈ lw_all := lw_g (lw_at lw_m8 62 rfl) rfl
theorem q1855 : (Jvm.Cond.selects "QuietChannelsModel" ({ cls := "QuietChannelsModel", name := "count", desc := "(I)I" } : Jvm.MethodName) ({ cls := "QuietChannelsModel", name := "count", desc := "(I)I" } : Jvm.MethodName)) ∈ lw_all := lw_g (lw_at lw_m8 63 rfl) rfl
theorem q1856 : (Jvm.Cond.code ({ cls := "QuietChannelsModel", name := "count", desc := "(I)I" } : Jvm.MethodName) prog_10_method_129_code (2 : Nat) (Option.some Jvm.ClassFile.FieldType.int)) ∈ lw_all := lw_g (lw_at lw_m8 64 rfl) rfl
theorem q1857 : (Jvm.Cond.methodLink "QuietChannelsModel" (416 : Nat) ({ cls := "QuietChannelsModel", name := "blockedMany", desc := "()I" } : Jvm.MethodName)) ∈ lw_all := lw_g (lw_at lw_m8 65 rfl) rfl
theorem q1858 : (Jvm.Cond.privateMethod ({ cls := "QuietChannelsModel", name := "blockedMany", desc := "()I" } : Jvm.MethodName)) ∈ lw_tbl := lw_at lw_m8 66 rfl
theorem q1859 : (Jvm.Cond.instanceMethod ({ cls := "QuietChannelsModel", name := "blockedMany", desc := "()I" } : Jvm.MethodName)) ∈ lw_all := lw_g (lw_at lw_m8 67 rfl) rfl
theorem q1860 : (Jvm.Cond.code ({ cls := "QuietChannelsModel", name := "blockedMany", desc := "()I" } : Jvm.MethodName) prog_10_method_128_code (3 : Nat) (Option.some Jvm.ClassFile.FieldType.int)) ∈ lw_all := lw_g (lw_at lw_m8 68 rfl) rfl
theorem q1868 : (Jvm.Cond.castable "QuietChannelsModel" "java/lang/Object") ∈ lw_tbl := lw_at lw_m8 76 rfl
theorem in_X5 : ∀ w ∈ wsX50, w ∈ lw_all := lw_in wsX50 [1286, 1288, 1290, 1292, 1294, 1296, 1298, 1300, 1302, 1304, 1306, 1308, 1310, 1312, 1314, 1316, 1318, 1320, 1322, 1324, 1326, 1328, 1330, 1332, 1334, 1336, 1338, 1340, 1342, 1344, 1346, 1348, 1350, 1352, 1354, 1356, 1358, 1360, 1362, 1364, 1366, 1368, 1370, 1372, 1374, 1376] (by decide +kernel) (by decide +kernel)
