/-! QuietChannels$Reader -/
set_option maxRecDepth 100000
def RX6 : String := "QuietChannels$Reader"
def TX6 : u_T := fun k => match k with
  | 0 => ("QuietChannels$Reader", "size", "I", true)
  | 1 => ("QuietChannels$Reader", "v", "LQuietChannels$Told;", true)
  | 2 => ("QuietChannels$Reader", "at", "I", false)
  | 3 => ("QuietChannels$Reader", "kind", "I", false)
  | 4 => ("QuietChannels$Reader", "which", "I", false)
  | 5 => ("QuietChannels$Reader", "place", "I", false)
  | 6 => ("QuietChannels$Reader", "isBehind", "Z", false)
  | _ => ("QuietChannels$Reader", "this$0", "LQuietChannels;", true)
def tyX6 : Nat → FieldType := fun k => match k with
  | 0 => .int
  | 1 => .object "QuietChannels$Told"
  | 2 => .int
  | 3 => .int
  | 4 => .int
  | 5 => .int
  | 6 => .boolean
  | _ => .object "QuietChannels"
abbrev wsX60 : List Cond := u_ws RX6 TX6 8
theorem nmX6 : ∀ a, a < 8 → ∀ b, b < 8 → a ≠ b → (TX6 a).2.1 ≠ (TX6 b).2.1 := by decide +kernel
theorem tyX6_ok : ∀ k, k < 8 → parseFieldDescriptor (TX6 k).2.2.1 = some (tyX6 k) := by decide +kernel
abbrev cX6_init : ByteArray := prog_5_method_1_code
def yX6_init : MethodName := ⟨RX6, "<init>", "(LQuietChannels;I)V"⟩
def dkwX6_init_0 : List UInt8 := [42, 43, 28, 187, 0, 3, 89, 183, 0, 5, 183, 0, 9, 177]
abbrev dktX6_init_0 : List UInt8 := dkwX6_init_0 ++ []
theorem dksX6_init_0 : cX6_init.data.toList.drop 0 = dktX6_init_0 := by decide +kernel
theorem dX6_init_0 : decode cX6_init 0 = .ok (.aload_n 0, 1) := dk_42 (dk_at dksX6_init_0 0 rfl rfl)
theorem dX6_init_1 : decode cX6_init 1 = .ok (.aload_n 1, 1) := dk_43 (dk_at dksX6_init_0 1 rfl rfl)
theorem dX6_init_2 : decode cX6_init 2 = .ok (.iload_n 2, 1) := dk_28 (dk_at dksX6_init_0 2 rfl rfl)
theorem dX6_init_3 : decode cX6_init 3 = .ok (.new 3, 3) := dk_187 0 3 (dk_at dksX6_init_0 3 rfl rfl)
theorem dX6_init_6 : decode cX6_init 6 = .ok (.dup, 1) := dk_89 (dk_at dksX6_init_0 6 rfl rfl)
theorem dX6_init_7 : decode cX6_init 7 = .ok (.invokespecial 5, 3) := dk_183 0 5 (dk_at dksX6_init_0 7 rfl rfl)
theorem dX6_init_10 : decode cX6_init 10 = .ok (.invokespecial 9, 3) := dk_183 0 9 (dk_at dksX6_init_0 10 rfl rfl)
theorem dX6_init_13 : decode cX6_init 13 = .ok (.return_, 1) := dk_177 (dk_at dksX6_init_0 13 rfl rfl)
abbrev cX6_init_2 : ByteArray := prog_5_method_2_code
def yX6_init_2 : MethodName := ⟨RX6, "<init>", "(LQuietChannels;ILQuietChannels$Told;)V"⟩
def dkwX6_init_2_0 : List UInt8 := [42, 43, 181, 0, 14, 42, 183, 0, 18, 42, 28, 181, 0, 21, 42, 45, 181, 0, 25, 42, 182, 0, 29, 177]
abbrev dktX6_init_2_0 : List UInt8 := dkwX6_init_2_0 ++ []
theorem dksX6_init_2_0 : cX6_init_2.data.toList.drop 0 = dktX6_init_2_0 := by decide +kernel
theorem dX6_init_2_0 : decode cX6_init_2 0 = .ok (.aload_n 0, 1) := dk_42 (dk_at dksX6_init_2_0 0 rfl rfl)
theorem dX6_init_2_1 : decode cX6_init_2 1 = .ok (.aload_n 1, 1) := dk_43 (dk_at dksX6_init_2_0 1 rfl rfl)
theorem dX6_init_2_2 : decode cX6_init_2 2 = .ok (.putfield 14, 3) := dk_181 0 14 (dk_at dksX6_init_2_0 2 rfl rfl)
theorem dX6_init_2_5 : decode cX6_init_2 5 = .ok (.aload_n 0, 1) := dk_42 (dk_at dksX6_init_2_0 5 rfl rfl)
theorem dX6_init_2_6 : decode cX6_init_2 6 = .ok (.invokespecial 18, 3) := dk_183 0 18 (dk_at dksX6_init_2_0 6 rfl rfl)
theorem dX6_init_2_9 : decode cX6_init_2 9 = .ok (.aload_n 0, 1) := dk_42 (dk_at dksX6_init_2_0 9 rfl rfl)
theorem dX6_init_2_10 : decode cX6_init_2 10 = .ok (.iload_n 2, 1) := dk_28 (dk_at dksX6_init_2_0 10 rfl rfl)
theorem dX6_init_2_11 : decode cX6_init_2 11 = .ok (.putfield 21, 3) := dk_181 0 21 (dk_at dksX6_init_2_0 11 rfl rfl)
theorem dX6_init_2_14 : decode cX6_init_2 14 = .ok (.aload_n 0, 1) := dk_42 (dk_at dksX6_init_2_0 14 rfl rfl)
theorem dX6_init_2_15 : decode cX6_init_2 15 = .ok (.aload_n 3, 1) := dk_45 (dk_at dksX6_init_2_0 15 rfl rfl)
theorem dX6_init_2_16 : decode cX6_init_2 16 = .ok (.putfield 25, 3) := dk_181 0 25 (dk_at dksX6_init_2_0 16 rfl rfl)
theorem dX6_init_2_19 : decode cX6_init_2 19 = .ok (.aload_n 0, 1) := dk_42 (dk_at dksX6_init_2_0 19 rfl rfl)
theorem dX6_init_2_20 : decode cX6_init_2 20 = .ok (.invokevirtual 29, 3) := dk_182 0 29 (dk_at dksX6_init_2_0 20 rfl rfl)
theorem dX6_init_2_23 : decode cX6_init_2 23 = .ok (.return_, 1) := dk_177 (dk_at dksX6_init_2_0 23 rfl rfl)
abbrev cX6_take : ByteArray := prog_5_method_6_code
def yX6_take : MethodName := ⟨RX6, "take", "()V"⟩
def dkwX6_take_8 : List UInt8 := [181, 0, 44, 177]
abbrev dktX6_take_8 : List UInt8 := dkwX6_take_8 ++ []
def dkwX6_take_7 : List UInt8 := [182, 0, 36, 16, 59, 160, 0, 7, 7, 167, 0, 4, 8, 181, 0, 50, 42, 89, 180, 0, 44, 4, 96]
abbrev dktX6_take_7 : List UInt8 := dkwX6_take_7 ++ dktX6_take_8
def dkwX6_take_6 : List UInt8 := [181, 0, 63, 42, 89, 180, 0, 44, 4, 96, 181, 0, 44, 167, 255, 207, 42, 42, 42, 180, 0, 44]
abbrev dktX6_take_6 : List UInt8 := dkwX6_take_6 ++ dktX6_take_7
def dkwX6_take_5 : List UInt8 := [42, 180, 0, 63, 104, 42, 42, 180, 0, 44, 182, 0, 36, 96, 16, 48, 100, 18, 66, 184, 0, 67]
abbrev dktX6_take_5 : List UInt8 := dkwX6_take_5 ++ dktX6_take_6
def dkwX6_take_4 : List UInt8 := [42, 6, 181, 0, 50, 42, 3, 181, 0, 63, 42, 42, 180, 0, 44, 182, 0, 60, 153, 0, 76, 42, 16, 10]
abbrev dktX6_take_4 : List UInt8 := dkwX6_take_4 ++ dktX6_take_5
def dkwX6_take_3 : List UInt8 := [182, 0, 53, 153, 0, 10, 42, 182, 0, 57, 167, 0, 108, 42, 42, 180, 0, 44, 182, 0, 60, 153, 0, 65]
abbrev dktX6_take_3 : List UInt8 := dkwX6_take_3 ++ dktX6_take_4
def dkwX6_take_2 : List UInt8 := [42, 180, 0, 44, 42, 180, 0, 21, 161, 0, 11, 42, 3, 181, 0, 50, 167, 0, 126, 42, 42, 180, 0, 44]
abbrev dktX6_take_2 : List UInt8 := dkwX6_take_2 ++ dktX6_take_3
def dkwX6_take_1 : List UInt8 := [160, 0, 16, 42, 89, 180, 0, 44, 4, 96, 181, 0, 44, 167, 255, 220, 42, 42, 180, 0, 44, 181, 0, 47]
abbrev dktX6_take_1 : List UInt8 := dkwX6_take_1 ++ dktX6_take_2
def dkwX6_take_0 : List UInt8 := [42, 42, 180, 0, 44, 182, 0, 36, 16, 10, 159, 0, 16, 42, 42, 180, 0, 44, 182, 0, 36, 16, 32]
abbrev dktX6_take_0 : List UInt8 := dkwX6_take_0 ++ dktX6_take_1
theorem dksX6_take_0 : cX6_take.data.toList.drop 0 = dktX6_take_0 := by decide +kernel
theorem dksX6_take_1 : cX6_take.data.toList.drop 23 = dktX6_take_1 := dk_seg dksX6_take_0 23 rfl rfl
theorem dksX6_take_2 : cX6_take.data.toList.drop 47 = dktX6_take_2 := dk_seg dksX6_take_1 24 rfl rfl
theorem dksX6_take_3 : cX6_take.data.toList.drop 71 = dktX6_take_3 := dk_seg dksX6_take_2 24 rfl rfl
theorem dksX6_take_4 : cX6_take.data.toList.drop 95 = dktX6_take_4 := dk_seg dksX6_take_3 24 rfl rfl
theorem dksX6_take_5 : cX6_take.data.toList.drop 119 = dktX6_take_5 := dk_seg dksX6_take_4 24 rfl rfl
theorem dksX6_take_6 : cX6_take.data.toList.drop 141 = dktX6_take_6 := dk_seg dksX6_take_5 22 rfl rfl
theorem dksX6_take_7 : cX6_take.data.toList.drop 163 = dktX6_take_7 := dk_seg dksX6_take_6 22 rfl rfl
theorem dksX6_take_8 : cX6_take.data.toList.drop 186 = dktX6_take_8 := dk_seg dksX6_take_7 23 rfl rfl
theorem dX6_take_0 : decode cX6_take 0 = .ok (.aload_n 0, 1) := dk_42 (dk_at dksX6_take_0 0 rfl rfl)
theorem dX6_take_1 : decode cX6_take 1 = .ok (.aload_n 0, 1) := dk_42 (dk_at dksX6_take_0 1 rfl rfl)
theorem dX6_take_2 : decode cX6_take 2 = .ok (.getfield 44, 3) := dk_180 0 44 (dk_at dksX6_take_0 2 rfl rfl)
theorem dX6_take_5 : decode cX6_take 5 = .ok (.invokevirtual 36, 3) := dk_182 0 36 (dk_at dksX6_take_0 5 rfl rfl)
theorem dX6_take_8 : decode cX6_take 8 = .ok (.bipush 10, 2) := dk_16 10 (dk_at dksX6_take_0 8 rfl rfl)
theorem dX6_take_10 : decode cX6_take 10 = .ok (.if_icmp .eq 16, 3) := dk_159 0 16 (dk_at dksX6_take_0 10 rfl rfl)
theorem dX6_take_13 : decode cX6_take 13 = .ok (.aload_n 0, 1) := dk_42 (dk_at dksX6_take_0 13 rfl rfl)
theorem dX6_take_14 : decode cX6_take 14 = .ok (.aload_n 0, 1) := dk_42 (dk_at dksX6_take_0 14 rfl rfl)
theorem dX6_take_15 : decode cX6_take 15 = .ok (.getfield 44, 3) := dk_180 0 44 (dk_at dksX6_take_0 15 rfl rfl)
theorem dX6_take_18 : decode cX6_take 18 = .ok (.invokevirtual 36, 3) := dk_182 0 36 (dk_at dksX6_take_0 18 rfl rfl)
theorem dX6_take_21 : decode cX6_take 21 = .ok (.bipush 32, 2) := dk_16 32 (dk_at dksX6_take_0 21 rfl rfl)
theorem dX6_take_23 : decode cX6_take 23 = .ok (.if_icmp .ne 16, 3) := dk_160 0 16 (dk_at dksX6_take_1 0 rfl rfl)
theorem dX6_take_26 : decode cX6_take 26 = .ok (.aload_n 0, 1) := dk_42 (dk_at dksX6_take_1 3 rfl rfl)
theorem dX6_take_27 : decode cX6_take 27 = .ok (.dup, 1) := dk_89 (dk_at dksX6_take_1 4 rfl rfl)
theorem dX6_take_28 : decode cX6_take 28 = .ok (.getfield 44, 3) := dk_180 0 44 (dk_at dksX6_take_1 5 rfl rfl)
theorem dX6_take_31 : decode cX6_take 31 = .ok (.iconst 1, 1) := dk_4 (dk_at dksX6_take_1 8 rfl rfl)
theorem dX6_take_32 : decode cX6_take 32 = .ok (.iadd, 1) := dk_96 (dk_at dksX6_take_1 9 rfl rfl)
theorem dX6_take_33 : decode cX6_take 33 = .ok (.putfield 44, 3) := dk_181 0 44 (dk_at dksX6_take_1 10 rfl rfl)
theorem dX6_take_36 : decode cX6_take 36 = .ok (.goto (-36), 3) := dk_167 255 220 (dk_at dksX6_take_1 13 rfl rfl)
theorem dX6_take_39 : decode cX6_take 39 = .ok (.aload_n 0, 1) := dk_42 (dk_at dksX6_take_1 16 rfl rfl)
theorem dX6_take_40 : decode cX6_take 40 = .ok (.aload_n 0, 1) := dk_42 (dk_at dksX6_take_1 17 rfl rfl)
theorem dX6_take_41 : decode cX6_take 41 = .ok (.getfield 44, 3) := dk_180 0 44 (dk_at dksX6_take_1 18 rfl rfl)
theorem dX6_take_44 : decode cX6_take 44 = .ok (.putfield 47, 3) := dk_181 0 47 (dk_at dksX6_take_1 21 rfl rfl)
theorem dX6_take_47 : decode cX6_take 47 = .ok (.aload_n 0, 1) := dk_42 (dk_at dksX6_take_2 0 rfl rfl)
theorem dX6_take_48 : decode cX6_take 48 = .ok (.getfield 44, 3) := dk_180 0 44 (dk_at dksX6_take_2 1 rfl rfl)
theorem dX6_take_51 : decode cX6_take 51 = .ok (.aload_n 0, 1) := dk_42 (dk_at dksX6_take_2 4 rfl rfl)
theorem dX6_take_52 : decode cX6_take 52 = .ok (.getfield 21, 3) := dk_180 0 21 (dk_at dksX6_take_2 5 rfl rfl)
theorem dX6_take_55 : decode cX6_take 55 = .ok (.if_icmp .lt 11, 3) := dk_161 0 11 (dk_at dksX6_take_2 8 rfl rfl)
theorem dX6_take_58 : decode cX6_take 58 = .ok (.aload_n 0, 1) := dk_42 (dk_at dksX6_take_2 11 rfl rfl)
theorem dX6_take_59 : decode cX6_take 59 = .ok (.iconst 0, 1) := dk_3 (dk_at dksX6_take_2 12 rfl rfl)
theorem dX6_take_60 : decode cX6_take 60 = .ok (.putfield 50, 3) := dk_181 0 50 (dk_at dksX6_take_2 13 rfl rfl)
theorem dX6_take_63 : decode cX6_take 63 = .ok (.goto 126, 3) := dk_167 0 126 (dk_at dksX6_take_2 16 rfl rfl)
theorem dX6_take_66 : decode cX6_take 66 = .ok (.aload_n 0, 1) := dk_42 (dk_at dksX6_take_2 19 rfl rfl)
theorem dX6_take_67 : decode cX6_take 67 = .ok (.aload_n 0, 1) := dk_42 (dk_at dksX6_take_2 20 rfl rfl)
theorem dX6_take_68 : decode cX6_take 68 = .ok (.getfield 44, 3) := dk_180 0 44 (dk_at dksX6_take_2 21 rfl rfl)
theorem dX6_take_71 : decode cX6_take 71 = .ok (.invokevirtual 53, 3) := dk_182 0 53 (dk_at dksX6_take_3 0 rfl rfl)
theorem dX6_take_74 : decode cX6_take 74 = .ok (.ifCond .eq 10, 3) := dk_153 0 10 (dk_at dksX6_take_3 3 rfl rfl)
theorem dX6_take_77 : decode cX6_take 77 = .ok (.aload_n 0, 1) := dk_42 (dk_at dksX6_take_3 6 rfl rfl)
theorem dX6_take_78 : decode cX6_take 78 = .ok (.invokevirtual 57, 3) := dk_182 0 57 (dk_at dksX6_take_3 7 rfl rfl)
theorem dX6_take_81 : decode cX6_take 81 = .ok (.goto 108, 3) := dk_167 0 108 (dk_at dksX6_take_3 10 rfl rfl)
theorem dX6_take_84 : decode cX6_take 84 = .ok (.aload_n 0, 1) := dk_42 (dk_at dksX6_take_3 13 rfl rfl)
theorem dX6_take_85 : decode cX6_take 85 = .ok (.aload_n 0, 1) := dk_42 (dk_at dksX6_take_3 14 rfl rfl)
theorem dX6_take_86 : decode cX6_take 86 = .ok (.getfield 44, 3) := dk_180 0 44 (dk_at dksX6_take_3 15 rfl rfl)
theorem dX6_take_89 : decode cX6_take 89 = .ok (.invokevirtual 60, 3) := dk_182 0 60 (dk_at dksX6_take_3 18 rfl rfl)
theorem dX6_take_92 : decode cX6_take 92 = .ok (.ifCond .eq 65, 3) := dk_153 0 65 (dk_at dksX6_take_3 21 rfl rfl)
theorem dX6_take_95 : decode cX6_take 95 = .ok (.aload_n 0, 1) := dk_42 (dk_at dksX6_take_4 0 rfl rfl)
theorem dX6_take_96 : decode cX6_take 96 = .ok (.iconst 3, 1) := dk_6 (dk_at dksX6_take_4 1 rfl rfl)
theorem dX6_take_97 : decode cX6_take 97 = .ok (.putfield 50, 3) := dk_181 0 50 (dk_at dksX6_take_4 2 rfl rfl)
theorem dX6_take_100 : decode cX6_take 100 = .ok (.aload_n 0, 1) := dk_42 (dk_at dksX6_take_4 5 rfl rfl)
theorem dX6_take_101 : decode cX6_take 101 = .ok (.iconst 0, 1) := dk_3 (dk_at dksX6_take_4 6 rfl rfl)
theorem dX6_take_102 : decode cX6_take 102 = .ok (.putfield 63, 3) := dk_181 0 63 (dk_at dksX6_take_4 7 rfl rfl)
theorem dX6_take_105 : decode cX6_take 105 = .ok (.aload_n 0, 1) := dk_42 (dk_at dksX6_take_4 10 rfl rfl)
theorem dX6_take_106 : decode cX6_take 106 = .ok (.aload_n 0, 1) := dk_42 (dk_at dksX6_take_4 11 rfl rfl)
theorem dX6_take_107 : decode cX6_take 107 = .ok (.getfield 44, 3) := dk_180 0 44 (dk_at dksX6_take_4 12 rfl rfl)
theorem dX6_take_110 : decode cX6_take 110 = .ok (.invokevirtual 60, 3) := dk_182 0 60 (dk_at dksX6_take_4 15 rfl rfl)
theorem dX6_take_113 : decode cX6_take 113 = .ok (.ifCond .eq 76, 3) := dk_153 0 76 (dk_at dksX6_take_4 18 rfl rfl)
theorem dX6_take_116 : decode cX6_take 116 = .ok (.aload_n 0, 1) := dk_42 (dk_at dksX6_take_4 21 rfl rfl)
theorem dX6_take_117 : decode cX6_take 117 = .ok (.bipush 10, 2) := dk_16 10 (dk_at dksX6_take_4 22 rfl rfl)
theorem dX6_take_119 : decode cX6_take 119 = .ok (.aload_n 0, 1) := dk_42 (dk_at dksX6_take_5 0 rfl rfl)
theorem dX6_take_120 : decode cX6_take 120 = .ok (.getfield 63, 3) := dk_180 0 63 (dk_at dksX6_take_5 1 rfl rfl)
theorem dX6_take_123 : decode cX6_take 123 = .ok (.imul, 1) := dk_104 (dk_at dksX6_take_5 4 rfl rfl)
theorem dX6_take_124 : decode cX6_take 124 = .ok (.aload_n 0, 1) := dk_42 (dk_at dksX6_take_5 5 rfl rfl)
theorem dX6_take_125 : decode cX6_take 125 = .ok (.aload_n 0, 1) := dk_42 (dk_at dksX6_take_5 6 rfl rfl)
theorem dX6_take_126 : decode cX6_take 126 = .ok (.getfield 44, 3) := dk_180 0 44 (dk_at dksX6_take_5 7 rfl rfl)
theorem dX6_take_129 : decode cX6_take 129 = .ok (.invokevirtual 36, 3) := dk_182 0 36 (dk_at dksX6_take_5 10 rfl rfl)
theorem dX6_take_132 : decode cX6_take 132 = .ok (.iadd, 1) := dk_96 (dk_at dksX6_take_5 13 rfl rfl)
theorem dX6_take_133 : decode cX6_take 133 = .ok (.bipush 48, 2) := dk_16 48 (dk_at dksX6_take_5 14 rfl rfl)
theorem dX6_take_135 : decode cX6_take 135 = .ok (.isub, 1) := dk_100 (dk_at dksX6_take_5 16 rfl rfl)
theorem dX6_take_136 : decode cX6_take 136 = .ok (.ldc 66, 2) := dk_18 66 (dk_at dksX6_take_5 17 rfl rfl)
theorem dX6_take_138 : decode cX6_take 138 = .ok (.invokestatic 67, 3) := dk_184 0 67 (dk_at dksX6_take_5 19 rfl rfl)
theorem dX6_take_141 : decode cX6_take 141 = .ok (.putfield 63, 3) := dk_181 0 63 (dk_at dksX6_take_6 0 rfl rfl)
theorem dX6_take_144 : decode cX6_take 144 = .ok (.aload_n 0, 1) := dk_42 (dk_at dksX6_take_6 3 rfl rfl)
theorem dX6_take_145 : decode cX6_take 145 = .ok (.dup, 1) := dk_89 (dk_at dksX6_take_6 4 rfl rfl)
theorem dX6_take_146 : decode cX6_take 146 = .ok (.getfield 44, 3) := dk_180 0 44 (dk_at dksX6_take_6 5 rfl rfl)
theorem dX6_take_149 : decode cX6_take 149 = .ok (.iconst 1, 1) := dk_4 (dk_at dksX6_take_6 8 rfl rfl)
theorem dX6_take_150 : decode cX6_take 150 = .ok (.iadd, 1) := dk_96 (dk_at dksX6_take_6 9 rfl rfl)
theorem dX6_take_151 : decode cX6_take 151 = .ok (.putfield 44, 3) := dk_181 0 44 (dk_at dksX6_take_6 10 rfl rfl)
theorem dX6_take_154 : decode cX6_take 154 = .ok (.goto (-49), 3) := dk_167 255 207 (dk_at dksX6_take_6 13 rfl rfl)
theorem dX6_take_157 : decode cX6_take 157 = .ok (.aload_n 0, 1) := dk_42 (dk_at dksX6_take_6 16 rfl rfl)
theorem dX6_take_158 : decode cX6_take 158 = .ok (.aload_n 0, 1) := dk_42 (dk_at dksX6_take_6 17 rfl rfl)
theorem dX6_take_159 : decode cX6_take 159 = .ok (.aload_n 0, 1) := dk_42 (dk_at dksX6_take_6 18 rfl rfl)
theorem dX6_take_160 : decode cX6_take 160 = .ok (.getfield 44, 3) := dk_180 0 44 (dk_at dksX6_take_6 19 rfl rfl)
theorem dX6_take_163 : decode cX6_take 163 = .ok (.invokevirtual 36, 3) := dk_182 0 36 (dk_at dksX6_take_7 0 rfl rfl)
theorem dX6_take_166 : decode cX6_take 166 = .ok (.bipush 59, 2) := dk_16 59 (dk_at dksX6_take_7 3 rfl rfl)
theorem dX6_take_168 : decode cX6_take 168 = .ok (.if_icmp .ne 7, 3) := dk_160 0 7 (dk_at dksX6_take_7 5 rfl rfl)
theorem dX6_take_171 : decode cX6_take 171 = .ok (.iconst 4, 1) := dk_7 (dk_at dksX6_take_7 8 rfl rfl)
theorem dX6_take_172 : decode cX6_take 172 = .ok (.goto 4, 3) := dk_167 0 4 (dk_at dksX6_take_7 9 rfl rfl)
theorem dX6_take_175 : decode cX6_take 175 = .ok (.iconst 5, 1) := dk_8 (dk_at dksX6_take_7 12 rfl rfl)
theorem dX6_take_176 : decode cX6_take 176 = .ok (.putfield 50, 3) := dk_181 0 50 (dk_at dksX6_take_7 13 rfl rfl)
theorem dX6_take_179 : decode cX6_take 179 = .ok (.aload_n 0, 1) := dk_42 (dk_at dksX6_take_7 16 rfl rfl)
theorem dX6_take_180 : decode cX6_take 180 = .ok (.dup, 1) := dk_89 (dk_at dksX6_take_7 17 rfl rfl)
theorem dX6_take_181 : decode cX6_take 181 = .ok (.getfield 44, 3) := dk_180 0 44 (dk_at dksX6_take_7 18 rfl rfl)
theorem dX6_take_184 : decode cX6_take 184 = .ok (.iconst 1, 1) := dk_4 (dk_at dksX6_take_7 21 rfl rfl)
theorem dX6_take_185 : decode cX6_take 185 = .ok (.iadd, 1) := dk_96 (dk_at dksX6_take_7 22 rfl rfl)
theorem dX6_take_186 : decode cX6_take 186 = .ok (.putfield 44, 3) := dk_181 0 44 (dk_at dksX6_take_8 0 rfl rfl)
theorem dX6_take_189 : decode cX6_take 189 = .ok (.return_, 1) := dk_177 (dk_at dksX6_take_8 3 rfl rfl)
abbrev cX6_see : ByteArray := prog_5_method_3_code
def yX6_see : MethodName := ⟨RX6, "see", "(I)I"⟩
def dkwX6_see_1 : List UInt8 := [2, 172]
abbrev dktX6_see_1 : List UInt8 := dkwX6_see_1 ++ []
def dkwX6_see_0 : List UInt8 := [27, 42, 180, 0, 21, 162, 0, 19, 42, 180, 0, 14, 180, 0, 32, 27, 51, 17, 0, 255, 126, 167, 0, 4]
abbrev dktX6_see_0 : List UInt8 := dkwX6_see_0 ++ dktX6_see_1
theorem dksX6_see_0 : cX6_see.data.toList.drop 0 = dktX6_see_0 := by decide +kernel
theorem dksX6_see_1 : cX6_see.data.toList.drop 24 = dktX6_see_1 := dk_seg dksX6_see_0 24 rfl rfl
theorem dX6_see_0 : decode cX6_see 0 = .ok (.iload_n 1, 1) := dk_27 (dk_at dksX6_see_0 0 rfl rfl)
theorem dX6_see_1 : decode cX6_see 1 = .ok (.aload_n 0, 1) := dk_42 (dk_at dksX6_see_0 1 rfl rfl)
theorem dX6_see_2 : decode cX6_see 2 = .ok (.getfield 21, 3) := dk_180 0 21 (dk_at dksX6_see_0 2 rfl rfl)
theorem dX6_see_5 : decode cX6_see 5 = .ok (.if_icmp .ge 19, 3) := dk_162 0 19 (dk_at dksX6_see_0 5 rfl rfl)
theorem dX6_see_8 : decode cX6_see 8 = .ok (.aload_n 0, 1) := dk_42 (dk_at dksX6_see_0 8 rfl rfl)
theorem dX6_see_9 : decode cX6_see 9 = .ok (.getfield 14, 3) := dk_180 0 14 (dk_at dksX6_see_0 9 rfl rfl)
theorem dX6_see_12 : decode cX6_see 12 = .ok (.getfield 32, 3) := dk_180 0 32 (dk_at dksX6_see_0 12 rfl rfl)
theorem dX6_see_15 : decode cX6_see 15 = .ok (.iload_n 1, 1) := dk_27 (dk_at dksX6_see_0 15 rfl rfl)
theorem dX6_see_16 : decode cX6_see 16 = .ok (.baload, 1) := dk_51 (dk_at dksX6_see_0 16 rfl rfl)
theorem dX6_see_17 : decode cX6_see 17 = .ok (.sipush 255, 3) := dk_17 0 255 (dk_at dksX6_see_0 17 rfl rfl)
theorem dX6_see_20 : decode cX6_see 20 = .ok (.iand, 1) := dk_126 (dk_at dksX6_see_0 20 rfl rfl)
theorem dX6_see_21 : decode cX6_see 21 = .ok (.goto 4, 3) := dk_167 0 4 (dk_at dksX6_see_0 21 rfl rfl)
theorem dX6_see_24 : decode cX6_see 24 = .ok (.iconst (-1), 1) := dk_2 (dk_at dksX6_see_1 0 rfl rfl)
theorem dX6_see_25 : decode cX6_see 25 = .ok (.ireturn, 1) := dk_172 (dk_at dksX6_see_1 1 rfl rfl)
abbrev cX6_isSmall : ByteArray := prog_5_method_4_code
def yX6_isSmall : MethodName := ⟨RX6, "isSmall", "(I)Z"⟩
def dkwX6_isSmall_0 : List UInt8 := [42, 27, 182, 0, 36, 16, 97, 16, 122, 184, 0, 40, 172]
abbrev dktX6_isSmall_0 : List UInt8 := dkwX6_isSmall_0 ++ []
theorem dksX6_isSmall_0 : cX6_isSmall.data.toList.drop 0 = dktX6_isSmall_0 := by decide +kernel
theorem dX6_isSmall_0 : decode cX6_isSmall 0 = .ok (.aload_n 0, 1) := dk_42 (dk_at dksX6_isSmall_0 0 rfl rfl)
theorem dX6_isSmall_1 : decode cX6_isSmall 1 = .ok (.iload_n 1, 1) := dk_27 (dk_at dksX6_isSmall_0 1 rfl rfl)
theorem dX6_isSmall_2 : decode cX6_isSmall 2 = .ok (.invokevirtual 36, 3) := dk_182 0 36 (dk_at dksX6_isSmall_0 2 rfl rfl)
theorem dX6_isSmall_5 : decode cX6_isSmall 5 = .ok (.bipush 97, 2) := dk_16 97 (dk_at dksX6_isSmall_0 5 rfl rfl)
theorem dX6_isSmall_7 : decode cX6_isSmall 7 = .ok (.bipush 122, 2) := dk_16 122 (dk_at dksX6_isSmall_0 7 rfl rfl)
theorem dX6_isSmall_9 : decode cX6_isSmall 9 = .ok (.invokestatic 40, 3) := dk_184 0 40 (dk_at dksX6_isSmall_0 9 rfl rfl)
theorem dX6_isSmall_12 : decode cX6_isSmall 12 = .ok (.ireturn, 1) := dk_172 (dk_at dksX6_isSmall_0 12 rfl rfl)
abbrev cX6_takeWord : ByteArray := prog_5_method_7_code
def yX6_takeWord : MethodName := ⟨RX6, "takeWord", "()V"⟩
def dkwX6_takeWord_5 : List UInt8 := [16, 96, 100, 167, 0, 4, 3, 128, 181, 0, 63, 132, 1, 1, 167, 255, 211, 177]
abbrev dktX6_takeWord_5 : List UInt8 := dkwX6_takeWord_5 ++ []
def dkwX6_takeWord_4 : List UInt8 := [162, 0, 40, 42, 42, 180, 0, 63, 8, 120, 27, 42, 180, 0, 44, 162, 0, 14, 42, 27, 182, 0, 36]
abbrev dktX6_takeWord_4 : List UInt8 := dkwX6_takeWord_4 ++ dktX6_takeWord_5
def dkwX6_takeWord_3 : List UInt8 := [159, 0, 4, 177, 42, 3, 181, 0, 63, 42, 180, 0, 47, 60, 27, 42, 180, 0, 47, 16, 6, 96]
abbrev dktX6_takeWord_3 : List UInt8 := dkwX6_takeWord_3 ++ dktX6_takeWord_4
def dkwX6_takeWord_2 : List UInt8 := [42, 180, 0, 47, 100, 16, 6, 164, 0, 7, 8, 167, 0, 4, 5, 181, 0, 50, 42, 180, 0, 50, 5]
abbrev dktX6_takeWord_2 : List UInt8 := dkwX6_takeWord_2 ++ dktX6_takeWord_3
def dkwX6_takeWord_1 : List UInt8 := [42, 42, 182, 0, 73, 181, 0, 63, 42, 42, 180, 0, 63, 155, 0, 7, 4, 167, 0, 22, 42, 180, 0, 44]
abbrev dktX6_takeWord_1 : List UInt8 := dkwX6_takeWord_1 ++ dktX6_takeWord_2
def dkwX6_takeWord_0 : List UInt8 := [42, 42, 180, 0, 44, 182, 0, 53, 153, 0, 16, 42, 89, 180, 0, 44, 4, 96, 181, 0, 44, 167, 255, 235]
abbrev dktX6_takeWord_0 : List UInt8 := dkwX6_takeWord_0 ++ dktX6_takeWord_1
theorem dksX6_takeWord_0 : cX6_takeWord.data.toList.drop 0 = dktX6_takeWord_0 := by decide +kernel
theorem dksX6_takeWord_1 : cX6_takeWord.data.toList.drop 24 = dktX6_takeWord_1 := dk_seg dksX6_takeWord_0 24 rfl rfl
theorem dksX6_takeWord_2 : cX6_takeWord.data.toList.drop 48 = dktX6_takeWord_2 := dk_seg dksX6_takeWord_1 24 rfl rfl
theorem dksX6_takeWord_3 : cX6_takeWord.data.toList.drop 71 = dktX6_takeWord_3 := dk_seg dksX6_takeWord_2 23 rfl rfl
theorem dksX6_takeWord_4 : cX6_takeWord.data.toList.drop 93 = dktX6_takeWord_4 := dk_seg dksX6_takeWord_3 22 rfl rfl
theorem dksX6_takeWord_5 : cX6_takeWord.data.toList.drop 116 = dktX6_takeWord_5 := dk_seg dksX6_takeWord_4 23 rfl rfl
theorem dX6_takeWord_0 : decode cX6_takeWord 0 = .ok (.aload_n 0, 1) := dk_42 (dk_at dksX6_takeWord_0 0 rfl rfl)
theorem dX6_takeWord_1 : decode cX6_takeWord 1 = .ok (.aload_n 0, 1) := dk_42 (dk_at dksX6_takeWord_0 1 rfl rfl)
theorem dX6_takeWord_2 : decode cX6_takeWord 2 = .ok (.getfield 44, 3) := dk_180 0 44 (dk_at dksX6_takeWord_0 2 rfl rfl)
theorem dX6_takeWord_5 : decode cX6_takeWord 5 = .ok (.invokevirtual 53, 3) := dk_182 0 53 (dk_at dksX6_takeWord_0 5 rfl rfl)
theorem dX6_takeWord_8 : decode cX6_takeWord 8 = .ok (.ifCond .eq 16, 3) := dk_153 0 16 (dk_at dksX6_takeWord_0 8 rfl rfl)
theorem dX6_takeWord_11 : decode cX6_takeWord 11 = .ok (.aload_n 0, 1) := dk_42 (dk_at dksX6_takeWord_0 11 rfl rfl)
theorem dX6_takeWord_12 : decode cX6_takeWord 12 = .ok (.dup, 1) := dk_89 (dk_at dksX6_takeWord_0 12 rfl rfl)
theorem dX6_takeWord_13 : decode cX6_takeWord 13 = .ok (.getfield 44, 3) := dk_180 0 44 (dk_at dksX6_takeWord_0 13 rfl rfl)
theorem dX6_takeWord_16 : decode cX6_takeWord 16 = .ok (.iconst 1, 1) := dk_4 (dk_at dksX6_takeWord_0 16 rfl rfl)
theorem dX6_takeWord_17 : decode cX6_takeWord 17 = .ok (.iadd, 1) := dk_96 (dk_at dksX6_takeWord_0 17 rfl rfl)
theorem dX6_takeWord_18 : decode cX6_takeWord 18 = .ok (.putfield 44, 3) := dk_181 0 44 (dk_at dksX6_takeWord_0 18 rfl rfl)
theorem dX6_takeWord_21 : decode cX6_takeWord 21 = .ok (.goto (-21), 3) := dk_167 255 235 (dk_at dksX6_takeWord_0 21 rfl rfl)
theorem dX6_takeWord_24 : decode cX6_takeWord 24 = .ok (.aload_n 0, 1) := dk_42 (dk_at dksX6_takeWord_1 0 rfl rfl)
theorem dX6_takeWord_25 : decode cX6_takeWord 25 = .ok (.aload_n 0, 1) := dk_42 (dk_at dksX6_takeWord_1 1 rfl rfl)
theorem dX6_takeWord_26 : decode cX6_takeWord 26 = .ok (.invokevirtual 73, 3) := dk_182 0 73 (dk_at dksX6_takeWord_1 2 rfl rfl)
theorem dX6_takeWord_29 : decode cX6_takeWord 29 = .ok (.putfield 63, 3) := dk_181 0 63 (dk_at dksX6_takeWord_1 5 rfl rfl)
theorem dX6_takeWord_32 : decode cX6_takeWord 32 = .ok (.aload_n 0, 1) := dk_42 (dk_at dksX6_takeWord_1 8 rfl rfl)
theorem dX6_takeWord_33 : decode cX6_takeWord 33 = .ok (.aload_n 0, 1) := dk_42 (dk_at dksX6_takeWord_1 9 rfl rfl)
theorem dX6_takeWord_34 : decode cX6_takeWord 34 = .ok (.getfield 63, 3) := dk_180 0 63 (dk_at dksX6_takeWord_1 10 rfl rfl)
theorem dX6_takeWord_37 : decode cX6_takeWord 37 = .ok (.ifCond .lt 7, 3) := dk_155 0 7 (dk_at dksX6_takeWord_1 13 rfl rfl)
theorem dX6_takeWord_40 : decode cX6_takeWord 40 = .ok (.iconst 1, 1) := dk_4 (dk_at dksX6_takeWord_1 16 rfl rfl)
theorem dX6_takeWord_41 : decode cX6_takeWord 41 = .ok (.goto 22, 3) := dk_167 0 22 (dk_at dksX6_takeWord_1 17 rfl rfl)
theorem dX6_takeWord_44 : decode cX6_takeWord 44 = .ok (.aload_n 0, 1) := dk_42 (dk_at dksX6_takeWord_1 20 rfl rfl)
theorem dX6_takeWord_45 : decode cX6_takeWord 45 = .ok (.getfield 44, 3) := dk_180 0 44 (dk_at dksX6_takeWord_1 21 rfl rfl)
theorem dX6_takeWord_48 : decode cX6_takeWord 48 = .ok (.aload_n 0, 1) := dk_42 (dk_at dksX6_takeWord_2 0 rfl rfl)
theorem dX6_takeWord_49 : decode cX6_takeWord 49 = .ok (.getfield 47, 3) := dk_180 0 47 (dk_at dksX6_takeWord_2 1 rfl rfl)
theorem dX6_takeWord_52 : decode cX6_takeWord 52 = .ok (.isub, 1) := dk_100 (dk_at dksX6_takeWord_2 4 rfl rfl)
theorem dX6_takeWord_53 : decode cX6_takeWord 53 = .ok (.bipush 6, 2) := dk_16 6 (dk_at dksX6_takeWord_2 5 rfl rfl)
theorem dX6_takeWord_55 : decode cX6_takeWord 55 = .ok (.if_icmp .le 7, 3) := dk_164 0 7 (dk_at dksX6_takeWord_2 7 rfl rfl)
theorem dX6_takeWord_58 : decode cX6_takeWord 58 = .ok (.iconst 5, 1) := dk_8 (dk_at dksX6_takeWord_2 10 rfl rfl)
theorem dX6_takeWord_59 : decode cX6_takeWord 59 = .ok (.goto 4, 3) := dk_167 0 4 (dk_at dksX6_takeWord_2 11 rfl rfl)
theorem dX6_takeWord_62 : decode cX6_takeWord 62 = .ok (.iconst 2, 1) := dk_5 (dk_at dksX6_takeWord_2 14 rfl rfl)
theorem dX6_takeWord_63 : decode cX6_takeWord 63 = .ok (.putfield 50, 3) := dk_181 0 50 (dk_at dksX6_takeWord_2 15 rfl rfl)
theorem dX6_takeWord_66 : decode cX6_takeWord 66 = .ok (.aload_n 0, 1) := dk_42 (dk_at dksX6_takeWord_2 18 rfl rfl)
theorem dX6_takeWord_67 : decode cX6_takeWord 67 = .ok (.getfield 50, 3) := dk_180 0 50 (dk_at dksX6_takeWord_2 19 rfl rfl)
theorem dX6_takeWord_70 : decode cX6_takeWord 70 = .ok (.iconst 2, 1) := dk_5 (dk_at dksX6_takeWord_2 22 rfl rfl)
theorem dX6_takeWord_71 : decode cX6_takeWord 71 = .ok (.if_icmp .eq 4, 3) := dk_159 0 4 (dk_at dksX6_takeWord_3 0 rfl rfl)
theorem dX6_takeWord_74 : decode cX6_takeWord 74 = .ok (.return_, 1) := dk_177 (dk_at dksX6_takeWord_3 3 rfl rfl)
theorem dX6_takeWord_75 : decode cX6_takeWord 75 = .ok (.aload_n 0, 1) := dk_42 (dk_at dksX6_takeWord_3 4 rfl rfl)
theorem dX6_takeWord_76 : decode cX6_takeWord 76 = .ok (.iconst 0, 1) := dk_3 (dk_at dksX6_takeWord_3 5 rfl rfl)
theorem dX6_takeWord_77 : decode cX6_takeWord 77 = .ok (.putfield 63, 3) := dk_181 0 63 (dk_at dksX6_takeWord_3 6 rfl rfl)
theorem dX6_takeWord_80 : decode cX6_takeWord 80 = .ok (.aload_n 0, 1) := dk_42 (dk_at dksX6_takeWord_3 9 rfl rfl)
theorem dX6_takeWord_81 : decode cX6_takeWord 81 = .ok (.getfield 47, 3) := dk_180 0 47 (dk_at dksX6_takeWord_3 10 rfl rfl)
theorem dX6_takeWord_84 : decode cX6_takeWord 84 = .ok (.istore_n 1, 1) := dk_60 (dk_at dksX6_takeWord_3 13 rfl rfl)
theorem dX6_takeWord_85 : decode cX6_takeWord 85 = .ok (.iload_n 1, 1) := dk_27 (dk_at dksX6_takeWord_3 14 rfl rfl)
theorem dX6_takeWord_86 : decode cX6_takeWord 86 = .ok (.aload_n 0, 1) := dk_42 (dk_at dksX6_takeWord_3 15 rfl rfl)
theorem dX6_takeWord_87 : decode cX6_takeWord 87 = .ok (.getfield 47, 3) := dk_180 0 47 (dk_at dksX6_takeWord_3 16 rfl rfl)
theorem dX6_takeWord_90 : decode cX6_takeWord 90 = .ok (.bipush 6, 2) := dk_16 6 (dk_at dksX6_takeWord_3 19 rfl rfl)
theorem dX6_takeWord_92 : decode cX6_takeWord 92 = .ok (.iadd, 1) := dk_96 (dk_at dksX6_takeWord_3 21 rfl rfl)
theorem dX6_takeWord_93 : decode cX6_takeWord 93 = .ok (.if_icmp .ge 40, 3) := dk_162 0 40 (dk_at dksX6_takeWord_4 0 rfl rfl)
theorem dX6_takeWord_96 : decode cX6_takeWord 96 = .ok (.aload_n 0, 1) := dk_42 (dk_at dksX6_takeWord_4 3 rfl rfl)
theorem dX6_takeWord_97 : decode cX6_takeWord 97 = .ok (.aload_n 0, 1) := dk_42 (dk_at dksX6_takeWord_4 4 rfl rfl)
theorem dX6_takeWord_98 : decode cX6_takeWord 98 = .ok (.getfield 63, 3) := dk_180 0 63 (dk_at dksX6_takeWord_4 5 rfl rfl)
theorem dX6_takeWord_101 : decode cX6_takeWord 101 = .ok (.iconst 5, 1) := dk_8 (dk_at dksX6_takeWord_4 8 rfl rfl)
theorem dX6_takeWord_102 : decode cX6_takeWord 102 = .ok (.ishl, 1) := dk_120 (dk_at dksX6_takeWord_4 9 rfl rfl)
theorem dX6_takeWord_103 : decode cX6_takeWord 103 = .ok (.iload_n 1, 1) := dk_27 (dk_at dksX6_takeWord_4 10 rfl rfl)
theorem dX6_takeWord_104 : decode cX6_takeWord 104 = .ok (.aload_n 0, 1) := dk_42 (dk_at dksX6_takeWord_4 11 rfl rfl)
theorem dX6_takeWord_105 : decode cX6_takeWord 105 = .ok (.getfield 44, 3) := dk_180 0 44 (dk_at dksX6_takeWord_4 12 rfl rfl)
theorem dX6_takeWord_108 : decode cX6_takeWord 108 = .ok (.if_icmp .ge 14, 3) := dk_162 0 14 (dk_at dksX6_takeWord_4 15 rfl rfl)
theorem dX6_takeWord_111 : decode cX6_takeWord 111 = .ok (.aload_n 0, 1) := dk_42 (dk_at dksX6_takeWord_4 18 rfl rfl)
theorem dX6_takeWord_112 : decode cX6_takeWord 112 = .ok (.iload_n 1, 1) := dk_27 (dk_at dksX6_takeWord_4 19 rfl rfl)
theorem dX6_takeWord_113 : decode cX6_takeWord 113 = .ok (.invokevirtual 36, 3) := dk_182 0 36 (dk_at dksX6_takeWord_4 20 rfl rfl)
theorem dX6_takeWord_116 : decode cX6_takeWord 116 = .ok (.bipush 96, 2) := dk_16 96 (dk_at dksX6_takeWord_5 0 rfl rfl)
theorem dX6_takeWord_118 : decode cX6_takeWord 118 = .ok (.isub, 1) := dk_100 (dk_at dksX6_takeWord_5 2 rfl rfl)
theorem dX6_takeWord_119 : decode cX6_takeWord 119 = .ok (.goto 4, 3) := dk_167 0 4 (dk_at dksX6_takeWord_5 3 rfl rfl)
theorem dX6_takeWord_122 : decode cX6_takeWord 122 = .ok (.iconst 0, 1) := dk_3 (dk_at dksX6_takeWord_5 6 rfl rfl)
theorem dX6_takeWord_123 : decode cX6_takeWord 123 = .ok (.ior, 1) := dk_128 (dk_at dksX6_takeWord_5 7 rfl rfl)
theorem dX6_takeWord_124 : decode cX6_takeWord 124 = .ok (.putfield 63, 3) := dk_181 0 63 (dk_at dksX6_takeWord_5 8 rfl rfl)
theorem dX6_takeWord_127 : decode cX6_takeWord 127 = .ok (.iinc 1 1, 3) := dk_132 1 1 (dk_at dksX6_takeWord_5 11 rfl rfl)
theorem dX6_takeWord_130 : decode cX6_takeWord 130 = .ok (.goto (-45), 3) := dk_167 255 211 (dk_at dksX6_takeWord_5 14 rfl rfl)
theorem dX6_takeWord_133 : decode cX6_takeWord 133 = .ok (.return_, 1) := dk_177 (dk_at dksX6_takeWord_5 17 rfl rfl)
abbrev cX6_key : ByteArray := prog_5_method_8_code
def yX6_key : MethodName := ⟨RX6, "key", "()I"⟩
def dkwX6_key_5 : List UInt8 := [132, 2, 1, 167, 255, 140, 2, 172]
abbrev dktX6_key_5 : List UInt8 := dkwX6_key_5 ++ []
def dkwX6_key_4 : List UInt8 := [167, 0, 4, 3, 54, 4, 132, 5, 1, 167, 255, 210, 21, 4, 153, 0, 5, 28, 172, 29, 4, 96, 60]
abbrev dktX6_key_4 : List UInt8 := dkwX6_key_4 ++ dktX6_key_5
def dkwX6_key_3 : List UInt8 := [18, 77, 27, 21, 5, 96, 182, 0, 87, 42, 42, 180, 0, 47, 21, 5, 96, 182, 0, 36, 160, 0, 7, 4]
abbrev dktX6_key_3 : List UInt8 := dkwX6_key_3 ++ dktX6_key_4
def dkwX6_key_2 : List UInt8 := [4, 167, 0, 4, 3, 54, 4, 3, 54, 5, 21, 5, 29, 27, 100, 162, 0, 44, 21, 4, 153, 0, 39]
abbrev dktX6_key_2 : List UInt8 := dkwX6_key_2 ++ dktX6_key_3
def dkwX6_key_1 : List UInt8 := [156, 0, 9, 18, 77, 182, 0, 79, 62, 29, 27, 100, 42, 180, 0, 44, 42, 180, 0, 47, 100, 160, 0, 7]
abbrev dktX6_key_1 : List UInt8 := dkwX6_key_1 ++ dktX6_key_2
def dkwX6_key_0 : List UInt8 := [3, 60, 3, 61, 27, 18, 77, 182, 0, 79, 162, 0, 113, 18, 77, 16, 32, 27, 182, 0, 84, 62, 29]
abbrev dktX6_key_0 : List UInt8 := dkwX6_key_0 ++ dktX6_key_1
theorem dksX6_key_0 : cX6_key.data.toList.drop 0 = dktX6_key_0 := by decide +kernel
theorem dksX6_key_1 : cX6_key.data.toList.drop 23 = dktX6_key_1 := dk_seg dksX6_key_0 23 rfl rfl
theorem dksX6_key_2 : cX6_key.data.toList.drop 47 = dktX6_key_2 := dk_seg dksX6_key_1 24 rfl rfl
theorem dksX6_key_3 : cX6_key.data.toList.drop 70 = dktX6_key_3 := dk_seg dksX6_key_2 23 rfl rfl
theorem dksX6_key_4 : cX6_key.data.toList.drop 94 = dktX6_key_4 := dk_seg dksX6_key_3 24 rfl rfl
theorem dksX6_key_5 : cX6_key.data.toList.drop 117 = dktX6_key_5 := dk_seg dksX6_key_4 23 rfl rfl
theorem dX6_key_0 : decode cX6_key 0 = .ok (.iconst 0, 1) := dk_3 (dk_at dksX6_key_0 0 rfl rfl)
theorem dX6_key_1 : decode cX6_key 1 = .ok (.istore_n 1, 1) := dk_60 (dk_at dksX6_key_0 1 rfl rfl)
theorem dX6_key_2 : decode cX6_key 2 = .ok (.iconst 0, 1) := dk_3 (dk_at dksX6_key_0 2 rfl rfl)
theorem dX6_key_3 : decode cX6_key 3 = .ok (.istore_n 2, 1) := dk_61 (dk_at dksX6_key_0 3 rfl rfl)
theorem dX6_key_4 : decode cX6_key 4 = .ok (.iload_n 1, 1) := dk_27 (dk_at dksX6_key_0 4 rfl rfl)
theorem dX6_key_5 : decode cX6_key 5 = .ok (.ldc 77, 2) := dk_18 77 (dk_at dksX6_key_0 5 rfl rfl)
theorem dX6_key_7 : decode cX6_key 7 = .ok (.invokevirtual 79, 3) := dk_182 0 79 (dk_at dksX6_key_0 7 rfl rfl)
theorem dX6_key_10 : decode cX6_key 10 = .ok (.if_icmp .ge 113, 3) := dk_162 0 113 (dk_at dksX6_key_0 10 rfl rfl)
theorem dX6_key_13 : decode cX6_key 13 = .ok (.ldc 77, 2) := dk_18 77 (dk_at dksX6_key_0 13 rfl rfl)
theorem dX6_key_15 : decode cX6_key 15 = .ok (.bipush 32, 2) := dk_16 32 (dk_at dksX6_key_0 15 rfl rfl)
theorem dX6_key_17 : decode cX6_key 17 = .ok (.iload_n 1, 1) := dk_27 (dk_at dksX6_key_0 17 rfl rfl)
theorem dX6_key_18 : decode cX6_key 18 = .ok (.invokevirtual 84, 3) := dk_182 0 84 (dk_at dksX6_key_0 18 rfl rfl)
theorem dX6_key_21 : decode cX6_key 21 = .ok (.istore_n 3, 1) := dk_62 (dk_at dksX6_key_0 21 rfl rfl)
theorem dX6_key_22 : decode cX6_key 22 = .ok (.iload_n 3, 1) := dk_29 (dk_at dksX6_key_0 22 rfl rfl)
theorem dX6_key_23 : decode cX6_key 23 = .ok (.ifCond .ge 9, 3) := dk_156 0 9 (dk_at dksX6_key_1 0 rfl rfl)
theorem dX6_key_26 : decode cX6_key 26 = .ok (.ldc 77, 2) := dk_18 77 (dk_at dksX6_key_1 3 rfl rfl)
theorem dX6_key_28 : decode cX6_key 28 = .ok (.invokevirtual 79, 3) := dk_182 0 79 (dk_at dksX6_key_1 5 rfl rfl)
theorem dX6_key_31 : decode cX6_key 31 = .ok (.istore_n 3, 1) := dk_62 (dk_at dksX6_key_1 8 rfl rfl)
theorem dX6_key_32 : decode cX6_key 32 = .ok (.iload_n 3, 1) := dk_29 (dk_at dksX6_key_1 9 rfl rfl)
theorem dX6_key_33 : decode cX6_key 33 = .ok (.iload_n 1, 1) := dk_27 (dk_at dksX6_key_1 10 rfl rfl)
theorem dX6_key_34 : decode cX6_key 34 = .ok (.isub, 1) := dk_100 (dk_at dksX6_key_1 11 rfl rfl)
theorem dX6_key_35 : decode cX6_key 35 = .ok (.aload_n 0, 1) := dk_42 (dk_at dksX6_key_1 12 rfl rfl)
theorem dX6_key_36 : decode cX6_key 36 = .ok (.getfield 44, 3) := dk_180 0 44 (dk_at dksX6_key_1 13 rfl rfl)
theorem dX6_key_39 : decode cX6_key 39 = .ok (.aload_n 0, 1) := dk_42 (dk_at dksX6_key_1 16 rfl rfl)
theorem dX6_key_40 : decode cX6_key 40 = .ok (.getfield 47, 3) := dk_180 0 47 (dk_at dksX6_key_1 17 rfl rfl)
theorem dX6_key_43 : decode cX6_key 43 = .ok (.isub, 1) := dk_100 (dk_at dksX6_key_1 20 rfl rfl)
theorem dX6_key_44 : decode cX6_key 44 = .ok (.if_icmp .ne 7, 3) := dk_160 0 7 (dk_at dksX6_key_1 21 rfl rfl)
theorem dX6_key_47 : decode cX6_key 47 = .ok (.iconst 1, 1) := dk_4 (dk_at dksX6_key_2 0 rfl rfl)
theorem dX6_key_48 : decode cX6_key 48 = .ok (.goto 4, 3) := dk_167 0 4 (dk_at dksX6_key_2 1 rfl rfl)
theorem dX6_key_51 : decode cX6_key 51 = .ok (.iconst 0, 1) := dk_3 (dk_at dksX6_key_2 4 rfl rfl)
theorem dX6_key_52 : decode cX6_key 52 = .ok (.istore 4, 2) := dk_54 4 (dk_at dksX6_key_2 5 rfl rfl)
theorem dX6_key_54 : decode cX6_key 54 = .ok (.iconst 0, 1) := dk_3 (dk_at dksX6_key_2 7 rfl rfl)
theorem dX6_key_55 : decode cX6_key 55 = .ok (.istore 5, 2) := dk_54 5 (dk_at dksX6_key_2 8 rfl rfl)
theorem dX6_key_57 : decode cX6_key 57 = .ok (.iload 5, 2) := dk_21 5 (dk_at dksX6_key_2 10 rfl rfl)
theorem dX6_key_59 : decode cX6_key 59 = .ok (.iload_n 3, 1) := dk_29 (dk_at dksX6_key_2 12 rfl rfl)
theorem dX6_key_60 : decode cX6_key 60 = .ok (.iload_n 1, 1) := dk_27 (dk_at dksX6_key_2 13 rfl rfl)
theorem dX6_key_61 : decode cX6_key 61 = .ok (.isub, 1) := dk_100 (dk_at dksX6_key_2 14 rfl rfl)
theorem dX6_key_62 : decode cX6_key 62 = .ok (.if_icmp .ge 44, 3) := dk_162 0 44 (dk_at dksX6_key_2 15 rfl rfl)
theorem dX6_key_65 : decode cX6_key 65 = .ok (.iload 4, 2) := dk_21 4 (dk_at dksX6_key_2 18 rfl rfl)
theorem dX6_key_67 : decode cX6_key 67 = .ok (.ifCond .eq 39, 3) := dk_153 0 39 (dk_at dksX6_key_2 20 rfl rfl)
theorem dX6_key_70 : decode cX6_key 70 = .ok (.ldc 77, 2) := dk_18 77 (dk_at dksX6_key_3 0 rfl rfl)
theorem dX6_key_72 : decode cX6_key 72 = .ok (.iload_n 1, 1) := dk_27 (dk_at dksX6_key_3 2 rfl rfl)
theorem dX6_key_73 : decode cX6_key 73 = .ok (.iload 5, 2) := dk_21 5 (dk_at dksX6_key_3 3 rfl rfl)
theorem dX6_key_75 : decode cX6_key 75 = .ok (.iadd, 1) := dk_96 (dk_at dksX6_key_3 5 rfl rfl)
theorem dX6_key_76 : decode cX6_key 76 = .ok (.invokevirtual 87, 3) := dk_182 0 87 (dk_at dksX6_key_3 6 rfl rfl)
theorem dX6_key_79 : decode cX6_key 79 = .ok (.aload_n 0, 1) := dk_42 (dk_at dksX6_key_3 9 rfl rfl)
theorem dX6_key_80 : decode cX6_key 80 = .ok (.aload_n 0, 1) := dk_42 (dk_at dksX6_key_3 10 rfl rfl)
theorem dX6_key_81 : decode cX6_key 81 = .ok (.getfield 47, 3) := dk_180 0 47 (dk_at dksX6_key_3 11 rfl rfl)
theorem dX6_key_84 : decode cX6_key 84 = .ok (.iload 5, 2) := dk_21 5 (dk_at dksX6_key_3 14 rfl rfl)
theorem dX6_key_86 : decode cX6_key 86 = .ok (.iadd, 1) := dk_96 (dk_at dksX6_key_3 16 rfl rfl)
theorem dX6_key_87 : decode cX6_key 87 = .ok (.invokevirtual 36, 3) := dk_182 0 36 (dk_at dksX6_key_3 17 rfl rfl)
theorem dX6_key_90 : decode cX6_key 90 = .ok (.if_icmp .ne 7, 3) := dk_160 0 7 (dk_at dksX6_key_3 20 rfl rfl)
theorem dX6_key_93 : decode cX6_key 93 = .ok (.iconst 1, 1) := dk_4 (dk_at dksX6_key_3 23 rfl rfl)
theorem dX6_key_94 : decode cX6_key 94 = .ok (.goto 4, 3) := dk_167 0 4 (dk_at dksX6_key_4 0 rfl rfl)
theorem dX6_key_97 : decode cX6_key 97 = .ok (.iconst 0, 1) := dk_3 (dk_at dksX6_key_4 3 rfl rfl)
theorem dX6_key_98 : decode cX6_key 98 = .ok (.istore 4, 2) := dk_54 4 (dk_at dksX6_key_4 4 rfl rfl)
theorem dX6_key_100 : decode cX6_key 100 = .ok (.iinc 5 1, 3) := dk_132 5 1 (dk_at dksX6_key_4 6 rfl rfl)
theorem dX6_key_103 : decode cX6_key 103 = .ok (.goto (-46), 3) := dk_167 255 210 (dk_at dksX6_key_4 9 rfl rfl)
theorem dX6_key_106 : decode cX6_key 106 = .ok (.iload 4, 2) := dk_21 4 (dk_at dksX6_key_4 12 rfl rfl)
theorem dX6_key_108 : decode cX6_key 108 = .ok (.ifCond .eq 5, 3) := dk_153 0 5 (dk_at dksX6_key_4 14 rfl rfl)
theorem dX6_key_111 : decode cX6_key 111 = .ok (.iload_n 2, 1) := dk_28 (dk_at dksX6_key_4 17 rfl rfl)
theorem dX6_key_112 : decode cX6_key 112 = .ok (.ireturn, 1) := dk_172 (dk_at dksX6_key_4 18 rfl rfl)
theorem dX6_key_113 : decode cX6_key 113 = .ok (.iload_n 3, 1) := dk_29 (dk_at dksX6_key_4 19 rfl rfl)
theorem dX6_key_114 : decode cX6_key 114 = .ok (.iconst 1, 1) := dk_4 (dk_at dksX6_key_4 20 rfl rfl)
theorem dX6_key_115 : decode cX6_key 115 = .ok (.iadd, 1) := dk_96 (dk_at dksX6_key_4 21 rfl rfl)
theorem dX6_key_116 : decode cX6_key 116 = .ok (.istore_n 1, 1) := dk_60 (dk_at dksX6_key_4 22 rfl rfl)
theorem dX6_key_117 : decode cX6_key 117 = .ok (.iinc 2 1, 3) := dk_132 2 1 (dk_at dksX6_key_5 0 rfl rfl)
theorem dX6_key_120 : decode cX6_key 120 = .ok (.goto (-116), 3) := dk_167 255 140 (dk_at dksX6_key_5 3 rfl rfl)
theorem dX6_key_123 : decode cX6_key 123 = .ok (.iconst (-1), 1) := dk_2 (dk_at dksX6_key_5 6 rfl rfl)
theorem dX6_key_124 : decode cX6_key 124 = .ok (.ireturn, 1) := dk_172 (dk_at dksX6_key_5 7 rfl rfl)
abbrev cX6_isDigit : ByteArray := prog_5_method_5_code
def yX6_isDigit : MethodName := ⟨RX6, "isDigit", "(I)Z"⟩
def dkwX6_isDigit_0 : List UInt8 := [42, 27, 182, 0, 36, 16, 48, 16, 57, 184, 0, 40, 172]
abbrev dktX6_isDigit_0 : List UInt8 := dkwX6_isDigit_0 ++ []
theorem dksX6_isDigit_0 : cX6_isDigit.data.toList.drop 0 = dktX6_isDigit_0 := by decide +kernel
theorem dX6_isDigit_0 : decode cX6_isDigit 0 = .ok (.aload_n 0, 1) := dk_42 (dk_at dksX6_isDigit_0 0 rfl rfl)
theorem dX6_isDigit_1 : decode cX6_isDigit 1 = .ok (.iload_n 1, 1) := dk_27 (dk_at dksX6_isDigit_0 1 rfl rfl)
theorem dX6_isDigit_2 : decode cX6_isDigit 2 = .ok (.invokevirtual 36, 3) := dk_182 0 36 (dk_at dksX6_isDigit_0 2 rfl rfl)
theorem dX6_isDigit_5 : decode cX6_isDigit 5 = .ok (.bipush 48, 2) := dk_16 48 (dk_at dksX6_isDigit_0 5 rfl rfl)
theorem dX6_isDigit_7 : decode cX6_isDigit 7 = .ok (.bipush 57, 2) := dk_16 57 (dk_at dksX6_isDigit_0 7 rfl rfl)
theorem dX6_isDigit_9 : decode cX6_isDigit 9 = .ok (.invokestatic 40, 3) := dk_184 0 40 (dk_at dksX6_isDigit_0 9 rfl rfl)
theorem dX6_isDigit_12 : decode cX6_isDigit 12 = .ok (.ireturn, 1) := dk_172 (dk_at dksX6_isDigit_0 12 rfl rfl)
abbrev cX6_text : ByteArray := prog_5_method_11_code
def yX6_text : MethodName := ⟨RX6, "text", "()LQuietChannels$Told;"⟩
def dkwX6_text_3 : List UInt8 := [167, 255, 188, 42, 180, 0, 25, 176]
abbrev dktX6_text_3 : List UInt8 := dkwX6_text_3 ++ []
def dkwX6_text_2 : List UInt8 := [3, 4, 182, 0, 96, 42, 182, 0, 29, 42, 180, 0, 25, 89, 180, 0, 104, 4, 96, 181, 0, 104]
abbrev dktX6_text_2 : List UInt8 := dkwX6_text_2 ++ dktX6_text_3
def dkwX6_text_1 : List UInt8 := [182, 0, 96, 42, 42, 180, 0, 63, 182, 0, 100, 42, 42, 180, 0, 50, 7, 160, 0, 7, 4, 167, 0, 4]
abbrev dktX6_text_1 : List UInt8 := dkwX6_text_1 ++ dktX6_text_2
def dkwX6_text_0 : List UInt8 := [42, 180, 0, 50, 153, 0, 67, 42, 42, 180, 0, 50, 4, 160, 0, 7, 4, 167, 0, 4, 3, 4]
abbrev dktX6_text_0 : List UInt8 := dkwX6_text_0 ++ dktX6_text_1
theorem dksX6_text_0 : cX6_text.data.toList.drop 0 = dktX6_text_0 := by decide +kernel
theorem dksX6_text_1 : cX6_text.data.toList.drop 22 = dktX6_text_1 := dk_seg dksX6_text_0 22 rfl rfl
theorem dksX6_text_2 : cX6_text.data.toList.drop 46 = dktX6_text_2 := dk_seg dksX6_text_1 24 rfl rfl
theorem dksX6_text_3 : cX6_text.data.toList.drop 68 = dktX6_text_3 := dk_seg dksX6_text_2 22 rfl rfl
theorem dX6_text_0 : decode cX6_text 0 = .ok (.aload_n 0, 1) := dk_42 (dk_at dksX6_text_0 0 rfl rfl)
theorem dX6_text_1 : decode cX6_text 1 = .ok (.getfield 50, 3) := dk_180 0 50 (dk_at dksX6_text_0 1 rfl rfl)
theorem dX6_text_4 : decode cX6_text 4 = .ok (.ifCond .eq 67, 3) := dk_153 0 67 (dk_at dksX6_text_0 4 rfl rfl)
theorem dX6_text_7 : decode cX6_text 7 = .ok (.aload_n 0, 1) := dk_42 (dk_at dksX6_text_0 7 rfl rfl)
theorem dX6_text_8 : decode cX6_text 8 = .ok (.aload_n 0, 1) := dk_42 (dk_at dksX6_text_0 8 rfl rfl)
theorem dX6_text_9 : decode cX6_text 9 = .ok (.getfield 50, 3) := dk_180 0 50 (dk_at dksX6_text_0 9 rfl rfl)
theorem dX6_text_12 : decode cX6_text 12 = .ok (.iconst 1, 1) := dk_4 (dk_at dksX6_text_0 12 rfl rfl)
theorem dX6_text_13 : decode cX6_text 13 = .ok (.if_icmp .ne 7, 3) := dk_160 0 7 (dk_at dksX6_text_0 13 rfl rfl)
theorem dX6_text_16 : decode cX6_text 16 = .ok (.iconst 1, 1) := dk_4 (dk_at dksX6_text_0 16 rfl rfl)
theorem dX6_text_17 : decode cX6_text 17 = .ok (.goto 4, 3) := dk_167 0 4 (dk_at dksX6_text_0 17 rfl rfl)
theorem dX6_text_20 : decode cX6_text 20 = .ok (.iconst 0, 1) := dk_3 (dk_at dksX6_text_0 20 rfl rfl)
theorem dX6_text_21 : decode cX6_text 21 = .ok (.iconst 1, 1) := dk_4 (dk_at dksX6_text_0 21 rfl rfl)
theorem dX6_text_22 : decode cX6_text 22 = .ok (.invokevirtual 96, 3) := dk_182 0 96 (dk_at dksX6_text_1 0 rfl rfl)
theorem dX6_text_25 : decode cX6_text 25 = .ok (.aload_n 0, 1) := dk_42 (dk_at dksX6_text_1 3 rfl rfl)
theorem dX6_text_26 : decode cX6_text 26 = .ok (.aload_n 0, 1) := dk_42 (dk_at dksX6_text_1 4 rfl rfl)
theorem dX6_text_27 : decode cX6_text 27 = .ok (.getfield 63, 3) := dk_180 0 63 (dk_at dksX6_text_1 5 rfl rfl)
theorem dX6_text_30 : decode cX6_text 30 = .ok (.invokevirtual 100, 3) := dk_182 0 100 (dk_at dksX6_text_1 8 rfl rfl)
theorem dX6_text_33 : decode cX6_text 33 = .ok (.aload_n 0, 1) := dk_42 (dk_at dksX6_text_1 11 rfl rfl)
theorem dX6_text_34 : decode cX6_text 34 = .ok (.aload_n 0, 1) := dk_42 (dk_at dksX6_text_1 12 rfl rfl)
theorem dX6_text_35 : decode cX6_text 35 = .ok (.getfield 50, 3) := dk_180 0 50 (dk_at dksX6_text_1 13 rfl rfl)
theorem dX6_text_38 : decode cX6_text 38 = .ok (.iconst 4, 1) := dk_7 (dk_at dksX6_text_1 16 rfl rfl)
theorem dX6_text_39 : decode cX6_text 39 = .ok (.if_icmp .ne 7, 3) := dk_160 0 7 (dk_at dksX6_text_1 17 rfl rfl)
theorem dX6_text_42 : decode cX6_text 42 = .ok (.iconst 1, 1) := dk_4 (dk_at dksX6_text_1 20 rfl rfl)
theorem dX6_text_43 : decode cX6_text 43 = .ok (.goto 4, 3) := dk_167 0 4 (dk_at dksX6_text_1 21 rfl rfl)
theorem dX6_text_46 : decode cX6_text 46 = .ok (.iconst 0, 1) := dk_3 (dk_at dksX6_text_2 0 rfl rfl)
theorem dX6_text_47 : decode cX6_text 47 = .ok (.iconst 1, 1) := dk_4 (dk_at dksX6_text_2 1 rfl rfl)
theorem dX6_text_48 : decode cX6_text 48 = .ok (.invokevirtual 96, 3) := dk_182 0 96 (dk_at dksX6_text_2 2 rfl rfl)
theorem dX6_text_51 : decode cX6_text 51 = .ok (.aload_n 0, 1) := dk_42 (dk_at dksX6_text_2 5 rfl rfl)
theorem dX6_text_52 : decode cX6_text 52 = .ok (.invokevirtual 29, 3) := dk_182 0 29 (dk_at dksX6_text_2 6 rfl rfl)
theorem dX6_text_55 : decode cX6_text 55 = .ok (.aload_n 0, 1) := dk_42 (dk_at dksX6_text_2 9 rfl rfl)
theorem dX6_text_56 : decode cX6_text 56 = .ok (.getfield 25, 3) := dk_180 0 25 (dk_at dksX6_text_2 10 rfl rfl)
theorem dX6_text_59 : decode cX6_text 59 = .ok (.dup, 1) := dk_89 (dk_at dksX6_text_2 13 rfl rfl)
theorem dX6_text_60 : decode cX6_text 60 = .ok (.getfield 104, 3) := dk_180 0 104 (dk_at dksX6_text_2 14 rfl rfl)
theorem dX6_text_63 : decode cX6_text 63 = .ok (.iconst 1, 1) := dk_4 (dk_at dksX6_text_2 17 rfl rfl)
theorem dX6_text_64 : decode cX6_text 64 = .ok (.iadd, 1) := dk_96 (dk_at dksX6_text_2 18 rfl rfl)
theorem dX6_text_65 : decode cX6_text 65 = .ok (.putfield 104, 3) := dk_181 0 104 (dk_at dksX6_text_2 19 rfl rfl)
theorem dX6_text_68 : decode cX6_text 68 = .ok (.goto (-68), 3) := dk_167 255 188 (dk_at dksX6_text_3 0 rfl rfl)
theorem dX6_text_71 : decode cX6_text 71 = .ok (.aload_n 0, 1) := dk_42 (dk_at dksX6_text_3 3 rfl rfl)
theorem dX6_text_72 : decode cX6_text 72 = .ok (.getfield 25, 3) := dk_180 0 25 (dk_at dksX6_text_3 4 rfl rfl)
theorem dX6_text_75 : decode cX6_text 75 = .ok (.areturn, 1) := dk_176 (dk_at dksX6_text_3 7 rfl rfl)
abbrev cX6_must : ByteArray := prog_5_method_9_code
def yX6_must : MethodName := ⟨RX6, "must", "(ZI)V"⟩
def dkwX6_must_0 : List UInt8 := [27, 154, 0, 16, 187, 0, 91, 89, 28, 42, 180, 0, 47, 183, 0, 93, 191, 177]
abbrev dktX6_must_0 : List UInt8 := dkwX6_must_0 ++ []
theorem dksX6_must_0 : cX6_must.data.toList.drop 0 = dktX6_must_0 := by decide +kernel
theorem dX6_must_0 : decode cX6_must 0 = .ok (.iload_n 1, 1) := dk_27 (dk_at dksX6_must_0 0 rfl rfl)
theorem dX6_must_1 : decode cX6_must 1 = .ok (.ifCond .ne 16, 3) := dk_154 0 16 (dk_at dksX6_must_0 1 rfl rfl)
theorem dX6_must_4 : decode cX6_must 4 = .ok (.new 91, 3) := dk_187 0 91 (dk_at dksX6_must_0 4 rfl rfl)
theorem dX6_must_7 : decode cX6_must 7 = .ok (.dup, 1) := dk_89 (dk_at dksX6_must_0 7 rfl rfl)
theorem dX6_must_8 : decode cX6_must 8 = .ok (.iload_n 2, 1) := dk_28 (dk_at dksX6_must_0 8 rfl rfl)
theorem dX6_must_9 : decode cX6_must 9 = .ok (.aload_n 0, 1) := dk_42 (dk_at dksX6_must_0 9 rfl rfl)
theorem dX6_must_10 : decode cX6_must 10 = .ok (.getfield 47, 3) := dk_180 0 47 (dk_at dksX6_must_0 10 rfl rfl)
theorem dX6_must_13 : decode cX6_must 13 = .ok (.invokespecial 93, 3) := dk_183 0 93 (dk_at dksX6_must_0 13 rfl rfl)
theorem dX6_must_16 : decode cX6_must 16 = .ok (.athrow, 1) := dk_191 (dk_at dksX6_must_0 16 rfl rfl)
theorem dX6_must_17 : decode cX6_must 17 = .ok (.return_, 1) := dk_177 (dk_at dksX6_must_0 17 rfl rfl)
abbrev cX6_line : ByteArray := prog_5_method_12_code
def yX6_line : MethodName := ⟨RX6, "line", "(I)V"⟩
def dkwX6_line_11 : List UInt8 := [167, 255, 232, 167, 0, 17, 42, 180, 0, 25, 42, 3, 18, 148, 182, 0, 129, 181, 0, 149, 177]
abbrev dktX6_line_11 : List UInt8 := dkwX6_line_11 ++ []
def dkwX6_line_10 : List UInt8 := [162, 0, 25, 42, 180, 0, 25, 180, 0, 144, 28, 42, 3, 16, 99, 182, 0, 129, 79, 132, 2, 1]
abbrev dktX6_line_10 : List UInt8 := dkwX6_line_10 ++ dktX6_line_11
def dkwX6_line_9 : List UInt8 := [167, 0, 66, 42, 180, 0, 25, 42, 3, 16, 7, 182, 0, 129, 181, 0, 141, 167, 0, 49, 3, 61, 28, 6]
abbrev dktX6_line_9 : List UInt8 := dkwX6_line_9 ++ dktX6_line_10
def dkwX6_line_8 : List UInt8 := [182, 0, 129, 181, 0, 135, 167, 0, 83, 42, 180, 0, 25, 42, 4, 16, 20, 182, 0, 129, 181, 0, 138]
abbrev dktX6_line_8 : List UInt8 := dkwX6_line_8 ++ dktX6_line_9
def dkwX6_line_7 : List UInt8 := [42, 180, 0, 25, 42, 7, 16, 60, 182, 0, 129, 181, 0, 132, 167, 0, 99, 42, 180, 0, 25, 42, 3, 8]
abbrev dktX6_line_7 : List UInt8 := dkwX6_line_7 ++ dktX6_line_8
def dkwX6_line_6 : List UInt8 := [170, 0, 0, 0, 0, 0, 134, 0, 0, 0, 0, 0, 0, 0, 4, 0, 0, 0, 35, 0, 0, 0, 52, 0, 0, 0, 68, 0, 0, 0, 85, 0, 0, 0, 102]
abbrev dktX6_line_6 : List UInt8 := dkwX6_line_6 ++ dktX6_line_7
def dkwX6_line_5 : List UInt8 := [182, 0, 96, 42, 180, 0, 25, 89, 180, 0, 126, 4, 27, 120, 128, 181, 0, 126, 42, 182, 0, 29, 27]
abbrev dktX6_line_5 : List UInt8 := dkwX6_line_5 ++ dktX6_line_6
def dkwX6_line_4 : List UInt8 := [177, 42, 42, 180, 0, 25, 180, 0, 126, 27, 122, 4, 126, 154, 0, 7, 4, 167, 0, 4, 3, 6]
abbrev dktX6_line_4 : List UInt8 := dkwX6_line_4 ++ dktX6_line_5
def dkwX6_line_3 : List UInt8 := [42, 182, 0, 111, 177, 42, 182, 0, 114, 177, 42, 182, 0, 117, 177, 42, 182, 0, 120, 177, 42, 182, 0, 123]
abbrev dktX6_line_3 : List UInt8 := dkwX6_line_3 ++ dktX6_line_4
def dkwX6_line_2 : List UInt8 := [170, 0, 0, 0, 0, 59, 0, 0, 0, 6, 0, 0, 0, 10, 0, 0, 0, 34, 0, 0, 0, 39, 0, 0, 0, 44, 0, 0, 0, 49, 0, 0, 0, 54]
abbrev dktX6_line_2 : List UInt8 := dkwX6_line_2 ++ dktX6_line_3
def dkwX6_line_1 : List UInt8 := [164, 0, 14, 27, 16, 9, 162, 0, 8, 42, 4, 181, 0, 107, 27]
abbrev dktX6_line_1 : List UInt8 := dkwX6_line_1 ++ dktX6_line_2
def dkwX6_line_0 : List UInt8 := [42, 27, 154, 0, 10, 42, 180, 0, 107, 154, 0, 7, 4, 167, 0, 4, 3, 4, 182, 0, 96, 27, 8]
abbrev dktX6_line_0 : List UInt8 := dkwX6_line_0 ++ dktX6_line_1
theorem dksX6_line_0 : cX6_line.data.toList.drop 0 = dktX6_line_0 := by decide +kernel
theorem dksX6_line_1 : cX6_line.data.toList.drop 23 = dktX6_line_1 := dk_seg dksX6_line_0 23 rfl rfl
theorem dksX6_line_2 : cX6_line.data.toList.drop 38 = dktX6_line_2 := dk_seg dksX6_line_1 15 rfl rfl
theorem dksX6_line_3 : cX6_line.data.toList.drop 72 = dktX6_line_3 := dk_seg dksX6_line_2 34 rfl rfl
theorem dksX6_line_4 : cX6_line.data.toList.drop 96 = dktX6_line_4 := dk_seg dksX6_line_3 24 rfl rfl
theorem dksX6_line_5 : cX6_line.data.toList.drop 118 = dktX6_line_5 := dk_seg dksX6_line_4 22 rfl rfl
theorem dksX6_line_6 : cX6_line.data.toList.drop 141 = dktX6_line_6 := dk_seg dksX6_line_5 23 rfl rfl
theorem dksX6_line_7 : cX6_line.data.toList.drop 176 = dktX6_line_7 := dk_seg dksX6_line_6 35 rfl rfl
theorem dksX6_line_8 : cX6_line.data.toList.drop 200 = dktX6_line_8 := dk_seg dksX6_line_7 24 rfl rfl
theorem dksX6_line_9 : cX6_line.data.toList.drop 223 = dktX6_line_9 := dk_seg dksX6_line_8 23 rfl rfl
theorem dksX6_line_10 : cX6_line.data.toList.drop 247 = dktX6_line_10 := dk_seg dksX6_line_9 24 rfl rfl
theorem dksX6_line_11 : cX6_line.data.toList.drop 269 = dktX6_line_11 := dk_seg dksX6_line_10 22 rfl rfl
theorem dX6_line_0 : decode cX6_line 0 = .ok (.aload_n 0, 1) := dk_42 (dk_at dksX6_line_0 0 rfl rfl)
theorem dX6_line_1 : decode cX6_line 1 = .ok (.iload_n 1, 1) := dk_27 (dk_at dksX6_line_0 1 rfl rfl)
theorem dX6_line_2 : decode cX6_line 2 = .ok (.ifCond .ne 10, 3) := dk_154 0 10 (dk_at dksX6_line_0 2 rfl rfl)
theorem dX6_line_5 : decode cX6_line 5 = .ok (.aload_n 0, 1) := dk_42 (dk_at dksX6_line_0 5 rfl rfl)
theorem dX6_line_6 : decode cX6_line 6 = .ok (.getfield 107, 3) := dk_180 0 107 (dk_at dksX6_line_0 6 rfl rfl)
theorem dX6_line_9 : decode cX6_line 9 = .ok (.ifCond .ne 7, 3) := dk_154 0 7 (dk_at dksX6_line_0 9 rfl rfl)
theorem dX6_line_12 : decode cX6_line 12 = .ok (.iconst 1, 1) := dk_4 (dk_at dksX6_line_0 12 rfl rfl)
theorem dX6_line_13 : decode cX6_line 13 = .ok (.goto 4, 3) := dk_167 0 4 (dk_at dksX6_line_0 13 rfl rfl)
theorem dX6_line_16 : decode cX6_line 16 = .ok (.iconst 0, 1) := dk_3 (dk_at dksX6_line_0 16 rfl rfl)
theorem dX6_line_17 : decode cX6_line 17 = .ok (.iconst 1, 1) := dk_4 (dk_at dksX6_line_0 17 rfl rfl)
theorem dX6_line_18 : decode cX6_line 18 = .ok (.invokevirtual 96, 3) := dk_182 0 96 (dk_at dksX6_line_0 18 rfl rfl)
theorem dX6_line_21 : decode cX6_line 21 = .ok (.iload_n 1, 1) := dk_27 (dk_at dksX6_line_0 21 rfl rfl)
theorem dX6_line_22 : decode cX6_line 22 = .ok (.iconst 5, 1) := dk_8 (dk_at dksX6_line_0 22 rfl rfl)
theorem dX6_line_23 : decode cX6_line 23 = .ok (.if_icmp .le 14, 3) := dk_164 0 14 (dk_at dksX6_line_1 0 rfl rfl)
theorem dX6_line_26 : decode cX6_line 26 = .ok (.iload_n 1, 1) := dk_27 (dk_at dksX6_line_1 3 rfl rfl)
theorem dX6_line_27 : decode cX6_line 27 = .ok (.bipush 9, 2) := dk_16 9 (dk_at dksX6_line_1 4 rfl rfl)
theorem dX6_line_29 : decode cX6_line 29 = .ok (.if_icmp .ge 8, 3) := dk_162 0 8 (dk_at dksX6_line_1 6 rfl rfl)
theorem dX6_line_32 : decode cX6_line 32 = .ok (.aload_n 0, 1) := dk_42 (dk_at dksX6_line_1 9 rfl rfl)
theorem dX6_line_33 : decode cX6_line 33 = .ok (.iconst 1, 1) := dk_4 (dk_at dksX6_line_1 10 rfl rfl)
theorem dX6_line_34 : decode cX6_line 34 = .ok (.putfield 107, 3) := dk_181 0 107 (dk_at dksX6_line_1 11 rfl rfl)
theorem dX6_line_37 : decode cX6_line 37 = .ok (.iload_n 1, 1) := dk_27 (dk_at dksX6_line_1 14 rfl rfl)
theorem dX6_line_38 : decode cX6_line 38 = .ok (.tableswitch 59 6 10 #[34, 39, 44, 49, 54], 34) := by decide +kernel
theorem dX6_line_72 : decode cX6_line 72 = .ok (.aload_n 0, 1) := dk_42 (dk_at dksX6_line_3 0 rfl rfl)
theorem dX6_line_73 : decode cX6_line 73 = .ok (.invokevirtual 111, 3) := dk_182 0 111 (dk_at dksX6_line_3 1 rfl rfl)
theorem dX6_line_76 : decode cX6_line 76 = .ok (.return_, 1) := dk_177 (dk_at dksX6_line_3 4 rfl rfl)
theorem dX6_line_77 : decode cX6_line 77 = .ok (.aload_n 0, 1) := dk_42 (dk_at dksX6_line_3 5 rfl rfl)
theorem dX6_line_78 : decode cX6_line 78 = .ok (.invokevirtual 114, 3) := dk_182 0 114 (dk_at dksX6_line_3 6 rfl rfl)
theorem dX6_line_81 : decode cX6_line 81 = .ok (.return_, 1) := dk_177 (dk_at dksX6_line_3 9 rfl rfl)
theorem dX6_line_82 : decode cX6_line 82 = .ok (.aload_n 0, 1) := dk_42 (dk_at dksX6_line_3 10 rfl rfl)
theorem dX6_line_83 : decode cX6_line 83 = .ok (.invokevirtual 117, 3) := dk_182 0 117 (dk_at dksX6_line_3 11 rfl rfl)
theorem dX6_line_86 : decode cX6_line 86 = .ok (.return_, 1) := dk_177 (dk_at dksX6_line_3 14 rfl rfl)
theorem dX6_line_87 : decode cX6_line 87 = .ok (.aload_n 0, 1) := dk_42 (dk_at dksX6_line_3 15 rfl rfl)
theorem dX6_line_88 : decode cX6_line 88 = .ok (.invokevirtual 120, 3) := dk_182 0 120 (dk_at dksX6_line_3 16 rfl rfl)
theorem dX6_line_91 : decode cX6_line 91 = .ok (.return_, 1) := dk_177 (dk_at dksX6_line_3 19 rfl rfl)
theorem dX6_line_92 : decode cX6_line 92 = .ok (.aload_n 0, 1) := dk_42 (dk_at dksX6_line_3 20 rfl rfl)
theorem dX6_line_93 : decode cX6_line 93 = .ok (.invokevirtual 123, 3) := dk_182 0 123 (dk_at dksX6_line_3 21 rfl rfl)
theorem dX6_line_96 : decode cX6_line 96 = .ok (.return_, 1) := dk_177 (dk_at dksX6_line_4 0 rfl rfl)
theorem dX6_line_97 : decode cX6_line 97 = .ok (.aload_n 0, 1) := dk_42 (dk_at dksX6_line_4 1 rfl rfl)
theorem dX6_line_98 : decode cX6_line 98 = .ok (.aload_n 0, 1) := dk_42 (dk_at dksX6_line_4 2 rfl rfl)
theorem dX6_line_99 : decode cX6_line 99 = .ok (.getfield 25, 3) := dk_180 0 25 (dk_at dksX6_line_4 3 rfl rfl)
theorem dX6_line_102 : decode cX6_line 102 = .ok (.getfield 126, 3) := dk_180 0 126 (dk_at dksX6_line_4 6 rfl rfl)
theorem dX6_line_105 : decode cX6_line 105 = .ok (.iload_n 1, 1) := dk_27 (dk_at dksX6_line_4 9 rfl rfl)
theorem dX6_line_106 : decode cX6_line 106 = .ok (.ishr, 1) := dk_122 (dk_at dksX6_line_4 10 rfl rfl)
theorem dX6_line_107 : decode cX6_line 107 = .ok (.iconst 1, 1) := dk_4 (dk_at dksX6_line_4 11 rfl rfl)
theorem dX6_line_108 : decode cX6_line 108 = .ok (.iand, 1) := dk_126 (dk_at dksX6_line_4 12 rfl rfl)
theorem dX6_line_109 : decode cX6_line 109 = .ok (.ifCond .ne 7, 3) := dk_154 0 7 (dk_at dksX6_line_4 13 rfl rfl)
theorem dX6_line_112 : decode cX6_line 112 = .ok (.iconst 1, 1) := dk_4 (dk_at dksX6_line_4 16 rfl rfl)
theorem dX6_line_113 : decode cX6_line 113 = .ok (.goto 4, 3) := dk_167 0 4 (dk_at dksX6_line_4 17 rfl rfl)
theorem dX6_line_116 : decode cX6_line 116 = .ok (.iconst 0, 1) := dk_3 (dk_at dksX6_line_4 20 rfl rfl)
theorem dX6_line_117 : decode cX6_line 117 = .ok (.iconst 3, 1) := dk_6 (dk_at dksX6_line_4 21 rfl rfl)
theorem dX6_line_118 : decode cX6_line 118 = .ok (.invokevirtual 96, 3) := dk_182 0 96 (dk_at dksX6_line_5 0 rfl rfl)
theorem dX6_line_121 : decode cX6_line 121 = .ok (.aload_n 0, 1) := dk_42 (dk_at dksX6_line_5 3 rfl rfl)
theorem dX6_line_122 : decode cX6_line 122 = .ok (.getfield 25, 3) := dk_180 0 25 (dk_at dksX6_line_5 4 rfl rfl)
theorem dX6_line_125 : decode cX6_line 125 = .ok (.dup, 1) := dk_89 (dk_at dksX6_line_5 7 rfl rfl)
theorem dX6_line_126 : decode cX6_line 126 = .ok (.getfield 126, 3) := dk_180 0 126 (dk_at dksX6_line_5 8 rfl rfl)
theorem dX6_line_129 : decode cX6_line 129 = .ok (.iconst 1, 1) := dk_4 (dk_at dksX6_line_5 11 rfl rfl)
theorem dX6_line_130 : decode cX6_line 130 = .ok (.iload_n 1, 1) := dk_27 (dk_at dksX6_line_5 12 rfl rfl)
theorem dX6_line_131 : decode cX6_line 131 = .ok (.ishl, 1) := dk_120 (dk_at dksX6_line_5 13 rfl rfl)
theorem dX6_line_132 : decode cX6_line 132 = .ok (.ior, 1) := dk_128 (dk_at dksX6_line_5 14 rfl rfl)
theorem dX6_line_133 : decode cX6_line 133 = .ok (.putfield 126, 3) := dk_181 0 126 (dk_at dksX6_line_5 15 rfl rfl)
theorem dX6_line_136 : decode cX6_line 136 = .ok (.aload_n 0, 1) := dk_42 (dk_at dksX6_line_5 18 rfl rfl)
theorem dX6_line_137 : decode cX6_line 137 = .ok (.invokevirtual 29, 3) := dk_182 0 29 (dk_at dksX6_line_5 19 rfl rfl)
theorem dX6_line_140 : decode cX6_line 140 = .ok (.iload_n 1, 1) := dk_27 (dk_at dksX6_line_5 22 rfl rfl)
theorem dX6_line_141 : decode cX6_line 141 = .ok (.tableswitch 134 0 4 #[35, 52, 68, 85, 102], 35) := by decide +kernel
theorem dX6_line_176 : decode cX6_line 176 = .ok (.aload_n 0, 1) := dk_42 (dk_at dksX6_line_7 0 rfl rfl)
theorem dX6_line_177 : decode cX6_line 177 = .ok (.getfield 25, 3) := dk_180 0 25 (dk_at dksX6_line_7 1 rfl rfl)
theorem dX6_line_180 : decode cX6_line 180 = .ok (.aload_n 0, 1) := dk_42 (dk_at dksX6_line_7 4 rfl rfl)
theorem dX6_line_181 : decode cX6_line 181 = .ok (.iconst 4, 1) := dk_7 (dk_at dksX6_line_7 5 rfl rfl)
theorem dX6_line_182 : decode cX6_line 182 = .ok (.bipush 60, 2) := dk_16 60 (dk_at dksX6_line_7 6 rfl rfl)
theorem dX6_line_184 : decode cX6_line 184 = .ok (.invokevirtual 129, 3) := dk_182 0 129 (dk_at dksX6_line_7 8 rfl rfl)
theorem dX6_line_187 : decode cX6_line 187 = .ok (.putfield 132, 3) := dk_181 0 132 (dk_at dksX6_line_7 11 rfl rfl)
theorem dX6_line_190 : decode cX6_line 190 = .ok (.goto 99, 3) := dk_167 0 99 (dk_at dksX6_line_7 14 rfl rfl)
theorem dX6_line_193 : decode cX6_line 193 = .ok (.aload_n 0, 1) := dk_42 (dk_at dksX6_line_7 17 rfl rfl)
theorem dX6_line_194 : decode cX6_line 194 = .ok (.getfield 25, 3) := dk_180 0 25 (dk_at dksX6_line_7 18 rfl rfl)
theorem dX6_line_197 : decode cX6_line 197 = .ok (.aload_n 0, 1) := dk_42 (dk_at dksX6_line_7 21 rfl rfl)
theorem dX6_line_198 : decode cX6_line 198 = .ok (.iconst 0, 1) := dk_3 (dk_at dksX6_line_7 22 rfl rfl)
theorem dX6_line_199 : decode cX6_line 199 = .ok (.iconst 5, 1) := dk_8 (dk_at dksX6_line_7 23 rfl rfl)
theorem dX6_line_200 : decode cX6_line 200 = .ok (.invokevirtual 129, 3) := dk_182 0 129 (dk_at dksX6_line_8 0 rfl rfl)
theorem dX6_line_203 : decode cX6_line 203 = .ok (.putfield 135, 3) := dk_181 0 135 (dk_at dksX6_line_8 3 rfl rfl)
theorem dX6_line_206 : decode cX6_line 206 = .ok (.goto 83, 3) := dk_167 0 83 (dk_at dksX6_line_8 6 rfl rfl)
theorem dX6_line_209 : decode cX6_line 209 = .ok (.aload_n 0, 1) := dk_42 (dk_at dksX6_line_8 9 rfl rfl)
theorem dX6_line_210 : decode cX6_line 210 = .ok (.getfield 25, 3) := dk_180 0 25 (dk_at dksX6_line_8 10 rfl rfl)
theorem dX6_line_213 : decode cX6_line 213 = .ok (.aload_n 0, 1) := dk_42 (dk_at dksX6_line_8 13 rfl rfl)
theorem dX6_line_214 : decode cX6_line 214 = .ok (.iconst 1, 1) := dk_4 (dk_at dksX6_line_8 14 rfl rfl)
theorem dX6_line_215 : decode cX6_line 215 = .ok (.bipush 20, 2) := dk_16 20 (dk_at dksX6_line_8 15 rfl rfl)
theorem dX6_line_217 : decode cX6_line 217 = .ok (.invokevirtual 129, 3) := dk_182 0 129 (dk_at dksX6_line_8 17 rfl rfl)
theorem dX6_line_220 : decode cX6_line 220 = .ok (.putfield 138, 3) := dk_181 0 138 (dk_at dksX6_line_8 20 rfl rfl)
theorem dX6_line_223 : decode cX6_line 223 = .ok (.goto 66, 3) := dk_167 0 66 (dk_at dksX6_line_9 0 rfl rfl)
theorem dX6_line_226 : decode cX6_line 226 = .ok (.aload_n 0, 1) := dk_42 (dk_at dksX6_line_9 3 rfl rfl)
theorem dX6_line_227 : decode cX6_line 227 = .ok (.getfield 25, 3) := dk_180 0 25 (dk_at dksX6_line_9 4 rfl rfl)
theorem dX6_line_230 : decode cX6_line 230 = .ok (.aload_n 0, 1) := dk_42 (dk_at dksX6_line_9 7 rfl rfl)
theorem dX6_line_231 : decode cX6_line 231 = .ok (.iconst 0, 1) := dk_3 (dk_at dksX6_line_9 8 rfl rfl)
theorem dX6_line_232 : decode cX6_line 232 = .ok (.bipush 7, 2) := dk_16 7 (dk_at dksX6_line_9 9 rfl rfl)
theorem dX6_line_234 : decode cX6_line 234 = .ok (.invokevirtual 129, 3) := dk_182 0 129 (dk_at dksX6_line_9 11 rfl rfl)
theorem dX6_line_237 : decode cX6_line 237 = .ok (.putfield 141, 3) := dk_181 0 141 (dk_at dksX6_line_9 14 rfl rfl)
theorem dX6_line_240 : decode cX6_line 240 = .ok (.goto 49, 3) := dk_167 0 49 (dk_at dksX6_line_9 17 rfl rfl)
theorem dX6_line_243 : decode cX6_line 243 = .ok (.iconst 0, 1) := dk_3 (dk_at dksX6_line_9 20 rfl rfl)
theorem dX6_line_244 : decode cX6_line 244 = .ok (.istore_n 2, 1) := dk_61 (dk_at dksX6_line_9 21 rfl rfl)
theorem dX6_line_245 : decode cX6_line 245 = .ok (.iload_n 2, 1) := dk_28 (dk_at dksX6_line_9 22 rfl rfl)
theorem dX6_line_246 : decode cX6_line 246 = .ok (.iconst 3, 1) := dk_6 (dk_at dksX6_line_9 23 rfl rfl)
theorem dX6_line_247 : decode cX6_line 247 = .ok (.if_icmp .ge 25, 3) := dk_162 0 25 (dk_at dksX6_line_10 0 rfl rfl)
theorem dX6_line_250 : decode cX6_line 250 = .ok (.aload_n 0, 1) := dk_42 (dk_at dksX6_line_10 3 rfl rfl)
theorem dX6_line_251 : decode cX6_line 251 = .ok (.getfield 25, 3) := dk_180 0 25 (dk_at dksX6_line_10 4 rfl rfl)
theorem dX6_line_254 : decode cX6_line 254 = .ok (.getfield 144, 3) := dk_180 0 144 (dk_at dksX6_line_10 7 rfl rfl)
theorem dX6_line_257 : decode cX6_line 257 = .ok (.iload_n 2, 1) := dk_28 (dk_at dksX6_line_10 10 rfl rfl)
theorem dX6_line_258 : decode cX6_line 258 = .ok (.aload_n 0, 1) := dk_42 (dk_at dksX6_line_10 11 rfl rfl)
theorem dX6_line_259 : decode cX6_line 259 = .ok (.iconst 0, 1) := dk_3 (dk_at dksX6_line_10 12 rfl rfl)
theorem dX6_line_260 : decode cX6_line 260 = .ok (.bipush 99, 2) := dk_16 99 (dk_at dksX6_line_10 13 rfl rfl)
theorem dX6_line_262 : decode cX6_line 262 = .ok (.invokevirtual 129, 3) := dk_182 0 129 (dk_at dksX6_line_10 15 rfl rfl)
theorem dX6_line_265 : decode cX6_line 265 = .ok (.iastore, 1) := dk_79 (dk_at dksX6_line_10 18 rfl rfl)
theorem dX6_line_266 : decode cX6_line 266 = .ok (.iinc 2 1, 3) := dk_132 2 1 (dk_at dksX6_line_10 19 rfl rfl)
theorem dX6_line_269 : decode cX6_line 269 = .ok (.goto (-24), 3) := dk_167 255 232 (dk_at dksX6_line_11 0 rfl rfl)
theorem dX6_line_272 : decode cX6_line 272 = .ok (.goto 17, 3) := dk_167 0 17 (dk_at dksX6_line_11 3 rfl rfl)
theorem dX6_line_275 : decode cX6_line 275 = .ok (.aload_n 0, 1) := dk_42 (dk_at dksX6_line_11 6 rfl rfl)
theorem dX6_line_276 : decode cX6_line 276 = .ok (.getfield 25, 3) := dk_180 0 25 (dk_at dksX6_line_11 7 rfl rfl)
theorem dX6_line_279 : decode cX6_line 279 = .ok (.aload_n 0, 1) := dk_42 (dk_at dksX6_line_11 10 rfl rfl)
theorem dX6_line_280 : decode cX6_line 280 = .ok (.iconst 0, 1) := dk_3 (dk_at dksX6_line_11 11 rfl rfl)
theorem dX6_line_281 : decode cX6_line 281 = .ok (.ldc 148, 2) := dk_18 148 (dk_at dksX6_line_11 12 rfl rfl)
theorem dX6_line_283 : decode cX6_line 283 = .ok (.invokevirtual 129, 3) := dk_182 0 129 (dk_at dksX6_line_11 14 rfl rfl)
theorem dX6_line_286 : decode cX6_line 286 = .ok (.putfield 149, 3) := dk_181 0 149 (dk_at dksX6_line_11 17 rfl rfl)
theorem dX6_line_289 : decode cX6_line 289 = .ok (.return_, 1) := dk_177 (dk_at dksX6_line_11 20 rfl rfl)
abbrev cX6_user : ByteArray := prog_5_method_13_code
def yX6_user : MethodName := ⟨RX6, "user", "()V"⟩
def dkwX6_user_6 : List UInt8 := [182, 0, 129, 183, 0, 163, 83, 42, 180, 0, 25, 89, 180, 0, 152, 4, 96, 181, 0, 152, 177]
abbrev dktX6_user_6 : List UInt8 := dkwX6_user_6 ++ []
def dkwX6_user_5 : List UInt8 := [180, 0, 152, 187, 0, 161, 89, 27, 28, 29, 21, 4, 42, 21, 4, 42, 180, 0, 25, 180, 0, 132]
abbrev dktX6_user_5 : List UInt8 := dkwX6_user_5 ++ dktX6_user_6
def dkwX6_user_4 : List UInt8 := [4, 42, 180, 0, 25, 180, 0, 132, 182, 0, 129, 54, 4, 42, 180, 0, 25, 180, 0, 157, 42, 180, 0, 25]
abbrev dktX6_user_4 : List UInt8 := dkwX6_user_4 ++ dktX6_user_5
def dkwX6_user_3 : List UInt8 := [180, 0, 63, 60, 42, 182, 0, 29, 42, 3, 5, 182, 0, 129, 61, 42, 3, 16, 30, 182, 0, 129, 62, 42]
abbrev dktX6_user_3 : List UInt8 := dkwX6_user_3 ++ dktX6_user_4
def dkwX6_user_2 : List UInt8 := [180, 0, 25, 42, 180, 0, 63, 182, 0, 155, 156, 0, 7, 4, 167, 0, 4, 3, 6, 182, 0, 96, 42]
abbrev dktX6_user_2 : List UInt8 := dkwX6_user_2 ++ dktX6_user_3
def dkwX6_user_1 : List UInt8 := [182, 0, 29, 42, 42, 180, 0, 50, 5, 160, 0, 7, 4, 167, 0, 4, 3, 4, 182, 0, 96, 42, 42]
abbrev dktX6_user_1 : List UInt8 := dkwX6_user_1 ++ dktX6_user_2
def dkwX6_user_0 : List UInt8 := [42, 42, 180, 0, 25, 180, 0, 152, 16, 6, 162, 0, 7, 4, 167, 0, 4, 3, 5, 182, 0, 96, 42]
abbrev dktX6_user_0 : List UInt8 := dkwX6_user_0 ++ dktX6_user_1
theorem dksX6_user_0 : cX6_user.data.toList.drop 0 = dktX6_user_0 := by decide +kernel
theorem dksX6_user_1 : cX6_user.data.toList.drop 23 = dktX6_user_1 := dk_seg dksX6_user_0 23 rfl rfl
theorem dksX6_user_2 : cX6_user.data.toList.drop 46 = dktX6_user_2 := dk_seg dksX6_user_1 23 rfl rfl
theorem dksX6_user_3 : cX6_user.data.toList.drop 69 = dktX6_user_3 := dk_seg dksX6_user_2 23 rfl rfl
theorem dksX6_user_4 : cX6_user.data.toList.drop 93 = dktX6_user_4 := dk_seg dksX6_user_3 24 rfl rfl
theorem dksX6_user_5 : cX6_user.data.toList.drop 117 = dktX6_user_5 := dk_seg dksX6_user_4 24 rfl rfl
theorem dksX6_user_6 : cX6_user.data.toList.drop 139 = dktX6_user_6 := dk_seg dksX6_user_5 22 rfl rfl
theorem dX6_user_0 : decode cX6_user 0 = .ok (.aload_n 0, 1) := dk_42 (dk_at dksX6_user_0 0 rfl rfl)
theorem dX6_user_1 : decode cX6_user 1 = .ok (.aload_n 0, 1) := dk_42 (dk_at dksX6_user_0 1 rfl rfl)
theorem dX6_user_2 : decode cX6_user 2 = .ok (.getfield 25, 3) := dk_180 0 25 (dk_at dksX6_user_0 2 rfl rfl)
theorem dX6_user_5 : decode cX6_user 5 = .ok (.getfield 152, 3) := dk_180 0 152 (dk_at dksX6_user_0 5 rfl rfl)
theorem dX6_user_8 : decode cX6_user 8 = .ok (.bipush 6, 2) := dk_16 6 (dk_at dksX6_user_0 8 rfl rfl)
theorem dX6_user_10 : decode cX6_user 10 = .ok (.if_icmp .ge 7, 3) := dk_162 0 7 (dk_at dksX6_user_0 10 rfl rfl)
theorem dX6_user_13 : decode cX6_user 13 = .ok (.iconst 1, 1) := dk_4 (dk_at dksX6_user_0 13 rfl rfl)
theorem dX6_user_14 : decode cX6_user 14 = .ok (.goto 4, 3) := dk_167 0 4 (dk_at dksX6_user_0 14 rfl rfl)
theorem dX6_user_17 : decode cX6_user 17 = .ok (.iconst 0, 1) := dk_3 (dk_at dksX6_user_0 17 rfl rfl)
theorem dX6_user_18 : decode cX6_user 18 = .ok (.iconst 2, 1) := dk_5 (dk_at dksX6_user_0 18 rfl rfl)
theorem dX6_user_19 : decode cX6_user 19 = .ok (.invokevirtual 96, 3) := dk_182 0 96 (dk_at dksX6_user_0 19 rfl rfl)
theorem dX6_user_22 : decode cX6_user 22 = .ok (.aload_n 0, 1) := dk_42 (dk_at dksX6_user_0 22 rfl rfl)
theorem dX6_user_23 : decode cX6_user 23 = .ok (.invokevirtual 29, 3) := dk_182 0 29 (dk_at dksX6_user_1 0 rfl rfl)
theorem dX6_user_26 : decode cX6_user 26 = .ok (.aload_n 0, 1) := dk_42 (dk_at dksX6_user_1 3 rfl rfl)
theorem dX6_user_27 : decode cX6_user 27 = .ok (.aload_n 0, 1) := dk_42 (dk_at dksX6_user_1 4 rfl rfl)
theorem dX6_user_28 : decode cX6_user 28 = .ok (.getfield 50, 3) := dk_180 0 50 (dk_at dksX6_user_1 5 rfl rfl)
theorem dX6_user_31 : decode cX6_user 31 = .ok (.iconst 2, 1) := dk_5 (dk_at dksX6_user_1 8 rfl rfl)
theorem dX6_user_32 : decode cX6_user 32 = .ok (.if_icmp .ne 7, 3) := dk_160 0 7 (dk_at dksX6_user_1 9 rfl rfl)
theorem dX6_user_35 : decode cX6_user 35 = .ok (.iconst 1, 1) := dk_4 (dk_at dksX6_user_1 12 rfl rfl)
theorem dX6_user_36 : decode cX6_user 36 = .ok (.goto 4, 3) := dk_167 0 4 (dk_at dksX6_user_1 13 rfl rfl)
theorem dX6_user_39 : decode cX6_user 39 = .ok (.iconst 0, 1) := dk_3 (dk_at dksX6_user_1 16 rfl rfl)
theorem dX6_user_40 : decode cX6_user 40 = .ok (.iconst 1, 1) := dk_4 (dk_at dksX6_user_1 17 rfl rfl)
theorem dX6_user_41 : decode cX6_user 41 = .ok (.invokevirtual 96, 3) := dk_182 0 96 (dk_at dksX6_user_1 18 rfl rfl)
theorem dX6_user_44 : decode cX6_user 44 = .ok (.aload_n 0, 1) := dk_42 (dk_at dksX6_user_1 21 rfl rfl)
theorem dX6_user_45 : decode cX6_user 45 = .ok (.aload_n 0, 1) := dk_42 (dk_at dksX6_user_1 22 rfl rfl)
theorem dX6_user_46 : decode cX6_user 46 = .ok (.getfield 25, 3) := dk_180 0 25 (dk_at dksX6_user_2 0 rfl rfl)
theorem dX6_user_49 : decode cX6_user 49 = .ok (.aload_n 0, 1) := dk_42 (dk_at dksX6_user_2 3 rfl rfl)
theorem dX6_user_50 : decode cX6_user 50 = .ok (.getfield 63, 3) := dk_180 0 63 (dk_at dksX6_user_2 4 rfl rfl)
theorem dX6_user_53 : decode cX6_user 53 = .ok (.invokevirtual 155, 3) := dk_182 0 155 (dk_at dksX6_user_2 7 rfl rfl)
theorem dX6_user_56 : decode cX6_user 56 = .ok (.ifCond .ge 7, 3) := dk_156 0 7 (dk_at dksX6_user_2 10 rfl rfl)
theorem dX6_user_59 : decode cX6_user 59 = .ok (.iconst 1, 1) := dk_4 (dk_at dksX6_user_2 13 rfl rfl)
theorem dX6_user_60 : decode cX6_user 60 = .ok (.goto 4, 3) := dk_167 0 4 (dk_at dksX6_user_2 14 rfl rfl)
theorem dX6_user_63 : decode cX6_user 63 = .ok (.iconst 0, 1) := dk_3 (dk_at dksX6_user_2 17 rfl rfl)
theorem dX6_user_64 : decode cX6_user 64 = .ok (.iconst 3, 1) := dk_6 (dk_at dksX6_user_2 18 rfl rfl)
theorem dX6_user_65 : decode cX6_user 65 = .ok (.invokevirtual 96, 3) := dk_182 0 96 (dk_at dksX6_user_2 19 rfl rfl)
theorem dX6_user_68 : decode cX6_user 68 = .ok (.aload_n 0, 1) := dk_42 (dk_at dksX6_user_2 22 rfl rfl)
theorem dX6_user_69 : decode cX6_user 69 = .ok (.getfield 63, 3) := dk_180 0 63 (dk_at dksX6_user_3 0 rfl rfl)
theorem dX6_user_72 : decode cX6_user 72 = .ok (.istore_n 1, 1) := dk_60 (dk_at dksX6_user_3 3 rfl rfl)
theorem dX6_user_73 : decode cX6_user 73 = .ok (.aload_n 0, 1) := dk_42 (dk_at dksX6_user_3 4 rfl rfl)
theorem dX6_user_74 : decode cX6_user 74 = .ok (.invokevirtual 29, 3) := dk_182 0 29 (dk_at dksX6_user_3 5 rfl rfl)
theorem dX6_user_77 : decode cX6_user 77 = .ok (.aload_n 0, 1) := dk_42 (dk_at dksX6_user_3 8 rfl rfl)
theorem dX6_user_78 : decode cX6_user 78 = .ok (.iconst 0, 1) := dk_3 (dk_at dksX6_user_3 9 rfl rfl)
theorem dX6_user_79 : decode cX6_user 79 = .ok (.iconst 2, 1) := dk_5 (dk_at dksX6_user_3 10 rfl rfl)
theorem dX6_user_80 : decode cX6_user 80 = .ok (.invokevirtual 129, 3) := dk_182 0 129 (dk_at dksX6_user_3 11 rfl rfl)
theorem dX6_user_83 : decode cX6_user 83 = .ok (.istore_n 2, 1) := dk_61 (dk_at dksX6_user_3 14 rfl rfl)
theorem dX6_user_84 : decode cX6_user 84 = .ok (.aload_n 0, 1) := dk_42 (dk_at dksX6_user_3 15 rfl rfl)
theorem dX6_user_85 : decode cX6_user 85 = .ok (.iconst 0, 1) := dk_3 (dk_at dksX6_user_3 16 rfl rfl)
theorem dX6_user_86 : decode cX6_user 86 = .ok (.bipush 30, 2) := dk_16 30 (dk_at dksX6_user_3 17 rfl rfl)
theorem dX6_user_88 : decode cX6_user 88 = .ok (.invokevirtual 129, 3) := dk_182 0 129 (dk_at dksX6_user_3 19 rfl rfl)
theorem dX6_user_91 : decode cX6_user 91 = .ok (.istore_n 3, 1) := dk_62 (dk_at dksX6_user_3 22 rfl rfl)
theorem dX6_user_92 : decode cX6_user 92 = .ok (.aload_n 0, 1) := dk_42 (dk_at dksX6_user_3 23 rfl rfl)
theorem dX6_user_93 : decode cX6_user 93 = .ok (.iconst 1, 1) := dk_4 (dk_at dksX6_user_4 0 rfl rfl)
theorem dX6_user_94 : decode cX6_user 94 = .ok (.aload_n 0, 1) := dk_42 (dk_at dksX6_user_4 1 rfl rfl)
theorem dX6_user_95 : decode cX6_user 95 = .ok (.getfield 25, 3) := dk_180 0 25 (dk_at dksX6_user_4 2 rfl rfl)
theorem dX6_user_98 : decode cX6_user 98 = .ok (.getfield 132, 3) := dk_180 0 132 (dk_at dksX6_user_4 5 rfl rfl)
theorem dX6_user_101 : decode cX6_user 101 = .ok (.invokevirtual 129, 3) := dk_182 0 129 (dk_at dksX6_user_4 8 rfl rfl)
theorem dX6_user_104 : decode cX6_user 104 = .ok (.istore 4, 2) := dk_54 4 (dk_at dksX6_user_4 11 rfl rfl)
theorem dX6_user_106 : decode cX6_user 106 = .ok (.aload_n 0, 1) := dk_42 (dk_at dksX6_user_4 13 rfl rfl)
theorem dX6_user_107 : decode cX6_user 107 = .ok (.getfield 25, 3) := dk_180 0 25 (dk_at dksX6_user_4 14 rfl rfl)
theorem dX6_user_110 : decode cX6_user 110 = .ok (.getfield 157, 3) := dk_180 0 157 (dk_at dksX6_user_4 17 rfl rfl)
theorem dX6_user_113 : decode cX6_user 113 = .ok (.aload_n 0, 1) := dk_42 (dk_at dksX6_user_4 20 rfl rfl)
theorem dX6_user_114 : decode cX6_user 114 = .ok (.getfield 25, 3) := dk_180 0 25 (dk_at dksX6_user_4 21 rfl rfl)
theorem dX6_user_117 : decode cX6_user 117 = .ok (.getfield 152, 3) := dk_180 0 152 (dk_at dksX6_user_5 0 rfl rfl)
theorem dX6_user_120 : decode cX6_user 120 = .ok (.new 161, 3) := dk_187 0 161 (dk_at dksX6_user_5 3 rfl rfl)
theorem dX6_user_123 : decode cX6_user 123 = .ok (.dup, 1) := dk_89 (dk_at dksX6_user_5 6 rfl rfl)
theorem dX6_user_124 : decode cX6_user 124 = .ok (.iload_n 1, 1) := dk_27 (dk_at dksX6_user_5 7 rfl rfl)
theorem dX6_user_125 : decode cX6_user 125 = .ok (.iload_n 2, 1) := dk_28 (dk_at dksX6_user_5 8 rfl rfl)
theorem dX6_user_126 : decode cX6_user 126 = .ok (.iload_n 3, 1) := dk_29 (dk_at dksX6_user_5 9 rfl rfl)
theorem dX6_user_127 : decode cX6_user 127 = .ok (.iload 4, 2) := dk_21 4 (dk_at dksX6_user_5 10 rfl rfl)
theorem dX6_user_129 : decode cX6_user 129 = .ok (.aload_n 0, 1) := dk_42 (dk_at dksX6_user_5 12 rfl rfl)
theorem dX6_user_130 : decode cX6_user 130 = .ok (.iload 4, 2) := dk_21 4 (dk_at dksX6_user_5 13 rfl rfl)
theorem dX6_user_132 : decode cX6_user 132 = .ok (.aload_n 0, 1) := dk_42 (dk_at dksX6_user_5 15 rfl rfl)
theorem dX6_user_133 : decode cX6_user 133 = .ok (.getfield 25, 3) := dk_180 0 25 (dk_at dksX6_user_5 16 rfl rfl)
theorem dX6_user_136 : decode cX6_user 136 = .ok (.getfield 132, 3) := dk_180 0 132 (dk_at dksX6_user_5 19 rfl rfl)
theorem dX6_user_139 : decode cX6_user 139 = .ok (.invokevirtual 129, 3) := dk_182 0 129 (dk_at dksX6_user_6 0 rfl rfl)
theorem dX6_user_142 : decode cX6_user 142 = .ok (.invokespecial 163, 3) := dk_183 0 163 (dk_at dksX6_user_6 3 rfl rfl)
theorem dX6_user_145 : decode cX6_user 145 = .ok (.aastore, 1) := dk_83 (dk_at dksX6_user_6 6 rfl rfl)
theorem dX6_user_146 : decode cX6_user 146 = .ok (.aload_n 0, 1) := dk_42 (dk_at dksX6_user_6 7 rfl rfl)
theorem dX6_user_147 : decode cX6_user 147 = .ok (.getfield 25, 3) := dk_180 0 25 (dk_at dksX6_user_6 8 rfl rfl)
theorem dX6_user_150 : decode cX6_user 150 = .ok (.dup, 1) := dk_89 (dk_at dksX6_user_6 11 rfl rfl)
theorem dX6_user_151 : decode cX6_user 151 = .ok (.getfield 152, 3) := dk_180 0 152 (dk_at dksX6_user_6 12 rfl rfl)
theorem dX6_user_154 : decode cX6_user 154 = .ok (.iconst 1, 1) := dk_4 (dk_at dksX6_user_6 15 rfl rfl)
theorem dX6_user_155 : decode cX6_user 155 = .ok (.iadd, 1) := dk_96 (dk_at dksX6_user_6 16 rfl rfl)
theorem dX6_user_156 : decode cX6_user 156 = .ok (.putfield 152, 3) := dk_181 0 152 (dk_at dksX6_user_6 17 rfl rfl)
theorem dX6_user_159 : decode cX6_user 159 = .ok (.return_, 1) := dk_177 (dk_at dksX6_user_6 20 rfl rfl)
abbrev cX6_number : ByteArray := prog_5_method_10_code
def yX6_number : MethodName := ⟨RX6, "number", "(II)I"⟩
def dkwX6_number_1 : List UInt8 := [28, 184, 0, 40, 5, 182, 0, 96, 42, 180, 0, 63, 62, 42, 182, 0, 29, 29, 172]
abbrev dktX6_number_1 : List UInt8 := dkwX6_number_1 ++ []
def dkwX6_number_0 : List UInt8 := [42, 42, 180, 0, 50, 6, 160, 0, 7, 4, 167, 0, 4, 3, 4, 182, 0, 96, 42, 42, 180, 0, 63, 27]
abbrev dktX6_number_0 : List UInt8 := dkwX6_number_0 ++ dktX6_number_1
theorem dksX6_number_0 : cX6_number.data.toList.drop 0 = dktX6_number_0 := by decide +kernel
theorem dksX6_number_1 : cX6_number.data.toList.drop 24 = dktX6_number_1 := dk_seg dksX6_number_0 24 rfl rfl
theorem dX6_number_0 : decode cX6_number 0 = .ok (.aload_n 0, 1) := dk_42 (dk_at dksX6_number_0 0 rfl rfl)
theorem dX6_number_1 : decode cX6_number 1 = .ok (.aload_n 0, 1) := dk_42 (dk_at dksX6_number_0 1 rfl rfl)
theorem dX6_number_2 : decode cX6_number 2 = .ok (.getfield 50, 3) := dk_180 0 50 (dk_at dksX6_number_0 2 rfl rfl)
theorem dX6_number_5 : decode cX6_number 5 = .ok (.iconst 3, 1) := dk_6 (dk_at dksX6_number_0 5 rfl rfl)
theorem dX6_number_6 : decode cX6_number 6 = .ok (.if_icmp .ne 7, 3) := dk_160 0 7 (dk_at dksX6_number_0 6 rfl rfl)
theorem dX6_number_9 : decode cX6_number 9 = .ok (.iconst 1, 1) := dk_4 (dk_at dksX6_number_0 9 rfl rfl)
theorem dX6_number_10 : decode cX6_number 10 = .ok (.goto 4, 3) := dk_167 0 4 (dk_at dksX6_number_0 10 rfl rfl)
theorem dX6_number_13 : decode cX6_number 13 = .ok (.iconst 0, 1) := dk_3 (dk_at dksX6_number_0 13 rfl rfl)
theorem dX6_number_14 : decode cX6_number 14 = .ok (.iconst 1, 1) := dk_4 (dk_at dksX6_number_0 14 rfl rfl)
theorem dX6_number_15 : decode cX6_number 15 = .ok (.invokevirtual 96, 3) := dk_182 0 96 (dk_at dksX6_number_0 15 rfl rfl)
theorem dX6_number_18 : decode cX6_number 18 = .ok (.aload_n 0, 1) := dk_42 (dk_at dksX6_number_0 18 rfl rfl)
theorem dX6_number_19 : decode cX6_number 19 = .ok (.aload_n 0, 1) := dk_42 (dk_at dksX6_number_0 19 rfl rfl)
theorem dX6_number_20 : decode cX6_number 20 = .ok (.getfield 63, 3) := dk_180 0 63 (dk_at dksX6_number_0 20 rfl rfl)
theorem dX6_number_23 : decode cX6_number 23 = .ok (.iload_n 1, 1) := dk_27 (dk_at dksX6_number_0 23 rfl rfl)
theorem dX6_number_24 : decode cX6_number 24 = .ok (.iload_n 2, 1) := dk_28 (dk_at dksX6_number_1 0 rfl rfl)
theorem dX6_number_25 : decode cX6_number 25 = .ok (.invokestatic 40, 3) := dk_184 0 40 (dk_at dksX6_number_1 1 rfl rfl)
theorem dX6_number_28 : decode cX6_number 28 = .ok (.iconst 2, 1) := dk_5 (dk_at dksX6_number_1 4 rfl rfl)
theorem dX6_number_29 : decode cX6_number 29 = .ok (.invokevirtual 96, 3) := dk_182 0 96 (dk_at dksX6_number_1 5 rfl rfl)
theorem dX6_number_32 : decode cX6_number 32 = .ok (.aload_n 0, 1) := dk_42 (dk_at dksX6_number_1 8 rfl rfl)
theorem dX6_number_33 : decode cX6_number 33 = .ok (.getfield 63, 3) := dk_180 0 63 (dk_at dksX6_number_1 9 rfl rfl)
theorem dX6_number_36 : decode cX6_number 36 = .ok (.istore_n 3, 1) := dk_62 (dk_at dksX6_number_1 12 rfl rfl)
theorem dX6_number_37 : decode cX6_number 37 = .ok (.aload_n 0, 1) := dk_42 (dk_at dksX6_number_1 13 rfl rfl)
theorem dX6_number_38 : decode cX6_number 38 = .ok (.invokevirtual 29, 3) := dk_182 0 29 (dk_at dksX6_number_1 14 rfl rfl)
theorem dX6_number_41 : decode cX6_number 41 = .ok (.iload_n 3, 1) := dk_29 (dk_at dksX6_number_1 17 rfl rfl)
theorem dX6_number_42 : decode cX6_number 42 = .ok (.ireturn, 1) := dk_172 (dk_at dksX6_number_1 18 rfl rfl)
abbrev cX6_fixed : ByteArray := prog_5_method_17_code
def yX6_fixed : MethodName := ⟨RX6, "fixed", "()V"⟩
def dkwX6_fixed_2 : List UInt8 := [180, 0, 25, 180, 0, 132, 182, 0, 129, 181, 0, 174, 177]
abbrev dktX6_fixed_2 : List UInt8 := dkwX6_fixed_2 ++ []
def dkwX6_fixed_1 : List UInt8 := [167, 0, 4, 3, 6, 182, 0, 96, 42, 182, 0, 29, 42, 180, 0, 25, 180, 0, 157, 27, 50, 42, 4, 42]
abbrev dktX6_fixed_1 : List UInt8 := dkwX6_fixed_1 ++ dktX6_fixed_2
def dkwX6_fixed_0 : List UInt8 := [42, 182, 0, 166, 60, 42, 42, 180, 0, 25, 180, 0, 157, 27, 50, 180, 0, 174, 154, 0, 7, 4]
abbrev dktX6_fixed_0 : List UInt8 := dkwX6_fixed_0 ++ dktX6_fixed_1
theorem dksX6_fixed_0 : cX6_fixed.data.toList.drop 0 = dktX6_fixed_0 := by decide +kernel
theorem dksX6_fixed_1 : cX6_fixed.data.toList.drop 22 = dktX6_fixed_1 := dk_seg dksX6_fixed_0 22 rfl rfl
theorem dksX6_fixed_2 : cX6_fixed.data.toList.drop 46 = dktX6_fixed_2 := dk_seg dksX6_fixed_1 24 rfl rfl
theorem dX6_fixed_0 : decode cX6_fixed 0 = .ok (.aload_n 0, 1) := dk_42 (dk_at dksX6_fixed_0 0 rfl rfl)
theorem dX6_fixed_1 : decode cX6_fixed 1 = .ok (.invokevirtual 166, 3) := dk_182 0 166 (dk_at dksX6_fixed_0 1 rfl rfl)
theorem dX6_fixed_4 : decode cX6_fixed 4 = .ok (.istore_n 1, 1) := dk_60 (dk_at dksX6_fixed_0 4 rfl rfl)
theorem dX6_fixed_5 : decode cX6_fixed 5 = .ok (.aload_n 0, 1) := dk_42 (dk_at dksX6_fixed_0 5 rfl rfl)
theorem dX6_fixed_6 : decode cX6_fixed 6 = .ok (.aload_n 0, 1) := dk_42 (dk_at dksX6_fixed_0 6 rfl rfl)
theorem dX6_fixed_7 : decode cX6_fixed 7 = .ok (.getfield 25, 3) := dk_180 0 25 (dk_at dksX6_fixed_0 7 rfl rfl)
theorem dX6_fixed_10 : decode cX6_fixed 10 = .ok (.getfield 157, 3) := dk_180 0 157 (dk_at dksX6_fixed_0 10 rfl rfl)
theorem dX6_fixed_13 : decode cX6_fixed 13 = .ok (.iload_n 1, 1) := dk_27 (dk_at dksX6_fixed_0 13 rfl rfl)
theorem dX6_fixed_14 : decode cX6_fixed 14 = .ok (.aaload, 1) := dk_50 (dk_at dksX6_fixed_0 14 rfl rfl)
theorem dX6_fixed_15 : decode cX6_fixed 15 = .ok (.getfield 174, 3) := dk_180 0 174 (dk_at dksX6_fixed_0 15 rfl rfl)
theorem dX6_fixed_18 : decode cX6_fixed 18 = .ok (.ifCond .ne 7, 3) := dk_154 0 7 (dk_at dksX6_fixed_0 18 rfl rfl)
theorem dX6_fixed_21 : decode cX6_fixed 21 = .ok (.iconst 1, 1) := dk_4 (dk_at dksX6_fixed_0 21 rfl rfl)
theorem dX6_fixed_22 : decode cX6_fixed 22 = .ok (.goto 4, 3) := dk_167 0 4 (dk_at dksX6_fixed_1 0 rfl rfl)
theorem dX6_fixed_25 : decode cX6_fixed 25 = .ok (.iconst 0, 1) := dk_3 (dk_at dksX6_fixed_1 3 rfl rfl)
theorem dX6_fixed_26 : decode cX6_fixed 26 = .ok (.iconst 3, 1) := dk_6 (dk_at dksX6_fixed_1 4 rfl rfl)
theorem dX6_fixed_27 : decode cX6_fixed 27 = .ok (.invokevirtual 96, 3) := dk_182 0 96 (dk_at dksX6_fixed_1 5 rfl rfl)
theorem dX6_fixed_30 : decode cX6_fixed 30 = .ok (.aload_n 0, 1) := dk_42 (dk_at dksX6_fixed_1 8 rfl rfl)
theorem dX6_fixed_31 : decode cX6_fixed 31 = .ok (.invokevirtual 29, 3) := dk_182 0 29 (dk_at dksX6_fixed_1 9 rfl rfl)
theorem dX6_fixed_34 : decode cX6_fixed 34 = .ok (.aload_n 0, 1) := dk_42 (dk_at dksX6_fixed_1 12 rfl rfl)
theorem dX6_fixed_35 : decode cX6_fixed 35 = .ok (.getfield 25, 3) := dk_180 0 25 (dk_at dksX6_fixed_1 13 rfl rfl)
theorem dX6_fixed_38 : decode cX6_fixed 38 = .ok (.getfield 157, 3) := dk_180 0 157 (dk_at dksX6_fixed_1 16 rfl rfl)
theorem dX6_fixed_41 : decode cX6_fixed 41 = .ok (.iload_n 1, 1) := dk_27 (dk_at dksX6_fixed_1 19 rfl rfl)
theorem dX6_fixed_42 : decode cX6_fixed 42 = .ok (.aaload, 1) := dk_50 (dk_at dksX6_fixed_1 20 rfl rfl)
theorem dX6_fixed_43 : decode cX6_fixed 43 = .ok (.aload_n 0, 1) := dk_42 (dk_at dksX6_fixed_1 21 rfl rfl)
theorem dX6_fixed_44 : decode cX6_fixed 44 = .ok (.iconst 1, 1) := dk_4 (dk_at dksX6_fixed_1 22 rfl rfl)
theorem dX6_fixed_45 : decode cX6_fixed 45 = .ok (.aload_n 0, 1) := dk_42 (dk_at dksX6_fixed_1 23 rfl rfl)
theorem dX6_fixed_46 : decode cX6_fixed 46 = .ok (.getfield 25, 3) := dk_180 0 25 (dk_at dksX6_fixed_2 0 rfl rfl)
theorem dX6_fixed_49 : decode cX6_fixed 49 = .ok (.getfield 132, 3) := dk_180 0 132 (dk_at dksX6_fixed_2 3 rfl rfl)
theorem dX6_fixed_52 : decode cX6_fixed 52 = .ok (.invokevirtual 129, 3) := dk_182 0 129 (dk_at dksX6_fixed_2 6 rfl rfl)
theorem dX6_fixed_55 : decode cX6_fixed 55 = .ok (.putfield 174, 3) := dk_181 0 174 (dk_at dksX6_fixed_2 9 rfl rfl)
theorem dX6_fixed_58 : decode cX6_fixed 58 = .ok (.return_, 1) := dk_177 (dk_at dksX6_fixed_2 12 rfl rfl)
abbrev cX6_known : ByteArray := prog_5_method_14_code
def yX6_known : MethodName := ⟨RX6, "known", "()I"⟩
def dkwX6_known_2 : List UInt8 := [182, 0, 96, 27, 172]
abbrev dktX6_known_2 : List UInt8 := dkwX6_known_2 ++ []
def dkwX6_known_1 : List UInt8 := [180, 0, 25, 42, 180, 0, 63, 182, 0, 155, 60, 42, 27, 155, 0, 7, 4, 167, 0, 4, 3, 7]
abbrev dktX6_known_1 : List UInt8 := dkwX6_known_1 ++ dktX6_known_2
def dkwX6_known_0 : List UInt8 := [42, 182, 0, 29, 42, 42, 180, 0, 50, 5, 160, 0, 7, 4, 167, 0, 4, 3, 4, 182, 0, 96, 42]
abbrev dktX6_known_0 : List UInt8 := dkwX6_known_0 ++ dktX6_known_1
theorem dksX6_known_0 : cX6_known.data.toList.drop 0 = dktX6_known_0 := by decide +kernel
theorem dksX6_known_1 : cX6_known.data.toList.drop 23 = dktX6_known_1 := dk_seg dksX6_known_0 23 rfl rfl
theorem dksX6_known_2 : cX6_known.data.toList.drop 45 = dktX6_known_2 := dk_seg dksX6_known_1 22 rfl rfl
theorem dX6_known_0 : decode cX6_known 0 = .ok (.aload_n 0, 1) := dk_42 (dk_at dksX6_known_0 0 rfl rfl)
theorem dX6_known_1 : decode cX6_known 1 = .ok (.invokevirtual 29, 3) := dk_182 0 29 (dk_at dksX6_known_0 1 rfl rfl)
theorem dX6_known_4 : decode cX6_known 4 = .ok (.aload_n 0, 1) := dk_42 (dk_at dksX6_known_0 4 rfl rfl)
theorem dX6_known_5 : decode cX6_known 5 = .ok (.aload_n 0, 1) := dk_42 (dk_at dksX6_known_0 5 rfl rfl)
theorem dX6_known_6 : decode cX6_known 6 = .ok (.getfield 50, 3) := dk_180 0 50 (dk_at dksX6_known_0 6 rfl rfl)
theorem dX6_known_9 : decode cX6_known 9 = .ok (.iconst 2, 1) := dk_5 (dk_at dksX6_known_0 9 rfl rfl)
theorem dX6_known_10 : decode cX6_known 10 = .ok (.if_icmp .ne 7, 3) := dk_160 0 7 (dk_at dksX6_known_0 10 rfl rfl)
theorem dX6_known_13 : decode cX6_known 13 = .ok (.iconst 1, 1) := dk_4 (dk_at dksX6_known_0 13 rfl rfl)
theorem dX6_known_14 : decode cX6_known 14 = .ok (.goto 4, 3) := dk_167 0 4 (dk_at dksX6_known_0 14 rfl rfl)
theorem dX6_known_17 : decode cX6_known 17 = .ok (.iconst 0, 1) := dk_3 (dk_at dksX6_known_0 17 rfl rfl)
theorem dX6_known_18 : decode cX6_known 18 = .ok (.iconst 1, 1) := dk_4 (dk_at dksX6_known_0 18 rfl rfl)
theorem dX6_known_19 : decode cX6_known 19 = .ok (.invokevirtual 96, 3) := dk_182 0 96 (dk_at dksX6_known_0 19 rfl rfl)
theorem dX6_known_22 : decode cX6_known 22 = .ok (.aload_n 0, 1) := dk_42 (dk_at dksX6_known_0 22 rfl rfl)
theorem dX6_known_23 : decode cX6_known 23 = .ok (.getfield 25, 3) := dk_180 0 25 (dk_at dksX6_known_1 0 rfl rfl)
theorem dX6_known_26 : decode cX6_known 26 = .ok (.aload_n 0, 1) := dk_42 (dk_at dksX6_known_1 3 rfl rfl)
theorem dX6_known_27 : decode cX6_known 27 = .ok (.getfield 63, 3) := dk_180 0 63 (dk_at dksX6_known_1 4 rfl rfl)
theorem dX6_known_30 : decode cX6_known 30 = .ok (.invokevirtual 155, 3) := dk_182 0 155 (dk_at dksX6_known_1 7 rfl rfl)
theorem dX6_known_33 : decode cX6_known 33 = .ok (.istore_n 1, 1) := dk_60 (dk_at dksX6_known_1 10 rfl rfl)
theorem dX6_known_34 : decode cX6_known 34 = .ok (.aload_n 0, 1) := dk_42 (dk_at dksX6_known_1 11 rfl rfl)
theorem dX6_known_35 : decode cX6_known 35 = .ok (.iload_n 1, 1) := dk_27 (dk_at dksX6_known_1 12 rfl rfl)
theorem dX6_known_36 : decode cX6_known 36 = .ok (.ifCond .lt 7, 3) := dk_155 0 7 (dk_at dksX6_known_1 13 rfl rfl)
theorem dX6_known_39 : decode cX6_known 39 = .ok (.iconst 1, 1) := dk_4 (dk_at dksX6_known_1 16 rfl rfl)
theorem dX6_known_40 : decode cX6_known 40 = .ok (.goto 4, 3) := dk_167 0 4 (dk_at dksX6_known_1 17 rfl rfl)
theorem dX6_known_43 : decode cX6_known 43 = .ok (.iconst 0, 1) := dk_3 (dk_at dksX6_known_1 20 rfl rfl)
theorem dX6_known_44 : decode cX6_known 44 = .ok (.iconst 4, 1) := dk_7 (dk_at dksX6_known_1 21 rfl rfl)
theorem dX6_known_45 : decode cX6_known 45 = .ok (.invokevirtual 96, 3) := dk_182 0 96 (dk_at dksX6_known_2 0 rfl rfl)
theorem dX6_known_48 : decode cX6_known 48 = .ok (.iload_n 1, 1) := dk_27 (dk_at dksX6_known_2 3 rfl rfl)
theorem dX6_known_49 : decode cX6_known 49 = .ok (.ireturn, 1) := dk_172 (dk_at dksX6_known_2 4 rfl rfl)
abbrev cX6_block : ByteArray := prog_5_method_18_code
def yX6_block : MethodName := ⟨RX6, "block", "()V"⟩
def dkwX6_block_4 : List UInt8 := [180, 0, 176, 4, 96, 181, 0, 176, 177]
abbrev dktX6_block_4 : List UInt8 := dkwX6_block_4 ++ []
def dkwX6_block_3 : List UInt8 := [180, 0, 176, 104, 4, 96, 42, 27, 42, 180, 0, 25, 180, 0, 132, 182, 0, 129, 79, 42, 180, 0, 25, 89]
abbrev dktX6_block_3 : List UInt8 := dkwX6_block_3 ++ dktX6_block_4
def dkwX6_block_2 : List UInt8 := [42, 180, 0, 25, 180, 0, 176, 104, 27, 79, 42, 180, 0, 25, 180, 0, 179, 5, 42, 180, 0, 25]
abbrev dktX6_block_2 : List UInt8 := dkwX6_block_2 ++ dktX6_block_3
def dkwX6_block_1 : List UInt8 := [182, 0, 29, 42, 4, 42, 180, 0, 25, 180, 0, 132, 182, 0, 129, 60, 42, 180, 0, 25, 180, 0, 179, 5]
abbrev dktX6_block_1 : List UInt8 := dkwX6_block_1 ++ dktX6_block_2
def dkwX6_block_0 : List UInt8 := [42, 42, 180, 0, 25, 180, 0, 176, 16, 6, 162, 0, 7, 4, 167, 0, 4, 3, 5, 182, 0, 96, 42]
abbrev dktX6_block_0 : List UInt8 := dkwX6_block_0 ++ dktX6_block_1
theorem dksX6_block_0 : cX6_block.data.toList.drop 0 = dktX6_block_0 := by decide +kernel
theorem dksX6_block_1 : cX6_block.data.toList.drop 23 = dktX6_block_1 := dk_seg dksX6_block_0 23 rfl rfl
theorem dksX6_block_2 : cX6_block.data.toList.drop 47 = dktX6_block_2 := dk_seg dksX6_block_1 24 rfl rfl
theorem dksX6_block_3 : cX6_block.data.toList.drop 69 = dktX6_block_3 := dk_seg dksX6_block_2 22 rfl rfl
theorem dksX6_block_4 : cX6_block.data.toList.drop 93 = dktX6_block_4 := dk_seg dksX6_block_3 24 rfl rfl
theorem dX6_block_0 : decode cX6_block 0 = .ok (.aload_n 0, 1) := dk_42 (dk_at dksX6_block_0 0 rfl rfl)
theorem dX6_block_1 : decode cX6_block 1 = .ok (.aload_n 0, 1) := dk_42 (dk_at dksX6_block_0 1 rfl rfl)
theorem dX6_block_2 : decode cX6_block 2 = .ok (.getfield 25, 3) := dk_180 0 25 (dk_at dksX6_block_0 2 rfl rfl)
theorem dX6_block_5 : decode cX6_block 5 = .ok (.getfield 176, 3) := dk_180 0 176 (dk_at dksX6_block_0 5 rfl rfl)
theorem dX6_block_8 : decode cX6_block 8 = .ok (.bipush 6, 2) := dk_16 6 (dk_at dksX6_block_0 8 rfl rfl)
theorem dX6_block_10 : decode cX6_block 10 = .ok (.if_icmp .ge 7, 3) := dk_162 0 7 (dk_at dksX6_block_0 10 rfl rfl)
theorem dX6_block_13 : decode cX6_block 13 = .ok (.iconst 1, 1) := dk_4 (dk_at dksX6_block_0 13 rfl rfl)
theorem dX6_block_14 : decode cX6_block 14 = .ok (.goto 4, 3) := dk_167 0 4 (dk_at dksX6_block_0 14 rfl rfl)
theorem dX6_block_17 : decode cX6_block 17 = .ok (.iconst 0, 1) := dk_3 (dk_at dksX6_block_0 17 rfl rfl)
theorem dX6_block_18 : decode cX6_block 18 = .ok (.iconst 2, 1) := dk_5 (dk_at dksX6_block_0 18 rfl rfl)
theorem dX6_block_19 : decode cX6_block 19 = .ok (.invokevirtual 96, 3) := dk_182 0 96 (dk_at dksX6_block_0 19 rfl rfl)
theorem dX6_block_22 : decode cX6_block 22 = .ok (.aload_n 0, 1) := dk_42 (dk_at dksX6_block_0 22 rfl rfl)
theorem dX6_block_23 : decode cX6_block 23 = .ok (.invokevirtual 29, 3) := dk_182 0 29 (dk_at dksX6_block_1 0 rfl rfl)
theorem dX6_block_26 : decode cX6_block 26 = .ok (.aload_n 0, 1) := dk_42 (dk_at dksX6_block_1 3 rfl rfl)
theorem dX6_block_27 : decode cX6_block 27 = .ok (.iconst 1, 1) := dk_4 (dk_at dksX6_block_1 4 rfl rfl)
theorem dX6_block_28 : decode cX6_block 28 = .ok (.aload_n 0, 1) := dk_42 (dk_at dksX6_block_1 5 rfl rfl)
theorem dX6_block_29 : decode cX6_block 29 = .ok (.getfield 25, 3) := dk_180 0 25 (dk_at dksX6_block_1 6 rfl rfl)
theorem dX6_block_32 : decode cX6_block 32 = .ok (.getfield 132, 3) := dk_180 0 132 (dk_at dksX6_block_1 9 rfl rfl)
theorem dX6_block_35 : decode cX6_block 35 = .ok (.invokevirtual 129, 3) := dk_182 0 129 (dk_at dksX6_block_1 12 rfl rfl)
theorem dX6_block_38 : decode cX6_block 38 = .ok (.istore_n 1, 1) := dk_60 (dk_at dksX6_block_1 15 rfl rfl)
theorem dX6_block_39 : decode cX6_block 39 = .ok (.aload_n 0, 1) := dk_42 (dk_at dksX6_block_1 16 rfl rfl)
theorem dX6_block_40 : decode cX6_block 40 = .ok (.getfield 25, 3) := dk_180 0 25 (dk_at dksX6_block_1 17 rfl rfl)
theorem dX6_block_43 : decode cX6_block 43 = .ok (.getfield 179, 3) := dk_180 0 179 (dk_at dksX6_block_1 20 rfl rfl)
theorem dX6_block_46 : decode cX6_block 46 = .ok (.iconst 2, 1) := dk_5 (dk_at dksX6_block_1 23 rfl rfl)
theorem dX6_block_47 : decode cX6_block 47 = .ok (.aload_n 0, 1) := dk_42 (dk_at dksX6_block_2 0 rfl rfl)
theorem dX6_block_48 : decode cX6_block 48 = .ok (.getfield 25, 3) := dk_180 0 25 (dk_at dksX6_block_2 1 rfl rfl)
theorem dX6_block_51 : decode cX6_block 51 = .ok (.getfield 176, 3) := dk_180 0 176 (dk_at dksX6_block_2 4 rfl rfl)
theorem dX6_block_54 : decode cX6_block 54 = .ok (.imul, 1) := dk_104 (dk_at dksX6_block_2 7 rfl rfl)
theorem dX6_block_55 : decode cX6_block 55 = .ok (.iload_n 1, 1) := dk_27 (dk_at dksX6_block_2 8 rfl rfl)
theorem dX6_block_56 : decode cX6_block 56 = .ok (.iastore, 1) := dk_79 (dk_at dksX6_block_2 9 rfl rfl)
theorem dX6_block_57 : decode cX6_block 57 = .ok (.aload_n 0, 1) := dk_42 (dk_at dksX6_block_2 10 rfl rfl)
theorem dX6_block_58 : decode cX6_block 58 = .ok (.getfield 25, 3) := dk_180 0 25 (dk_at dksX6_block_2 11 rfl rfl)
theorem dX6_block_61 : decode cX6_block 61 = .ok (.getfield 179, 3) := dk_180 0 179 (dk_at dksX6_block_2 14 rfl rfl)
theorem dX6_block_64 : decode cX6_block 64 = .ok (.iconst 2, 1) := dk_5 (dk_at dksX6_block_2 17 rfl rfl)
theorem dX6_block_65 : decode cX6_block 65 = .ok (.aload_n 0, 1) := dk_42 (dk_at dksX6_block_2 18 rfl rfl)
theorem dX6_block_66 : decode cX6_block 66 = .ok (.getfield 25, 3) := dk_180 0 25 (dk_at dksX6_block_2 19 rfl rfl)
theorem dX6_block_69 : decode cX6_block 69 = .ok (.getfield 176, 3) := dk_180 0 176 (dk_at dksX6_block_3 0 rfl rfl)
theorem dX6_block_72 : decode cX6_block 72 = .ok (.imul, 1) := dk_104 (dk_at dksX6_block_3 3 rfl rfl)
theorem dX6_block_73 : decode cX6_block 73 = .ok (.iconst 1, 1) := dk_4 (dk_at dksX6_block_3 4 rfl rfl)
theorem dX6_block_74 : decode cX6_block 74 = .ok (.iadd, 1) := dk_96 (dk_at dksX6_block_3 5 rfl rfl)
theorem dX6_block_75 : decode cX6_block 75 = .ok (.aload_n 0, 1) := dk_42 (dk_at dksX6_block_3 6 rfl rfl)
theorem dX6_block_76 : decode cX6_block 76 = .ok (.iload_n 1, 1) := dk_27 (dk_at dksX6_block_3 7 rfl rfl)
theorem dX6_block_77 : decode cX6_block 77 = .ok (.aload_n 0, 1) := dk_42 (dk_at dksX6_block_3 8 rfl rfl)
theorem dX6_block_78 : decode cX6_block 78 = .ok (.getfield 25, 3) := dk_180 0 25 (dk_at dksX6_block_3 9 rfl rfl)
theorem dX6_block_81 : decode cX6_block 81 = .ok (.getfield 132, 3) := dk_180 0 132 (dk_at dksX6_block_3 12 rfl rfl)
theorem dX6_block_84 : decode cX6_block 84 = .ok (.invokevirtual 129, 3) := dk_182 0 129 (dk_at dksX6_block_3 15 rfl rfl)
theorem dX6_block_87 : decode cX6_block 87 = .ok (.iastore, 1) := dk_79 (dk_at dksX6_block_3 18 rfl rfl)
theorem dX6_block_88 : decode cX6_block 88 = .ok (.aload_n 0, 1) := dk_42 (dk_at dksX6_block_3 19 rfl rfl)
theorem dX6_block_89 : decode cX6_block 89 = .ok (.getfield 25, 3) := dk_180 0 25 (dk_at dksX6_block_3 20 rfl rfl)
theorem dX6_block_92 : decode cX6_block 92 = .ok (.dup, 1) := dk_89 (dk_at dksX6_block_3 23 rfl rfl)
theorem dX6_block_93 : decode cX6_block 93 = .ok (.getfield 176, 3) := dk_180 0 176 (dk_at dksX6_block_4 0 rfl rfl)
theorem dX6_block_96 : decode cX6_block 96 = .ok (.iconst 1, 1) := dk_4 (dk_at dksX6_block_4 3 rfl rfl)
theorem dX6_block_97 : decode cX6_block 97 = .ok (.iadd, 1) := dk_96 (dk_at dksX6_block_4 4 rfl rfl)
theorem dX6_block_98 : decode cX6_block 98 = .ok (.putfield 176, 3) := dk_181 0 176 (dk_at dksX6_block_4 5 rfl rfl)
theorem dX6_block_101 : decode cX6_block 101 = .ok (.return_, 1) := dk_177 (dk_at dksX6_block_4 8 rfl rfl)
abbrev cX6_link : ByteArray := prog_5_method_16_code
def yX6_link : MethodName := ⟨RX6, "link", "()V"⟩
def dkwX6_link_5 : List UInt8 := [79, 42, 180, 0, 25, 180, 0, 171, 6, 28, 104, 27, 96, 29, 79, 177]
abbrev dktX6_link_5 : List UInt8 := dkwX6_link_5 ++ []
def dkwX6_link_4 : List UInt8 := [182, 0, 29, 42, 3, 16, 99, 182, 0, 129, 62, 42, 180, 0, 25, 180, 0, 171, 6, 27, 104, 28, 96, 29]
abbrev dktX6_link_4 : List UInt8 := dkwX6_link_4 ++ dktX6_link_5
def dkwX6_link_3 : List UInt8 := [180, 0, 171, 6, 27, 104, 28, 96, 46, 156, 0, 7, 4, 167, 0, 4, 3, 6, 182, 0, 96, 42]
abbrev dktX6_link_3 : List UInt8 := dkwX6_link_3 ++ dktX6_link_4
def dkwX6_link_2 : List UInt8 := [159, 0, 7, 4, 167, 0, 4, 3, 5, 182, 0, 96, 42, 180, 0, 63, 61, 42, 42, 180, 0, 25]
abbrev dktX6_link_2 : List UInt8 := dkwX6_link_2 ++ dktX6_link_3
def dkwX6_link_1 : List UInt8 := [3, 4, 182, 0, 96, 42, 42, 180, 0, 63, 3, 5, 184, 0, 40, 153, 0, 15, 42, 180, 0, 63, 27]
abbrev dktX6_link_1 : List UInt8 := dkwX6_link_1 ++ dktX6_link_2
def dkwX6_link_0 : List UInt8 := [42, 182, 0, 29, 42, 3, 5, 182, 0, 129, 60, 42, 42, 180, 0, 50, 6, 160, 0, 7, 4, 167, 0, 4]
abbrev dktX6_link_0 : List UInt8 := dkwX6_link_0 ++ dktX6_link_1
theorem dksX6_link_0 : cX6_link.data.toList.drop 0 = dktX6_link_0 := by decide +kernel
theorem dksX6_link_1 : cX6_link.data.toList.drop 24 = dktX6_link_1 := dk_seg dksX6_link_0 24 rfl rfl
theorem dksX6_link_2 : cX6_link.data.toList.drop 47 = dktX6_link_2 := dk_seg dksX6_link_1 23 rfl rfl
theorem dksX6_link_3 : cX6_link.data.toList.drop 69 = dktX6_link_3 := dk_seg dksX6_link_2 22 rfl rfl
theorem dksX6_link_4 : cX6_link.data.toList.drop 91 = dktX6_link_4 := dk_seg dksX6_link_3 22 rfl rfl
theorem dksX6_link_5 : cX6_link.data.toList.drop 115 = dktX6_link_5 := dk_seg dksX6_link_4 24 rfl rfl
theorem dX6_link_0 : decode cX6_link 0 = .ok (.aload_n 0, 1) := dk_42 (dk_at dksX6_link_0 0 rfl rfl)
theorem dX6_link_1 : decode cX6_link 1 = .ok (.invokevirtual 29, 3) := dk_182 0 29 (dk_at dksX6_link_0 1 rfl rfl)
theorem dX6_link_4 : decode cX6_link 4 = .ok (.aload_n 0, 1) := dk_42 (dk_at dksX6_link_0 4 rfl rfl)
theorem dX6_link_5 : decode cX6_link 5 = .ok (.iconst 0, 1) := dk_3 (dk_at dksX6_link_0 5 rfl rfl)
theorem dX6_link_6 : decode cX6_link 6 = .ok (.iconst 2, 1) := dk_5 (dk_at dksX6_link_0 6 rfl rfl)
theorem dX6_link_7 : decode cX6_link 7 = .ok (.invokevirtual 129, 3) := dk_182 0 129 (dk_at dksX6_link_0 7 rfl rfl)
theorem dX6_link_10 : decode cX6_link 10 = .ok (.istore_n 1, 1) := dk_60 (dk_at dksX6_link_0 10 rfl rfl)
theorem dX6_link_11 : decode cX6_link 11 = .ok (.aload_n 0, 1) := dk_42 (dk_at dksX6_link_0 11 rfl rfl)
theorem dX6_link_12 : decode cX6_link 12 = .ok (.aload_n 0, 1) := dk_42 (dk_at dksX6_link_0 12 rfl rfl)
theorem dX6_link_13 : decode cX6_link 13 = .ok (.getfield 50, 3) := dk_180 0 50 (dk_at dksX6_link_0 13 rfl rfl)
theorem dX6_link_16 : decode cX6_link 16 = .ok (.iconst 3, 1) := dk_6 (dk_at dksX6_link_0 16 rfl rfl)
theorem dX6_link_17 : decode cX6_link 17 = .ok (.if_icmp .ne 7, 3) := dk_160 0 7 (dk_at dksX6_link_0 17 rfl rfl)
theorem dX6_link_20 : decode cX6_link 20 = .ok (.iconst 1, 1) := dk_4 (dk_at dksX6_link_0 20 rfl rfl)
theorem dX6_link_21 : decode cX6_link 21 = .ok (.goto 4, 3) := dk_167 0 4 (dk_at dksX6_link_0 21 rfl rfl)
theorem dX6_link_24 : decode cX6_link 24 = .ok (.iconst 0, 1) := dk_3 (dk_at dksX6_link_1 0 rfl rfl)
theorem dX6_link_25 : decode cX6_link 25 = .ok (.iconst 1, 1) := dk_4 (dk_at dksX6_link_1 1 rfl rfl)
theorem dX6_link_26 : decode cX6_link 26 = .ok (.invokevirtual 96, 3) := dk_182 0 96 (dk_at dksX6_link_1 2 rfl rfl)
theorem dX6_link_29 : decode cX6_link 29 = .ok (.aload_n 0, 1) := dk_42 (dk_at dksX6_link_1 5 rfl rfl)
theorem dX6_link_30 : decode cX6_link 30 = .ok (.aload_n 0, 1) := dk_42 (dk_at dksX6_link_1 6 rfl rfl)
theorem dX6_link_31 : decode cX6_link 31 = .ok (.getfield 63, 3) := dk_180 0 63 (dk_at dksX6_link_1 7 rfl rfl)
theorem dX6_link_34 : decode cX6_link 34 = .ok (.iconst 0, 1) := dk_3 (dk_at dksX6_link_1 10 rfl rfl)
theorem dX6_link_35 : decode cX6_link 35 = .ok (.iconst 2, 1) := dk_5 (dk_at dksX6_link_1 11 rfl rfl)
theorem dX6_link_36 : decode cX6_link 36 = .ok (.invokestatic 40, 3) := dk_184 0 40 (dk_at dksX6_link_1 12 rfl rfl)
theorem dX6_link_39 : decode cX6_link 39 = .ok (.ifCond .eq 15, 3) := dk_153 0 15 (dk_at dksX6_link_1 15 rfl rfl)
theorem dX6_link_42 : decode cX6_link 42 = .ok (.aload_n 0, 1) := dk_42 (dk_at dksX6_link_1 18 rfl rfl)
theorem dX6_link_43 : decode cX6_link 43 = .ok (.getfield 63, 3) := dk_180 0 63 (dk_at dksX6_link_1 19 rfl rfl)
theorem dX6_link_46 : decode cX6_link 46 = .ok (.iload_n 1, 1) := dk_27 (dk_at dksX6_link_1 22 rfl rfl)
theorem dX6_link_47 : decode cX6_link 47 = .ok (.if_icmp .eq 7, 3) := dk_159 0 7 (dk_at dksX6_link_2 0 rfl rfl)
theorem dX6_link_50 : decode cX6_link 50 = .ok (.iconst 1, 1) := dk_4 (dk_at dksX6_link_2 3 rfl rfl)
theorem dX6_link_51 : decode cX6_link 51 = .ok (.goto 4, 3) := dk_167 0 4 (dk_at dksX6_link_2 4 rfl rfl)
theorem dX6_link_54 : decode cX6_link 54 = .ok (.iconst 0, 1) := dk_3 (dk_at dksX6_link_2 7 rfl rfl)
theorem dX6_link_55 : decode cX6_link 55 = .ok (.iconst 2, 1) := dk_5 (dk_at dksX6_link_2 8 rfl rfl)
theorem dX6_link_56 : decode cX6_link 56 = .ok (.invokevirtual 96, 3) := dk_182 0 96 (dk_at dksX6_link_2 9 rfl rfl)
theorem dX6_link_59 : decode cX6_link 59 = .ok (.aload_n 0, 1) := dk_42 (dk_at dksX6_link_2 12 rfl rfl)
theorem dX6_link_60 : decode cX6_link 60 = .ok (.getfield 63, 3) := dk_180 0 63 (dk_at dksX6_link_2 13 rfl rfl)
theorem dX6_link_63 : decode cX6_link 63 = .ok (.istore_n 2, 1) := dk_61 (dk_at dksX6_link_2 16 rfl rfl)
theorem dX6_link_64 : decode cX6_link 64 = .ok (.aload_n 0, 1) := dk_42 (dk_at dksX6_link_2 17 rfl rfl)
theorem dX6_link_65 : decode cX6_link 65 = .ok (.aload_n 0, 1) := dk_42 (dk_at dksX6_link_2 18 rfl rfl)
theorem dX6_link_66 : decode cX6_link 66 = .ok (.getfield 25, 3) := dk_180 0 25 (dk_at dksX6_link_2 19 rfl rfl)
theorem dX6_link_69 : decode cX6_link 69 = .ok (.getfield 171, 3) := dk_180 0 171 (dk_at dksX6_link_3 0 rfl rfl)
theorem dX6_link_72 : decode cX6_link 72 = .ok (.iconst 3, 1) := dk_6 (dk_at dksX6_link_3 3 rfl rfl)
theorem dX6_link_73 : decode cX6_link 73 = .ok (.iload_n 1, 1) := dk_27 (dk_at dksX6_link_3 4 rfl rfl)
theorem dX6_link_74 : decode cX6_link 74 = .ok (.imul, 1) := dk_104 (dk_at dksX6_link_3 5 rfl rfl)
theorem dX6_link_75 : decode cX6_link 75 = .ok (.iload_n 2, 1) := dk_28 (dk_at dksX6_link_3 6 rfl rfl)
theorem dX6_link_76 : decode cX6_link 76 = .ok (.iadd, 1) := dk_96 (dk_at dksX6_link_3 7 rfl rfl)
theorem dX6_link_77 : decode cX6_link 77 = .ok (.iaload, 1) := dk_46 (dk_at dksX6_link_3 8 rfl rfl)
theorem dX6_link_78 : decode cX6_link 78 = .ok (.ifCond .ge 7, 3) := dk_156 0 7 (dk_at dksX6_link_3 9 rfl rfl)
theorem dX6_link_81 : decode cX6_link 81 = .ok (.iconst 1, 1) := dk_4 (dk_at dksX6_link_3 12 rfl rfl)
theorem dX6_link_82 : decode cX6_link 82 = .ok (.goto 4, 3) := dk_167 0 4 (dk_at dksX6_link_3 13 rfl rfl)
theorem dX6_link_85 : decode cX6_link 85 = .ok (.iconst 0, 1) := dk_3 (dk_at dksX6_link_3 16 rfl rfl)
theorem dX6_link_86 : decode cX6_link 86 = .ok (.iconst 3, 1) := dk_6 (dk_at dksX6_link_3 17 rfl rfl)
theorem dX6_link_87 : decode cX6_link 87 = .ok (.invokevirtual 96, 3) := dk_182 0 96 (dk_at dksX6_link_3 18 rfl rfl)
theorem dX6_link_90 : decode cX6_link 90 = .ok (.aload_n 0, 1) := dk_42 (dk_at dksX6_link_3 21 rfl rfl)
theorem dX6_link_91 : decode cX6_link 91 = .ok (.invokevirtual 29, 3) := dk_182 0 29 (dk_at dksX6_link_4 0 rfl rfl)
theorem dX6_link_94 : decode cX6_link 94 = .ok (.aload_n 0, 1) := dk_42 (dk_at dksX6_link_4 3 rfl rfl)
theorem dX6_link_95 : decode cX6_link 95 = .ok (.iconst 0, 1) := dk_3 (dk_at dksX6_link_4 4 rfl rfl)
theorem dX6_link_96 : decode cX6_link 96 = .ok (.bipush 99, 2) := dk_16 99 (dk_at dksX6_link_4 5 rfl rfl)
theorem dX6_link_98 : decode cX6_link 98 = .ok (.invokevirtual 129, 3) := dk_182 0 129 (dk_at dksX6_link_4 7 rfl rfl)
theorem dX6_link_101 : decode cX6_link 101 = .ok (.istore_n 3, 1) := dk_62 (dk_at dksX6_link_4 10 rfl rfl)
theorem dX6_link_102 : decode cX6_link 102 = .ok (.aload_n 0, 1) := dk_42 (dk_at dksX6_link_4 11 rfl rfl)
theorem dX6_link_103 : decode cX6_link 103 = .ok (.getfield 25, 3) := dk_180 0 25 (dk_at dksX6_link_4 12 rfl rfl)
theorem dX6_link_106 : decode cX6_link 106 = .ok (.getfield 171, 3) := dk_180 0 171 (dk_at dksX6_link_4 15 rfl rfl)
theorem dX6_link_109 : decode cX6_link 109 = .ok (.iconst 3, 1) := dk_6 (dk_at dksX6_link_4 18 rfl rfl)
theorem dX6_link_110 : decode cX6_link 110 = .ok (.iload_n 1, 1) := dk_27 (dk_at dksX6_link_4 19 rfl rfl)
theorem dX6_link_111 : decode cX6_link 111 = .ok (.imul, 1) := dk_104 (dk_at dksX6_link_4 20 rfl rfl)
theorem dX6_link_112 : decode cX6_link 112 = .ok (.iload_n 2, 1) := dk_28 (dk_at dksX6_link_4 21 rfl rfl)
theorem dX6_link_113 : decode cX6_link 113 = .ok (.iadd, 1) := dk_96 (dk_at dksX6_link_4 22 rfl rfl)
theorem dX6_link_114 : decode cX6_link 114 = .ok (.iload_n 3, 1) := dk_29 (dk_at dksX6_link_4 23 rfl rfl)
theorem dX6_link_115 : decode cX6_link 115 = .ok (.iastore, 1) := dk_79 (dk_at dksX6_link_5 0 rfl rfl)
theorem dX6_link_116 : decode cX6_link 116 = .ok (.aload_n 0, 1) := dk_42 (dk_at dksX6_link_5 1 rfl rfl)
theorem dX6_link_117 : decode cX6_link 117 = .ok (.getfield 25, 3) := dk_180 0 25 (dk_at dksX6_link_5 2 rfl rfl)
theorem dX6_link_120 : decode cX6_link 120 = .ok (.getfield 171, 3) := dk_180 0 171 (dk_at dksX6_link_5 5 rfl rfl)
theorem dX6_link_123 : decode cX6_link 123 = .ok (.iconst 3, 1) := dk_6 (dk_at dksX6_link_5 8 rfl rfl)
theorem dX6_link_124 : decode cX6_link 124 = .ok (.iload_n 2, 1) := dk_28 (dk_at dksX6_link_5 9 rfl rfl)
theorem dX6_link_125 : decode cX6_link 125 = .ok (.imul, 1) := dk_104 (dk_at dksX6_link_5 10 rfl rfl)
theorem dX6_link_126 : decode cX6_link 126 = .ok (.iload_n 1, 1) := dk_27 (dk_at dksX6_link_5 11 rfl rfl)
theorem dX6_link_127 : decode cX6_link 127 = .ok (.iadd, 1) := dk_96 (dk_at dksX6_link_5 12 rfl rfl)
theorem dX6_link_128 : decode cX6_link 128 = .ok (.iload_n 3, 1) := dk_29 (dk_at dksX6_link_5 13 rfl rfl)
theorem dX6_link_129 : decode cX6_link 129 = .ok (.iastore, 1) := dk_79 (dk_at dksX6_link_5 14 rfl rfl)
theorem dX6_link_130 : decode cX6_link 130 = .ok (.return_, 1) := dk_177 (dk_at dksX6_link_5 15 rfl rfl)
abbrev cX6_slots : ByteArray := prog_5_method_15_code
def yX6_slots : MethodName := ⟨RX6, "slots", "()V"⟩
def dkwX6_slots_2 : List UInt8 := [17, 0, 255, 182, 0, 129, 181, 0, 169, 177]
abbrev dktX6_slots_2 : List UInt8 := dkwX6_slots_2 ++ []
def dkwX6_slots_1 : List UInt8 := [167, 0, 4, 3, 6, 182, 0, 96, 42, 182, 0, 29, 42, 180, 0, 25, 180, 0, 157, 27, 50, 42, 4]
abbrev dktX6_slots_1 : List UInt8 := dkwX6_slots_1 ++ dktX6_slots_2
def dkwX6_slots_0 : List UInt8 := [42, 182, 0, 166, 60, 42, 42, 180, 0, 25, 180, 0, 157, 27, 50, 180, 0, 169, 154, 0, 7, 4]
abbrev dktX6_slots_0 : List UInt8 := dkwX6_slots_0 ++ dktX6_slots_1
theorem dksX6_slots_0 : cX6_slots.data.toList.drop 0 = dktX6_slots_0 := by decide +kernel
theorem dksX6_slots_1 : cX6_slots.data.toList.drop 22 = dktX6_slots_1 := dk_seg dksX6_slots_0 22 rfl rfl
theorem dksX6_slots_2 : cX6_slots.data.toList.drop 45 = dktX6_slots_2 := dk_seg dksX6_slots_1 23 rfl rfl
theorem dX6_slots_0 : decode cX6_slots 0 = .ok (.aload_n 0, 1) := dk_42 (dk_at dksX6_slots_0 0 rfl rfl)
theorem dX6_slots_1 : decode cX6_slots 1 = .ok (.invokevirtual 166, 3) := dk_182 0 166 (dk_at dksX6_slots_0 1 rfl rfl)
theorem dX6_slots_4 : decode cX6_slots 4 = .ok (.istore_n 1, 1) := dk_60 (dk_at dksX6_slots_0 4 rfl rfl)
theorem dX6_slots_5 : decode cX6_slots 5 = .ok (.aload_n 0, 1) := dk_42 (dk_at dksX6_slots_0 5 rfl rfl)
theorem dX6_slots_6 : decode cX6_slots 6 = .ok (.aload_n 0, 1) := dk_42 (dk_at dksX6_slots_0 6 rfl rfl)
theorem dX6_slots_7 : decode cX6_slots 7 = .ok (.getfield 25, 3) := dk_180 0 25 (dk_at dksX6_slots_0 7 rfl rfl)
theorem dX6_slots_10 : decode cX6_slots 10 = .ok (.getfield 157, 3) := dk_180 0 157 (dk_at dksX6_slots_0 10 rfl rfl)
theorem dX6_slots_13 : decode cX6_slots 13 = .ok (.iload_n 1, 1) := dk_27 (dk_at dksX6_slots_0 13 rfl rfl)
theorem dX6_slots_14 : decode cX6_slots 14 = .ok (.aaload, 1) := dk_50 (dk_at dksX6_slots_0 14 rfl rfl)
theorem dX6_slots_15 : decode cX6_slots 15 = .ok (.getfield 169, 3) := dk_180 0 169 (dk_at dksX6_slots_0 15 rfl rfl)
theorem dX6_slots_18 : decode cX6_slots 18 = .ok (.ifCond .ne 7, 3) := dk_154 0 7 (dk_at dksX6_slots_0 18 rfl rfl)
theorem dX6_slots_21 : decode cX6_slots 21 = .ok (.iconst 1, 1) := dk_4 (dk_at dksX6_slots_0 21 rfl rfl)
theorem dX6_slots_22 : decode cX6_slots 22 = .ok (.goto 4, 3) := dk_167 0 4 (dk_at dksX6_slots_1 0 rfl rfl)
theorem dX6_slots_25 : decode cX6_slots 25 = .ok (.iconst 0, 1) := dk_3 (dk_at dksX6_slots_1 3 rfl rfl)
theorem dX6_slots_26 : decode cX6_slots 26 = .ok (.iconst 3, 1) := dk_6 (dk_at dksX6_slots_1 4 rfl rfl)
theorem dX6_slots_27 : decode cX6_slots 27 = .ok (.invokevirtual 96, 3) := dk_182 0 96 (dk_at dksX6_slots_1 5 rfl rfl)
theorem dX6_slots_30 : decode cX6_slots 30 = .ok (.aload_n 0, 1) := dk_42 (dk_at dksX6_slots_1 8 rfl rfl)
theorem dX6_slots_31 : decode cX6_slots 31 = .ok (.invokevirtual 29, 3) := dk_182 0 29 (dk_at dksX6_slots_1 9 rfl rfl)
theorem dX6_slots_34 : decode cX6_slots 34 = .ok (.aload_n 0, 1) := dk_42 (dk_at dksX6_slots_1 12 rfl rfl)
theorem dX6_slots_35 : decode cX6_slots 35 = .ok (.getfield 25, 3) := dk_180 0 25 (dk_at dksX6_slots_1 13 rfl rfl)
theorem dX6_slots_38 : decode cX6_slots 38 = .ok (.getfield 157, 3) := dk_180 0 157 (dk_at dksX6_slots_1 16 rfl rfl)
theorem dX6_slots_41 : decode cX6_slots 41 = .ok (.iload_n 1, 1) := dk_27 (dk_at dksX6_slots_1 19 rfl rfl)
theorem dX6_slots_42 : decode cX6_slots 42 = .ok (.aaload, 1) := dk_50 (dk_at dksX6_slots_1 20 rfl rfl)
theorem dX6_slots_43 : decode cX6_slots 43 = .ok (.aload_n 0, 1) := dk_42 (dk_at dksX6_slots_1 21 rfl rfl)
theorem dX6_slots_44 : decode cX6_slots 44 = .ok (.iconst 1, 1) := dk_4 (dk_at dksX6_slots_1 22 rfl rfl)
theorem dX6_slots_45 : decode cX6_slots 45 = .ok (.sipush 255, 3) := dk_17 0 255 (dk_at dksX6_slots_2 0 rfl rfl)
theorem dX6_slots_48 : decode cX6_slots 48 = .ok (.invokevirtual 129, 3) := dk_182 0 129 (dk_at dksX6_slots_2 3 rfl rfl)
theorem dX6_slots_51 : decode cX6_slots 51 = .ok (.putfield 169, 3) := dk_181 0 169 (dk_at dksX6_slots_2 6 rfl rfl)
theorem dX6_slots_54 : decode cX6_slots 54 = .ok (.return_, 1) := dk_177 (dk_at dksX6_slots_2 9 rfl rfl)
theorem q118 : (Jvm.Cond.initialized "QuietChannels$Reader") ∈ lw_all := lw_g (lw_at lw_m1 6 rfl) rfl
theorem q156 : (Jvm.Cond.fieldLinkNest "QuietChannels$Reader" (157 : Nat) "QuietChannels$Told" "users" "[LQuietChannels$User;" "QuietChannels") ∈ lw_tbl := lw_at lw_m1 44 rfl
theorem q160 : (Jvm.Cond.fieldLinkNest "QuietChannels$Reader" (179 : Nat) "QuietChannels$Told" "block" "[I" "QuietChannels") ∈ lw_tbl := lw_at lw_m1 48 rfl
theorem q163 : (Jvm.Cond.fieldLinkNest "QuietChannels$Reader" (144 : Nat) "QuietChannels$Told" "loss" "[I" "QuietChannels") ∈ lw_tbl := lw_at lw_m1 51 rfl
theorem q166 : (Jvm.Cond.fieldLinkNest "QuietChannels$Reader" (171 : Nat) "QuietChannels$Told" "links" "[I" "QuietChannels") ∈ lw_tbl := lw_at lw_m1 54 rfl
theorem q173 : (Jvm.Cond.fieldLinkNest "QuietChannels$Reader" (152 : Nat) "QuietChannels$Told" "many" "I" "QuietChannels") ∈ lw_tbl := lw_at lw_m1 61 rfl
theorem q175 : (Jvm.Cond.fieldLinkNest "QuietChannels$Reader" (176 : Nat) "QuietChannels$Told" "blocks" "I" "QuietChannels") ∈ lw_tbl := lw_at lw_m1 63 rfl
theorem q179 : (Jvm.Cond.fieldLinkNest "QuietChannels$Reader" (132 : Nat) "QuietChannels$Told" "band" "I" "QuietChannels") ∈ lw_tbl := lw_at lw_m1 67 rfl
theorem q182 : (Jvm.Cond.fieldLinkNest "QuietChannels$Reader" (135 : Nat) "QuietChannels$Told" "guard" "I" "QuietChannels") ∈ lw_tbl := lw_at lw_m1 70 rfl
theorem q186 : (Jvm.Cond.fieldLinkNest "QuietChannels$Reader" (138 : Nat) "QuietChannels$Told" "space" "I" "QuietChannels") ∈ lw_tbl := lw_at lw_m1 74 rfl
theorem q190 : (Jvm.Cond.fieldLinkNest "QuietChannels$Reader" (141 : Nat) "QuietChannels$Told" "orders" "I" "QuietChannels") ∈ lw_tbl := lw_at lw_m1 78 rfl
theorem q192 : (Jvm.Cond.fieldLinkNest "QuietChannels$Reader" (149 : Nat) "QuietChannels$Told" "seed" "I" "QuietChannels") ∈ lw_tbl := lw_at lw_m1 80 rfl
theorem q195 : (Jvm.Cond.fieldLinkNest "QuietChannels$Reader" (104 : Nat) "QuietChannels$Told" "lines" "I" "QuietChannels") ∈ lw_tbl := lw_at lw_m1 83 rfl
theorem q196 : (Jvm.Cond.fieldLinkNest "QuietChannels$Reader" (126 : Nat) "QuietChannels$Told" "told" "I" "QuietChannels") ∈ lw_tbl := lw_at lw_m1 84 rfl
theorem q389 : (Jvm.Cond.fieldLinkNest "QuietChannels$Reader" (32 : Nat) "QuietChannels" "tape" "[B" "QuietChannels") ∈ lw_tbl := lw_at lw_m2 37 rfl
theorem q450 : (Jvm.Cond.instantiable "QuietChannels$Reader" (8 : Nat)) ∈ lw_all := lw_g (lw_at lw_m2 98 rfl) rfl
theorem q452 : (Jvm.Cond.instanceMethod ({ cls := "QuietChannels$Reader", name := "<init>", desc := "(LQuietChannels;I)V" } : Jvm.MethodName)) ∈ lw_all := lw_g (lw_at lw_m2 100 rfl) rfl
theorem q453 : (Jvm.Cond.code ({ cls := "QuietChannels$Reader", name := "<init>", desc := "(LQuietChannels;I)V" } : Jvm.MethodName) prog_5_method_1_code (3 : Nat) (Option.none : Option Jvm.ClassFile.FieldType)) ∈ lw_all := lw_g (lw_at lw_m2 101 rfl) rfl
theorem q454 : (Jvm.Cond.classLink "QuietChannels$Reader" (3 : Nat) "QuietChannels$Told") ∈ lw_all := lw_g (lw_at lw_m2 102 rfl) rfl
theorem q455 : (Jvm.Cond.methodLinkNest "QuietChannels$Reader" (5 : Nat) ({ cls := "QuietChannels$Told", name := "<init>", desc := "()V" } : Jvm.MethodName) "QuietChannels") ∈ lw_tbl := lw_at lw_m2 103 rfl
theorem q456 : (Jvm.Cond.methodLink "QuietChannels$Reader" (9 : Nat) ({ cls := "QuietChannels$Reader", name := "<init>", desc := "(LQuietChannels;ILQuietChannels$Told;)V" } : Jvm.MethodName)) ∈ lw_all := lw_g (lw_at lw_m2 104 rfl) rfl
theorem q457 : (Jvm.Cond.instanceMethod ({ cls := "QuietChannels$Reader", name := "<init>", desc := "(LQuietChannels;ILQuietChannels$Told;)V" } : Jvm.MethodName)) ∈ lw_all := lw_g (lw_at lw_m2 105 rfl) rfl
theorem q458 : (Jvm.Cond.code ({ cls := "QuietChannels$Reader", name := "<init>", desc := "(LQuietChannels;ILQuietChannels$Told;)V" } : Jvm.MethodName) prog_5_method_2_code (4 : Nat) (Option.none : Option Jvm.ClassFile.FieldType)) ∈ lw_all := lw_g (lw_at lw_m2 106 rfl) rfl
theorem q459 : (Jvm.Cond.methodLink "QuietChannels$Reader" (18 : Nat) ({ cls := "java/lang/Object", name := "<init>", desc := "()V" } : Jvm.MethodName)) ∈ lw_all := lw_g (lw_at lw_m2 107 rfl) rfl
theorem q460 : (Jvm.Cond.methodLink "QuietChannels$Reader" (29 : Nat) ({ cls := "QuietChannels$Reader", name := "take", desc := "()V" } : Jvm.MethodName)) ∈ lw_all := lw_g (lw_at lw_m2 108 rfl) rfl
theorem q461 : (Jvm.Cond.privateMethod ({ cls := "QuietChannels$Reader", name := "take", desc := "()V" } : Jvm.MethodName)) ∈ lw_tbl := lw_at lw_m2 109 rfl
theorem q462 : (Jvm.Cond.instanceMethod ({ cls := "QuietChannels$Reader", name := "take", desc := "()V" } : Jvm.MethodName)) ∈ lw_all := lw_g (lw_at lw_m2 110 rfl) rfl
theorem q463 : (Jvm.Cond.code ({ cls := "QuietChannels$Reader", name := "take", desc := "()V" } : Jvm.MethodName) prog_5_method_6_code (1 : Nat) (Option.none : Option Jvm.ClassFile.FieldType)) ∈ lw_all := lw_g (lw_at lw_m2 111 rfl) rfl
theorem q464 : (Jvm.Cond.methodLink "QuietChannels$Reader" (36 : Nat) ({ cls := "QuietChannels$Reader", name := "see", desc := "(I)I" } : Jvm.MethodName)) ∈ lw_all := lw_g (lw_at lw_m2 112 rfl) rfl
theorem q465 : (Jvm.Cond.privateMethod ({ cls := "QuietChannels$Reader", name := "see", desc := "(I)I" } : Jvm.MethodName)) ∈ lw_tbl := lw_at lw_m2 113 rfl
theorem q466 : (Jvm.Cond.instanceMethod ({ cls := "QuietChannels$Reader", name := "see", desc := "(I)I" } : Jvm.MethodName)) ∈ lw_all := lw_g (lw_at lw_m2 114 rfl) rfl
theorem q467 : (Jvm.Cond.code ({ cls := "QuietChannels$Reader", name := "see", desc := "(I)I" } : Jvm.MethodName) prog_5_method_3_code (2 : Nat) (Option.some Jvm.ClassFile.FieldType.int)) ∈ lw_all := lw_g (lw_at lw_m2 115 rfl) rfl
theorem q468 : (Jvm.Cond.methodLink "QuietChannels$Reader" (53 : Nat) ({ cls := "QuietChannels$Reader", name := "isSmall", desc := "(I)Z" } : Jvm.MethodName)) ∈ lw_all := lw_g (lw_at lw_m2 116 rfl) rfl
theorem q469 : (Jvm.Cond.privateMethod ({ cls := "QuietChannels$Reader", name := "isSmall", desc := "(I)Z" } : Jvm.MethodName)) ∈ lw_tbl := lw_at lw_m2 117 rfl
theorem q470 : (Jvm.Cond.instanceMethod ({ cls := "QuietChannels$Reader", name := "isSmall", desc := "(I)Z" } : Jvm.MethodName)) ∈ lw_all := lw_g (lw_at lw_m2 118 rfl) rfl
theorem q471 : (Jvm.Cond.code ({ cls := "QuietChannels$Reader", name := "isSmall", desc := "(I)Z" } : Jvm.MethodName) prog_5_method_4_code (2 : Nat) (Option.some Jvm.ClassFile.FieldType.boolean)) ∈ lw_all := lw_g (lw_at lw_m2 119 rfl) rfl
theorem q472 : (Jvm.Cond.methodLinkNest "QuietChannels$Reader" (40 : Nat) ({ cls := "QuietChannels", name := "isIn", desc := "(III)Z" } : Jvm.MethodName) "QuietChannels") ∈ lw_tbl := lw_at lw_m2 120 rfl
theorem q473 : (Jvm.Cond.methodLink "QuietChannels$Reader" (57 : Nat) ({ cls := "QuietChannels$Reader", name := "takeWord", desc := "()V" } : Jvm.MethodName)) ∈ lw_all := lw_g (lw_at lw_m2 121 rfl) rfl
theorem q474 : (Jvm.Cond.privateMethod ({ cls := "QuietChannels$Reader", name := "takeWord", desc := "()V" } : Jvm.MethodName)) ∈ lw_tbl := lw_at lw_m2 122 rfl
theorem q475 : (Jvm.Cond.instanceMethod ({ cls := "QuietChannels$Reader", name := "takeWord", desc := "()V" } : Jvm.MethodName)) ∈ lw_all := lw_g (lw_at lw_m2 123 rfl) rfl
theorem q476 : (Jvm.Cond.code ({ cls := "QuietChannels$Reader", name := "takeWord", desc := "()V" } : Jvm.MethodName) prog_5_method_7_code (2 : Nat) (Option.none : Option Jvm.ClassFile.FieldType)) ∈ lw_all := lw_g (lw_at lw_m2 124 rfl) rfl
theorem q477 : (Jvm.Cond.methodLink "QuietChannels$Reader" (73 : Nat) ({ cls := "QuietChannels$Reader", name := "key", desc := "()I" } : Jvm.MethodName)) ∈ lw_all := lw_g (lw_at lw_m2 125 rfl) rfl
theorem q478 : (Jvm.Cond.privateMethod ({ cls := "QuietChannels$Reader", name := "key", desc := "()I" } : Jvm.MethodName)) ∈ lw_tbl := lw_at lw_m2 126 rfl
theorem q479 : (Jvm.Cond.instanceMethod ({ cls := "QuietChannels$Reader", name := "key", desc := "()I" } : Jvm.MethodName)) ∈ lw_all := lw_g (lw_at lw_m2 127 rfl) rfl
theorem q480 : (Jvm.Cond.code ({ cls := "QuietChannels$Reader", name := "key", desc := "()I" } : Jvm.MethodName) prog_5_method_8_code (6 : Nat) (Option.some Jvm.ClassFile.FieldType.int)) ∈ lw_all := lw_g (lw_at lw_m2 128 rfl) rfl
theorem q481 : (Jvm.Cond.stringRef "QuietChannels$Reader" (77 : Nat) "band guard space orders loss seed user fixed block link slots") ∈ lw_tbl := lw_at lw_m2 129 rfl
theorem q482 : (Jvm.Cond.methodLink "QuietChannels$Reader" (79 : Nat) ({ cls := "java/lang/String", name := "length", desc := "()I" } : Jvm.MethodName)) ∈ lw_all := lw_g (lw_at lw_m2 130 rfl) rfl
theorem q492 : (Jvm.Cond.methodLink "QuietChannels$Reader" (84 : Nat) ({ cls := "java/lang/String", name := "indexOf", desc := "(II)I" } : Jvm.MethodName)) ∈ lw_all := lw_g (lw_at lw_m2 140 rfl) rfl
theorem q565 : (Jvm.Cond.methodLink "QuietChannels$Reader" (87 : Nat) ({ cls := "java/lang/String", name := "charAt", desc := "(I)C" } : Jvm.MethodName)) ∈ lw_all := lw_g (lw_at lw_m2 213 rfl) rfl
theorem q585 : (Jvm.Cond.methodLink "QuietChannels$Reader" (60 : Nat) ({ cls := "QuietChannels$Reader", name := "isDigit", desc := "(I)Z" } : Jvm.MethodName)) ∈ lw_all := lw_g (lw_at lw_m2 233 rfl) rfl
theorem q586 : (Jvm.Cond.privateMethod ({ cls := "QuietChannels$Reader", name := "isDigit", desc := "(I)Z" } : Jvm.MethodName)) ∈ lw_tbl := lw_at lw_m2 234 rfl
theorem q587 : (Jvm.Cond.instanceMethod ({ cls := "QuietChannels$Reader", name := "isDigit", desc := "(I)Z" } : Jvm.MethodName)) ∈ lw_all := lw_g (lw_at lw_m2 235 rfl) rfl
theorem q588 : (Jvm.Cond.code ({ cls := "QuietChannels$Reader", name := "isDigit", desc := "(I)Z" } : Jvm.MethodName) prog_5_method_5_code (2 : Nat) (Option.some Jvm.ClassFile.FieldType.boolean)) ∈ lw_all := lw_g (lw_at lw_m2 236 rfl) rfl
theorem q589 : (Jvm.Cond.constant "QuietChannels$Reader" (66 : Nat) (100000 : Int32)) ∈ lw_all := lw_g (lw_at lw_m2 237 rfl) rfl
theorem q590 : (Jvm.Cond.methodLink "QuietChannels$Reader" (67 : Nat) ({ cls := "java/lang/Math", name := "min", desc := "(II)I" } : Jvm.MethodName)) ∈ lw_all := lw_g (lw_at lw_m2 238 rfl) rfl
theorem q591 : (Jvm.Cond.fieldLink "QuietChannels$Reader" (21 : Nat) "QuietChannels$Reader" "size" "I") ∈ lw_all := lw_g (lw_at lw_m2 239 rfl) rfl
theorem q592 : (Jvm.Cond.fieldLink "QuietChannels$Reader" (25 : Nat) "QuietChannels$Reader" "v" "LQuietChannels$Told;") ∈ lw_all := lw_g (lw_at lw_m3 0 rfl) rfl
theorem q593 : (Jvm.Cond.fieldLink "QuietChannels$Reader" (44 : Nat) "QuietChannels$Reader" "at" "I") ∈ lw_all := lw_g (lw_at lw_m3 1 rfl) rfl
theorem q594 : (Jvm.Cond.fieldLink "QuietChannels$Reader" (50 : Nat) "QuietChannels$Reader" "kind" "I") ∈ lw_all := lw_g (lw_at lw_m3 2 rfl) rfl
theorem q595 : (Jvm.Cond.fieldLink "QuietChannels$Reader" (63 : Nat) "QuietChannels$Reader" "which" "I") ∈ lw_all := lw_g (lw_at lw_m3 3 rfl) rfl
theorem q596 : (Jvm.Cond.fieldLink "QuietChannels$Reader" (47 : Nat) "QuietChannels$Reader" "place" "I") ∈ lw_all := lw_g (lw_at lw_m3 4 rfl) rfl
theorem q597 : (Jvm.Cond.fieldLink "QuietChannels$Reader" (107 : Nat) "QuietChannels$Reader" "isBehind" "Z") ∈ lw_all := lw_g (lw_at lw_m3 5 rfl) rfl
theorem q598 : (Jvm.Cond.fieldLink "QuietChannels$Reader" (14 : Nat) "QuietChannels$Reader" "this$0" "LQuietChannels;") ∈ lw_all := lw_g (lw_at lw_m3 6 rfl) rfl
theorem q599 : (Jvm.Cond.laysFinal "QuietChannels$Reader" "QuietChannels$Reader" "size" "I") ∈ lw_all := lw_g (lw_at lw_m3 7 rfl) rfl
theorem q600 : (Jvm.Cond.soleField "QuietChannels$Reader" "size") ∈ lw_all := lw_g (lw_at lw_m3 8 rfl) rfl
theorem q601 : (Jvm.Cond.laysFinal "QuietChannels$Reader" "QuietChannels$Reader" "v" "LQuietChannels$Told;") ∈ lw_all := lw_g (lw_at lw_m3 9 rfl) rfl
theorem q602 : (Jvm.Cond.soleField "QuietChannels$Reader" "v") ∈ lw_all := lw_g (lw_at lw_m3 10 rfl) rfl
theorem q603 : (Jvm.Cond.lays "QuietChannels$Reader" "QuietChannels$Reader" "at" "I") ∈ lw_all := lw_g (lw_at lw_m3 11 rfl) rfl
theorem q604 : (Jvm.Cond.soleField "QuietChannels$Reader" "at") ∈ lw_all := lw_g (lw_at lw_m3 12 rfl) rfl
theorem q605 : (Jvm.Cond.lays "QuietChannels$Reader" "QuietChannels$Reader" "kind" "I") ∈ lw_all := lw_g (lw_at lw_m3 13 rfl) rfl
theorem q606 : (Jvm.Cond.soleField "QuietChannels$Reader" "kind") ∈ lw_all := lw_g (lw_at lw_m3 14 rfl) rfl
theorem q607 : (Jvm.Cond.lays "QuietChannels$Reader" "QuietChannels$Reader" "which" "I") ∈ lw_all := lw_g (lw_at lw_m3 15 rfl) rfl
theorem q608 : (Jvm.Cond.soleField "QuietChannels$Reader" "which") ∈ lw_all := lw_g (lw_at lw_m3 16 rfl) rfl
theorem q609 : (Jvm.Cond.lays "QuietChannels$Reader" "QuietChannels$Reader" "place" "I") ∈ lw_all := lw_g (lw_at lw_m3 17 rfl) rfl
theorem q610 : (Jvm.Cond.soleField "QuietChannels$Reader" "place") ∈ lw_all := lw_g (lw_at lw_m3 18 rfl) rfl
theorem q611 : (Jvm.Cond.lays "QuietChannels$Reader" "QuietChannels$Reader" "isBehind" "Z") ∈ lw_all := lw_g (lw_at lw_m3 19 rfl) rfl
theorem q612 : (Jvm.Cond.soleField "QuietChannels$Reader" "isBehind") ∈ lw_all := lw_g (lw_at lw_m3 20 rfl) rfl
theorem q613 : (Jvm.Cond.laysFinal "QuietChannels$Reader" "QuietChannels$Reader" "this$0" "LQuietChannels;") ∈ lw_all := lw_g (lw_at lw_m3 21 rfl) rfl
theorem q614 : (Jvm.Cond.soleField "QuietChannels$Reader" "this$0") ∈ lw_all := lw_g (lw_at lw_m3 22 rfl) rfl
theorem q615 : (Jvm.Cond.superclass "QuietChannels$Reader" "java/lang/Object") ∈ lw_all := lw_g (lw_at lw_m3 23 rfl) rfl
theorem q617 : (Jvm.Cond.instanceMethod ({ cls := "QuietChannels$Reader", name := "text", desc := "()LQuietChannels$Told;" } : Jvm.MethodName)) ∈ lw_all := lw_g (lw_at lw_m3 25 rfl) rfl
theorem q618 : (Jvm.Cond.selects "QuietChannels$Reader" ({ cls := "QuietChannels$Reader", name := "text", desc := "()LQuietChannels$Told;" } : Jvm.MethodName) ({ cls := "QuietChannels$Reader", name := "text", desc := "()LQuietChannels$Told;" } : Jvm.MethodName)) ∈ lw_all := lw_g (lw_at lw_m3 26 rfl) rfl
theorem q619 : (Jvm.Cond.code ({ cls := "QuietChannels$Reader", name := "text", desc := "()LQuietChannels$Told;" } : Jvm.MethodName) prog_5_method_11_code (1 : Nat) (Option.some (Jvm.ClassFile.FieldType.object "QuietChannels$Told"))) ∈ lw_all := lw_g (lw_at lw_m3 27 rfl) rfl
theorem q620 : (Jvm.Cond.methodLink "QuietChannels$Reader" (96 : Nat) ({ cls := "QuietChannels$Reader", name := "must", desc := "(ZI)V" } : Jvm.MethodName)) ∈ lw_all := lw_g (lw_at lw_m3 28 rfl) rfl
theorem q621 : (Jvm.Cond.privateMethod ({ cls := "QuietChannels$Reader", name := "must", desc := "(ZI)V" } : Jvm.MethodName)) ∈ lw_tbl := lw_at lw_m3 29 rfl
theorem q622 : (Jvm.Cond.instanceMethod ({ cls := "QuietChannels$Reader", name := "must", desc := "(ZI)V" } : Jvm.MethodName)) ∈ lw_all := lw_g (lw_at lw_m3 30 rfl) rfl
theorem q623 : (Jvm.Cond.code ({ cls := "QuietChannels$Reader", name := "must", desc := "(ZI)V" } : Jvm.MethodName) prog_5_method_9_code (3 : Nat) (Option.none : Option Jvm.ClassFile.FieldType)) ∈ lw_all := lw_g (lw_at lw_m3 31 rfl) rfl
theorem q624 : (Jvm.Cond.classLink "QuietChannels$Reader" (91 : Nat) "QuietChannels$Fault") ∈ lw_all := lw_g (lw_at lw_m3 32 rfl) rfl
theorem q664 : (Jvm.Cond.methodLink "QuietChannels$Reader" (93 : Nat) ({ cls := "QuietChannels$Fault", name := "<init>", desc := "(II)V" } : Jvm.MethodName)) ∈ lw_all := lw_g (lw_at lw_m3 72 rfl) rfl
theorem q694 : (Jvm.Cond.methodLink "QuietChannels$Reader" (100 : Nat) ({ cls := "QuietChannels$Reader", name := "line", desc := "(I)V" } : Jvm.MethodName)) ∈ lw_all := lw_g (lw_at lw_m3 102 rfl) rfl
theorem q695 : (Jvm.Cond.privateMethod ({ cls := "QuietChannels$Reader", name := "line", desc := "(I)V" } : Jvm.MethodName)) ∈ lw_tbl := lw_at lw_m3 103 rfl
theorem q696 : (Jvm.Cond.instanceMethod ({ cls := "QuietChannels$Reader", name := "line", desc := "(I)V" } : Jvm.MethodName)) ∈ lw_all := lw_g (lw_at lw_m3 104 rfl) rfl
theorem q697 : (Jvm.Cond.code ({ cls := "QuietChannels$Reader", name := "line", desc := "(I)V" } : Jvm.MethodName) prog_5_method_12_code (3 : Nat) (Option.none : Option Jvm.ClassFile.FieldType)) ∈ lw_all := lw_g (lw_at lw_m3 105 rfl) rfl
theorem q698 : (Jvm.Cond.methodLink "QuietChannels$Reader" (111 : Nat) ({ cls := "QuietChannels$Reader", name := "user", desc := "()V" } : Jvm.MethodName)) ∈ lw_all := lw_g (lw_at lw_m3 106 rfl) rfl
theorem q699 : (Jvm.Cond.privateMethod ({ cls := "QuietChannels$Reader", name := "user", desc := "()V" } : Jvm.MethodName)) ∈ lw_tbl := lw_at lw_m3 107 rfl
theorem q700 : (Jvm.Cond.instanceMethod ({ cls := "QuietChannels$Reader", name := "user", desc := "()V" } : Jvm.MethodName)) ∈ lw_all := lw_g (lw_at lw_m3 108 rfl) rfl
theorem q701 : (Jvm.Cond.code ({ cls := "QuietChannels$Reader", name := "user", desc := "()V" } : Jvm.MethodName) prog_5_method_13_code (5 : Nat) (Option.none : Option Jvm.ClassFile.FieldType)) ∈ lw_all := lw_g (lw_at lw_m3 109 rfl) rfl
theorem q702 : (Jvm.Cond.methodLink "QuietChannels$Reader" (155 : Nat) ({ cls := "QuietChannels$Told", name := "user", desc := "(I)I" } : Jvm.MethodName)) ∈ lw_all := lw_g (lw_at lw_m3 110 rfl) rfl
theorem q706 : (Jvm.Cond.methodLink "QuietChannels$Reader" (129 : Nat) ({ cls := "QuietChannels$Reader", name := "number", desc := "(II)I" } : Jvm.MethodName)) ∈ lw_all := lw_g (lw_at lw_m3 114 rfl) rfl
theorem q707 : (Jvm.Cond.privateMethod ({ cls := "QuietChannels$Reader", name := "number", desc := "(II)I" } : Jvm.MethodName)) ∈ lw_tbl := lw_at lw_m3 115 rfl
theorem q708 : (Jvm.Cond.instanceMethod ({ cls := "QuietChannels$Reader", name := "number", desc := "(II)I" } : Jvm.MethodName)) ∈ lw_all := lw_g (lw_at lw_m3 116 rfl) rfl
theorem q709 : (Jvm.Cond.code ({ cls := "QuietChannels$Reader", name := "number", desc := "(II)I" } : Jvm.MethodName) prog_5_method_10_code (4 : Nat) (Option.some Jvm.ClassFile.FieldType.int)) ∈ lw_all := lw_g (lw_at lw_m3 117 rfl) rfl
theorem q710 : (Jvm.Cond.classLink "QuietChannels$Reader" (161 : Nat) "QuietChannels$User") ∈ lw_all := lw_g (lw_at lw_m3 118 rfl) rfl
theorem q712 : (Jvm.Cond.methodLink "QuietChannels$Reader" (163 : Nat) ({ cls := "QuietChannels$User", name := "<init>", desc := "(IIIII)V" } : Jvm.MethodName)) ∈ lw_all := lw_g (lw_at lw_m3 120 rfl) rfl
theorem q730 : (Jvm.Cond.fieldLinkNest "QuietChannels$Reader" (174 : Nat) "QuietChannels$User" "fixed" "I" "QuietChannels") ∈ lw_tbl := lw_at lw_m3 138 rfl
theorem q732 : (Jvm.Cond.fieldLinkNest "QuietChannels$Reader" (169 : Nat) "QuietChannels$User" "slots" "I" "QuietChannels") ∈ lw_tbl := lw_at lw_m3 140 rfl
theorem q748 : (Jvm.Cond.methodLink "QuietChannels$Reader" (114 : Nat) ({ cls := "QuietChannels$Reader", name := "fixed", desc := "()V" } : Jvm.MethodName)) ∈ lw_all := lw_g (lw_at lw_m3 156 rfl) rfl
theorem q749 : (Jvm.Cond.privateMethod ({ cls := "QuietChannels$Reader", name := "fixed", desc := "()V" } : Jvm.MethodName)) ∈ lw_tbl := lw_at lw_m3 157 rfl
theorem q750 : (Jvm.Cond.instanceMethod ({ cls := "QuietChannels$Reader", name := "fixed", desc := "()V" } : Jvm.MethodName)) ∈ lw_all := lw_g (lw_at lw_m3 158 rfl) rfl
theorem q751 : (Jvm.Cond.code ({ cls := "QuietChannels$Reader", name := "fixed", desc := "()V" } : Jvm.MethodName) prog_5_method_17_code (2 : Nat) (Option.none : Option Jvm.ClassFile.FieldType)) ∈ lw_all := lw_g (lw_at lw_m3 159 rfl) rfl
theorem q752 : (Jvm.Cond.methodLink "QuietChannels$Reader" (166 : Nat) ({ cls := "QuietChannels$Reader", name := "known", desc := "()I" } : Jvm.MethodName)) ∈ lw_all := lw_g (lw_at lw_m3 160 rfl) rfl
theorem q753 : (Jvm.Cond.privateMethod ({ cls := "QuietChannels$Reader", name := "known", desc := "()I" } : Jvm.MethodName)) ∈ lw_tbl := lw_at lw_m3 161 rfl
theorem q754 : (Jvm.Cond.instanceMethod ({ cls := "QuietChannels$Reader", name := "known", desc := "()I" } : Jvm.MethodName)) ∈ lw_all := lw_g (lw_at lw_m3 162 rfl) rfl
theorem q755 : (Jvm.Cond.code ({ cls := "QuietChannels$Reader", name := "known", desc := "()I" } : Jvm.MethodName) prog_5_method_14_code (2 : Nat) (Option.some Jvm.ClassFile.FieldType.int)) ∈ lw_all := lw_g (lw_at lw_m3 163 rfl) rfl
theorem q756 : (Jvm.Cond.methodLink "QuietChannels$Reader" (117 : Nat) ({ cls := "QuietChannels$Reader", name := "block", desc := "()V" } : Jvm.MethodName)) ∈ lw_all := lw_g (lw_at lw_m3 164 rfl) rfl
theorem q757 : (Jvm.Cond.privateMethod ({ cls := "QuietChannels$Reader", name := "block", desc := "()V" } : Jvm.MethodName)) ∈ lw_tbl := lw_at lw_m3 165 rfl
theorem q758 : (Jvm.Cond.instanceMethod ({ cls := "QuietChannels$Reader", name := "block", desc := "()V" } : Jvm.MethodName)) ∈ lw_all := lw_g (lw_at lw_m3 166 rfl) rfl
theorem q759 : (Jvm.Cond.code ({ cls := "QuietChannels$Reader", name := "block", desc := "()V" } : Jvm.MethodName) prog_5_method_18_code (2 : Nat) (Option.none : Option Jvm.ClassFile.FieldType)) ∈ lw_all := lw_g (lw_at lw_m3 167 rfl) rfl
theorem q760 : (Jvm.Cond.methodLink "QuietChannels$Reader" (120 : Nat) ({ cls := "QuietChannels$Reader", name := "link", desc := "()V" } : Jvm.MethodName)) ∈ lw_all := lw_g (lw_at lw_m3 168 rfl) rfl
theorem q761 : (Jvm.Cond.privateMethod ({ cls := "QuietChannels$Reader", name := "link", desc := "()V" } : Jvm.MethodName)) ∈ lw_tbl := lw_at lw_m3 169 rfl
theorem q762 : (Jvm.Cond.instanceMethod ({ cls := "QuietChannels$Reader", name := "link", desc := "()V" } : Jvm.MethodName)) ∈ lw_all := lw_g (lw_at lw_m3 170 rfl) rfl
theorem q763 : (Jvm.Cond.code ({ cls := "QuietChannels$Reader", name := "link", desc := "()V" } : Jvm.MethodName) prog_5_method_16_code (4 : Nat) (Option.none : Option Jvm.ClassFile.FieldType)) ∈ lw_all := lw_g (lw_at lw_m3 171 rfl) rfl
theorem q764 : (Jvm.Cond.methodLink "QuietChannels$Reader" (123 : Nat) ({ cls := "QuietChannels$Reader", name := "slots", desc := "()V" } : Jvm.MethodName)) ∈ lw_all := lw_g (lw_at lw_m3 172 rfl) rfl
theorem q765 : (Jvm.Cond.privateMethod ({ cls := "QuietChannels$Reader", name := "slots", desc := "()V" } : Jvm.MethodName)) ∈ lw_tbl := lw_at lw_m3 173 rfl
theorem q766 : (Jvm.Cond.instanceMethod ({ cls := "QuietChannels$Reader", name := "slots", desc := "()V" } : Jvm.MethodName)) ∈ lw_all := lw_g (lw_at lw_m3 174 rfl) rfl
theorem q767 : (Jvm.Cond.code ({ cls := "QuietChannels$Reader", name := "slots", desc := "()V" } : Jvm.MethodName) prog_5_method_15_code (2 : Nat) (Option.none : Option Jvm.ClassFile.FieldType)) ∈ lw_all := lw_g (lw_at lw_m3 175 rfl) rfl
theorem q768 : (Jvm.Cond.constant "QuietChannels$Reader" (148 : Nat) (99999 : Int32)) ∈ lw_all := lw_g (lw_at lw_m3 176 rfl) rfl
theorem q1869 : (Jvm.Cond.castable "QuietChannels$Reader" "java/lang/Object") ∈ lw_tbl := lw_at lw_m8 77 rfl
theorem in_X6 : ∀ w ∈ wsX60, w ∈ lw_all := lw_in wsX60 [599, 601, 603, 605, 607, 609, 611, 613] (by decide +kernel) (by decide +kernel)
/-! QuietChannels$Fault -/
set_option maxRecDepth 100000
def RX7 : String := "QuietChannels$Fault"
def TX7 : u_T := fun k => match k with
  | 0 => ("java/lang/Throwable", "cause", "Ljava/lang/Throwable;", false)
  | 1 => ("java/lang/Throwable", "stackTrace", "[Ljava/lang/StackTraceElement;", false)
  | 2 => ("java/lang/Throwable", "suppressedExceptions", "Ljava/util/List;", false)
  | 3 => ("java/lang/Throwable", "detailMessage", "Ljava/lang/String;", false)
  | 4 => ("java/lang/Throwable", "backtrace", "Ljava/lang/Object;", false)
  | 5 => ("java/lang/Throwable", "depth", "I", false)
  | 6 => ("QuietChannels$Fault", "sort", "I", true)
  | _ => ("QuietChannels$Fault", "place", "I", true)
def tyX7 : Nat → FieldType := fun k => match k with
  | 0 => .object "java/lang/Throwable"
  | 1 => .array (.object "java/lang/StackTraceElement")
  | 2 => .object "java/util/List"
  | 3 => .object "java/lang/String"
  | 4 => .object "java/lang/Object"
  | 5 => .int
  | 6 => .int
  | _ => .int
abbrev wsX70 : List Cond := u_ws RX7 TX7 8
theorem nmX7 : ∀ a, a < 8 → ∀ b, b < 8 → a ≠ b → (TX7 a).2.1 ≠ (TX7 b).2.1 := by decide +kernel
theorem tyX7_ok : ∀ k, k < 8 → parseFieldDescriptor (TX7 k).2.2.1 = some (tyX7 k) := by decide +kernel
abbrev cX7_init : ByteArray := prog_3_method_1_code
def yX7_init : MethodName := ⟨RX7, "<init>", "(II)V"⟩
def dkwX7_init_0 : List UInt8 := [42, 1, 1, 3, 3, 183, 0, 1, 42, 27, 181, 0, 7, 42, 28, 181, 0, 13, 177]
abbrev dktX7_init_0 : List UInt8 := dkwX7_init_0 ++ []
theorem dksX7_init_0 : cX7_init.data.toList.drop 0 = dktX7_init_0 := by decide +kernel
theorem dX7_init_0 : decode cX7_init 0 = .ok (.aload_n 0, 1) := dk_42 (dk_at dksX7_init_0 0 rfl rfl)
theorem dX7_init_1 : decode cX7_init 1 = .ok (.aconst_null, 1) := dk_1 (dk_at dksX7_init_0 1 rfl rfl)
theorem dX7_init_2 : decode cX7_init 2 = .ok (.aconst_null, 1) := dk_1 (dk_at dksX7_init_0 2 rfl rfl)
theorem dX7_init_3 : decode cX7_init 3 = .ok (.iconst 0, 1) := dk_3 (dk_at dksX7_init_0 3 rfl rfl)
theorem dX7_init_4 : decode cX7_init 4 = .ok (.iconst 0, 1) := dk_3 (dk_at dksX7_init_0 4 rfl rfl)
theorem dX7_init_5 : decode cX7_init 5 = .ok (.invokespecial 1, 3) := dk_183 0 1 (dk_at dksX7_init_0 5 rfl rfl)
theorem dX7_init_8 : decode cX7_init 8 = .ok (.aload_n 0, 1) := dk_42 (dk_at dksX7_init_0 8 rfl rfl)
theorem dX7_init_9 : decode cX7_init 9 = .ok (.iload_n 1, 1) := dk_27 (dk_at dksX7_init_0 9 rfl rfl)
theorem dX7_init_10 : decode cX7_init 10 = .ok (.putfield 7, 3) := dk_181 0 7 (dk_at dksX7_init_0 10 rfl rfl)
theorem dX7_init_13 : decode cX7_init 13 = .ok (.aload_n 0, 1) := dk_42 (dk_at dksX7_init_0 13 rfl rfl)
theorem dX7_init_14 : decode cX7_init 14 = .ok (.iload_n 2, 1) := dk_28 (dk_at dksX7_init_0 14 rfl rfl)
theorem dX7_init_15 : decode cX7_init 15 = .ok (.putfield 13, 3) := dk_181 0 13 (dk_at dksX7_init_0 15 rfl rfl)
theorem dX7_init_18 : decode cX7_init 18 = .ok (.return_, 1) := dk_177 (dk_at dksX7_init_0 18 rfl rfl)
theorem q127 : (Jvm.Cond.initialized "QuietChannels$Fault") ∈ lw_all := lw_g (lw_at lw_m1 15 rfl) rfl
theorem q625 : (Jvm.Cond.instantiable "QuietChannels$Fault" (8 : Nat)) ∈ lw_all := lw_g (lw_at lw_m3 33 rfl) rfl
theorem q626 : (Jvm.Cond.castable "QuietChannels$Fault" "QuietChannels$Fault") ∈ lw_tbl := lw_at lw_m3 34 rfl
theorem q631 : (Jvm.Cond.selects "QuietChannels$Fault" ({ cls := "java/lang/Throwable", name := "fillInStackTrace", desc := "(I)Ljava/lang/Throwable;" } : Jvm.MethodName) ({ cls := "java/lang/Throwable", name := "fillInStackTrace", desc := "(I)Ljava/lang/Throwable;" } : Jvm.MethodName)) ∈ lw_all := lw_g (lw_at lw_m3 39 rfl) rfl
theorem q632 : (Jvm.Cond.selects "QuietChannels$Fault" ({ cls := "java/lang/Throwable", name := "fillInStackTrace", desc := "()Ljava/lang/Throwable;" } : Jvm.MethodName) ({ cls := "java/lang/Throwable", name := "fillInStackTrace", desc := "()Ljava/lang/Throwable;" } : Jvm.MethodName)) ∈ lw_all := lw_g (lw_at lw_m3 40 rfl) rfl
theorem q633 : (Jvm.Cond.lays "QuietChannels$Fault" "java/lang/Throwable" "cause" "Ljava/lang/Throwable;") ∈ lw_all := lw_g (lw_at lw_m3 41 rfl) rfl
theorem q635 : (Jvm.Cond.lays "QuietChannels$Fault" "java/lang/Throwable" "stackTrace" "[Ljava/lang/StackTraceElement;") ∈ lw_all := lw_g (lw_at lw_m3 43 rfl) rfl
theorem q637 : (Jvm.Cond.lays "QuietChannels$Fault" "java/lang/Throwable" "suppressedExceptions" "Ljava/util/List;") ∈ lw_all := lw_g (lw_at lw_m3 45 rfl) rfl
theorem q639 : (Jvm.Cond.lays "QuietChannels$Fault" "java/lang/Throwable" "detailMessage" "Ljava/lang/String;") ∈ lw_all := lw_g (lw_at lw_m3 47 rfl) rfl
theorem q641 : (Jvm.Cond.lays "QuietChannels$Fault" "java/lang/Throwable" "backtrace" "Ljava/lang/Object;") ∈ lw_all := lw_g (lw_at lw_m3 49 rfl) rfl
theorem q665 : (Jvm.Cond.instanceMethod ({ cls := "QuietChannels$Fault", name := "<init>", desc := "(II)V" } : Jvm.MethodName)) ∈ lw_all := lw_g (lw_at lw_m3 73 rfl) rfl
theorem q666 : (Jvm.Cond.code ({ cls := "QuietChannels$Fault", name := "<init>", desc := "(II)V" } : Jvm.MethodName) prog_3_method_1_code (3 : Nat) (Option.none : Option Jvm.ClassFile.FieldType)) ∈ lw_all := lw_g (lw_at lw_m3 74 rfl) rfl
theorem q667 : (Jvm.Cond.methodLink "QuietChannels$Fault" (1 : Nat) ({ cls := "java/lang/Exception", name := "<init>", desc := "(Ljava/lang/String;Ljava/lang/Throwable;ZZ)V" } : Jvm.MethodName)) ∈ lw_all := lw_g (lw_at lw_m3 75 rfl) rfl
theorem q673 : (Jvm.Cond.fieldLink "QuietChannels$Fault" (7 : Nat) "QuietChannels$Fault" "sort" "I") ∈ lw_all := lw_g (lw_at lw_m3 81 rfl) rfl
theorem q675 : (Jvm.Cond.fieldLink "QuietChannels$Fault" (13 : Nat) "QuietChannels$Fault" "place" "I") ∈ lw_all := lw_g (lw_at lw_m3 83 rfl) rfl
theorem q682 : (Jvm.Cond.laysFinal "QuietChannels$Fault" "QuietChannels$Fault" "sort" "I") ∈ lw_all := lw_g (lw_at lw_m3 90 rfl) rfl
theorem q683 : (Jvm.Cond.soleField "QuietChannels$Fault" "sort") ∈ lw_all := lw_g (lw_at lw_m3 91 rfl) rfl
theorem q684 : (Jvm.Cond.laysFinal "QuietChannels$Fault" "QuietChannels$Fault" "place" "I") ∈ lw_all := lw_g (lw_at lw_m3 92 rfl) rfl
theorem q685 : (Jvm.Cond.soleField "QuietChannels$Fault" "place") ∈ lw_all := lw_g (lw_at lw_m3 93 rfl) rfl
theorem q690 : (Jvm.Cond.lays "QuietChannels$Fault" "java/lang/Throwable" "depth" "I") ∈ lw_all := lw_g (lw_at lw_m3 98 rfl) rfl
theorem q693 : (Jvm.Cond.superclass "QuietChannels$Fault" "java/lang/Exception") ∈ lw_all := lw_g (lw_at lw_m3 101 rfl) rfl
theorem q1870 : (Jvm.Cond.castable "QuietChannels$Fault" "java/lang/Object") ∈ lw_tbl := lw_at lw_m8 78 rfl
theorem in_X7 : ∀ w ∈ wsX70, w ∈ lw_all := lw_in wsX70 [633, 635, 637, 639, 641, 690, 682, 684] (by decide +kernel) (by decide +kernel)
/-! QuietChannels$User -/
set_option maxRecDepth 100000
def RX8 : String := "QuietChannels$User"
def TX8 : u_T := fun k => match k with
  | 0 => ("QuietChannels$User", "name", "I", true)
  | 1 => ("QuietChannels$User", "site", "I", true)
  | 2 => ("QuietChannels$User", "power", "I", true)
  | 3 => ("QuietChannels$User", "low", "I", true)
  | 4 => ("QuietChannels$User", "high", "I", true)
  | 5 => ("QuietChannels$User", "fixed", "I", false)
  | _ => ("QuietChannels$User", "slots", "I", false)
def tyX8 : Nat → FieldType := fun k => match k with
  | 0 => .int
  | 1 => .int
  | 2 => .int
  | 3 => .int
  | 4 => .int
  | 5 => .int
  | _ => .int
abbrev wsX80 : List Cond := u_ws RX8 TX8 7
theorem nmX8 : ∀ a, a < 7 → ∀ b, b < 7 → a ≠ b → (TX8 a).2.1 ≠ (TX8 b).2.1 := by decide +kernel
theorem tyX8_ok : ∀ k, k < 7 → parseFieldDescriptor (TX8 k).2.2.1 = some (tyX8 k) := by decide +kernel
abbrev cX8_init : ByteArray := prog_8_method_1_code
def yX8_init : MethodName := ⟨RX8, "<init>", "(IIIII)V"⟩
def dkwX8_init_1 : List UInt8 := [181, 0, 19, 42, 21, 5, 181, 0, 22, 177]
abbrev dktX8_init_1 : List UInt8 := dkwX8_init_1 ++ []
def dkwX8_init_0 : List UInt8 := [42, 183, 0, 1, 42, 27, 181, 0, 7, 42, 28, 181, 0, 13, 42, 29, 181, 0, 16, 42, 21, 4]
abbrev dktX8_init_0 : List UInt8 := dkwX8_init_0 ++ dktX8_init_1
theorem dksX8_init_0 : cX8_init.data.toList.drop 0 = dktX8_init_0 := by decide +kernel
theorem dksX8_init_1 : cX8_init.data.toList.drop 22 = dktX8_init_1 := dk_seg dksX8_init_0 22 rfl rfl
theorem dX8_init_0 : decode cX8_init 0 = .ok (.aload_n 0, 1) := dk_42 (dk_at dksX8_init_0 0 rfl rfl)
theorem dX8_init_1 : decode cX8_init 1 = .ok (.invokespecial 1, 3) := dk_183 0 1 (dk_at dksX8_init_0 1 rfl rfl)
theorem dX8_init_4 : decode cX8_init 4 = .ok (.aload_n 0, 1) := dk_42 (dk_at dksX8_init_0 4 rfl rfl)
theorem dX8_init_5 : decode cX8_init 5 = .ok (.iload_n 1, 1) := dk_27 (dk_at dksX8_init_0 5 rfl rfl)
theorem dX8_init_6 : decode cX8_init 6 = .ok (.putfield 7, 3) := dk_181 0 7 (dk_at dksX8_init_0 6 rfl rfl)
theorem dX8_init_9 : decode cX8_init 9 = .ok (.aload_n 0, 1) := dk_42 (dk_at dksX8_init_0 9 rfl rfl)
theorem dX8_init_10 : decode cX8_init 10 = .ok (.iload_n 2, 1) := dk_28 (dk_at dksX8_init_0 10 rfl rfl)
theorem dX8_init_11 : decode cX8_init 11 = .ok (.putfield 13, 3) := dk_181 0 13 (dk_at dksX8_init_0 11 rfl rfl)
theorem dX8_init_14 : decode cX8_init 14 = .ok (.aload_n 0, 1) := dk_42 (dk_at dksX8_init_0 14 rfl rfl)
theorem dX8_init_15 : decode cX8_init 15 = .ok (.iload_n 3, 1) := dk_29 (dk_at dksX8_init_0 15 rfl rfl)
theorem dX8_init_16 : decode cX8_init 16 = .ok (.putfield 16, 3) := dk_181 0 16 (dk_at dksX8_init_0 16 rfl rfl)
theorem dX8_init_19 : decode cX8_init 19 = .ok (.aload_n 0, 1) := dk_42 (dk_at dksX8_init_0 19 rfl rfl)
theorem dX8_init_20 : decode cX8_init 20 = .ok (.iload 4, 2) := dk_21 4 (dk_at dksX8_init_0 20 rfl rfl)
theorem dX8_init_22 : decode cX8_init 22 = .ok (.putfield 19, 3) := dk_181 0 19 (dk_at dksX8_init_1 0 rfl rfl)
theorem dX8_init_25 : decode cX8_init 25 = .ok (.aload_n 0, 1) := dk_42 (dk_at dksX8_init_1 3 rfl rfl)
theorem dX8_init_26 : decode cX8_init 26 = .ok (.iload 5, 2) := dk_21 5 (dk_at dksX8_init_1 4 rfl rfl)
theorem dX8_init_28 : decode cX8_init 28 = .ok (.putfield 22, 3) := dk_181 0 22 (dk_at dksX8_init_1 6 rfl rfl)
theorem dX8_init_31 : decode cX8_init 31 = .ok (.return_, 1) := dk_177 (dk_at dksX8_init_1 9 rfl rfl)
theorem q128 : (Jvm.Cond.initialized "QuietChannels$User") ∈ lw_all := lw_g (lw_at lw_m1 16 rfl) rfl
theorem q711 : (Jvm.Cond.instantiable "QuietChannels$User" (7 : Nat)) ∈ lw_all := lw_g (lw_at lw_m3 119 rfl) rfl
theorem q713 : (Jvm.Cond.instanceMethod ({ cls := "QuietChannels$User", name := "<init>", desc := "(IIIII)V" } : Jvm.MethodName)) ∈ lw_all := lw_g (lw_at lw_m3 121 rfl) rfl
theorem q714 : (Jvm.Cond.code ({ cls := "QuietChannels$User", name := "<init>", desc := "(IIIII)V" } : Jvm.MethodName) prog_8_method_1_code (6 : Nat) (Option.none : Option Jvm.ClassFile.FieldType)) ∈ lw_all := lw_g (lw_at lw_m3 122 rfl) rfl
theorem q715 : (Jvm.Cond.methodLink "QuietChannels$User" (1 : Nat) ({ cls := "java/lang/Object", name := "<init>", desc := "()V" } : Jvm.MethodName)) ∈ lw_all := lw_g (lw_at lw_m3 123 rfl) rfl
theorem q716 : (Jvm.Cond.fieldLink "QuietChannels$User" (7 : Nat) "QuietChannels$User" "name" "I") ∈ lw_all := lw_g (lw_at lw_m3 124 rfl) rfl
theorem q718 : (Jvm.Cond.fieldLink "QuietChannels$User" (13 : Nat) "QuietChannels$User" "site" "I") ∈ lw_all := lw_g (lw_at lw_m3 126 rfl) rfl
theorem q721 : (Jvm.Cond.fieldLink "QuietChannels$User" (16 : Nat) "QuietChannels$User" "power" "I") ∈ lw_all := lw_g (lw_at lw_m3 129 rfl) rfl
theorem q723 : (Jvm.Cond.fieldLink "QuietChannels$User" (19 : Nat) "QuietChannels$User" "low" "I") ∈ lw_all := lw_g (lw_at lw_m3 131 rfl) rfl
theorem q726 : (Jvm.Cond.fieldLink "QuietChannels$User" (22 : Nat) "QuietChannels$User" "high" "I") ∈ lw_all := lw_g (lw_at lw_m3 134 rfl) rfl
theorem q733 : (Jvm.Cond.laysFinal "QuietChannels$User" "QuietChannels$User" "name" "I") ∈ lw_all := lw_g (lw_at lw_m3 141 rfl) rfl
theorem q734 : (Jvm.Cond.soleField "QuietChannels$User" "name") ∈ lw_all := lw_g (lw_at lw_m3 142 rfl) rfl
theorem q735 : (Jvm.Cond.laysFinal "QuietChannels$User" "QuietChannels$User" "site" "I") ∈ lw_all := lw_g (lw_at lw_m3 143 rfl) rfl
theorem q736 : (Jvm.Cond.soleField "QuietChannels$User" "site") ∈ lw_all := lw_g (lw_at lw_m3 144 rfl) rfl
theorem q737 : (Jvm.Cond.laysFinal "QuietChannels$User" "QuietChannels$User" "power" "I") ∈ lw_all := lw_g (lw_at lw_m3 145 rfl) rfl
theorem q738 : (Jvm.Cond.soleField "QuietChannels$User" "power") ∈ lw_all := lw_g (lw_at lw_m3 146 rfl) rfl
theorem q739 : (Jvm.Cond.laysFinal "QuietChannels$User" "QuietChannels$User" "low" "I") ∈ lw_all := lw_g (lw_at lw_m3 147 rfl) rfl
theorem q740 : (Jvm.Cond.soleField "QuietChannels$User" "low") ∈ lw_all := lw_g (lw_at lw_m3 148 rfl) rfl
theorem q741 : (Jvm.Cond.laysFinal "QuietChannels$User" "QuietChannels$User" "high" "I") ∈ lw_all := lw_g (lw_at lw_m3 149 rfl) rfl
theorem q742 : (Jvm.Cond.soleField "QuietChannels$User" "high") ∈ lw_all := lw_g (lw_at lw_m3 150 rfl) rfl
theorem q743 : (Jvm.Cond.lays "QuietChannels$User" "QuietChannels$User" "fixed" "I") ∈ lw_all := lw_g (lw_at lw_m3 151 rfl) rfl
theorem q744 : (Jvm.Cond.soleField "QuietChannels$User" "fixed") ∈ lw_all := lw_g (lw_at lw_m3 152 rfl) rfl
theorem q745 : (Jvm.Cond.lays "QuietChannels$User" "QuietChannels$User" "slots" "I") ∈ lw_all := lw_g (lw_at lw_m3 153 rfl) rfl
theorem q746 : (Jvm.Cond.soleField "QuietChannels$User" "slots") ∈ lw_all := lw_g (lw_at lw_m3 154 rfl) rfl
theorem q747 : (Jvm.Cond.superclass "QuietChannels$User" "java/lang/Object") ∈ lw_all := lw_g (lw_at lw_m3 155 rfl) rfl
theorem q1871 : (Jvm.Cond.castable "QuietChannels$User" "java/lang/Object") ∈ lw_tbl := lw_at lw_m8 79 rfl
theorem in_X8 : ∀ w ∈ wsX80, w ∈ lw_all := lw_in wsX80 [733, 735, 737, 739, 741, 743, 745] (by decide +kernel) (by decide +kernel)
/-! QuietChannels$Search -/
set_option maxRecDepth 100000
def RX9 : String := "QuietChannels$Search"
def TX9 : u_T := fun k => match k with
  | 0 => ("QuietChannels$Search", "p", "LQuietChannels$Plan;", true)
  | 1 => ("QuietChannels$Search", "band", "I", true)
  | 2 => ("QuietChannels$Search", "free", "[I", true)
  | 3 => ("QuietChannels$Search", "many", "I", false)
  | 4 => ("QuietChannels$Search", "looks", "I", false)
  | _ => ("QuietChannels$Search", "this$0", "LQuietChannels;", true)
def tyX9 : Nat → FieldType := fun k => match k with
  | 0 => .object "QuietChannels$Plan"
  | 1 => .int
  | 2 => .array .int
  | 3 => .int
  | 4 => .int
  | _ => .object "QuietChannels"
abbrev wsX90 : List Cond := u_ws RX9 TX9 6
theorem nmX9 : ∀ a, a < 6 → ∀ b, b < 6 → a ≠ b → (TX9 a).2.1 ≠ (TX9 b).2.1 := by decide +kernel
theorem tyX9_ok : ∀ k, k < 6 → parseFieldDescriptor (TX9 k).2.2.1 = some (tyX9 k) := by decide +kernel
abbrev cX9_init : ByteArray := prog_6_method_1_code
def yX9_init : MethodName := ⟨RX9, "<init>", "(LQuietChannels;LQuietChannels$Plan;I)V"⟩
def dkwX9_init_0 : List UInt8 := [42, 43, 44, 29, 43, 180, 0, 3, 180, 0, 7, 183, 0, 13, 177]
abbrev dktX9_init_0 : List UInt8 := dkwX9_init_0 ++ []
theorem dksX9_init_0 : cX9_init.data.toList.drop 0 = dktX9_init_0 := by decide +kernel
theorem dX9_init_0 : decode cX9_init 0 = .ok (.aload_n 0, 1) := dk_42 (dk_at dksX9_init_0 0 rfl rfl)
theorem dX9_init_1 : decode cX9_init 1 = .ok (.aload_n 1, 1) := dk_43 (dk_at dksX9_init_0 1 rfl rfl)
theorem dX9_init_2 : decode cX9_init 2 = .ok (.aload_n 2, 1) := dk_44 (dk_at dksX9_init_0 2 rfl rfl)
theorem dX9_init_3 : decode cX9_init 3 = .ok (.iload_n 3, 1) := dk_29 (dk_at dksX9_init_0 3 rfl rfl)
theorem dX9_init_4 : decode cX9_init 4 = .ok (.aload_n 1, 1) := dk_43 (dk_at dksX9_init_0 4 rfl rfl)
theorem dX9_init_5 : decode cX9_init 5 = .ok (.getfield 3, 3) := dk_180 0 3 (dk_at dksX9_init_0 5 rfl rfl)
theorem dX9_init_8 : decode cX9_init 8 = .ok (.getfield 7, 3) := dk_180 0 7 (dk_at dksX9_init_0 8 rfl rfl)
theorem dX9_init_11 : decode cX9_init 11 = .ok (.invokespecial 13, 3) := dk_183 0 13 (dk_at dksX9_init_0 11 rfl rfl)
theorem dX9_init_14 : decode cX9_init 14 = .ok (.return_, 1) := dk_177 (dk_at dksX9_init_0 14 rfl rfl)
abbrev cX9_init_2 : ByteArray := prog_6_method_2_code
def yX9_init_2 : MethodName := ⟨RX9, "<init>", "(LQuietChannels;LQuietChannels$Plan;II)V"⟩
def dkwX9_init_2_3 : List UInt8 := [21, 5, 3, 79, 42, 89, 180, 0, 40, 4, 96, 181, 0, 40, 132, 5, 1, 167, 255, 200, 177]
abbrev dktX9_init_2_3 : List UInt8 := dkwX9_init_2_3 ++ []
def dkwX9_init_2_2 : List UInt8 := [4, 126, 154, 0, 6, 167, 0, 32, 42, 180, 0, 28, 42, 180, 0, 40, 21, 5, 79, 44, 180, 0, 41]
abbrev dktX9_init_2_2 : List UInt8 := dkwX9_init_2_2 ++ dktX9_init_2_3
def dkwX9_init_2_1 : List UInt8 := [21, 4, 181, 0, 36, 3, 54, 5, 21, 5, 43, 180, 0, 3, 180, 0, 37, 162, 0, 50, 29, 21, 5, 122]
abbrev dktX9_init_2_1 : List UInt8 := dkwX9_init_2_1 ++ dktX9_init_2_2
def dkwX9_init_2_0 : List UInt8 := [42, 43, 181, 0, 19, 42, 183, 0, 23, 42, 16, 6, 188, 10, 181, 0, 28, 42, 44, 181, 0, 32, 42]
abbrev dktX9_init_2_0 : List UInt8 := dkwX9_init_2_0 ++ dktX9_init_2_1
theorem dksX9_init_2_0 : cX9_init_2.data.toList.drop 0 = dktX9_init_2_0 := by decide +kernel
theorem dksX9_init_2_1 : cX9_init_2.data.toList.drop 23 = dktX9_init_2_1 := dk_seg dksX9_init_2_0 23 rfl rfl
theorem dksX9_init_2_2 : cX9_init_2.data.toList.drop 47 = dktX9_init_2_2 := dk_seg dksX9_init_2_1 24 rfl rfl
theorem dksX9_init_2_3 : cX9_init_2.data.toList.drop 70 = dktX9_init_2_3 := dk_seg dksX9_init_2_2 23 rfl rfl
theorem dX9_init_2_0 : decode cX9_init_2 0 = .ok (.aload_n 0, 1) := dk_42 (dk_at dksX9_init_2_0 0 rfl rfl)
theorem dX9_init_2_1 : decode cX9_init_2 1 = .ok (.aload_n 1, 1) := dk_43 (dk_at dksX9_init_2_0 1 rfl rfl)
theorem dX9_init_2_2 : decode cX9_init_2 2 = .ok (.putfield 19, 3) := dk_181 0 19 (dk_at dksX9_init_2_0 2 rfl rfl)
theorem dX9_init_2_5 : decode cX9_init_2 5 = .ok (.aload_n 0, 1) := dk_42 (dk_at dksX9_init_2_0 5 rfl rfl)
theorem dX9_init_2_6 : decode cX9_init_2 6 = .ok (.invokespecial 23, 3) := dk_183 0 23 (dk_at dksX9_init_2_0 6 rfl rfl)
theorem dX9_init_2_9 : decode cX9_init_2 9 = .ok (.aload_n 0, 1) := dk_42 (dk_at dksX9_init_2_0 9 rfl rfl)
theorem dX9_init_2_10 : decode cX9_init_2 10 = .ok (.bipush 6, 2) := dk_16 6 (dk_at dksX9_init_2_0 10 rfl rfl)
theorem dX9_init_2_12 : decode cX9_init_2 12 = .ok (.newarray .int, 2) := dk_188_10 (dk_at dksX9_init_2_0 12 rfl rfl)
theorem dX9_init_2_14 : decode cX9_init_2 14 = .ok (.putfield 28, 3) := dk_181 0 28 (dk_at dksX9_init_2_0 14 rfl rfl)
theorem dX9_init_2_17 : decode cX9_init_2 17 = .ok (.aload_n 0, 1) := dk_42 (dk_at dksX9_init_2_0 17 rfl rfl)
theorem dX9_init_2_18 : decode cX9_init_2 18 = .ok (.aload_n 2, 1) := dk_44 (dk_at dksX9_init_2_0 18 rfl rfl)
theorem dX9_init_2_19 : decode cX9_init_2 19 = .ok (.putfield 32, 3) := dk_181 0 32 (dk_at dksX9_init_2_0 19 rfl rfl)
theorem dX9_init_2_22 : decode cX9_init_2 22 = .ok (.aload_n 0, 1) := dk_42 (dk_at dksX9_init_2_0 22 rfl rfl)
theorem dX9_init_2_23 : decode cX9_init_2 23 = .ok (.iload 4, 2) := dk_21 4 (dk_at dksX9_init_2_1 0 rfl rfl)
theorem dX9_init_2_25 : decode cX9_init_2 25 = .ok (.putfield 36, 3) := dk_181 0 36 (dk_at dksX9_init_2_1 2 rfl rfl)
theorem dX9_init_2_28 : decode cX9_init_2 28 = .ok (.iconst 0, 1) := dk_3 (dk_at dksX9_init_2_1 5 rfl rfl)
theorem dX9_init_2_29 : decode cX9_init_2 29 = .ok (.istore 5, 2) := dk_54 5 (dk_at dksX9_init_2_1 6 rfl rfl)
theorem dX9_init_2_31 : decode cX9_init_2 31 = .ok (.iload 5, 2) := dk_21 5 (dk_at dksX9_init_2_1 8 rfl rfl)
theorem dX9_init_2_33 : decode cX9_init_2 33 = .ok (.aload_n 1, 1) := dk_43 (dk_at dksX9_init_2_1 10 rfl rfl)
theorem dX9_init_2_34 : decode cX9_init_2 34 = .ok (.getfield 3, 3) := dk_180 0 3 (dk_at dksX9_init_2_1 11 rfl rfl)
theorem dX9_init_2_37 : decode cX9_init_2 37 = .ok (.getfield 37, 3) := dk_180 0 37 (dk_at dksX9_init_2_1 14 rfl rfl)
theorem dX9_init_2_40 : decode cX9_init_2 40 = .ok (.if_icmp .ge 50, 3) := dk_162 0 50 (dk_at dksX9_init_2_1 17 rfl rfl)
theorem dX9_init_2_43 : decode cX9_init_2 43 = .ok (.iload_n 3, 1) := dk_29 (dk_at dksX9_init_2_1 20 rfl rfl)
theorem dX9_init_2_44 : decode cX9_init_2 44 = .ok (.iload 5, 2) := dk_21 5 (dk_at dksX9_init_2_1 21 rfl rfl)
theorem dX9_init_2_46 : decode cX9_init_2 46 = .ok (.ishr, 1) := dk_122 (dk_at dksX9_init_2_1 23 rfl rfl)
theorem dX9_init_2_47 : decode cX9_init_2 47 = .ok (.iconst 1, 1) := dk_4 (dk_at dksX9_init_2_2 0 rfl rfl)
theorem dX9_init_2_48 : decode cX9_init_2 48 = .ok (.iand, 1) := dk_126 (dk_at dksX9_init_2_2 1 rfl rfl)
theorem dX9_init_2_49 : decode cX9_init_2 49 = .ok (.ifCond .ne 6, 3) := dk_154 0 6 (dk_at dksX9_init_2_2 2 rfl rfl)
theorem dX9_init_2_52 : decode cX9_init_2 52 = .ok (.goto 32, 3) := dk_167 0 32 (dk_at dksX9_init_2_2 5 rfl rfl)
theorem dX9_init_2_55 : decode cX9_init_2 55 = .ok (.aload_n 0, 1) := dk_42 (dk_at dksX9_init_2_2 8 rfl rfl)
theorem dX9_init_2_56 : decode cX9_init_2 56 = .ok (.getfield 28, 3) := dk_180 0 28 (dk_at dksX9_init_2_2 9 rfl rfl)
theorem dX9_init_2_59 : decode cX9_init_2 59 = .ok (.aload_n 0, 1) := dk_42 (dk_at dksX9_init_2_2 12 rfl rfl)
theorem dX9_init_2_60 : decode cX9_init_2 60 = .ok (.getfield 40, 3) := dk_180 0 40 (dk_at dksX9_init_2_2 13 rfl rfl)
theorem dX9_init_2_63 : decode cX9_init_2 63 = .ok (.iload 5, 2) := dk_21 5 (dk_at dksX9_init_2_2 16 rfl rfl)
theorem dX9_init_2_65 : decode cX9_init_2 65 = .ok (.iastore, 1) := dk_79 (dk_at dksX9_init_2_2 18 rfl rfl)
theorem dX9_init_2_66 : decode cX9_init_2 66 = .ok (.aload_n 2, 1) := dk_44 (dk_at dksX9_init_2_2 19 rfl rfl)
theorem dX9_init_2_67 : decode cX9_init_2 67 = .ok (.getfield 41, 3) := dk_180 0 41 (dk_at dksX9_init_2_2 20 rfl rfl)
theorem dX9_init_2_70 : decode cX9_init_2 70 = .ok (.iload 5, 2) := dk_21 5 (dk_at dksX9_init_2_3 0 rfl rfl)
theorem dX9_init_2_72 : decode cX9_init_2 72 = .ok (.iconst 0, 1) := dk_3 (dk_at dksX9_init_2_3 2 rfl rfl)
theorem dX9_init_2_73 : decode cX9_init_2 73 = .ok (.iastore, 1) := dk_79 (dk_at dksX9_init_2_3 3 rfl rfl)
theorem dX9_init_2_74 : decode cX9_init_2 74 = .ok (.aload_n 0, 1) := dk_42 (dk_at dksX9_init_2_3 4 rfl rfl)
theorem dX9_init_2_75 : decode cX9_init_2 75 = .ok (.dup, 1) := dk_89 (dk_at dksX9_init_2_3 5 rfl rfl)
theorem dX9_init_2_76 : decode cX9_init_2 76 = .ok (.getfield 40, 3) := dk_180 0 40 (dk_at dksX9_init_2_3 6 rfl rfl)
theorem dX9_init_2_79 : decode cX9_init_2 79 = .ok (.iconst 1, 1) := dk_4 (dk_at dksX9_init_2_3 9 rfl rfl)
theorem dX9_init_2_80 : decode cX9_init_2 80 = .ok (.iadd, 1) := dk_96 (dk_at dksX9_init_2_3 10 rfl rfl)
theorem dX9_init_2_81 : decode cX9_init_2 81 = .ok (.putfield 40, 3) := dk_181 0 40 (dk_at dksX9_init_2_3 11 rfl rfl)
theorem dX9_init_2_84 : decode cX9_init_2 84 = .ok (.iinc 5 1, 3) := dk_132 5 1 (dk_at dksX9_init_2_3 14 rfl rfl)
theorem dX9_init_2_87 : decode cX9_init_2 87 = .ok (.goto (-56), 3) := dk_167 255 200 (dk_at dksX9_init_2_3 17 rfl rfl)
theorem dX9_init_2_90 : decode cX9_init_2 90 = .ok (.return_, 1) := dk_177 (dk_at dksX9_init_2_3 20 rfl rfl)
abbrev cX9_goes : ByteArray := prog_6_method_3_code
def yX9_goes : MethodName := ⟨RX9, "goes", "()I"⟩
def dkwX9_goes_3 : List UInt8 := [154, 0, 7, 4, 167, 0, 4, 2, 96, 60, 167, 255, 212, 27, 156, 0, 8, 16, 254, 167, 0, 4, 3, 172]
abbrev dktX9_goes_3 : List UInt8 := dkwX9_goes_3 ++ []
def dkwX9_goes_2 : List UInt8 := [42, 42, 180, 0, 28, 27, 46, 182, 0, 50, 61, 28, 16, 253, 160, 0, 6, 16, 253, 172, 27, 28]
abbrev dktX9_goes_2 : List UInt8 := dkwX9_goes_2 ++ dktX9_goes_3
def dkwX9_goes_1 : List UInt8 := [153, 0, 7, 3, 167, 0, 5, 16, 254, 172, 3, 60, 27, 155, 0, 46, 27, 42, 180, 0, 40, 162, 0, 38]
abbrev dktX9_goes_1 : List UInt8 := dkwX9_goes_1 ++ dktX9_goes_2
def dkwX9_goes_0 : List UInt8 := [42, 180, 0, 40, 154, 0, 28, 42, 180, 0, 19, 42, 180, 0, 32, 42, 180, 0, 36, 182, 0, 46]
abbrev dktX9_goes_0 : List UInt8 := dkwX9_goes_0 ++ dktX9_goes_1
theorem dksX9_goes_0 : cX9_goes.data.toList.drop 0 = dktX9_goes_0 := by decide +kernel
theorem dksX9_goes_1 : cX9_goes.data.toList.drop 22 = dktX9_goes_1 := dk_seg dksX9_goes_0 22 rfl rfl
theorem dksX9_goes_2 : cX9_goes.data.toList.drop 46 = dktX9_goes_2 := dk_seg dksX9_goes_1 24 rfl rfl
theorem dksX9_goes_3 : cX9_goes.data.toList.drop 68 = dktX9_goes_3 := dk_seg dksX9_goes_2 22 rfl rfl
theorem dX9_goes_0 : decode cX9_goes 0 = .ok (.aload_n 0, 1) := dk_42 (dk_at dksX9_goes_0 0 rfl rfl)
theorem dX9_goes_1 : decode cX9_goes 1 = .ok (.getfield 40, 3) := dk_180 0 40 (dk_at dksX9_goes_0 1 rfl rfl)
theorem dX9_goes_4 : decode cX9_goes 4 = .ok (.ifCond .ne 28, 3) := dk_154 0 28 (dk_at dksX9_goes_0 4 rfl rfl)
theorem dX9_goes_7 : decode cX9_goes 7 = .ok (.aload_n 0, 1) := dk_42 (dk_at dksX9_goes_0 7 rfl rfl)
theorem dX9_goes_8 : decode cX9_goes 8 = .ok (.getfield 19, 3) := dk_180 0 19 (dk_at dksX9_goes_0 8 rfl rfl)
theorem dX9_goes_11 : decode cX9_goes 11 = .ok (.aload_n 0, 1) := dk_42 (dk_at dksX9_goes_0 11 rfl rfl)
theorem dX9_goes_12 : decode cX9_goes 12 = .ok (.getfield 32, 3) := dk_180 0 32 (dk_at dksX9_goes_0 12 rfl rfl)
theorem dX9_goes_15 : decode cX9_goes 15 = .ok (.aload_n 0, 1) := dk_42 (dk_at dksX9_goes_0 15 rfl rfl)
theorem dX9_goes_16 : decode cX9_goes 16 = .ok (.getfield 36, 3) := dk_180 0 36 (dk_at dksX9_goes_0 16 rfl rfl)
theorem dX9_goes_19 : decode cX9_goes 19 = .ok (.invokevirtual 46, 3) := dk_182 0 46 (dk_at dksX9_goes_0 19 rfl rfl)
theorem dX9_goes_22 : decode cX9_goes 22 = .ok (.ifCond .eq 7, 3) := dk_153 0 7 (dk_at dksX9_goes_1 0 rfl rfl)
theorem dX9_goes_25 : decode cX9_goes 25 = .ok (.iconst 0, 1) := dk_3 (dk_at dksX9_goes_1 3 rfl rfl)
theorem dX9_goes_26 : decode cX9_goes 26 = .ok (.goto 5, 3) := dk_167 0 5 (dk_at dksX9_goes_1 4 rfl rfl)
theorem dX9_goes_29 : decode cX9_goes 29 = .ok (.bipush (-2), 2) := dk_16 254 (dk_at dksX9_goes_1 7 rfl rfl)
theorem dX9_goes_31 : decode cX9_goes 31 = .ok (.ireturn, 1) := dk_172 (dk_at dksX9_goes_1 9 rfl rfl)
theorem dX9_goes_32 : decode cX9_goes 32 = .ok (.iconst 0, 1) := dk_3 (dk_at dksX9_goes_1 10 rfl rfl)
theorem dX9_goes_33 : decode cX9_goes 33 = .ok (.istore_n 1, 1) := dk_60 (dk_at dksX9_goes_1 11 rfl rfl)
theorem dX9_goes_34 : decode cX9_goes 34 = .ok (.iload_n 1, 1) := dk_27 (dk_at dksX9_goes_1 12 rfl rfl)
theorem dX9_goes_35 : decode cX9_goes 35 = .ok (.ifCond .lt 46, 3) := dk_155 0 46 (dk_at dksX9_goes_1 13 rfl rfl)
theorem dX9_goes_38 : decode cX9_goes 38 = .ok (.iload_n 1, 1) := dk_27 (dk_at dksX9_goes_1 16 rfl rfl)
theorem dX9_goes_39 : decode cX9_goes 39 = .ok (.aload_n 0, 1) := dk_42 (dk_at dksX9_goes_1 17 rfl rfl)
theorem dX9_goes_40 : decode cX9_goes 40 = .ok (.getfield 40, 3) := dk_180 0 40 (dk_at dksX9_goes_1 18 rfl rfl)
theorem dX9_goes_43 : decode cX9_goes 43 = .ok (.if_icmp .ge 38, 3) := dk_162 0 38 (dk_at dksX9_goes_1 21 rfl rfl)
theorem dX9_goes_46 : decode cX9_goes 46 = .ok (.aload_n 0, 1) := dk_42 (dk_at dksX9_goes_2 0 rfl rfl)
theorem dX9_goes_47 : decode cX9_goes 47 = .ok (.aload_n 0, 1) := dk_42 (dk_at dksX9_goes_2 1 rfl rfl)
theorem dX9_goes_48 : decode cX9_goes 48 = .ok (.getfield 28, 3) := dk_180 0 28 (dk_at dksX9_goes_2 2 rfl rfl)
theorem dX9_goes_51 : decode cX9_goes 51 = .ok (.iload_n 1, 1) := dk_27 (dk_at dksX9_goes_2 5 rfl rfl)
theorem dX9_goes_52 : decode cX9_goes 52 = .ok (.iaload, 1) := dk_46 (dk_at dksX9_goes_2 6 rfl rfl)
theorem dX9_goes_53 : decode cX9_goes 53 = .ok (.invokevirtual 50, 3) := dk_182 0 50 (dk_at dksX9_goes_2 7 rfl rfl)
theorem dX9_goes_56 : decode cX9_goes 56 = .ok (.istore_n 2, 1) := dk_61 (dk_at dksX9_goes_2 10 rfl rfl)
theorem dX9_goes_57 : decode cX9_goes 57 = .ok (.iload_n 2, 1) := dk_28 (dk_at dksX9_goes_2 11 rfl rfl)
theorem dX9_goes_58 : decode cX9_goes 58 = .ok (.bipush (-3), 2) := dk_16 253 (dk_at dksX9_goes_2 12 rfl rfl)
theorem dX9_goes_60 : decode cX9_goes 60 = .ok (.if_icmp .ne 6, 3) := dk_160 0 6 (dk_at dksX9_goes_2 14 rfl rfl)
theorem dX9_goes_63 : decode cX9_goes 63 = .ok (.bipush (-3), 2) := dk_16 253 (dk_at dksX9_goes_2 17 rfl rfl)
theorem dX9_goes_65 : decode cX9_goes 65 = .ok (.ireturn, 1) := dk_172 (dk_at dksX9_goes_2 19 rfl rfl)
theorem dX9_goes_66 : decode cX9_goes 66 = .ok (.iload_n 1, 1) := dk_27 (dk_at dksX9_goes_2 20 rfl rfl)
theorem dX9_goes_67 : decode cX9_goes 67 = .ok (.iload_n 2, 1) := dk_28 (dk_at dksX9_goes_2 21 rfl rfl)
theorem dX9_goes_68 : decode cX9_goes 68 = .ok (.ifCond .ne 7, 3) := dk_154 0 7 (dk_at dksX9_goes_3 0 rfl rfl)
theorem dX9_goes_71 : decode cX9_goes 71 = .ok (.iconst 1, 1) := dk_4 (dk_at dksX9_goes_3 3 rfl rfl)
theorem dX9_goes_72 : decode cX9_goes 72 = .ok (.goto 4, 3) := dk_167 0 4 (dk_at dksX9_goes_3 4 rfl rfl)
theorem dX9_goes_75 : decode cX9_goes 75 = .ok (.iconst (-1), 1) := dk_2 (dk_at dksX9_goes_3 7 rfl rfl)
theorem dX9_goes_76 : decode cX9_goes 76 = .ok (.iadd, 1) := dk_96 (dk_at dksX9_goes_3 8 rfl rfl)
theorem dX9_goes_77 : decode cX9_goes 77 = .ok (.istore_n 1, 1) := dk_60 (dk_at dksX9_goes_3 9 rfl rfl)
theorem dX9_goes_78 : decode cX9_goes 78 = .ok (.goto (-44), 3) := dk_167 255 212 (dk_at dksX9_goes_3 10 rfl rfl)
theorem dX9_goes_81 : decode cX9_goes 81 = .ok (.iload_n 1, 1) := dk_27 (dk_at dksX9_goes_3 13 rfl rfl)
theorem dX9_goes_82 : decode cX9_goes 82 = .ok (.ifCond .ge 8, 3) := dk_156 0 8 (dk_at dksX9_goes_3 14 rfl rfl)
theorem dX9_goes_85 : decode cX9_goes 85 = .ok (.bipush (-2), 2) := dk_16 254 (dk_at dksX9_goes_3 17 rfl rfl)
theorem dX9_goes_87 : decode cX9_goes 87 = .ok (.goto 4, 3) := dk_167 0 4 (dk_at dksX9_goes_3 19 rfl rfl)
theorem dX9_goes_90 : decode cX9_goes 90 = .ok (.iconst 0, 1) := dk_3 (dk_at dksX9_goes_3 22 rfl rfl)
theorem dX9_goes_91 : decode cX9_goes 91 = .ok (.ireturn, 1) := dk_172 (dk_at dksX9_goes_3 23 rfl rfl)
abbrev cX9_takes : ByteArray := prog_6_method_4_code
def yX9_takes : MethodName := ⟨RX9, "takes", "(I)I"⟩
def dkwX9_takes_5 : List UInt8 := [27, 3, 79, 16, 254, 172]
abbrev dktX9_takes_5 : List UInt8 := dkwX9_takes_5 ++ []
def dkwX9_takes_4 : List UInt8 := [180, 0, 36, 182, 0, 46, 153, 0, 5, 3, 172, 132, 4, 1, 167, 255, 183, 42, 180, 0, 32, 180, 0, 41]
abbrev dktX9_takes_4 : List UInt8 := dkwX9_takes_4 ++ dktX9_takes_5
def dkwX9_takes_3 : List UInt8 := [181, 0, 75, 42, 180, 0, 32, 180, 0, 41, 27, 21, 4, 79, 42, 180, 0, 19, 42, 180, 0, 32, 42]
abbrev dktX9_takes_3 : List UInt8 := dkwX9_takes_3 ++ dktX9_takes_4
def dkwX9_takes_2 : List UInt8 := [163, 0, 63, 42, 180, 0, 75, 17, 2, 88, 160, 0, 6, 16, 253, 172, 42, 89, 180, 0, 75, 4, 96]
abbrev dktX9_takes_2 : List UInt8 := dkwX9_takes_2 ++ dktX9_takes_3
def dkwX9_takes_1 : List UInt8 := [27, 46, 4, 96, 184, 0, 63, 62, 29, 54, 4, 21, 4, 44, 180, 0, 69, 42, 180, 0, 36, 184, 0, 72]
abbrev dktX9_takes_1 : List UInt8 := dkwX9_takes_1 ++ dktX9_takes_2
def dkwX9_takes_0 : List UInt8 := [42, 180, 0, 19, 180, 0, 3, 180, 0, 54, 27, 50, 77, 44, 180, 0, 58, 42, 180, 0, 32, 180, 0, 41]
abbrev dktX9_takes_0 : List UInt8 := dkwX9_takes_0 ++ dktX9_takes_1
theorem dksX9_takes_0 : cX9_takes.data.toList.drop 0 = dktX9_takes_0 := by decide +kernel
theorem dksX9_takes_1 : cX9_takes.data.toList.drop 24 = dktX9_takes_1 := dk_seg dksX9_takes_0 24 rfl rfl
theorem dksX9_takes_2 : cX9_takes.data.toList.drop 48 = dktX9_takes_2 := dk_seg dksX9_takes_1 24 rfl rfl
theorem dksX9_takes_3 : cX9_takes.data.toList.drop 71 = dktX9_takes_3 := dk_seg dksX9_takes_2 23 rfl rfl
theorem dksX9_takes_4 : cX9_takes.data.toList.drop 94 = dktX9_takes_4 := dk_seg dksX9_takes_3 23 rfl rfl
theorem dksX9_takes_5 : cX9_takes.data.toList.drop 118 = dktX9_takes_5 := dk_seg dksX9_takes_4 24 rfl rfl
theorem dX9_takes_0 : decode cX9_takes 0 = .ok (.aload_n 0, 1) := dk_42 (dk_at dksX9_takes_0 0 rfl rfl)
theorem dX9_takes_1 : decode cX9_takes 1 = .ok (.getfield 19, 3) := dk_180 0 19 (dk_at dksX9_takes_0 1 rfl rfl)
theorem dX9_takes_4 : decode cX9_takes 4 = .ok (.getfield 3, 3) := dk_180 0 3 (dk_at dksX9_takes_0 4 rfl rfl)
theorem dX9_takes_7 : decode cX9_takes 7 = .ok (.getfield 54, 3) := dk_180 0 54 (dk_at dksX9_takes_0 7 rfl rfl)
theorem dX9_takes_10 : decode cX9_takes 10 = .ok (.iload_n 1, 1) := dk_27 (dk_at dksX9_takes_0 10 rfl rfl)
theorem dX9_takes_11 : decode cX9_takes 11 = .ok (.aaload, 1) := dk_50 (dk_at dksX9_takes_0 11 rfl rfl)
theorem dX9_takes_12 : decode cX9_takes 12 = .ok (.astore_n 2, 1) := dk_77 (dk_at dksX9_takes_0 12 rfl rfl)
theorem dX9_takes_13 : decode cX9_takes 13 = .ok (.aload_n 2, 1) := dk_44 (dk_at dksX9_takes_0 13 rfl rfl)
theorem dX9_takes_14 : decode cX9_takes 14 = .ok (.getfield 58, 3) := dk_180 0 58 (dk_at dksX9_takes_0 14 rfl rfl)
theorem dX9_takes_17 : decode cX9_takes 17 = .ok (.aload_n 0, 1) := dk_42 (dk_at dksX9_takes_0 17 rfl rfl)
theorem dX9_takes_18 : decode cX9_takes 18 = .ok (.getfield 32, 3) := dk_180 0 32 (dk_at dksX9_takes_0 18 rfl rfl)
theorem dX9_takes_21 : decode cX9_takes 21 = .ok (.getfield 41, 3) := dk_180 0 41 (dk_at dksX9_takes_0 21 rfl rfl)
theorem dX9_takes_24 : decode cX9_takes 24 = .ok (.iload_n 1, 1) := dk_27 (dk_at dksX9_takes_1 0 rfl rfl)
theorem dX9_takes_25 : decode cX9_takes 25 = .ok (.iaload, 1) := dk_46 (dk_at dksX9_takes_1 1 rfl rfl)
theorem dX9_takes_26 : decode cX9_takes 26 = .ok (.iconst 1, 1) := dk_4 (dk_at dksX9_takes_1 2 rfl rfl)
theorem dX9_takes_27 : decode cX9_takes 27 = .ok (.iadd, 1) := dk_96 (dk_at dksX9_takes_1 3 rfl rfl)
theorem dX9_takes_28 : decode cX9_takes 28 = .ok (.invokestatic 63, 3) := dk_184 0 63 (dk_at dksX9_takes_1 4 rfl rfl)
theorem dX9_takes_31 : decode cX9_takes 31 = .ok (.istore_n 3, 1) := dk_62 (dk_at dksX9_takes_1 7 rfl rfl)
theorem dX9_takes_32 : decode cX9_takes 32 = .ok (.iload_n 3, 1) := dk_29 (dk_at dksX9_takes_1 8 rfl rfl)
theorem dX9_takes_33 : decode cX9_takes 33 = .ok (.istore 4, 2) := dk_54 4 (dk_at dksX9_takes_1 9 rfl rfl)
theorem dX9_takes_35 : decode cX9_takes 35 = .ok (.iload 4, 2) := dk_21 4 (dk_at dksX9_takes_1 11 rfl rfl)
theorem dX9_takes_37 : decode cX9_takes 37 = .ok (.aload_n 2, 1) := dk_44 (dk_at dksX9_takes_1 13 rfl rfl)
theorem dX9_takes_38 : decode cX9_takes 38 = .ok (.getfield 69, 3) := dk_180 0 69 (dk_at dksX9_takes_1 14 rfl rfl)
theorem dX9_takes_41 : decode cX9_takes 41 = .ok (.aload_n 0, 1) := dk_42 (dk_at dksX9_takes_1 17 rfl rfl)
theorem dX9_takes_42 : decode cX9_takes 42 = .ok (.getfield 36, 3) := dk_180 0 36 (dk_at dksX9_takes_1 18 rfl rfl)
theorem dX9_takes_45 : decode cX9_takes 45 = .ok (.invokestatic 72, 3) := dk_184 0 72 (dk_at dksX9_takes_1 21 rfl rfl)
theorem dX9_takes_48 : decode cX9_takes 48 = .ok (.if_icmp .gt 63, 3) := dk_163 0 63 (dk_at dksX9_takes_2 0 rfl rfl)
theorem dX9_takes_51 : decode cX9_takes 51 = .ok (.aload_n 0, 1) := dk_42 (dk_at dksX9_takes_2 3 rfl rfl)
theorem dX9_takes_52 : decode cX9_takes 52 = .ok (.getfield 75, 3) := dk_180 0 75 (dk_at dksX9_takes_2 4 rfl rfl)
theorem dX9_takes_55 : decode cX9_takes 55 = .ok (.sipush 600, 3) := dk_17 2 88 (dk_at dksX9_takes_2 7 rfl rfl)
theorem dX9_takes_58 : decode cX9_takes 58 = .ok (.if_icmp .ne 6, 3) := dk_160 0 6 (dk_at dksX9_takes_2 10 rfl rfl)
theorem dX9_takes_61 : decode cX9_takes 61 = .ok (.bipush (-3), 2) := dk_16 253 (dk_at dksX9_takes_2 13 rfl rfl)
theorem dX9_takes_63 : decode cX9_takes 63 = .ok (.ireturn, 1) := dk_172 (dk_at dksX9_takes_2 15 rfl rfl)
theorem dX9_takes_64 : decode cX9_takes 64 = .ok (.aload_n 0, 1) := dk_42 (dk_at dksX9_takes_2 16 rfl rfl)
theorem dX9_takes_65 : decode cX9_takes 65 = .ok (.dup, 1) := dk_89 (dk_at dksX9_takes_2 17 rfl rfl)
theorem dX9_takes_66 : decode cX9_takes 66 = .ok (.getfield 75, 3) := dk_180 0 75 (dk_at dksX9_takes_2 18 rfl rfl)
theorem dX9_takes_69 : decode cX9_takes 69 = .ok (.iconst 1, 1) := dk_4 (dk_at dksX9_takes_2 21 rfl rfl)
theorem dX9_takes_70 : decode cX9_takes 70 = .ok (.iadd, 1) := dk_96 (dk_at dksX9_takes_2 22 rfl rfl)
theorem dX9_takes_71 : decode cX9_takes 71 = .ok (.putfield 75, 3) := dk_181 0 75 (dk_at dksX9_takes_3 0 rfl rfl)
theorem dX9_takes_74 : decode cX9_takes 74 = .ok (.aload_n 0, 1) := dk_42 (dk_at dksX9_takes_3 3 rfl rfl)
theorem dX9_takes_75 : decode cX9_takes 75 = .ok (.getfield 32, 3) := dk_180 0 32 (dk_at dksX9_takes_3 4 rfl rfl)
theorem dX9_takes_78 : decode cX9_takes 78 = .ok (.getfield 41, 3) := dk_180 0 41 (dk_at dksX9_takes_3 7 rfl rfl)
theorem dX9_takes_81 : decode cX9_takes 81 = .ok (.iload_n 1, 1) := dk_27 (dk_at dksX9_takes_3 10 rfl rfl)
theorem dX9_takes_82 : decode cX9_takes 82 = .ok (.iload 4, 2) := dk_21 4 (dk_at dksX9_takes_3 11 rfl rfl)
theorem dX9_takes_84 : decode cX9_takes 84 = .ok (.iastore, 1) := dk_79 (dk_at dksX9_takes_3 13 rfl rfl)
theorem dX9_takes_85 : decode cX9_takes 85 = .ok (.aload_n 0, 1) := dk_42 (dk_at dksX9_takes_3 14 rfl rfl)
theorem dX9_takes_86 : decode cX9_takes 86 = .ok (.getfield 19, 3) := dk_180 0 19 (dk_at dksX9_takes_3 15 rfl rfl)
theorem dX9_takes_89 : decode cX9_takes 89 = .ok (.aload_n 0, 1) := dk_42 (dk_at dksX9_takes_3 18 rfl rfl)
theorem dX9_takes_90 : decode cX9_takes 90 = .ok (.getfield 32, 3) := dk_180 0 32 (dk_at dksX9_takes_3 19 rfl rfl)
theorem dX9_takes_93 : decode cX9_takes 93 = .ok (.aload_n 0, 1) := dk_42 (dk_at dksX9_takes_3 22 rfl rfl)
theorem dX9_takes_94 : decode cX9_takes 94 = .ok (.getfield 36, 3) := dk_180 0 36 (dk_at dksX9_takes_4 0 rfl rfl)
theorem dX9_takes_97 : decode cX9_takes 97 = .ok (.invokevirtual 46, 3) := dk_182 0 46 (dk_at dksX9_takes_4 3 rfl rfl)
theorem dX9_takes_100 : decode cX9_takes 100 = .ok (.ifCond .eq 5, 3) := dk_153 0 5 (dk_at dksX9_takes_4 6 rfl rfl)
theorem dX9_takes_103 : decode cX9_takes 103 = .ok (.iconst 0, 1) := dk_3 (dk_at dksX9_takes_4 9 rfl rfl)
theorem dX9_takes_104 : decode cX9_takes 104 = .ok (.ireturn, 1) := dk_172 (dk_at dksX9_takes_4 10 rfl rfl)
theorem dX9_takes_105 : decode cX9_takes 105 = .ok (.iinc 4 1, 3) := dk_132 4 1 (dk_at dksX9_takes_4 11 rfl rfl)
theorem dX9_takes_108 : decode cX9_takes 108 = .ok (.goto (-73), 3) := dk_167 255 183 (dk_at dksX9_takes_4 14 rfl rfl)
theorem dX9_takes_111 : decode cX9_takes 111 = .ok (.aload_n 0, 1) := dk_42 (dk_at dksX9_takes_4 17 rfl rfl)
theorem dX9_takes_112 : decode cX9_takes 112 = .ok (.getfield 32, 3) := dk_180 0 32 (dk_at dksX9_takes_4 18 rfl rfl)
theorem dX9_takes_115 : decode cX9_takes 115 = .ok (.getfield 41, 3) := dk_180 0 41 (dk_at dksX9_takes_4 21 rfl rfl)
theorem dX9_takes_118 : decode cX9_takes 118 = .ok (.iload_n 1, 1) := dk_27 (dk_at dksX9_takes_5 0 rfl rfl)
theorem dX9_takes_119 : decode cX9_takes 119 = .ok (.iconst 0, 1) := dk_3 (dk_at dksX9_takes_5 1 rfl rfl)
theorem dX9_takes_120 : decode cX9_takes 120 = .ok (.iastore, 1) := dk_79 (dk_at dksX9_takes_5 2 rfl rfl)
theorem dX9_takes_121 : decode cX9_takes 121 = .ok (.bipush (-2), 2) := dk_16 254 (dk_at dksX9_takes_5 3 rfl rfl)
theorem dX9_takes_123 : decode cX9_takes 123 = .ok (.ireturn, 1) := dk_172 (dk_at dksX9_takes_5 5 rfl rfl)
theorem q130 : (Jvm.Cond.initialized "QuietChannels$Search") ∈ lw_all := lw_g (lw_at lw_m1 18 rfl) rfl
theorem q155 : (Jvm.Cond.fieldLinkNest "QuietChannels$Search" (54 : Nat) "QuietChannels$Told" "users" "[LQuietChannels$User;" "QuietChannels") ∈ lw_tbl := lw_at lw_m1 43 rfl
theorem q170 : (Jvm.Cond.fieldLinkNest "QuietChannels$Search" (37 : Nat) "QuietChannels$Told" "many" "I" "QuietChannels") ∈ lw_tbl := lw_at lw_m1 58 rfl
theorem q176 : (Jvm.Cond.fieldLinkNest "QuietChannels$Search" (7 : Nat) "QuietChannels$Told" "band" "I" "QuietChannels") ∈ lw_tbl := lw_at lw_m1 64 rfl
theorem q233 : (Jvm.Cond.fieldLinkNest "QuietChannels$Search" (41 : Nat) "QuietChannels$Plan" "channel" "[I" "QuietChannels") ∈ lw_tbl := lw_at lw_m1 121 rfl
theorem q393 : (Jvm.Cond.fieldLinkNest "QuietChannels$Search" (3 : Nat) "QuietChannels" "told" "LQuietChannels$Told;" "QuietChannels") ∈ lw_tbl := lw_at lw_m2 41 rfl
theorem q724 : (Jvm.Cond.fieldLinkNest "QuietChannels$Search" (58 : Nat) "QuietChannels$User" "low" "I" "QuietChannels") ∈ lw_tbl := lw_at lw_m3 132 rfl
theorem q727 : (Jvm.Cond.fieldLinkNest "QuietChannels$Search" (69 : Nat) "QuietChannels$User" "high" "I" "QuietChannels") ∈ lw_tbl := lw_at lw_m3 135 rfl
theorem q835 : (Jvm.Cond.instantiable "QuietChannels$Search" (6 : Nat)) ∈ lw_all := lw_g (lw_at lw_m4 3 rfl) rfl
theorem q841 : (Jvm.Cond.instanceMethod ({ cls := "QuietChannels$Search", name := "<init>", desc := "(LQuietChannels;LQuietChannels$Plan;I)V" } : Jvm.MethodName)) ∈ lw_all := lw_g (lw_at lw_m4 9 rfl) rfl
theorem q842 : (Jvm.Cond.code ({ cls := "QuietChannels$Search", name := "<init>", desc := "(LQuietChannels;LQuietChannels$Plan;I)V" } : Jvm.MethodName) prog_6_method_1_code (4 : Nat) (Option.none : Option Jvm.ClassFile.FieldType)) ∈ lw_all := lw_g (lw_at lw_m4 10 rfl) rfl
theorem q843 : (Jvm.Cond.methodLink "QuietChannels$Search" (13 : Nat) ({ cls := "QuietChannels$Search", name := "<init>", desc := "(LQuietChannels;LQuietChannels$Plan;II)V" } : Jvm.MethodName)) ∈ lw_all := lw_g (lw_at lw_m4 11 rfl) rfl
theorem q844 : (Jvm.Cond.instanceMethod ({ cls := "QuietChannels$Search", name := "<init>", desc := "(LQuietChannels;LQuietChannels$Plan;II)V" } : Jvm.MethodName)) ∈ lw_all := lw_g (lw_at lw_m4 12 rfl) rfl
theorem q845 : (Jvm.Cond.code ({ cls := "QuietChannels$Search", name := "<init>", desc := "(LQuietChannels;LQuietChannels$Plan;II)V" } : Jvm.MethodName) prog_6_method_2_code (6 : Nat) (Option.none : Option Jvm.ClassFile.FieldType)) ∈ lw_all := lw_g (lw_at lw_m4 13 rfl) rfl
theorem q846 : (Jvm.Cond.methodLink "QuietChannels$Search" (23 : Nat) ({ cls := "java/lang/Object", name := "<init>", desc := "()V" } : Jvm.MethodName)) ∈ lw_all := lw_g (lw_at lw_m4 14 rfl) rfl
theorem q847 : (Jvm.Cond.fieldLink "QuietChannels$Search" (32 : Nat) "QuietChannels$Search" "p" "LQuietChannels$Plan;") ∈ lw_all := lw_g (lw_at lw_m4 15 rfl) rfl
theorem q848 : (Jvm.Cond.fieldLink "QuietChannels$Search" (36 : Nat) "QuietChannels$Search" "band" "I") ∈ lw_all := lw_g (lw_at lw_m4 16 rfl) rfl
theorem q849 : (Jvm.Cond.fieldLink "QuietChannels$Search" (28 : Nat) "QuietChannels$Search" "free" "[I") ∈ lw_all := lw_g (lw_at lw_m4 17 rfl) rfl
theorem q850 : (Jvm.Cond.fieldLink "QuietChannels$Search" (40 : Nat) "QuietChannels$Search" "many" "I") ∈ lw_all := lw_g (lw_at lw_m4 18 rfl) rfl
theorem q851 : (Jvm.Cond.fieldLink "QuietChannels$Search" (75 : Nat) "QuietChannels$Search" "looks" "I") ∈ lw_all := lw_g (lw_at lw_m4 19 rfl) rfl
theorem q853 : (Jvm.Cond.fieldLink "QuietChannels$Search" (19 : Nat) "QuietChannels$Search" "this$0" "LQuietChannels;") ∈ lw_all := lw_g (lw_at lw_m4 21 rfl) rfl
theorem q854 : (Jvm.Cond.laysFinal "QuietChannels$Search" "QuietChannels$Search" "p" "LQuietChannels$Plan;") ∈ lw_all := lw_g (lw_at lw_m4 22 rfl) rfl
theorem q855 : (Jvm.Cond.soleField "QuietChannels$Search" "p") ∈ lw_all := lw_g (lw_at lw_m4 23 rfl) rfl
theorem q856 : (Jvm.Cond.laysFinal "QuietChannels$Search" "QuietChannels$Search" "band" "I") ∈ lw_all := lw_g (lw_at lw_m4 24 rfl) rfl
theorem q857 : (Jvm.Cond.soleField "QuietChannels$Search" "band") ∈ lw_all := lw_g (lw_at lw_m4 25 rfl) rfl
theorem q858 : (Jvm.Cond.laysFinal "QuietChannels$Search" "QuietChannels$Search" "free" "[I") ∈ lw_all := lw_g (lw_at lw_m4 26 rfl) rfl
theorem q859 : (Jvm.Cond.soleField "QuietChannels$Search" "free") ∈ lw_all := lw_g (lw_at lw_m4 27 rfl) rfl
theorem q860 : (Jvm.Cond.lays "QuietChannels$Search" "QuietChannels$Search" "many" "I") ∈ lw_all := lw_g (lw_at lw_m4 28 rfl) rfl
theorem q861 : (Jvm.Cond.soleField "QuietChannels$Search" "many") ∈ lw_all := lw_g (lw_at lw_m4 29 rfl) rfl
theorem q862 : (Jvm.Cond.lays "QuietChannels$Search" "QuietChannels$Search" "looks" "I") ∈ lw_all := lw_g (lw_at lw_m4 30 rfl) rfl
theorem q863 : (Jvm.Cond.soleField "QuietChannels$Search" "looks") ∈ lw_all := lw_g (lw_at lw_m4 31 rfl) rfl
theorem q864 : (Jvm.Cond.laysFinal "QuietChannels$Search" "QuietChannels$Search" "this$0" "LQuietChannels;") ∈ lw_all := lw_g (lw_at lw_m4 32 rfl) rfl
theorem q865 : (Jvm.Cond.soleField "QuietChannels$Search" "this$0") ∈ lw_all := lw_g (lw_at lw_m4 33 rfl) rfl
theorem q866 : (Jvm.Cond.superclass "QuietChannels$Search" "java/lang/Object") ∈ lw_all := lw_g (lw_at lw_m4 34 rfl) rfl
theorem q868 : (Jvm.Cond.instanceMethod ({ cls := "QuietChannels$Search", name := "goes", desc := "()I" } : Jvm.MethodName)) ∈ lw_all := lw_g (lw_at lw_m4 36 rfl) rfl
theorem q869 : (Jvm.Cond.selects "QuietChannels$Search" ({ cls := "QuietChannels$Search", name := "goes", desc := "()I" } : Jvm.MethodName) ({ cls := "QuietChannels$Search", name := "goes", desc := "()I" } : Jvm.MethodName)) ∈ lw_all := lw_g (lw_at lw_m4 37 rfl) rfl
theorem q870 : (Jvm.Cond.code ({ cls := "QuietChannels$Search", name := "goes", desc := "()I" } : Jvm.MethodName) prog_6_method_3_code (3 : Nat) (Option.some Jvm.ClassFile.FieldType.int)) ∈ lw_all := lw_g (lw_at lw_m4 38 rfl) rfl
theorem q871 : (Jvm.Cond.methodLinkNest "QuietChannels$Search" (46 : Nat) ({ cls := "QuietChannels", name := "isClean", desc := "(LQuietChannels$Plan;I)Z" } : Jvm.MethodName) "QuietChannels") ∈ lw_tbl := lw_at lw_m4 39 rfl
theorem q940 : (Jvm.Cond.methodLink "QuietChannels$Search" (50 : Nat) ({ cls := "QuietChannels$Search", name := "takes", desc := "(I)I" } : Jvm.MethodName)) ∈ lw_all := lw_g (lw_at lw_m4 108 rfl) rfl
theorem q941 : (Jvm.Cond.privateMethod ({ cls := "QuietChannels$Search", name := "takes", desc := "(I)I" } : Jvm.MethodName)) ∈ lw_tbl := lw_at lw_m4 109 rfl
theorem q942 : (Jvm.Cond.instanceMethod ({ cls := "QuietChannels$Search", name := "takes", desc := "(I)I" } : Jvm.MethodName)) ∈ lw_all := lw_g (lw_at lw_m4 110 rfl) rfl
theorem q943 : (Jvm.Cond.code ({ cls := "QuietChannels$Search", name := "takes", desc := "(I)I" } : Jvm.MethodName) prog_6_method_4_code (5 : Nat) (Option.some Jvm.ClassFile.FieldType.int)) ∈ lw_all := lw_g (lw_at lw_m4 111 rfl) rfl
theorem q944 : (Jvm.Cond.methodLink "QuietChannels$Search" (63 : Nat) ({ cls := "java/lang/Math", name := "max", desc := "(II)I" } : Jvm.MethodName)) ∈ lw_all := lw_g (lw_at lw_m4 112 rfl) rfl
theorem q945 : (Jvm.Cond.methodLinkNest "QuietChannels$Search" (72 : Nat) ({ cls := "QuietChannels", name := "lesser", desc := "(II)I" } : Jvm.MethodName) "QuietChannels") ∈ lw_tbl := lw_at lw_m4 113 rfl
theorem q1872 : (Jvm.Cond.castable "QuietChannels$Search" "java/lang/Object") ∈ lw_tbl := lw_at lw_m8 80 rfl
theorem in_X9 : ∀ w ∈ wsX90, w ∈ lw_all := lw_in wsX90 [854, 856, 858, 860, 862, 864] (by decide +kernel) (by decide +kernel)
/-! QuietChannelsLaw -/
set_option maxRecDepth 100000
def RX0 : String := "QuietChannelsLaw"
abbrev cX0_user : ByteArray := method_3_code
def yX0_user : MethodName := ⟨RX0, "user", "(LQuietChannels;II[J)I"⟩
def dkwX0_user_0 : List UInt8 := [45, 3, 42, 27, 28, 182, 0, 7, 133, 80, 167, 0, 11, 58, 4, 4, 172, 58, 4, 5, 172, 3, 172]
abbrev dktX0_user_0 : List UInt8 := dkwX0_user_0 ++ []
theorem dksX0_user_0 : cX0_user.data.toList.drop 0 = dktX0_user_0 := by decide +kernel
theorem dX0_user_0 : decode cX0_user 0 = .ok (.aload_n 3, 1) := dk_45 (dk_at dksX0_user_0 0 rfl rfl)
theorem dX0_user_1 : decode cX0_user 1 = .ok (.iconst 0, 1) := dk_3 (dk_at dksX0_user_0 1 rfl rfl)
theorem dX0_user_2 : decode cX0_user 2 = .ok (.aload_n 0, 1) := dk_42 (dk_at dksX0_user_0 2 rfl rfl)
theorem dX0_user_3 : decode cX0_user 3 = .ok (.iload_n 1, 1) := dk_27 (dk_at dksX0_user_0 3 rfl rfl)
theorem dX0_user_4 : decode cX0_user 4 = .ok (.iload_n 2, 1) := dk_28 (dk_at dksX0_user_0 4 rfl rfl)
theorem dX0_user_5 : decode cX0_user 5 = .ok (.invokevirtual 7, 3) := dk_182 0 7 (dk_at dksX0_user_0 5 rfl rfl)
theorem dX0_user_8 : decode cX0_user 8 = .ok (.i2l, 1) := dk_133 (dk_at dksX0_user_0 8 rfl rfl)
theorem dX0_user_9 : decode cX0_user 9 = .ok (.lastore, 1) := dk_80 (dk_at dksX0_user_0 9 rfl rfl)
theorem dX0_user_10 : decode cX0_user 10 = .ok (.goto 11, 3) := dk_167 0 11 (dk_at dksX0_user_0 10 rfl rfl)
theorem dX0_user_13 : decode cX0_user 13 = .ok (.astore 4, 2) := dk_58 4 (dk_at dksX0_user_0 13 rfl rfl)
theorem dX0_user_15 : decode cX0_user 15 = .ok (.iconst 1, 1) := dk_4 (dk_at dksX0_user_0 15 rfl rfl)
theorem dX0_user_16 : decode cX0_user 16 = .ok (.ireturn, 1) := dk_172 (dk_at dksX0_user_0 16 rfl rfl)
theorem dX0_user_17 : decode cX0_user 17 = .ok (.astore 4, 2) := dk_58 4 (dk_at dksX0_user_0 17 rfl rfl)
theorem dX0_user_19 : decode cX0_user 19 = .ok (.iconst 2, 1) := dk_5 (dk_at dksX0_user_0 19 rfl rfl)
theorem dX0_user_20 : decode cX0_user 20 = .ok (.ireturn, 1) := dk_172 (dk_at dksX0_user_0 20 rfl rfl)
theorem dX0_user_21 : decode cX0_user 21 = .ok (.iconst 0, 1) := dk_3 (dk_at dksX0_user_0 21 rfl rfl)
theorem dX0_user_22 : decode cX0_user 22 = .ok (.ireturn, 1) := dk_172 (dk_at dksX0_user_0 22 rfl rfl)
theorem q112 : (Jvm.Cond.initialized "QuietChannelsLaw") ∈ lw_all := lw_g (lw_at lw_m1 0 rfl) rfl
theorem q136 : (Jvm.Cond.classLink "QuietChannelsLaw" (8 : Nat) "QuietChannels") ∈ lw_all := lw_g (lw_at lw_m1 24 rfl) rfl
theorem q138 : (Jvm.Cond.methodLink "QuietChannelsLaw" (17 : Nat) ({ cls := "QuietChannels", name := "<init>", desc := "()V" } : Jvm.MethodName)) ∈ lw_all := lw_g (lw_at lw_m1 26 rfl) rfl
theorem q437 : (Jvm.Cond.methodLink "QuietChannelsLaw" (21 : Nat) ({ cls := "QuietChannels", name := "feed", desc := "(IIIII)I" } : Jvm.MethodName)) ∈ lw_all := lw_g (lw_at lw_m2 85 rfl) rfl
theorem q441 : (Jvm.Cond.methodLink "QuietChannelsLaw" (26 : Nat) ({ cls := "QuietChannels", name := "text", desc := "(I)I" } : Jvm.MethodName)) ∈ lw_all := lw_g (lw_at lw_m2 89 rfl) rfl
theorem q769 : (Jvm.Cond.methodLink "QuietChannelsLaw" (31 : Nat) ({ cls := "QuietChannels", name := "fault", desc := "(I)I" } : Jvm.MethodName)) ∈ lw_all := lw_g (lw_at lw_m3 177 rfl) rfl
theorem q773 : (Jvm.Cond.methodLink "QuietChannelsLaw" (35 : Nat) ({ cls := "QuietChannels", name := "named", desc := "(I)I" } : Jvm.MethodName)) ∈ lw_all := lw_g (lw_at lw_m3 181 rfl) rfl
theorem q778 : (Jvm.Cond.methodLink "QuietChannelsLaw" (203 : Nat) ({ cls := "QuietChannels", name := "undo", desc := "()I" } : Jvm.MethodName)) ∈ lw_all := lw_g (lw_at lw_m3 186 rfl) rfl
theorem q789 : (Jvm.Cond.methodLink "QuietChannelsLaw" (207 : Nat) ({ cls := "QuietChannels", name := "keep", desc := "()I" } : Jvm.MethodName)) ∈ lw_all := lw_g (lw_at lw_m3 197 rfl) rfl
theorem q797 : (Jvm.Cond.methodLink "QuietChannelsLaw" (211 : Nat) ({ cls := "QuietChannels", name := "back", desc := "()I" } : Jvm.MethodName)) ∈ lw_all := lw_g (lw_at lw_m3 205 rfl) rfl
theorem q801 : (Jvm.Cond.methodLink "QuietChannelsLaw" (39 : Nat) ({ cls := "QuietChannels", name := "tune", desc := "(II)I" } : Jvm.MethodName)) ∈ lw_all := lw_g (lw_at lw_m3 209 rfl) rfl
theorem q814 : (Jvm.Cond.methodLink "QuietChannelsLaw" (43 : Nat) ({ cls := "QuietChannels", name := "block", desc := "(I)I" } : Jvm.MethodName)) ∈ lw_all := lw_g (lw_at lw_m3 222 rfl) rfl
theorem q822 : (Jvm.Cond.methodLink "QuietChannelsLaw" (47 : Nat) ({ cls := "QuietChannels", name := "power", desc := "(II)I" } : Jvm.MethodName)) ∈ lw_all := lw_g (lw_at lw_m3 230 rfl) rfl
theorem q826 : (Jvm.Cond.methodLink "QuietChannelsLaw" (51 : Nat) ({ cls := "QuietChannels", name := "slots", desc := "(II)I" } : Jvm.MethodName)) ∈ lw_all := lw_g (lw_at lw_m3 234 rfl) rfl
theorem q830 : (Jvm.Cond.methodLink "QuietChannelsLaw" (55 : Nat) ({ cls := "QuietChannels", name := "complete", desc := "()I" } : Jvm.MethodName)) ∈ lw_all := lw_g (lw_at lw_m3 238 rfl) rfl
theorem q946 : (Jvm.Cond.methodLink "QuietChannelsLaw" (117 : Nat) ({ cls := "QuietChannels", name := "planned", desc := "(I)I" } : Jvm.MethodName)) ∈ lw_all := lw_g (lw_at lw_m4 114 rfl) rfl
theorem q950 : (Jvm.Cond.methodLink "QuietChannelsLaw" (121 : Nat) ({ cls := "QuietChannels", name := "mended", desc := "()I" } : Jvm.MethodName)) ∈ lw_all := lw_g (lw_at lw_m4 118 rfl) rfl
theorem q959 : (Jvm.Cond.methodLink "QuietChannelsLaw" (60 : Nat) ({ cls := "QuietChannels", name := "mend", desc := "()I" } : Jvm.MethodName)) ∈ lw_all := lw_g (lw_at lw_m4 127 rfl) rfl
theorem q963 : (Jvm.Cond.methodLink "QuietChannelsLaw" (125 : Nat) ({ cls := "QuietChannels", name := "leastBand", desc := "()I" } : Jvm.MethodName)) ∈ lw_all := lw_g (lw_at lw_m4 131 rfl) rfl
theorem q968 : (Jvm.Cond.methodLink "QuietChannelsLaw" (73 : Nat) ({ cls := "QuietChannels", name := "blocked", desc := "(I)I" } : Jvm.MethodName)) ∈ lw_all := lw_g (lw_at lw_m4 136 rfl) rfl
theorem q972 : (Jvm.Cond.methodLink "QuietChannelsLaw" (77 : Nat) ({ cls := "QuietChannels", name := "products", desc := "(I)I" } : Jvm.MethodName)) ∈ lw_all := lw_g (lw_at lw_m4 140 rfl) rfl
theorem q980 : (Jvm.Cond.methodLink "QuietChannelsLaw" (81 : Nat) ({ cls := "QuietChannels", name := "product", desc := "(II)I" } : Jvm.MethodName)) ∈ lw_all := lw_g (lw_at lw_m4 148 rfl) rfl
theorem q985 : (Jvm.Cond.methodLink "QuietChannelsLaw" (85 : Nat) ({ cls := "QuietChannels", name := "hits", desc := "(I)I" } : Jvm.MethodName)) ∈ lw_all := lw_g (lw_at lw_m4 153 rfl) rfl
theorem q989 : (Jvm.Cond.methodLink "QuietChannelsLaw" (89 : Nat) ({ cls := "QuietChannels", name := "hitBy", desc := "(II)I" } : Jvm.MethodName)) ∈ lw_all := lw_g (lw_at lw_m4 157 rfl) rfl
theorem q993 : (Jvm.Cond.methodLink "QuietChannelsLaw" (93 : Nat) ({ cls := "QuietChannels", name := "crowds", desc := "(I)I" } : Jvm.MethodName)) ∈ lw_all := lw_g (lw_at lw_m4 161 rfl) rfl
theorem q998 : (Jvm.Cond.methodLink "QuietChannelsLaw" (97 : Nat) ({ cls := "QuietChannels", name := "clean", desc := "()I" } : Jvm.MethodName)) ∈ lw_all := lw_g (lw_at lw_m4 166 rfl) rfl
theorem q1007 : (Jvm.Cond.methodLink "QuietChannelsLaw" (101 : Nat) ({ cls := "QuietChannels", name := "fits", desc := "(II)I" } : Jvm.MethodName)) ∈ lw_all := lw_g (lw_at lw_m4 175 rfl) rfl
theorem q1015 : (Jvm.Cond.methodLink "QuietChannelsLaw" (105 : Nat) ({ cls := "QuietChannels", name := "free", desc := "(I)I" } : Jvm.MethodName)) ∈ lw_all := lw_g (lw_at lw_m4 183 rfl) rfl
theorem q1019 : (Jvm.Cond.methodLink "QuietChannelsLaw" (109 : Nat) ({ cls := "QuietChannels", name := "freeAt", desc := "(II)I" } : Jvm.MethodName)) ∈ lw_all := lw_g (lw_at lw_m4 187 rfl) rfl
theorem q1023 : (Jvm.Cond.methodLink "QuietChannelsLaw" (138 : Nat) ({ cls := "QuietChannels", name := "ifTuned", desc := "(II)I" } : Jvm.MethodName)) ∈ lw_all := lw_g (lw_at lw_m4 191 rfl) rfl
theorem q1031 : (Jvm.Cond.methodLink "QuietChannelsLaw" (113 : Nat) ({ cls := "QuietChannels", name := "quietest", desc := "(I)I" } : Jvm.MethodName)) ∈ lw_all := lw_g (lw_at lw_m4 199 rfl) rfl
theorem q1035 : (Jvm.Cond.methodLink "QuietChannelsLaw" (134 : Nat) ({ cls := "QuietChannels", name := "worst", desc := "()I" } : Jvm.MethodName)) ∈ lw_all := lw_g (lw_at lw_m4 203 rfl) rfl
theorem q1043 : (Jvm.Cond.methodLink "QuietChannelsLaw" (142 : Nat) ({ cls := "QuietChannels", name := "bySort", desc := "(II)I" } : Jvm.MethodName)) ∈ lw_all := lw_g (lw_at lw_m4 211 rfl) rfl
theorem q1047 : (Jvm.Cond.methodLink "QuietChannelsLaw" (146 : Nat) ({ cls := "QuietChannels", name := "loudest", desc := "()I" } : Jvm.MethodName)) ∈ lw_all := lw_g (lw_at lw_m4 215 rfl) rfl
theorem q1051 : (Jvm.Cond.methodLink "QuietChannelsLaw" (162 : Nat) ({ cls := "QuietChannels", name := "when", desc := "(I)I" } : Jvm.MethodName)) ∈ lw_all := lw_g (lw_at lw_m4 219 rfl) rfl
theorem q1055 : (Jvm.Cond.methodLink "QuietChannelsLaw" (166 : Nat) ({ cls := "QuietChannels", name := "clearance", desc := "(I)I" } : Jvm.MethodName)) ∈ lw_all := lw_g (lw_at lw_m4 223 rfl) rfl
theorem q1059 : (Jvm.Cond.methodLink "QuietChannelsLaw" (170 : Nat) ({ cls := "QuietChannels", name := "nearest", desc := "(I)I" } : Jvm.MethodName)) ∈ lw_all := lw_g (lw_at lw_m4 227 rfl) rfl
theorem q1068 : (Jvm.Cond.methodLink "QuietChannelsLaw" (174 : Nat) ({ cls := "QuietChannels", name := "mostSpace", desc := "()I" } : Jvm.MethodName)) ∈ lw_all := lw_g (lw_at lw_m4 236 rfl) rfl
theorem q1072 : (Jvm.Cond.methodLink "QuietChannelsLaw" (178 : Nat) ({ cls := "QuietChannels", name := "spare", desc := "(I)I" } : Jvm.MethodName)) ∈ lw_all := lw_g (lw_at lw_m5 0 rfl) rfl
theorem q1076 : (Jvm.Cond.methodLink "QuietChannelsLaw" (182 : Nat) ({ cls := "QuietChannels", name := "rank", desc := "(I)I" } : Jvm.MethodName)) ∈ lw_all := lw_g (lw_at lw_m5 4 rfl) rfl
theorem q1080 : (Jvm.Cond.methodLink "QuietChannelsLaw" (186 : Nat) ({ cls := "QuietChannels", name := "linked", desc := "(II)I" } : Jvm.MethodName)) ∈ lw_all := lw_g (lw_at lw_m5 8 rfl) rfl
theorem q1084 : (Jvm.Cond.methodLink "QuietChannelsLaw" (150 : Nat) ({ cls := "QuietChannels", name := "turned", desc := "(I)I" } : Jvm.MethodName)) ∈ lw_all := lw_g (lw_at lw_m5 12 rfl) rfl
theorem q1092 : (Jvm.Cond.methodLink "QuietChannelsLaw" (154 : Nat) ({ cls := "QuietChannels", name := "left", desc := "()I" } : Jvm.MethodName)) ∈ lw_all := lw_g (lw_at lw_m5 20 rfl) rfl
theorem q1096 : (Jvm.Cond.methodLink "QuietChannelsLaw" (158 : Nat) ({ cls := "QuietChannels", name := "bestSwap", desc := "()I" } : Jvm.MethodName)) ∈ lw_all := lw_g (lw_at lw_m5 24 rfl) rfl
theorem q1100 : (Jvm.Cond.methodLink "QuietChannelsLaw" (190 : Nat) ({ cls := "QuietChannels", name := "mostPower", desc := "(I)I" } : Jvm.MethodName)) ∈ lw_all := lw_g (lw_at lw_m5 28 rfl) rfl
theorem q1104 : (Jvm.Cond.methodLink "QuietChannelsLaw" (194 : Nat) ({ cls := "QuietChannels", name := "mostGuard", desc := "()I" } : Jvm.MethodName)) ∈ lw_all := lw_g (lw_at lw_m5 32 rfl) rfl
theorem q1108 : (Jvm.Cond.methodLink "QuietChannelsLaw" (129 : Nat) ({ cls := "QuietChannels", name := "grown", desc := "(IIII)I" } : Jvm.MethodName)) ∈ lw_all := lw_g (lw_at lw_m5 36 rfl) rfl
theorem q1112 : (Jvm.Cond.methodLink "QuietChannelsLaw" (198 : Nat) ({ cls := "QuietChannels", name := "chance", desc := "(III)I" } : Jvm.MethodName)) ∈ lw_all := lw_g (lw_at lw_m5 40 rfl) rfl
theorem q1124 : (Jvm.Cond.methodLink "QuietChannelsLaw" (215 : Nat) ({ cls := "QuietChannels", name := "count", desc := "(I)I" } : Jvm.MethodName)) ∈ lw_all := lw_g (lw_at lw_m5 52 rfl) rfl
theorem q1128 : (Jvm.Cond.methodLink "QuietChannelsLaw" (64 : Nat) ({ cls := "QuietChannelsLaw", name := "user", desc := "(LQuietChannels;II[J)I" } : Jvm.MethodName)) ∈ lw_all := lw_g (lw_at lw_m5 56 rfl) rfl
theorem q1129 : (Jvm.Cond.static ({ cls := "QuietChannelsLaw", name := "user", desc := "(LQuietChannels;II[J)I" } : Jvm.MethodName)) ∈ lw_all := lw_g (lw_at lw_m5 57 rfl) rfl
theorem q1130 : (Jvm.Cond.codeWith ({ cls := "QuietChannelsLaw", name := "user", desc := "(LQuietChannels;II[J)I" } : Jvm.MethodName) method_3_code (5 : Nat) (Option.some Jvm.ClassFile.FieldType.int) [((0 : Nat), (10 : Nat), (13 : Nat), (13 : Nat)), ((0 : Nat), (10 : Nat), (17 : Nat), (15 : Nat))]) ∈ lw_all := lw_g (lw_at lw_m5 58 rfl) rfl
theorem q1131 : (Jvm.Cond.classLink "QuietChannelsLaw" (13 : Nat) "java/lang/IndexOutOfBoundsException") ∈ lw_all := lw_g (lw_at lw_m5 59 rfl) rfl
theorem q1165 : (Jvm.Cond.classLink "QuietChannelsLaw" (15 : Nat) "java/util/NoSuchElementException") ∈ lw_all := lw_g (lw_at lw_m5 93 rfl) rfl
theorem q1166 : (Jvm.Cond.methodLink "QuietChannelsLaw" (7 : Nat) ({ cls := "QuietChannels", name := "user", desc := "(II)I" } : Jvm.MethodName)) ∈ lw_all := lw_g (lw_at lw_m5 94 rfl) rfl
theorem q1206 : (Jvm.Cond.classLink "QuietChannelsLaw" (18 : Nat) "QuietChannelsModel") ∈ lw_all := lw_g (lw_at lw_m5 134 rfl) rfl
theorem q1208 : (Jvm.Cond.methodLink "QuietChannelsLaw" (20 : Nat) ({ cls := "QuietChannelsModel", name := "<init>", desc := "()V" } : Jvm.MethodName)) ∈ lw_all := lw_g (lw_at lw_m5 136 rfl) rfl
theorem q1379 : (Jvm.Cond.methodLink "QuietChannelsLaw" (70 : Nat) ({ cls := "QuietChannelsModel", name := "thrown", desc := "()I" } : Jvm.MethodName)) ∈ lw_all := lw_g (lw_at lw_m6 67 rfl) rfl
theorem q1383 : (Jvm.Cond.methodLink "QuietChannelsLaw" (25 : Nat) ({ cls := "QuietChannelsModel", name := "feed", desc := "(IIIII)I" } : Jvm.MethodName)) ∈ lw_all := lw_g (lw_at lw_m6 71 rfl) rfl
theorem q1387 : (Jvm.Cond.methodLink "QuietChannelsLaw" (30 : Nat) ({ cls := "QuietChannelsModel", name := "text", desc := "(I)I" } : Jvm.MethodName)) ∈ lw_all := lw_g (lw_at lw_m6 75 rfl) rfl
theorem q1481 : (Jvm.Cond.methodLink "QuietChannelsLaw" (34 : Nat) ({ cls := "QuietChannelsModel", name := "fault", desc := "(I)I" } : Jvm.MethodName)) ∈ lw_all := lw_g (lw_at lw_m6 169 rfl) rfl
theorem q1485 : (Jvm.Cond.methodLink "QuietChannelsLaw" (38 : Nat) ({ cls := "QuietChannelsModel", name := "named", desc := "(I)I" } : Jvm.MethodName)) ∈ lw_all := lw_g (lw_at lw_m6 173 rfl) rfl
theorem q1489 : (Jvm.Cond.methodLink "QuietChannelsLaw" (206 : Nat) ({ cls := "QuietChannelsModel", name := "undo", desc := "()I" } : Jvm.MethodName)) ∈ lw_all := lw_g (lw_at lw_m6 177 rfl) rfl
theorem q1497 : (Jvm.Cond.methodLink "QuietChannelsLaw" (210 : Nat) ({ cls := "QuietChannelsModel", name := "keep", desc := "()I" } : Jvm.MethodName)) ∈ lw_all := lw_g (lw_at lw_m6 185 rfl) rfl
theorem q1509 : (Jvm.Cond.methodLink "QuietChannelsLaw" (214 : Nat) ({ cls := "QuietChannelsModel", name := "back", desc := "()I" } : Jvm.MethodName)) ∈ lw_all := lw_g (lw_at lw_m6 197 rfl) rfl
theorem q1513 : (Jvm.Cond.methodLink "QuietChannelsLaw" (42 : Nat) ({ cls := "QuietChannelsModel", name := "tune", desc := "(II)I" } : Jvm.MethodName)) ∈ lw_all := lw_g (lw_at lw_m6 201 rfl) rfl
theorem q1529 : (Jvm.Cond.methodLink "QuietChannelsLaw" (46 : Nat) ({ cls := "QuietChannelsModel", name := "block", desc := "(I)I" } : Jvm.MethodName)) ∈ lw_all := lw_g (lw_at lw_m6 217 rfl) rfl
theorem q1533 : (Jvm.Cond.methodLink "QuietChannelsLaw" (50 : Nat) ({ cls := "QuietChannelsModel", name := "power", desc := "(II)I" } : Jvm.MethodName)) ∈ lw_all := lw_g (lw_at lw_m6 221 rfl) rfl
theorem q1537 : (Jvm.Cond.methodLink "QuietChannelsLaw" (54 : Nat) ({ cls := "QuietChannelsModel", name := "slots", desc := "(II)I" } : Jvm.MethodName)) ∈ lw_all := lw_g (lw_at lw_m6 225 rfl) rfl
theorem q1541 : (Jvm.Cond.methodLink "QuietChannelsLaw" (59 : Nat) ({ cls := "QuietChannelsModel", name := "complete", desc := "()I" } : Jvm.MethodName)) ∈ lw_all := lw_g (lw_at lw_m6 229 rfl) rfl
theorem q1652 : (Jvm.Cond.methodLink "QuietChannelsLaw" (63 : Nat) ({ cls := "QuietChannelsModel", name := "mend", desc := "()I" } : Jvm.MethodName)) ∈ lw_all := lw_g (lw_at lw_m7 100 rfl) rfl
theorem q1663 : (Jvm.Cond.methodLink "QuietChannelsLaw" (124 : Nat) ({ cls := "QuietChannelsModel", name := "mended", desc := "()I" } : Jvm.MethodName)) ∈ lw_all := lw_g (lw_at lw_m7 111 rfl) rfl
theorem q1667 : (Jvm.Cond.methodLink "QuietChannelsLaw" (120 : Nat) ({ cls := "QuietChannelsModel", name := "planned", desc := "(I)I" } : Jvm.MethodName)) ∈ lw_all := lw_g (lw_at lw_m7 115 rfl) rfl
theorem q1671 : (Jvm.Cond.methodLink "QuietChannelsLaw" (128 : Nat) ({ cls := "QuietChannelsModel", name := "leastBand", desc := "()I" } : Jvm.MethodName)) ∈ lw_all := lw_g (lw_at lw_m7 119 rfl) rfl
theorem q1675 : (Jvm.Cond.methodLink "QuietChannelsLaw" (133 : Nat) ({ cls := "QuietChannelsModel", name := "grown", desc := "(IIII)I" } : Jvm.MethodName)) ∈ lw_all := lw_g (lw_at lw_m7 123 rfl) rfl
theorem q1691 : (Jvm.Cond.methodLink "QuietChannelsLaw" (69 : Nat) ({ cls := "QuietChannelsModel", name := "user", desc := "(II)I" } : Jvm.MethodName)) ∈ lw_all := lw_g (lw_at lw_m7 139 rfl) rfl
theorem q1695 : (Jvm.Cond.methodLink "QuietChannelsLaw" (76 : Nat) ({ cls := "QuietChannelsModel", name := "blocked", desc := "(I)I" } : Jvm.MethodName)) ∈ lw_all := lw_g (lw_at lw_m7 143 rfl) rfl
theorem q1699 : (Jvm.Cond.methodLink "QuietChannelsLaw" (80 : Nat) ({ cls := "QuietChannelsModel", name := "products", desc := "(I)I" } : Jvm.MethodName)) ∈ lw_all := lw_g (lw_at lw_m7 147 rfl) rfl
theorem q1715 : (Jvm.Cond.methodLink "QuietChannelsLaw" (84 : Nat) ({ cls := "QuietChannelsModel", name := "product", desc := "(II)I" } : Jvm.MethodName)) ∈ lw_all := lw_g (lw_at lw_m7 163 rfl) rfl
theorem q1719 : (Jvm.Cond.methodLink "QuietChannelsLaw" (88 : Nat) ({ cls := "QuietChannelsModel", name := "hits", desc := "(I)I" } : Jvm.MethodName)) ∈ lw_all := lw_g (lw_at lw_m7 167 rfl) rfl
theorem q1723 : (Jvm.Cond.methodLink "QuietChannelsLaw" (92 : Nat) ({ cls := "QuietChannelsModel", name := "hitBy", desc := "(II)I" } : Jvm.MethodName)) ∈ lw_all := lw_g (lw_at lw_m7 171 rfl) rfl
theorem q1727 : (Jvm.Cond.methodLink "QuietChannelsLaw" (96 : Nat) ({ cls := "QuietChannelsModel", name := "crowds", desc := "(I)I" } : Jvm.MethodName)) ∈ lw_all := lw_g (lw_at lw_m7 175 rfl) rfl
theorem q1731 : (Jvm.Cond.methodLink "QuietChannelsLaw" (100 : Nat) ({ cls := "QuietChannelsModel", name := "clean", desc := "()I" } : Jvm.MethodName)) ∈ lw_all := lw_g (lw_at lw_m7 179 rfl) rfl
theorem q1735 : (Jvm.Cond.methodLink "QuietChannelsLaw" (104 : Nat) ({ cls := "QuietChannelsModel", name := "fits", desc := "(II)I" } : Jvm.MethodName)) ∈ lw_all := lw_g (lw_at lw_m7 183 rfl) rfl
theorem q1743 : (Jvm.Cond.methodLink "QuietChannelsLaw" (108 : Nat) ({ cls := "QuietChannelsModel", name := "free", desc := "(I)I" } : Jvm.MethodName)) ∈ lw_all := lw_g (lw_at lw_m7 191 rfl) rfl
theorem q1747 : (Jvm.Cond.methodLink "QuietChannelsLaw" (112 : Nat) ({ cls := "QuietChannelsModel", name := "freeAt", desc := "(II)I" } : Jvm.MethodName)) ∈ lw_all := lw_g (lw_at lw_m7 195 rfl) rfl
theorem q1751 : (Jvm.Cond.methodLink "QuietChannelsLaw" (116 : Nat) ({ cls := "QuietChannelsModel", name := "quietest", desc := "(I)I" } : Jvm.MethodName)) ∈ lw_all := lw_g (lw_at lw_m7 199 rfl) rfl
theorem q1759 : (Jvm.Cond.methodLink "QuietChannelsLaw" (141 : Nat) ({ cls := "QuietChannelsModel", name := "ifTuned", desc := "(II)I" } : Jvm.MethodName)) ∈ lw_all := lw_g (lw_at lw_m7 207 rfl) rfl
theorem q1763 : (Jvm.Cond.methodLink "QuietChannelsLaw" (137 : Nat) ({ cls := "QuietChannelsModel", name := "worst", desc := "()I" } : Jvm.MethodName)) ∈ lw_all := lw_g (lw_at lw_m7 211 rfl) rfl
theorem q1775 : (Jvm.Cond.methodLink "QuietChannelsLaw" (185 : Nat) ({ cls := "QuietChannelsModel", name := "rank", desc := "(I)I" } : Jvm.MethodName)) ∈ lw_all := lw_g (lw_at lw_m7 223 rfl) rfl
theorem q1779 : (Jvm.Cond.methodLink "QuietChannelsLaw" (145 : Nat) ({ cls := "QuietChannelsModel", name := "bySort", desc := "(II)I" } : Jvm.MethodName)) ∈ lw_all := lw_g (lw_at lw_m7 227 rfl) rfl
theorem q1783 : (Jvm.Cond.methodLink "QuietChannelsLaw" (149 : Nat) ({ cls := "QuietChannelsModel", name := "loudest", desc := "()I" } : Jvm.MethodName)) ∈ lw_all := lw_g (lw_at lw_m7 231 rfl) rfl
theorem q1787 : (Jvm.Cond.methodLink "QuietChannelsLaw" (153 : Nat) ({ cls := "QuietChannelsModel", name := "turned", desc := "(I)I" } : Jvm.MethodName)) ∈ lw_all := lw_g (lw_at lw_m7 235 rfl) rfl
theorem q1795 : (Jvm.Cond.methodLink "QuietChannelsLaw" (157 : Nat) ({ cls := "QuietChannelsModel", name := "left", desc := "()I" } : Jvm.MethodName)) ∈ lw_all := lw_g (lw_at lw_m8 3 rfl) rfl
theorem q1799 : (Jvm.Cond.methodLink "QuietChannelsLaw" (161 : Nat) ({ cls := "QuietChannelsModel", name := "bestSwap", desc := "()I" } : Jvm.MethodName)) ∈ lw_all := lw_g (lw_at lw_m8 7 rfl) rfl
theorem q1807 : (Jvm.Cond.methodLink "QuietChannelsLaw" (165 : Nat) ({ cls := "QuietChannelsModel", name := "when", desc := "(I)I" } : Jvm.MethodName)) ∈ lw_all := lw_g (lw_at lw_m8 15 rfl) rfl
theorem q1811 : (Jvm.Cond.methodLink "QuietChannelsLaw" (189 : Nat) ({ cls := "QuietChannelsModel", name := "linked", desc := "(II)I" } : Jvm.MethodName)) ∈ lw_all := lw_g (lw_at lw_m8 19 rfl) rfl
theorem q1815 : (Jvm.Cond.methodLink "QuietChannelsLaw" (169 : Nat) ({ cls := "QuietChannelsModel", name := "clearance", desc := "(I)I" } : Jvm.MethodName)) ∈ lw_all := lw_g (lw_at lw_m8 23 rfl) rfl
theorem q1819 : (Jvm.Cond.methodLink "QuietChannelsLaw" (173 : Nat) ({ cls := "QuietChannelsModel", name := "nearest", desc := "(I)I" } : Jvm.MethodName)) ∈ lw_all := lw_g (lw_at lw_m8 27 rfl) rfl
theorem q1823 : (Jvm.Cond.methodLink "QuietChannelsLaw" (177 : Nat) ({ cls := "QuietChannelsModel", name := "mostSpace", desc := "()I" } : Jvm.MethodName)) ∈ lw_all := lw_g (lw_at lw_m8 31 rfl) rfl
theorem q1827 : (Jvm.Cond.methodLink "QuietChannelsLaw" (181 : Nat) ({ cls := "QuietChannelsModel", name := "spare", desc := "(I)I" } : Jvm.MethodName)) ∈ lw_all := lw_g (lw_at lw_m8 35 rfl) rfl
theorem q1831 : (Jvm.Cond.methodLink "QuietChannelsLaw" (193 : Nat) ({ cls := "QuietChannelsModel", name := "mostPower", desc := "(I)I" } : Jvm.MethodName)) ∈ lw_all := lw_g (lw_at lw_m8 39 rfl) rfl
theorem q1839 : (Jvm.Cond.methodLink "QuietChannelsLaw" (197 : Nat) ({ cls := "QuietChannelsModel", name := "mostGuard", desc := "()I" } : Jvm.MethodName)) ∈ lw_all := lw_g (lw_at lw_m8 47 rfl) rfl
theorem q1843 : (Jvm.Cond.methodLink "QuietChannelsLaw" (202 : Nat) ({ cls := "QuietChannelsModel", name := "chance", desc := "(III)I" } : Jvm.MethodName)) ∈ lw_all := lw_g (lw_at lw_m8 51 rfl) rfl
theorem q1853 : (Jvm.Cond.methodLink "QuietChannelsLaw" (218 : Nat) ({ cls := "QuietChannelsModel", name := "count", desc := "(I)I" } : Jvm.MethodName)) ∈ lw_all := lw_g (lw_at lw_m8 61 rfl) rfl
