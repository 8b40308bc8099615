/-! QuietChannels -/
set_option maxRecDepth 100000
def RX1 : String := "QuietChannels"
def TX1 : u_T := fun k => match k with
  | 0 => ("QuietChannels", "tape", "[B", true)
  | 1 => ("QuietChannels", "taped", "I", false)
  | 2 => ("QuietChannels", "fault", "I", false)
  | 3 => ("QuietChannels", "faultPlace", "I", false)
  | 4 => ("QuietChannels", "told", "LQuietChannels$Told;", false)
  | 5 => ("QuietChannels", "now", "LQuietChannels$Plan;", true)
  | 6 => ("QuietChannels", "image", "LQuietChannels$Plan;", true)
  | 7 => ("QuietChannels", "trial", "LQuietChannels$Plan;", true)
  | 8 => ("QuietChannels", "kept", "[LQuietChannels$Plan;", true)
  | 9 => ("QuietChannels", "acts", "I", false)
  | 10 => ("QuietChannels", "hasImage", "Z", false)
  | 11 => ("QuietChannels", "air", "LQuietChannels$Air;", true)
  | 12 => ("QuietChannels", "row", "LQuietChannels$Air;", true)
  | 13 => ("QuietChannels", "drawn", "J", false)
  | _ => ("QuietChannels", "other", "LQuietChannels$Plan;", true)
def tyX1 : Nat → FieldType := fun k => match k with
  | 0 => .array .byte
  | 1 => .int
  | 2 => .int
  | 3 => .int
  | 4 => .object "QuietChannels$Told"
  | 5 => .object "QuietChannels$Plan"
  | 6 => .object "QuietChannels$Plan"
  | 7 => .object "QuietChannels$Plan"
  | 8 => .array (.object "QuietChannels$Plan")
  | 9 => .int
  | 10 => .boolean
  | 11 => .object "QuietChannels$Air"
  | 12 => .object "QuietChannels$Air"
  | 13 => .long
  | _ => .object "QuietChannels$Plan"
abbrev wsX10 : List Cond := u_ws RX1 TX1 15
set_option maxRecDepth 100000 in
theorem nmX1 : ∀ a, a < 15 → ∀ b, b < 15 → a ≠ b → (TX1 a).2.1 ≠ (TX1 b).2.1 := by decide +kernel
set_option maxRecDepth 100000 in
theorem tyX1_ok : ∀ k, k < 15 → parseFieldDescriptor (TX1 k).2.2.1 = some (tyX1 k) := by decide +kernel
abbrev cX1_init : ByteArray := prog_1_method_2_code
def yX1_init : MethodName := ⟨RX1, "<init>", "()V"⟩
def dkwX1_init_4 : List UInt8 := [16, 8, 183, 0, 56, 181, 0, 63, 42, 187, 0, 37, 89, 183, 0, 39, 181, 0, 66, 42, 182, 0, 69, 177]
abbrev dktX1_init_4 : List UInt8 := dkwX1_init_4 ++ []
def dkwX1_init_3 : List UInt8 := [181, 0, 50, 42, 187, 0, 54, 89, 42, 16, 6, 183, 0, 56, 181, 0, 59, 42, 187, 0, 54, 89, 42]
abbrev dktX1_init_3 : List UInt8 := dkwX1_init_3 ++ dktX1_init_4
def dkwX1_init_2 : List UInt8 := [183, 0, 39, 181, 0, 44, 42, 187, 0, 37, 89, 183, 0, 39, 181, 0, 47, 42, 16, 20, 189, 0, 37]
abbrev dktX1_init_2 : List UInt8 := dkwX1_init_2 ++ dktX1_init_3
def dkwX1_init_1 : List UInt8 := [183, 0, 32, 181, 0, 33, 42, 187, 0, 37, 89, 183, 0, 39, 181, 0, 40, 42, 187, 0, 37, 89]
abbrev dktX1_init_1 : List UInt8 := dkwX1_init_1 ++ dktX1_init_2
def dkwX1_init_0 : List UInt8 := [42, 183, 0, 16, 42, 17, 2, 188, 188, 8, 181, 0, 22, 42, 2, 181, 0, 26, 42, 187, 0, 30, 89]
abbrev dktX1_init_0 : List UInt8 := dkwX1_init_0 ++ dktX1_init_1
theorem dksX1_init_0 : cX1_init.data.toList.drop 0 = dktX1_init_0 := by decide +kernel
theorem dksX1_init_1 : cX1_init.data.toList.drop 23 = dktX1_init_1 := dk_seg dksX1_init_0 23 rfl rfl
theorem dksX1_init_2 : cX1_init.data.toList.drop 45 = dktX1_init_2 := dk_seg dksX1_init_1 22 rfl rfl
theorem dksX1_init_3 : cX1_init.data.toList.drop 68 = dktX1_init_3 := dk_seg dksX1_init_2 23 rfl rfl
theorem dksX1_init_4 : cX1_init.data.toList.drop 91 = dktX1_init_4 := dk_seg dksX1_init_3 23 rfl rfl
theorem dX1_init_0 : decode cX1_init 0 = .ok (.aload_n 0, 1) := dk_42 (dk_at dksX1_init_0 0 rfl rfl)
theorem dX1_init_1 : decode cX1_init 1 = .ok (.invokespecial 16, 3) := dk_183 0 16 (dk_at dksX1_init_0 1 rfl rfl)
theorem dX1_init_4 : decode cX1_init 4 = .ok (.aload_n 0, 1) := dk_42 (dk_at dksX1_init_0 4 rfl rfl)
theorem dX1_init_5 : decode cX1_init 5 = .ok (.sipush 700, 3) := dk_17 2 188 (dk_at dksX1_init_0 5 rfl rfl)
theorem dX1_init_8 : decode cX1_init 8 = .ok (.newarray .byte, 2) := dk_188_8 (dk_at dksX1_init_0 8 rfl rfl)
theorem dX1_init_10 : decode cX1_init 10 = .ok (.putfield 22, 3) := dk_181 0 22 (dk_at dksX1_init_0 10 rfl rfl)
theorem dX1_init_13 : decode cX1_init 13 = .ok (.aload_n 0, 1) := dk_42 (dk_at dksX1_init_0 13 rfl rfl)
theorem dX1_init_14 : decode cX1_init 14 = .ok (.iconst (-1), 1) := dk_2 (dk_at dksX1_init_0 14 rfl rfl)
theorem dX1_init_15 : decode cX1_init 15 = .ok (.putfield 26, 3) := dk_181 0 26 (dk_at dksX1_init_0 15 rfl rfl)
theorem dX1_init_18 : decode cX1_init 18 = .ok (.aload_n 0, 1) := dk_42 (dk_at dksX1_init_0 18 rfl rfl)
theorem dX1_init_19 : decode cX1_init 19 = .ok (.new 30, 3) := dk_187 0 30 (dk_at dksX1_init_0 19 rfl rfl)
theorem dX1_init_22 : decode cX1_init 22 = .ok (.dup, 1) := dk_89 (dk_at dksX1_init_0 22 rfl rfl)
theorem dX1_init_23 : decode cX1_init 23 = .ok (.invokespecial 32, 3) := dk_183 0 32 (dk_at dksX1_init_1 0 rfl rfl)
theorem dX1_init_26 : decode cX1_init 26 = .ok (.putfield 33, 3) := dk_181 0 33 (dk_at dksX1_init_1 3 rfl rfl)
theorem dX1_init_29 : decode cX1_init 29 = .ok (.aload_n 0, 1) := dk_42 (dk_at dksX1_init_1 6 rfl rfl)
theorem dX1_init_30 : decode cX1_init 30 = .ok (.new 37, 3) := dk_187 0 37 (dk_at dksX1_init_1 7 rfl rfl)
theorem dX1_init_33 : decode cX1_init 33 = .ok (.dup, 1) := dk_89 (dk_at dksX1_init_1 10 rfl rfl)
theorem dX1_init_34 : decode cX1_init 34 = .ok (.invokespecial 39, 3) := dk_183 0 39 (dk_at dksX1_init_1 11 rfl rfl)
theorem dX1_init_37 : decode cX1_init 37 = .ok (.putfield 40, 3) := dk_181 0 40 (dk_at dksX1_init_1 14 rfl rfl)
theorem dX1_init_40 : decode cX1_init 40 = .ok (.aload_n 0, 1) := dk_42 (dk_at dksX1_init_1 17 rfl rfl)
theorem dX1_init_41 : decode cX1_init 41 = .ok (.new 37, 3) := dk_187 0 37 (dk_at dksX1_init_1 18 rfl rfl)
theorem dX1_init_44 : decode cX1_init 44 = .ok (.dup, 1) := dk_89 (dk_at dksX1_init_1 21 rfl rfl)
theorem dX1_init_45 : decode cX1_init 45 = .ok (.invokespecial 39, 3) := dk_183 0 39 (dk_at dksX1_init_2 0 rfl rfl)
theorem dX1_init_48 : decode cX1_init 48 = .ok (.putfield 44, 3) := dk_181 0 44 (dk_at dksX1_init_2 3 rfl rfl)
theorem dX1_init_51 : decode cX1_init 51 = .ok (.aload_n 0, 1) := dk_42 (dk_at dksX1_init_2 6 rfl rfl)
theorem dX1_init_52 : decode cX1_init 52 = .ok (.new 37, 3) := dk_187 0 37 (dk_at dksX1_init_2 7 rfl rfl)
theorem dX1_init_55 : decode cX1_init 55 = .ok (.dup, 1) := dk_89 (dk_at dksX1_init_2 10 rfl rfl)
theorem dX1_init_56 : decode cX1_init 56 = .ok (.invokespecial 39, 3) := dk_183 0 39 (dk_at dksX1_init_2 11 rfl rfl)
theorem dX1_init_59 : decode cX1_init 59 = .ok (.putfield 47, 3) := dk_181 0 47 (dk_at dksX1_init_2 14 rfl rfl)
theorem dX1_init_62 : decode cX1_init 62 = .ok (.aload_n 0, 1) := dk_42 (dk_at dksX1_init_2 17 rfl rfl)
theorem dX1_init_63 : decode cX1_init 63 = .ok (.bipush 20, 2) := dk_16 20 (dk_at dksX1_init_2 18 rfl rfl)
theorem dX1_init_65 : decode cX1_init 65 = .ok (.anewarray 37, 3) := dk_189 0 37 (dk_at dksX1_init_2 20 rfl rfl)
theorem dX1_init_68 : decode cX1_init 68 = .ok (.putfield 50, 3) := dk_181 0 50 (dk_at dksX1_init_3 0 rfl rfl)
theorem dX1_init_71 : decode cX1_init 71 = .ok (.aload_n 0, 1) := dk_42 (dk_at dksX1_init_3 3 rfl rfl)
theorem dX1_init_72 : decode cX1_init 72 = .ok (.new 54, 3) := dk_187 0 54 (dk_at dksX1_init_3 4 rfl rfl)
theorem dX1_init_75 : decode cX1_init 75 = .ok (.dup, 1) := dk_89 (dk_at dksX1_init_3 7 rfl rfl)
theorem dX1_init_76 : decode cX1_init 76 = .ok (.aload_n 0, 1) := dk_42 (dk_at dksX1_init_3 8 rfl rfl)
theorem dX1_init_77 : decode cX1_init 77 = .ok (.bipush 6, 2) := dk_16 6 (dk_at dksX1_init_3 9 rfl rfl)
theorem dX1_init_79 : decode cX1_init 79 = .ok (.invokespecial 56, 3) := dk_183 0 56 (dk_at dksX1_init_3 11 rfl rfl)
theorem dX1_init_82 : decode cX1_init 82 = .ok (.putfield 59, 3) := dk_181 0 59 (dk_at dksX1_init_3 14 rfl rfl)
theorem dX1_init_85 : decode cX1_init 85 = .ok (.aload_n 0, 1) := dk_42 (dk_at dksX1_init_3 17 rfl rfl)
theorem dX1_init_86 : decode cX1_init 86 = .ok (.new 54, 3) := dk_187 0 54 (dk_at dksX1_init_3 18 rfl rfl)
theorem dX1_init_89 : decode cX1_init 89 = .ok (.dup, 1) := dk_89 (dk_at dksX1_init_3 21 rfl rfl)
theorem dX1_init_90 : decode cX1_init 90 = .ok (.aload_n 0, 1) := dk_42 (dk_at dksX1_init_3 22 rfl rfl)
theorem dX1_init_91 : decode cX1_init 91 = .ok (.bipush 8, 2) := dk_16 8 (dk_at dksX1_init_4 0 rfl rfl)
theorem dX1_init_93 : decode cX1_init 93 = .ok (.invokespecial 56, 3) := dk_183 0 56 (dk_at dksX1_init_4 2 rfl rfl)
theorem dX1_init_96 : decode cX1_init 96 = .ok (.putfield 63, 3) := dk_181 0 63 (dk_at dksX1_init_4 5 rfl rfl)
theorem dX1_init_99 : decode cX1_init 99 = .ok (.aload_n 0, 1) := dk_42 (dk_at dksX1_init_4 8 rfl rfl)
theorem dX1_init_100 : decode cX1_init 100 = .ok (.new 37, 3) := dk_187 0 37 (dk_at dksX1_init_4 9 rfl rfl)
theorem dX1_init_103 : decode cX1_init 103 = .ok (.dup, 1) := dk_89 (dk_at dksX1_init_4 12 rfl rfl)
theorem dX1_init_104 : decode cX1_init 104 = .ok (.invokespecial 39, 3) := dk_183 0 39 (dk_at dksX1_init_4 13 rfl rfl)
theorem dX1_init_107 : decode cX1_init 107 = .ok (.putfield 66, 3) := dk_181 0 66 (dk_at dksX1_init_4 16 rfl rfl)
theorem dX1_init_110 : decode cX1_init 110 = .ok (.aload_n 0, 1) := dk_42 (dk_at dksX1_init_4 19 rfl rfl)
theorem dX1_init_111 : decode cX1_init 111 = .ok (.invokevirtual 69, 3) := dk_182 0 69 (dk_at dksX1_init_4 20 rfl rfl)
theorem dX1_init_114 : decode cX1_init 114 = .ok (.return_, 1) := dk_177 (dk_at dksX1_init_4 23 rfl rfl)
abbrev cX1_begin : ByteArray := prog_1_method_9_code
def yX1_begin : MethodName := ⟨RX1, "begin", "()V"⟩
def dkwX1_begin_0 : List UInt8 := [42, 180, 0, 40, 42, 180, 0, 33, 182, 0, 104, 42, 3, 181, 0, 108, 42, 3, 181, 0, 111, 177]
abbrev dktX1_begin_0 : List UInt8 := dkwX1_begin_0 ++ []
theorem dksX1_begin_0 : cX1_begin.data.toList.drop 0 = dktX1_begin_0 := by decide +kernel
theorem dX1_begin_0 : decode cX1_begin 0 = .ok (.aload_n 0, 1) := dk_42 (dk_at dksX1_begin_0 0 rfl rfl)
theorem dX1_begin_1 : decode cX1_begin 1 = .ok (.getfield 40, 3) := dk_180 0 40 (dk_at dksX1_begin_0 1 rfl rfl)
theorem dX1_begin_4 : decode cX1_begin 4 = .ok (.aload_n 0, 1) := dk_42 (dk_at dksX1_begin_0 4 rfl rfl)
theorem dX1_begin_5 : decode cX1_begin 5 = .ok (.getfield 33, 3) := dk_180 0 33 (dk_at dksX1_begin_0 5 rfl rfl)
theorem dX1_begin_8 : decode cX1_begin 8 = .ok (.invokevirtual 104, 3) := dk_182 0 104 (dk_at dksX1_begin_0 8 rfl rfl)
theorem dX1_begin_11 : decode cX1_begin 11 = .ok (.aload_n 0, 1) := dk_42 (dk_at dksX1_begin_0 11 rfl rfl)
theorem dX1_begin_12 : decode cX1_begin 12 = .ok (.iconst 0, 1) := dk_3 (dk_at dksX1_begin_0 12 rfl rfl)
theorem dX1_begin_13 : decode cX1_begin 13 = .ok (.putfield 108, 3) := dk_181 0 108 (dk_at dksX1_begin_0 13 rfl rfl)
theorem dX1_begin_16 : decode cX1_begin 16 = .ok (.aload_n 0, 1) := dk_42 (dk_at dksX1_begin_0 16 rfl rfl)
theorem dX1_begin_17 : decode cX1_begin 17 = .ok (.iconst 0, 1) := dk_3 (dk_at dksX1_begin_0 17 rfl rfl)
theorem dX1_begin_18 : decode cX1_begin 18 = .ok (.putfield 111, 3) := dk_181 0 111 (dk_at dksX1_begin_0 18 rfl rfl)
theorem dX1_begin_21 : decode cX1_begin 21 = .ok (.return_, 1) := dk_177 (dk_at dksX1_begin_0 21 rfl rfl)
abbrev cX1_feed : ByteArray := prog_1_method_5_code
def yX1_feed : MethodName := ⟨RX1, "feed", "(IIIII)I"⟩
def dkwX1_feed_5 : List UInt8 := [180, 0, 72, 172]
abbrev dktX1_feed_5 : List UInt8 := dkwX1_feed_5 ++ []
def dkwX1_feed_4 : List UInt8 := [112, 104, 100, 122, 145, 84, 132, 6, 1, 167, 255, 172, 42, 89, 180, 0, 72, 16, 20, 96, 181, 0, 72, 42]
abbrev dktX1_feed_4 : List UInt8 := dkwX1_feed_4 ++ dktX1_feed_5
def dkwX1_feed_3 : List UInt8 := [21, 5, 54, 7, 42, 180, 0, 22, 42, 180, 0, 72, 21, 6, 96, 21, 7, 16, 24, 16, 8, 21, 6, 7]
abbrev dktX1_feed_3 : List UInt8 := dkwX1_feed_3 ++ dktX1_feed_4
def dkwX1_feed_2 : List UInt8 := [21, 6, 16, 12, 162, 0, 7, 29, 167, 0, 17, 21, 6, 16, 16, 162, 0, 8, 21, 4, 167, 0, 5]
abbrev dktX1_feed_2 : List UInt8 := dkwX1_feed_2 ++ dktX1_feed_3
def dkwX1_feed_1 : List UInt8 := [162, 0, 83, 21, 6, 7, 162, 0, 7, 27, 167, 0, 39, 21, 6, 16, 8, 162, 0, 7, 28, 167, 0, 28]
abbrev dktX1_feed_1 : List UInt8 := dkwX1_feed_1 ++ dktX1_feed_2
def dkwX1_feed_0 : List UInt8 := [42, 180, 0, 72, 16, 20, 96, 17, 2, 188, 164, 0, 5, 2, 172, 3, 54, 6, 21, 6, 16, 20]
abbrev dktX1_feed_0 : List UInt8 := dkwX1_feed_0 ++ dktX1_feed_1
theorem dksX1_feed_0 : cX1_feed.data.toList.drop 0 = dktX1_feed_0 := by decide +kernel
theorem dksX1_feed_1 : cX1_feed.data.toList.drop 22 = dktX1_feed_1 := dk_seg dksX1_feed_0 22 rfl rfl
theorem dksX1_feed_2 : cX1_feed.data.toList.drop 46 = dktX1_feed_2 := dk_seg dksX1_feed_1 24 rfl rfl
theorem dksX1_feed_3 : cX1_feed.data.toList.drop 69 = dktX1_feed_3 := dk_seg dksX1_feed_2 23 rfl rfl
theorem dksX1_feed_4 : cX1_feed.data.toList.drop 93 = dktX1_feed_4 := dk_seg dksX1_feed_3 24 rfl rfl
theorem dksX1_feed_5 : cX1_feed.data.toList.drop 117 = dktX1_feed_5 := dk_seg dksX1_feed_4 24 rfl rfl
theorem dX1_feed_0 : decode cX1_feed 0 = .ok (.aload_n 0, 1) := dk_42 (dk_at dksX1_feed_0 0 rfl rfl)
theorem dX1_feed_1 : decode cX1_feed 1 = .ok (.getfield 72, 3) := dk_180 0 72 (dk_at dksX1_feed_0 1 rfl rfl)
theorem dX1_feed_4 : decode cX1_feed 4 = .ok (.bipush 20, 2) := dk_16 20 (dk_at dksX1_feed_0 4 rfl rfl)
theorem dX1_feed_6 : decode cX1_feed 6 = .ok (.iadd, 1) := dk_96 (dk_at dksX1_feed_0 6 rfl rfl)
theorem dX1_feed_7 : decode cX1_feed 7 = .ok (.sipush 700, 3) := dk_17 2 188 (dk_at dksX1_feed_0 7 rfl rfl)
theorem dX1_feed_10 : decode cX1_feed 10 = .ok (.if_icmp .le 5, 3) := dk_164 0 5 (dk_at dksX1_feed_0 10 rfl rfl)
theorem dX1_feed_13 : decode cX1_feed 13 = .ok (.iconst (-1), 1) := dk_2 (dk_at dksX1_feed_0 13 rfl rfl)
theorem dX1_feed_14 : decode cX1_feed 14 = .ok (.ireturn, 1) := dk_172 (dk_at dksX1_feed_0 14 rfl rfl)
theorem dX1_feed_15 : decode cX1_feed 15 = .ok (.iconst 0, 1) := dk_3 (dk_at dksX1_feed_0 15 rfl rfl)
theorem dX1_feed_16 : decode cX1_feed 16 = .ok (.istore 6, 2) := dk_54 6 (dk_at dksX1_feed_0 16 rfl rfl)
theorem dX1_feed_18 : decode cX1_feed 18 = .ok (.iload 6, 2) := dk_21 6 (dk_at dksX1_feed_0 18 rfl rfl)
theorem dX1_feed_20 : decode cX1_feed 20 = .ok (.bipush 20, 2) := dk_16 20 (dk_at dksX1_feed_0 20 rfl rfl)
theorem dX1_feed_22 : decode cX1_feed 22 = .ok (.if_icmp .ge 83, 3) := dk_162 0 83 (dk_at dksX1_feed_1 0 rfl rfl)
theorem dX1_feed_25 : decode cX1_feed 25 = .ok (.iload 6, 2) := dk_21 6 (dk_at dksX1_feed_1 3 rfl rfl)
theorem dX1_feed_27 : decode cX1_feed 27 = .ok (.iconst 4, 1) := dk_7 (dk_at dksX1_feed_1 5 rfl rfl)
theorem dX1_feed_28 : decode cX1_feed 28 = .ok (.if_icmp .ge 7, 3) := dk_162 0 7 (dk_at dksX1_feed_1 6 rfl rfl)
theorem dX1_feed_31 : decode cX1_feed 31 = .ok (.iload_n 1, 1) := dk_27 (dk_at dksX1_feed_1 9 rfl rfl)
theorem dX1_feed_32 : decode cX1_feed 32 = .ok (.goto 39, 3) := dk_167 0 39 (dk_at dksX1_feed_1 10 rfl rfl)
theorem dX1_feed_35 : decode cX1_feed 35 = .ok (.iload 6, 2) := dk_21 6 (dk_at dksX1_feed_1 13 rfl rfl)
theorem dX1_feed_37 : decode cX1_feed 37 = .ok (.bipush 8, 2) := dk_16 8 (dk_at dksX1_feed_1 15 rfl rfl)
theorem dX1_feed_39 : decode cX1_feed 39 = .ok (.if_icmp .ge 7, 3) := dk_162 0 7 (dk_at dksX1_feed_1 17 rfl rfl)
theorem dX1_feed_42 : decode cX1_feed 42 = .ok (.iload_n 2, 1) := dk_28 (dk_at dksX1_feed_1 20 rfl rfl)
theorem dX1_feed_43 : decode cX1_feed 43 = .ok (.goto 28, 3) := dk_167 0 28 (dk_at dksX1_feed_1 21 rfl rfl)
theorem dX1_feed_46 : decode cX1_feed 46 = .ok (.iload 6, 2) := dk_21 6 (dk_at dksX1_feed_2 0 rfl rfl)
theorem dX1_feed_48 : decode cX1_feed 48 = .ok (.bipush 12, 2) := dk_16 12 (dk_at dksX1_feed_2 2 rfl rfl)
theorem dX1_feed_50 : decode cX1_feed 50 = .ok (.if_icmp .ge 7, 3) := dk_162 0 7 (dk_at dksX1_feed_2 4 rfl rfl)
theorem dX1_feed_53 : decode cX1_feed 53 = .ok (.iload_n 3, 1) := dk_29 (dk_at dksX1_feed_2 7 rfl rfl)
theorem dX1_feed_54 : decode cX1_feed 54 = .ok (.goto 17, 3) := dk_167 0 17 (dk_at dksX1_feed_2 8 rfl rfl)
theorem dX1_feed_57 : decode cX1_feed 57 = .ok (.iload 6, 2) := dk_21 6 (dk_at dksX1_feed_2 11 rfl rfl)
theorem dX1_feed_59 : decode cX1_feed 59 = .ok (.bipush 16, 2) := dk_16 16 (dk_at dksX1_feed_2 13 rfl rfl)
theorem dX1_feed_61 : decode cX1_feed 61 = .ok (.if_icmp .ge 8, 3) := dk_162 0 8 (dk_at dksX1_feed_2 15 rfl rfl)
theorem dX1_feed_64 : decode cX1_feed 64 = .ok (.iload 4, 2) := dk_21 4 (dk_at dksX1_feed_2 18 rfl rfl)
theorem dX1_feed_66 : decode cX1_feed 66 = .ok (.goto 5, 3) := dk_167 0 5 (dk_at dksX1_feed_2 20 rfl rfl)
theorem dX1_feed_69 : decode cX1_feed 69 = .ok (.iload 5, 2) := dk_21 5 (dk_at dksX1_feed_3 0 rfl rfl)
theorem dX1_feed_71 : decode cX1_feed 71 = .ok (.istore 7, 2) := dk_54 7 (dk_at dksX1_feed_3 2 rfl rfl)
theorem dX1_feed_73 : decode cX1_feed 73 = .ok (.aload_n 0, 1) := dk_42 (dk_at dksX1_feed_3 4 rfl rfl)
theorem dX1_feed_74 : decode cX1_feed 74 = .ok (.getfield 22, 3) := dk_180 0 22 (dk_at dksX1_feed_3 5 rfl rfl)
theorem dX1_feed_77 : decode cX1_feed 77 = .ok (.aload_n 0, 1) := dk_42 (dk_at dksX1_feed_3 8 rfl rfl)
theorem dX1_feed_78 : decode cX1_feed 78 = .ok (.getfield 72, 3) := dk_180 0 72 (dk_at dksX1_feed_3 9 rfl rfl)
theorem dX1_feed_81 : decode cX1_feed 81 = .ok (.iload 6, 2) := dk_21 6 (dk_at dksX1_feed_3 12 rfl rfl)
theorem dX1_feed_83 : decode cX1_feed 83 = .ok (.iadd, 1) := dk_96 (dk_at dksX1_feed_3 14 rfl rfl)
theorem dX1_feed_84 : decode cX1_feed 84 = .ok (.iload 7, 2) := dk_21 7 (dk_at dksX1_feed_3 15 rfl rfl)
theorem dX1_feed_86 : decode cX1_feed 86 = .ok (.bipush 24, 2) := dk_16 24 (dk_at dksX1_feed_3 17 rfl rfl)
theorem dX1_feed_88 : decode cX1_feed 88 = .ok (.bipush 8, 2) := dk_16 8 (dk_at dksX1_feed_3 19 rfl rfl)
theorem dX1_feed_90 : decode cX1_feed 90 = .ok (.iload 6, 2) := dk_21 6 (dk_at dksX1_feed_3 21 rfl rfl)
theorem dX1_feed_92 : decode cX1_feed 92 = .ok (.iconst 4, 1) := dk_7 (dk_at dksX1_feed_3 23 rfl rfl)
theorem dX1_feed_93 : decode cX1_feed 93 = .ok (.irem, 1) := dk_112 (dk_at dksX1_feed_4 0 rfl rfl)
theorem dX1_feed_94 : decode cX1_feed 94 = .ok (.imul, 1) := dk_104 (dk_at dksX1_feed_4 1 rfl rfl)
theorem dX1_feed_95 : decode cX1_feed 95 = .ok (.isub, 1) := dk_100 (dk_at dksX1_feed_4 2 rfl rfl)
theorem dX1_feed_96 : decode cX1_feed 96 = .ok (.ishr, 1) := dk_122 (dk_at dksX1_feed_4 3 rfl rfl)
theorem dX1_feed_97 : decode cX1_feed 97 = .ok (.i2b, 1) := dk_145 (dk_at dksX1_feed_4 4 rfl rfl)
theorem dX1_feed_98 : decode cX1_feed 98 = .ok (.bastore, 1) := dk_84 (dk_at dksX1_feed_4 5 rfl rfl)
theorem dX1_feed_99 : decode cX1_feed 99 = .ok (.iinc 6 1, 3) := dk_132 6 1 (dk_at dksX1_feed_4 6 rfl rfl)
theorem dX1_feed_102 : decode cX1_feed 102 = .ok (.goto (-84), 3) := dk_167 255 172 (dk_at dksX1_feed_4 9 rfl rfl)
theorem dX1_feed_105 : decode cX1_feed 105 = .ok (.aload_n 0, 1) := dk_42 (dk_at dksX1_feed_4 12 rfl rfl)
theorem dX1_feed_106 : decode cX1_feed 106 = .ok (.dup, 1) := dk_89 (dk_at dksX1_feed_4 13 rfl rfl)
theorem dX1_feed_107 : decode cX1_feed 107 = .ok (.getfield 72, 3) := dk_180 0 72 (dk_at dksX1_feed_4 14 rfl rfl)
theorem dX1_feed_110 : decode cX1_feed 110 = .ok (.bipush 20, 2) := dk_16 20 (dk_at dksX1_feed_4 17 rfl rfl)
theorem dX1_feed_112 : decode cX1_feed 112 = .ok (.iadd, 1) := dk_96 (dk_at dksX1_feed_4 19 rfl rfl)
theorem dX1_feed_113 : decode cX1_feed 113 = .ok (.putfield 72, 3) := dk_181 0 72 (dk_at dksX1_feed_4 20 rfl rfl)
theorem dX1_feed_116 : decode cX1_feed 116 = .ok (.aload_n 0, 1) := dk_42 (dk_at dksX1_feed_4 23 rfl rfl)
theorem dX1_feed_117 : decode cX1_feed 117 = .ok (.getfield 72, 3) := dk_180 0 72 (dk_at dksX1_feed_5 0 rfl rfl)
theorem dX1_feed_120 : decode cX1_feed 120 = .ok (.ireturn, 1) := dk_172 (dk_at dksX1_feed_5 3 rfl rfl)
abbrev cX1_text : ByteArray := prog_1_method_6_code
def yX1_text : MethodName := ⟨RX1, "text", "(I)I"⟩
def dkwX1_text_3 : List UInt8 := [182, 0, 69, 42, 180, 0, 33, 180, 0, 97, 172]
abbrev dktX1_text_3 : List UInt8 := dkwX1_text_3 ++ []
def dkwX1_text_2 : List UInt8 := [167, 0, 22, 77, 42, 44, 180, 0, 91, 181, 0, 79, 42, 44, 180, 0, 94, 181, 0, 26, 2, 172, 42]
abbrev dktX1_text_2 : List UInt8 := dkwX1_text_2 ++ dktX1_text_3
def dkwX1_text_1 : List UInt8 := [181, 0, 79, 42, 2, 181, 0, 26, 42, 187, 0, 82, 89, 42, 27, 183, 0, 84, 182, 0, 85, 181, 0, 33]
abbrev dktX1_text_1 : List UInt8 := dkwX1_text_1 ++ dktX1_text_2
def dkwX1_text_0 : List UInt8 := [27, 3, 42, 180, 0, 72, 184, 0, 75, 154, 0, 6, 16, 254, 172, 42, 3, 181, 0, 72, 42, 3]
abbrev dktX1_text_0 : List UInt8 := dkwX1_text_0 ++ dktX1_text_1
theorem dksX1_text_0 : cX1_text.data.toList.drop 0 = dktX1_text_0 := by decide +kernel
theorem dksX1_text_1 : cX1_text.data.toList.drop 22 = dktX1_text_1 := dk_seg dksX1_text_0 22 rfl rfl
theorem dksX1_text_2 : cX1_text.data.toList.drop 46 = dktX1_text_2 := dk_seg dksX1_text_1 24 rfl rfl
theorem dksX1_text_3 : cX1_text.data.toList.drop 69 = dktX1_text_3 := dk_seg dksX1_text_2 23 rfl rfl
theorem dX1_text_0 : decode cX1_text 0 = .ok (.iload_n 1, 1) := dk_27 (dk_at dksX1_text_0 0 rfl rfl)
theorem dX1_text_1 : decode cX1_text 1 = .ok (.iconst 0, 1) := dk_3 (dk_at dksX1_text_0 1 rfl rfl)
theorem dX1_text_2 : decode cX1_text 2 = .ok (.aload_n 0, 1) := dk_42 (dk_at dksX1_text_0 2 rfl rfl)
theorem dX1_text_3 : decode cX1_text 3 = .ok (.getfield 72, 3) := dk_180 0 72 (dk_at dksX1_text_0 3 rfl rfl)
theorem dX1_text_6 : decode cX1_text 6 = .ok (.invokestatic 75, 3) := dk_184 0 75 (dk_at dksX1_text_0 6 rfl rfl)
theorem dX1_text_9 : decode cX1_text 9 = .ok (.ifCond .ne 6, 3) := dk_154 0 6 (dk_at dksX1_text_0 9 rfl rfl)
theorem dX1_text_12 : decode cX1_text 12 = .ok (.bipush (-2), 2) := dk_16 254 (dk_at dksX1_text_0 12 rfl rfl)
theorem dX1_text_14 : decode cX1_text 14 = .ok (.ireturn, 1) := dk_172 (dk_at dksX1_text_0 14 rfl rfl)
theorem dX1_text_15 : decode cX1_text 15 = .ok (.aload_n 0, 1) := dk_42 (dk_at dksX1_text_0 15 rfl rfl)
theorem dX1_text_16 : decode cX1_text 16 = .ok (.iconst 0, 1) := dk_3 (dk_at dksX1_text_0 16 rfl rfl)
theorem dX1_text_17 : decode cX1_text 17 = .ok (.putfield 72, 3) := dk_181 0 72 (dk_at dksX1_text_0 17 rfl rfl)
theorem dX1_text_20 : decode cX1_text 20 = .ok (.aload_n 0, 1) := dk_42 (dk_at dksX1_text_0 20 rfl rfl)
theorem dX1_text_21 : decode cX1_text 21 = .ok (.iconst 0, 1) := dk_3 (dk_at dksX1_text_0 21 rfl rfl)
theorem dX1_text_22 : decode cX1_text 22 = .ok (.putfield 79, 3) := dk_181 0 79 (dk_at dksX1_text_1 0 rfl rfl)
theorem dX1_text_25 : decode cX1_text 25 = .ok (.aload_n 0, 1) := dk_42 (dk_at dksX1_text_1 3 rfl rfl)
theorem dX1_text_26 : decode cX1_text 26 = .ok (.iconst (-1), 1) := dk_2 (dk_at dksX1_text_1 4 rfl rfl)
theorem dX1_text_27 : decode cX1_text 27 = .ok (.putfield 26, 3) := dk_181 0 26 (dk_at dksX1_text_1 5 rfl rfl)
theorem dX1_text_30 : decode cX1_text 30 = .ok (.aload_n 0, 1) := dk_42 (dk_at dksX1_text_1 8 rfl rfl)
theorem dX1_text_31 : decode cX1_text 31 = .ok (.new 82, 3) := dk_187 0 82 (dk_at dksX1_text_1 9 rfl rfl)
theorem dX1_text_34 : decode cX1_text 34 = .ok (.dup, 1) := dk_89 (dk_at dksX1_text_1 12 rfl rfl)
theorem dX1_text_35 : decode cX1_text 35 = .ok (.aload_n 0, 1) := dk_42 (dk_at dksX1_text_1 13 rfl rfl)
theorem dX1_text_36 : decode cX1_text 36 = .ok (.iload_n 1, 1) := dk_27 (dk_at dksX1_text_1 14 rfl rfl)
theorem dX1_text_37 : decode cX1_text 37 = .ok (.invokespecial 84, 3) := dk_183 0 84 (dk_at dksX1_text_1 15 rfl rfl)
theorem dX1_text_40 : decode cX1_text 40 = .ok (.invokevirtual 85, 3) := dk_182 0 85 (dk_at dksX1_text_1 18 rfl rfl)
theorem dX1_text_43 : decode cX1_text 43 = .ok (.putfield 33, 3) := dk_181 0 33 (dk_at dksX1_text_1 21 rfl rfl)
theorem dX1_text_46 : decode cX1_text 46 = .ok (.goto 22, 3) := dk_167 0 22 (dk_at dksX1_text_2 0 rfl rfl)
theorem dX1_text_49 : decode cX1_text 49 = .ok (.astore_n 2, 1) := dk_77 (dk_at dksX1_text_2 3 rfl rfl)
theorem dX1_text_50 : decode cX1_text 50 = .ok (.aload_n 0, 1) := dk_42 (dk_at dksX1_text_2 4 rfl rfl)
theorem dX1_text_51 : decode cX1_text 51 = .ok (.aload_n 2, 1) := dk_44 (dk_at dksX1_text_2 5 rfl rfl)
theorem dX1_text_52 : decode cX1_text 52 = .ok (.getfield 91, 3) := dk_180 0 91 (dk_at dksX1_text_2 6 rfl rfl)
theorem dX1_text_55 : decode cX1_text 55 = .ok (.putfield 79, 3) := dk_181 0 79 (dk_at dksX1_text_2 9 rfl rfl)
theorem dX1_text_58 : decode cX1_text 58 = .ok (.aload_n 0, 1) := dk_42 (dk_at dksX1_text_2 12 rfl rfl)
theorem dX1_text_59 : decode cX1_text 59 = .ok (.aload_n 2, 1) := dk_44 (dk_at dksX1_text_2 13 rfl rfl)
theorem dX1_text_60 : decode cX1_text 60 = .ok (.getfield 94, 3) := dk_180 0 94 (dk_at dksX1_text_2 14 rfl rfl)
theorem dX1_text_63 : decode cX1_text 63 = .ok (.putfield 26, 3) := dk_181 0 26 (dk_at dksX1_text_2 17 rfl rfl)
theorem dX1_text_66 : decode cX1_text 66 = .ok (.iconst (-1), 1) := dk_2 (dk_at dksX1_text_2 20 rfl rfl)
theorem dX1_text_67 : decode cX1_text 67 = .ok (.ireturn, 1) := dk_172 (dk_at dksX1_text_2 21 rfl rfl)
theorem dX1_text_68 : decode cX1_text 68 = .ok (.aload_n 0, 1) := dk_42 (dk_at dksX1_text_2 22 rfl rfl)
theorem dX1_text_69 : decode cX1_text 69 = .ok (.invokevirtual 69, 3) := dk_182 0 69 (dk_at dksX1_text_3 0 rfl rfl)
theorem dX1_text_72 : decode cX1_text 72 = .ok (.aload_n 0, 1) := dk_42 (dk_at dksX1_text_3 3 rfl rfl)
theorem dX1_text_73 : decode cX1_text 73 = .ok (.getfield 33, 3) := dk_180 0 33 (dk_at dksX1_text_3 4 rfl rfl)
theorem dX1_text_76 : decode cX1_text 76 = .ok (.getfield 97, 3) := dk_180 0 97 (dk_at dksX1_text_3 7 rfl rfl)
theorem dX1_text_79 : decode cX1_text 79 = .ok (.ireturn, 1) := dk_172 (dk_at dksX1_text_3 10 rfl rfl)
abbrev cX1_isIn : ByteArray := prog_1_method_3_code
def yX1_isIn : MethodName := ⟨RX1, "isIn", "(III)Z"⟩
def dkwX1_isIn_0 : List UInt8 := [26, 27, 161, 0, 12, 26, 28, 163, 0, 7, 4, 167, 0, 4, 3, 172]
abbrev dktX1_isIn_0 : List UInt8 := dkwX1_isIn_0 ++ []
theorem dksX1_isIn_0 : cX1_isIn.data.toList.drop 0 = dktX1_isIn_0 := by decide +kernel
theorem dX1_isIn_0 : decode cX1_isIn 0 = .ok (.iload_n 0, 1) := dk_26 (dk_at dksX1_isIn_0 0 rfl rfl)
theorem dX1_isIn_1 : decode cX1_isIn 1 = .ok (.iload_n 1, 1) := dk_27 (dk_at dksX1_isIn_0 1 rfl rfl)
theorem dX1_isIn_2 : decode cX1_isIn 2 = .ok (.if_icmp .lt 12, 3) := dk_161 0 12 (dk_at dksX1_isIn_0 2 rfl rfl)
theorem dX1_isIn_5 : decode cX1_isIn 5 = .ok (.iload_n 0, 1) := dk_26 (dk_at dksX1_isIn_0 5 rfl rfl)
theorem dX1_isIn_6 : decode cX1_isIn 6 = .ok (.iload_n 2, 1) := dk_28 (dk_at dksX1_isIn_0 6 rfl rfl)
theorem dX1_isIn_7 : decode cX1_isIn 7 = .ok (.if_icmp .gt 7, 3) := dk_163 0 7 (dk_at dksX1_isIn_0 7 rfl rfl)
theorem dX1_isIn_10 : decode cX1_isIn 10 = .ok (.iconst 1, 1) := dk_4 (dk_at dksX1_isIn_0 10 rfl rfl)
theorem dX1_isIn_11 : decode cX1_isIn 11 = .ok (.goto 4, 3) := dk_167 0 4 (dk_at dksX1_isIn_0 11 rfl rfl)
theorem dX1_isIn_14 : decode cX1_isIn 14 = .ok (.iconst 0, 1) := dk_3 (dk_at dksX1_isIn_0 14 rfl rfl)
theorem dX1_isIn_15 : decode cX1_isIn 15 = .ok (.ireturn, 1) := dk_172 (dk_at dksX1_isIn_0 15 rfl rfl)
abbrev cX1_fault : ByteArray := prog_1_method_7_code
def yX1_fault : MethodName := ⟨RX1, "fault", "(I)I"⟩
def dkwX1_fault_1 : List UInt8 := [172]
abbrev dktX1_fault_1 : List UInt8 := dkwX1_fault_1 ++ []
def dkwX1_fault_0 : List UInt8 := [27, 154, 0, 10, 42, 180, 0, 79, 167, 0, 16, 27, 4, 160, 0, 10, 42, 180, 0, 26, 167, 0, 4, 2]
abbrev dktX1_fault_0 : List UInt8 := dkwX1_fault_0 ++ dktX1_fault_1
theorem dksX1_fault_0 : cX1_fault.data.toList.drop 0 = dktX1_fault_0 := by decide +kernel
theorem dksX1_fault_1 : cX1_fault.data.toList.drop 24 = dktX1_fault_1 := dk_seg dksX1_fault_0 24 rfl rfl
theorem dX1_fault_0 : decode cX1_fault 0 = .ok (.iload_n 1, 1) := dk_27 (dk_at dksX1_fault_0 0 rfl rfl)
theorem dX1_fault_1 : decode cX1_fault 1 = .ok (.ifCond .ne 10, 3) := dk_154 0 10 (dk_at dksX1_fault_0 1 rfl rfl)
theorem dX1_fault_4 : decode cX1_fault 4 = .ok (.aload_n 0, 1) := dk_42 (dk_at dksX1_fault_0 4 rfl rfl)
theorem dX1_fault_5 : decode cX1_fault 5 = .ok (.getfield 79, 3) := dk_180 0 79 (dk_at dksX1_fault_0 5 rfl rfl)
theorem dX1_fault_8 : decode cX1_fault 8 = .ok (.goto 16, 3) := dk_167 0 16 (dk_at dksX1_fault_0 8 rfl rfl)
theorem dX1_fault_11 : decode cX1_fault 11 = .ok (.iload_n 1, 1) := dk_27 (dk_at dksX1_fault_0 11 rfl rfl)
theorem dX1_fault_12 : decode cX1_fault 12 = .ok (.iconst 1, 1) := dk_4 (dk_at dksX1_fault_0 12 rfl rfl)
theorem dX1_fault_13 : decode cX1_fault 13 = .ok (.if_icmp .ne 10, 3) := dk_160 0 10 (dk_at dksX1_fault_0 13 rfl rfl)
theorem dX1_fault_16 : decode cX1_fault 16 = .ok (.aload_n 0, 1) := dk_42 (dk_at dksX1_fault_0 16 rfl rfl)
theorem dX1_fault_17 : decode cX1_fault 17 = .ok (.getfield 26, 3) := dk_180 0 26 (dk_at dksX1_fault_0 17 rfl rfl)
theorem dX1_fault_20 : decode cX1_fault 20 = .ok (.goto 4, 3) := dk_167 0 4 (dk_at dksX1_fault_0 20 rfl rfl)
theorem dX1_fault_23 : decode cX1_fault 23 = .ok (.iconst (-1), 1) := dk_2 (dk_at dksX1_fault_0 23 rfl rfl)
theorem dX1_fault_24 : decode cX1_fault 24 = .ok (.ireturn, 1) := dk_172 (dk_at dksX1_fault_1 0 rfl rfl)
abbrev cX1_named : ByteArray := prog_1_method_8_code
def yX1_named : MethodName := ⟨RX1, "named", "(I)I"⟩
def dkwX1_named_0 : List UInt8 := [42, 180, 0, 33, 27, 182, 0, 100, 172]
abbrev dktX1_named_0 : List UInt8 := dkwX1_named_0 ++ []
theorem dksX1_named_0 : cX1_named.data.toList.drop 0 = dktX1_named_0 := by decide +kernel
theorem dX1_named_0 : decode cX1_named 0 = .ok (.aload_n 0, 1) := dk_42 (dk_at dksX1_named_0 0 rfl rfl)
theorem dX1_named_1 : decode cX1_named 1 = .ok (.getfield 33, 3) := dk_180 0 33 (dk_at dksX1_named_0 1 rfl rfl)
theorem dX1_named_4 : decode cX1_named 4 = .ok (.iload_n 1, 1) := dk_27 (dk_at dksX1_named_0 4 rfl rfl)
theorem dX1_named_5 : decode cX1_named 5 = .ok (.invokevirtual 100, 3) := dk_182 0 100 (dk_at dksX1_named_0 5 rfl rfl)
theorem dX1_named_8 : decode cX1_named 8 = .ok (.ireturn, 1) := dk_172 (dk_at dksX1_named_0 8 rfl rfl)
abbrev cX1_undo : ByteArray := prog_1_method_11_code
def yX1_undo : MethodName := ⟨RX1, "undo", "()I"⟩
def dkwX1_undo_1 : List UInt8 := [180, 0, 50, 42, 180, 0, 108, 50, 182, 0, 115, 87, 42, 180, 0, 108, 172]
abbrev dktX1_undo_1 : List UInt8 := dkwX1_undo_1 ++ []
def dkwX1_undo_0 : List UInt8 := [42, 180, 0, 108, 154, 0, 5, 2, 172, 42, 89, 180, 0, 108, 4, 100, 181, 0, 108, 42, 180, 0, 40, 42]
abbrev dktX1_undo_0 : List UInt8 := dkwX1_undo_0 ++ dktX1_undo_1
theorem dksX1_undo_0 : cX1_undo.data.toList.drop 0 = dktX1_undo_0 := by decide +kernel
theorem dksX1_undo_1 : cX1_undo.data.toList.drop 24 = dktX1_undo_1 := dk_seg dksX1_undo_0 24 rfl rfl
theorem dX1_undo_0 : decode cX1_undo 0 = .ok (.aload_n 0, 1) := dk_42 (dk_at dksX1_undo_0 0 rfl rfl)
theorem dX1_undo_1 : decode cX1_undo 1 = .ok (.getfield 108, 3) := dk_180 0 108 (dk_at dksX1_undo_0 1 rfl rfl)
theorem dX1_undo_4 : decode cX1_undo 4 = .ok (.ifCond .ne 5, 3) := dk_154 0 5 (dk_at dksX1_undo_0 4 rfl rfl)
theorem dX1_undo_7 : decode cX1_undo 7 = .ok (.iconst (-1), 1) := dk_2 (dk_at dksX1_undo_0 7 rfl rfl)
theorem dX1_undo_8 : decode cX1_undo 8 = .ok (.ireturn, 1) := dk_172 (dk_at dksX1_undo_0 8 rfl rfl)
theorem dX1_undo_9 : decode cX1_undo 9 = .ok (.aload_n 0, 1) := dk_42 (dk_at dksX1_undo_0 9 rfl rfl)
theorem dX1_undo_10 : decode cX1_undo 10 = .ok (.dup, 1) := dk_89 (dk_at dksX1_undo_0 10 rfl rfl)
theorem dX1_undo_11 : decode cX1_undo 11 = .ok (.getfield 108, 3) := dk_180 0 108 (dk_at dksX1_undo_0 11 rfl rfl)
theorem dX1_undo_14 : decode cX1_undo 14 = .ok (.iconst 1, 1) := dk_4 (dk_at dksX1_undo_0 14 rfl rfl)
theorem dX1_undo_15 : decode cX1_undo 15 = .ok (.isub, 1) := dk_100 (dk_at dksX1_undo_0 15 rfl rfl)
theorem dX1_undo_16 : decode cX1_undo 16 = .ok (.putfield 108, 3) := dk_181 0 108 (dk_at dksX1_undo_0 16 rfl rfl)
theorem dX1_undo_19 : decode cX1_undo 19 = .ok (.aload_n 0, 1) := dk_42 (dk_at dksX1_undo_0 19 rfl rfl)
theorem dX1_undo_20 : decode cX1_undo 20 = .ok (.getfield 40, 3) := dk_180 0 40 (dk_at dksX1_undo_0 20 rfl rfl)
theorem dX1_undo_23 : decode cX1_undo 23 = .ok (.aload_n 0, 1) := dk_42 (dk_at dksX1_undo_0 23 rfl rfl)
theorem dX1_undo_24 : decode cX1_undo 24 = .ok (.getfield 50, 3) := dk_180 0 50 (dk_at dksX1_undo_1 0 rfl rfl)
theorem dX1_undo_27 : decode cX1_undo 27 = .ok (.aload_n 0, 1) := dk_42 (dk_at dksX1_undo_1 3 rfl rfl)
theorem dX1_undo_28 : decode cX1_undo 28 = .ok (.getfield 108, 3) := dk_180 0 108 (dk_at dksX1_undo_1 4 rfl rfl)
theorem dX1_undo_31 : decode cX1_undo 31 = .ok (.aaload, 1) := dk_50 (dk_at dksX1_undo_1 7 rfl rfl)
theorem dX1_undo_32 : decode cX1_undo 32 = .ok (.invokevirtual 115, 3) := dk_182 0 115 (dk_at dksX1_undo_1 8 rfl rfl)
theorem dX1_undo_35 : decode cX1_undo 35 = .ok (.pop, 1) := dk_87 (dk_at dksX1_undo_1 11 rfl rfl)
theorem dX1_undo_36 : decode cX1_undo 36 = .ok (.aload_n 0, 1) := dk_42 (dk_at dksX1_undo_1 12 rfl rfl)
theorem dX1_undo_37 : decode cX1_undo 37 = .ok (.getfield 108, 3) := dk_180 0 108 (dk_at dksX1_undo_1 13 rfl rfl)
theorem dX1_undo_40 : decode cX1_undo 40 = .ok (.ireturn, 1) := dk_172 (dk_at dksX1_undo_1 16 rfl rfl)
abbrev cX1_keep : ByteArray := prog_1_method_13_code
def yX1_keep : MethodName := ⟨RX1, "keep", "()I"⟩
def dkwX1_keep_1 : List UInt8 := [182, 0, 125, 172]
abbrev dktX1_keep_1 : List UInt8 := dkwX1_keep_1 ++ []
def dkwX1_keep_0 : List UInt8 := [42, 180, 0, 44, 42, 180, 0, 40, 182, 0, 115, 87, 42, 4, 181, 0, 111, 42, 42, 180, 0, 40]
abbrev dktX1_keep_0 : List UInt8 := dkwX1_keep_0 ++ dktX1_keep_1
theorem dksX1_keep_0 : cX1_keep.data.toList.drop 0 = dktX1_keep_0 := by decide +kernel
theorem dksX1_keep_1 : cX1_keep.data.toList.drop 22 = dktX1_keep_1 := dk_seg dksX1_keep_0 22 rfl rfl
theorem dX1_keep_0 : decode cX1_keep 0 = .ok (.aload_n 0, 1) := dk_42 (dk_at dksX1_keep_0 0 rfl rfl)
theorem dX1_keep_1 : decode cX1_keep 1 = .ok (.getfield 44, 3) := dk_180 0 44 (dk_at dksX1_keep_0 1 rfl rfl)
theorem dX1_keep_4 : decode cX1_keep 4 = .ok (.aload_n 0, 1) := dk_42 (dk_at dksX1_keep_0 4 rfl rfl)
theorem dX1_keep_5 : decode cX1_keep 5 = .ok (.getfield 40, 3) := dk_180 0 40 (dk_at dksX1_keep_0 5 rfl rfl)
theorem dX1_keep_8 : decode cX1_keep 8 = .ok (.invokevirtual 115, 3) := dk_182 0 115 (dk_at dksX1_keep_0 8 rfl rfl)
theorem dX1_keep_11 : decode cX1_keep 11 = .ok (.pop, 1) := dk_87 (dk_at dksX1_keep_0 11 rfl rfl)
theorem dX1_keep_12 : decode cX1_keep 12 = .ok (.aload_n 0, 1) := dk_42 (dk_at dksX1_keep_0 12 rfl rfl)
theorem dX1_keep_13 : decode cX1_keep 13 = .ok (.iconst 1, 1) := dk_4 (dk_at dksX1_keep_0 13 rfl rfl)
theorem dX1_keep_14 : decode cX1_keep 14 = .ok (.putfield 111, 3) := dk_181 0 111 (dk_at dksX1_keep_0 14 rfl rfl)
theorem dX1_keep_17 : decode cX1_keep 17 = .ok (.aload_n 0, 1) := dk_42 (dk_at dksX1_keep_0 17 rfl rfl)
theorem dX1_keep_18 : decode cX1_keep 18 = .ok (.aload_n 0, 1) := dk_42 (dk_at dksX1_keep_0 18 rfl rfl)
theorem dX1_keep_19 : decode cX1_keep 19 = .ok (.getfield 40, 3) := dk_180 0 40 (dk_at dksX1_keep_0 19 rfl rfl)
theorem dX1_keep_22 : decode cX1_keep 22 = .ok (.invokevirtual 125, 3) := dk_182 0 125 (dk_at dksX1_keep_1 0 rfl rfl)
theorem dX1_keep_25 : decode cX1_keep 25 = .ok (.ireturn, 1) := dk_172 (dk_at dksX1_keep_1 3 rfl rfl)
abbrev cX1_tuned : ByteArray := prog_1_method_12_code
def yX1_tuned : MethodName := ⟨RX1, "tuned", "(LQuietChannels$Plan;)I"⟩
def dkwX1_tuned_1 : List UInt8 := [158, 0, 7, 4, 167, 0, 4, 3, 96, 61, 132, 3, 1, 167, 255, 225, 28, 172]
abbrev dktX1_tuned_1 : List UInt8 := dkwX1_tuned_1 ++ []
def dkwX1_tuned_0 : List UInt8 := [3, 61, 3, 62, 29, 42, 180, 0, 33, 180, 0, 119, 162, 0, 26, 28, 43, 180, 0, 122, 29, 46]
abbrev dktX1_tuned_0 : List UInt8 := dkwX1_tuned_0 ++ dktX1_tuned_1
theorem dksX1_tuned_0 : cX1_tuned.data.toList.drop 0 = dktX1_tuned_0 := by decide +kernel
theorem dksX1_tuned_1 : cX1_tuned.data.toList.drop 22 = dktX1_tuned_1 := dk_seg dksX1_tuned_0 22 rfl rfl
theorem dX1_tuned_0 : decode cX1_tuned 0 = .ok (.iconst 0, 1) := dk_3 (dk_at dksX1_tuned_0 0 rfl rfl)
theorem dX1_tuned_1 : decode cX1_tuned 1 = .ok (.istore_n 2, 1) := dk_61 (dk_at dksX1_tuned_0 1 rfl rfl)
theorem dX1_tuned_2 : decode cX1_tuned 2 = .ok (.iconst 0, 1) := dk_3 (dk_at dksX1_tuned_0 2 rfl rfl)
theorem dX1_tuned_3 : decode cX1_tuned 3 = .ok (.istore_n 3, 1) := dk_62 (dk_at dksX1_tuned_0 3 rfl rfl)
theorem dX1_tuned_4 : decode cX1_tuned 4 = .ok (.iload_n 3, 1) := dk_29 (dk_at dksX1_tuned_0 4 rfl rfl)
theorem dX1_tuned_5 : decode cX1_tuned 5 = .ok (.aload_n 0, 1) := dk_42 (dk_at dksX1_tuned_0 5 rfl rfl)
theorem dX1_tuned_6 : decode cX1_tuned 6 = .ok (.getfield 33, 3) := dk_180 0 33 (dk_at dksX1_tuned_0 6 rfl rfl)
theorem dX1_tuned_9 : decode cX1_tuned 9 = .ok (.getfield 119, 3) := dk_180 0 119 (dk_at dksX1_tuned_0 9 rfl rfl)
theorem dX1_tuned_12 : decode cX1_tuned 12 = .ok (.if_icmp .ge 26, 3) := dk_162 0 26 (dk_at dksX1_tuned_0 12 rfl rfl)
theorem dX1_tuned_15 : decode cX1_tuned 15 = .ok (.iload_n 2, 1) := dk_28 (dk_at dksX1_tuned_0 15 rfl rfl)
theorem dX1_tuned_16 : decode cX1_tuned 16 = .ok (.aload_n 1, 1) := dk_43 (dk_at dksX1_tuned_0 16 rfl rfl)
theorem dX1_tuned_17 : decode cX1_tuned 17 = .ok (.getfield 122, 3) := dk_180 0 122 (dk_at dksX1_tuned_0 17 rfl rfl)
theorem dX1_tuned_20 : decode cX1_tuned 20 = .ok (.iload_n 3, 1) := dk_29 (dk_at dksX1_tuned_0 20 rfl rfl)
theorem dX1_tuned_21 : decode cX1_tuned 21 = .ok (.iaload, 1) := dk_46 (dk_at dksX1_tuned_0 21 rfl rfl)
theorem dX1_tuned_22 : decode cX1_tuned 22 = .ok (.ifCond .le 7, 3) := dk_158 0 7 (dk_at dksX1_tuned_1 0 rfl rfl)
theorem dX1_tuned_25 : decode cX1_tuned 25 = .ok (.iconst 1, 1) := dk_4 (dk_at dksX1_tuned_1 3 rfl rfl)
theorem dX1_tuned_26 : decode cX1_tuned 26 = .ok (.goto 4, 3) := dk_167 0 4 (dk_at dksX1_tuned_1 4 rfl rfl)
theorem dX1_tuned_29 : decode cX1_tuned 29 = .ok (.iconst 0, 1) := dk_3 (dk_at dksX1_tuned_1 7 rfl rfl)
theorem dX1_tuned_30 : decode cX1_tuned 30 = .ok (.iadd, 1) := dk_96 (dk_at dksX1_tuned_1 8 rfl rfl)
theorem dX1_tuned_31 : decode cX1_tuned 31 = .ok (.istore_n 2, 1) := dk_61 (dk_at dksX1_tuned_1 9 rfl rfl)
theorem dX1_tuned_32 : decode cX1_tuned 32 = .ok (.iinc 3 1, 3) := dk_132 3 1 (dk_at dksX1_tuned_1 10 rfl rfl)
theorem dX1_tuned_35 : decode cX1_tuned 35 = .ok (.goto (-31), 3) := dk_167 255 225 (dk_at dksX1_tuned_1 13 rfl rfl)
theorem dX1_tuned_38 : decode cX1_tuned 38 = .ok (.iload_n 2, 1) := dk_28 (dk_at dksX1_tuned_1 16 rfl rfl)
theorem dX1_tuned_39 : decode cX1_tuned 39 = .ok (.ireturn, 1) := dk_172 (dk_at dksX1_tuned_1 17 rfl rfl)
abbrev cX1_back : ByteArray := prog_1_method_14_code
def yX1_back : MethodName := ⟨RX1, "back", "()I"⟩
def dkwX1_back_1 : List UInt8 := [181, 0, 108, 42, 42, 180, 0, 40, 182, 0, 125, 172]
abbrev dktX1_back_1 : List UInt8 := dkwX1_back_1 ++ []
def dkwX1_back_0 : List UInt8 := [42, 180, 0, 111, 154, 0, 5, 2, 172, 42, 180, 0, 40, 42, 180, 0, 44, 182, 0, 115, 87, 42, 3]
abbrev dktX1_back_0 : List UInt8 := dkwX1_back_0 ++ dktX1_back_1
theorem dksX1_back_0 : cX1_back.data.toList.drop 0 = dktX1_back_0 := by decide +kernel
theorem dksX1_back_1 : cX1_back.data.toList.drop 23 = dktX1_back_1 := dk_seg dksX1_back_0 23 rfl rfl
theorem dX1_back_0 : decode cX1_back 0 = .ok (.aload_n 0, 1) := dk_42 (dk_at dksX1_back_0 0 rfl rfl)
theorem dX1_back_1 : decode cX1_back 1 = .ok (.getfield 111, 3) := dk_180 0 111 (dk_at dksX1_back_0 1 rfl rfl)
theorem dX1_back_4 : decode cX1_back 4 = .ok (.ifCond .ne 5, 3) := dk_154 0 5 (dk_at dksX1_back_0 4 rfl rfl)
theorem dX1_back_7 : decode cX1_back 7 = .ok (.iconst (-1), 1) := dk_2 (dk_at dksX1_back_0 7 rfl rfl)
theorem dX1_back_8 : decode cX1_back 8 = .ok (.ireturn, 1) := dk_172 (dk_at dksX1_back_0 8 rfl rfl)
theorem dX1_back_9 : decode cX1_back 9 = .ok (.aload_n 0, 1) := dk_42 (dk_at dksX1_back_0 9 rfl rfl)
theorem dX1_back_10 : decode cX1_back 10 = .ok (.getfield 40, 3) := dk_180 0 40 (dk_at dksX1_back_0 10 rfl rfl)
theorem dX1_back_13 : decode cX1_back 13 = .ok (.aload_n 0, 1) := dk_42 (dk_at dksX1_back_0 13 rfl rfl)
theorem dX1_back_14 : decode cX1_back 14 = .ok (.getfield 44, 3) := dk_180 0 44 (dk_at dksX1_back_0 14 rfl rfl)
theorem dX1_back_17 : decode cX1_back 17 = .ok (.invokevirtual 115, 3) := dk_182 0 115 (dk_at dksX1_back_0 17 rfl rfl)
theorem dX1_back_20 : decode cX1_back 20 = .ok (.pop, 1) := dk_87 (dk_at dksX1_back_0 20 rfl rfl)
theorem dX1_back_21 : decode cX1_back 21 = .ok (.aload_n 0, 1) := dk_42 (dk_at dksX1_back_0 21 rfl rfl)
theorem dX1_back_22 : decode cX1_back 22 = .ok (.iconst 0, 1) := dk_3 (dk_at dksX1_back_0 22 rfl rfl)
theorem dX1_back_23 : decode cX1_back 23 = .ok (.putfield 108, 3) := dk_181 0 108 (dk_at dksX1_back_1 0 rfl rfl)
theorem dX1_back_26 : decode cX1_back 26 = .ok (.aload_n 0, 1) := dk_42 (dk_at dksX1_back_1 3 rfl rfl)
theorem dX1_back_27 : decode cX1_back 27 = .ok (.aload_n 0, 1) := dk_42 (dk_at dksX1_back_1 4 rfl rfl)
theorem dX1_back_28 : decode cX1_back 28 = .ok (.getfield 40, 3) := dk_180 0 40 (dk_at dksX1_back_1 5 rfl rfl)
theorem dX1_back_31 : decode cX1_back 31 = .ok (.invokevirtual 125, 3) := dk_182 0 125 (dk_at dksX1_back_1 8 rfl rfl)
theorem dX1_back_34 : decode cX1_back 34 = .ok (.ireturn, 1) := dk_172 (dk_at dksX1_back_1 11 rfl rfl)
abbrev cX1_tune : ByteArray := prog_1_method_17_code
def yX1_tune : MethodName := ⟨RX1, "tune", "(II)I"⟩
def dkwX1_tune_2 : List UInt8 := [79, 29, 172]
abbrev dktX1_tune_2 : List UInt8 := dkwX1_tune_2 ++ []
def dkwX1_tune_1 : List UInt8 := [172, 42, 182, 0, 136, 42, 180, 0, 40, 180, 0, 122, 27, 46, 62, 42, 180, 0, 40, 180, 0, 122, 27, 28]
abbrev dktX1_tune_1 : List UInt8 := dkwX1_tune_1 ++ dktX1_tune_2
def dkwX1_tune_0 : List UInt8 := [42, 27, 182, 0, 132, 153, 0, 18, 28, 3, 42, 180, 0, 33, 180, 0, 129, 184, 0, 75, 154, 0, 5, 2]
abbrev dktX1_tune_0 : List UInt8 := dkwX1_tune_0 ++ dktX1_tune_1
theorem dksX1_tune_0 : cX1_tune.data.toList.drop 0 = dktX1_tune_0 := by decide +kernel
theorem dksX1_tune_1 : cX1_tune.data.toList.drop 24 = dktX1_tune_1 := dk_seg dksX1_tune_0 24 rfl rfl
theorem dksX1_tune_2 : cX1_tune.data.toList.drop 48 = dktX1_tune_2 := dk_seg dksX1_tune_1 24 rfl rfl
theorem dX1_tune_0 : decode cX1_tune 0 = .ok (.aload_n 0, 1) := dk_42 (dk_at dksX1_tune_0 0 rfl rfl)
theorem dX1_tune_1 : decode cX1_tune 1 = .ok (.iload_n 1, 1) := dk_27 (dk_at dksX1_tune_0 1 rfl rfl)
theorem dX1_tune_2 : decode cX1_tune 2 = .ok (.invokevirtual 132, 3) := dk_182 0 132 (dk_at dksX1_tune_0 2 rfl rfl)
theorem dX1_tune_5 : decode cX1_tune 5 = .ok (.ifCond .eq 18, 3) := dk_153 0 18 (dk_at dksX1_tune_0 5 rfl rfl)
theorem dX1_tune_8 : decode cX1_tune 8 = .ok (.iload_n 2, 1) := dk_28 (dk_at dksX1_tune_0 8 rfl rfl)
theorem dX1_tune_9 : decode cX1_tune 9 = .ok (.iconst 0, 1) := dk_3 (dk_at dksX1_tune_0 9 rfl rfl)
theorem dX1_tune_10 : decode cX1_tune 10 = .ok (.aload_n 0, 1) := dk_42 (dk_at dksX1_tune_0 10 rfl rfl)
theorem dX1_tune_11 : decode cX1_tune 11 = .ok (.getfield 33, 3) := dk_180 0 33 (dk_at dksX1_tune_0 11 rfl rfl)
theorem dX1_tune_14 : decode cX1_tune 14 = .ok (.getfield 129, 3) := dk_180 0 129 (dk_at dksX1_tune_0 14 rfl rfl)
theorem dX1_tune_17 : decode cX1_tune 17 = .ok (.invokestatic 75, 3) := dk_184 0 75 (dk_at dksX1_tune_0 17 rfl rfl)
theorem dX1_tune_20 : decode cX1_tune 20 = .ok (.ifCond .ne 5, 3) := dk_154 0 5 (dk_at dksX1_tune_0 20 rfl rfl)
theorem dX1_tune_23 : decode cX1_tune 23 = .ok (.iconst (-1), 1) := dk_2 (dk_at dksX1_tune_0 23 rfl rfl)
theorem dX1_tune_24 : decode cX1_tune 24 = .ok (.ireturn, 1) := dk_172 (dk_at dksX1_tune_1 0 rfl rfl)
theorem dX1_tune_25 : decode cX1_tune 25 = .ok (.aload_n 0, 1) := dk_42 (dk_at dksX1_tune_1 1 rfl rfl)
theorem dX1_tune_26 : decode cX1_tune 26 = .ok (.invokevirtual 136, 3) := dk_182 0 136 (dk_at dksX1_tune_1 2 rfl rfl)
theorem dX1_tune_29 : decode cX1_tune 29 = .ok (.aload_n 0, 1) := dk_42 (dk_at dksX1_tune_1 5 rfl rfl)
theorem dX1_tune_30 : decode cX1_tune 30 = .ok (.getfield 40, 3) := dk_180 0 40 (dk_at dksX1_tune_1 6 rfl rfl)
theorem dX1_tune_33 : decode cX1_tune 33 = .ok (.getfield 122, 3) := dk_180 0 122 (dk_at dksX1_tune_1 9 rfl rfl)
theorem dX1_tune_36 : decode cX1_tune 36 = .ok (.iload_n 1, 1) := dk_27 (dk_at dksX1_tune_1 12 rfl rfl)
theorem dX1_tune_37 : decode cX1_tune 37 = .ok (.iaload, 1) := dk_46 (dk_at dksX1_tune_1 13 rfl rfl)
theorem dX1_tune_38 : decode cX1_tune 38 = .ok (.istore_n 3, 1) := dk_62 (dk_at dksX1_tune_1 14 rfl rfl)
theorem dX1_tune_39 : decode cX1_tune 39 = .ok (.aload_n 0, 1) := dk_42 (dk_at dksX1_tune_1 15 rfl rfl)
theorem dX1_tune_40 : decode cX1_tune 40 = .ok (.getfield 40, 3) := dk_180 0 40 (dk_at dksX1_tune_1 16 rfl rfl)
theorem dX1_tune_43 : decode cX1_tune 43 = .ok (.getfield 122, 3) := dk_180 0 122 (dk_at dksX1_tune_1 19 rfl rfl)
theorem dX1_tune_46 : decode cX1_tune 46 = .ok (.iload_n 1, 1) := dk_27 (dk_at dksX1_tune_1 22 rfl rfl)
theorem dX1_tune_47 : decode cX1_tune 47 = .ok (.iload_n 2, 1) := dk_28 (dk_at dksX1_tune_1 23 rfl rfl)
theorem dX1_tune_48 : decode cX1_tune 48 = .ok (.iastore, 1) := dk_79 (dk_at dksX1_tune_2 0 rfl rfl)
theorem dX1_tune_49 : decode cX1_tune 49 = .ok (.iload_n 3, 1) := dk_29 (dk_at dksX1_tune_2 1 rfl rfl)
theorem dX1_tune_50 : decode cX1_tune 50 = .ok (.ireturn, 1) := dk_172 (dk_at dksX1_tune_2 2 rfl rfl)
abbrev cX1_isUser : ByteArray := prog_1_method_15_code
def yX1_isUser : MethodName := ⟨RX1, "isUser", "(I)Z"⟩
def dkwX1_isUser_0 : List UInt8 := [27, 3, 42, 180, 0, 33, 180, 0, 119, 4, 100, 184, 0, 75, 172]
abbrev dktX1_isUser_0 : List UInt8 := dkwX1_isUser_0 ++ []
theorem dksX1_isUser_0 : cX1_isUser.data.toList.drop 0 = dktX1_isUser_0 := by decide +kernel
theorem dX1_isUser_0 : decode cX1_isUser 0 = .ok (.iload_n 1, 1) := dk_27 (dk_at dksX1_isUser_0 0 rfl rfl)
theorem dX1_isUser_1 : decode cX1_isUser 1 = .ok (.iconst 0, 1) := dk_3 (dk_at dksX1_isUser_0 1 rfl rfl)
theorem dX1_isUser_2 : decode cX1_isUser 2 = .ok (.aload_n 0, 1) := dk_42 (dk_at dksX1_isUser_0 2 rfl rfl)
theorem dX1_isUser_3 : decode cX1_isUser 3 = .ok (.getfield 33, 3) := dk_180 0 33 (dk_at dksX1_isUser_0 3 rfl rfl)
theorem dX1_isUser_6 : decode cX1_isUser 6 = .ok (.getfield 119, 3) := dk_180 0 119 (dk_at dksX1_isUser_0 6 rfl rfl)
theorem dX1_isUser_9 : decode cX1_isUser 9 = .ok (.iconst 1, 1) := dk_4 (dk_at dksX1_isUser_0 9 rfl rfl)
theorem dX1_isUser_10 : decode cX1_isUser 10 = .ok (.isub, 1) := dk_100 (dk_at dksX1_isUser_0 10 rfl rfl)
theorem dX1_isUser_11 : decode cX1_isUser 11 = .ok (.invokestatic 75, 3) := dk_184 0 75 (dk_at dksX1_isUser_0 11 rfl rfl)
theorem dX1_isUser_14 : decode cX1_isUser 14 = .ok (.ireturn, 1) := dk_172 (dk_at dksX1_isUser_0 14 rfl rfl)
abbrev cX1_canUndo : ByteArray := prog_1_method_10_code
def yX1_canUndo : MethodName := ⟨RX1, "canUndo", "()V"⟩
def dkwX1_canUndo_4 : List UInt8 := [87, 42, 89, 180, 0, 108, 4, 96, 181, 0, 108, 177]
abbrev dktX1_canUndo_4 : List UInt8 := dkwX1_canUndo_4 ++ []
def dkwX1_canUndo_3 : List UInt8 := [187, 0, 37, 89, 183, 0, 39, 83, 42, 180, 0, 50, 42, 180, 0, 108, 50, 42, 180, 0, 40, 182, 0, 115]
abbrev dktX1_canUndo_3 : List UInt8 := dkwX1_canUndo_3 ++ dktX1_canUndo_4
def dkwX1_canUndo_2 : List UInt8 := [181, 0, 108, 42, 180, 0, 50, 42, 180, 0, 108, 50, 199, 0, 19, 42, 180, 0, 50, 42, 180, 0, 108]
abbrev dktX1_canUndo_2 : List UInt8 := dkwX1_canUndo_2 ++ dktX1_canUndo_3
def dkwX1_canUndo_1 : List UInt8 := [180, 0, 50, 3, 16, 19, 184, 0, 7, 42, 180, 0, 50, 16, 19, 43, 83, 42, 89, 180, 0, 108, 4, 100]
abbrev dktX1_canUndo_1 : List UInt8 := dkwX1_canUndo_1 ++ dktX1_canUndo_2
def dkwX1_canUndo_0 : List UInt8 := [42, 180, 0, 108, 16, 20, 160, 0, 43, 42, 180, 0, 50, 3, 50, 76, 42, 180, 0, 50, 4, 42]
abbrev dktX1_canUndo_0 : List UInt8 := dkwX1_canUndo_0 ++ dktX1_canUndo_1
theorem dksX1_canUndo_0 : cX1_canUndo.data.toList.drop 0 = dktX1_canUndo_0 := by decide +kernel
theorem dksX1_canUndo_1 : cX1_canUndo.data.toList.drop 22 = dktX1_canUndo_1 := dk_seg dksX1_canUndo_0 22 rfl rfl
theorem dksX1_canUndo_2 : cX1_canUndo.data.toList.drop 46 = dktX1_canUndo_2 := dk_seg dksX1_canUndo_1 24 rfl rfl
theorem dksX1_canUndo_3 : cX1_canUndo.data.toList.drop 69 = dktX1_canUndo_3 := dk_seg dksX1_canUndo_2 23 rfl rfl
theorem dksX1_canUndo_4 : cX1_canUndo.data.toList.drop 93 = dktX1_canUndo_4 := dk_seg dksX1_canUndo_3 24 rfl rfl
theorem dX1_canUndo_0 : decode cX1_canUndo 0 = .ok (.aload_n 0, 1) := dk_42 (dk_at dksX1_canUndo_0 0 rfl rfl)
theorem dX1_canUndo_1 : decode cX1_canUndo 1 = .ok (.getfield 108, 3) := dk_180 0 108 (dk_at dksX1_canUndo_0 1 rfl rfl)
theorem dX1_canUndo_4 : decode cX1_canUndo 4 = .ok (.bipush 20, 2) := dk_16 20 (dk_at dksX1_canUndo_0 4 rfl rfl)
theorem dX1_canUndo_6 : decode cX1_canUndo 6 = .ok (.if_icmp .ne 43, 3) := dk_160 0 43 (dk_at dksX1_canUndo_0 6 rfl rfl)
theorem dX1_canUndo_9 : decode cX1_canUndo 9 = .ok (.aload_n 0, 1) := dk_42 (dk_at dksX1_canUndo_0 9 rfl rfl)
theorem dX1_canUndo_10 : decode cX1_canUndo 10 = .ok (.getfield 50, 3) := dk_180 0 50 (dk_at dksX1_canUndo_0 10 rfl rfl)
theorem dX1_canUndo_13 : decode cX1_canUndo 13 = .ok (.iconst 0, 1) := dk_3 (dk_at dksX1_canUndo_0 13 rfl rfl)
theorem dX1_canUndo_14 : decode cX1_canUndo 14 = .ok (.aaload, 1) := dk_50 (dk_at dksX1_canUndo_0 14 rfl rfl)
theorem dX1_canUndo_15 : decode cX1_canUndo 15 = .ok (.astore_n 1, 1) := dk_76 (dk_at dksX1_canUndo_0 15 rfl rfl)
theorem dX1_canUndo_16 : decode cX1_canUndo 16 = .ok (.aload_n 0, 1) := dk_42 (dk_at dksX1_canUndo_0 16 rfl rfl)
theorem dX1_canUndo_17 : decode cX1_canUndo 17 = .ok (.getfield 50, 3) := dk_180 0 50 (dk_at dksX1_canUndo_0 17 rfl rfl)
theorem dX1_canUndo_20 : decode cX1_canUndo 20 = .ok (.iconst 1, 1) := dk_4 (dk_at dksX1_canUndo_0 20 rfl rfl)
theorem dX1_canUndo_21 : decode cX1_canUndo 21 = .ok (.aload_n 0, 1) := dk_42 (dk_at dksX1_canUndo_0 21 rfl rfl)
theorem dX1_canUndo_22 : decode cX1_canUndo 22 = .ok (.getfield 50, 3) := dk_180 0 50 (dk_at dksX1_canUndo_1 0 rfl rfl)
theorem dX1_canUndo_25 : decode cX1_canUndo 25 = .ok (.iconst 0, 1) := dk_3 (dk_at dksX1_canUndo_1 3 rfl rfl)
theorem dX1_canUndo_26 : decode cX1_canUndo 26 = .ok (.bipush 19, 2) := dk_16 19 (dk_at dksX1_canUndo_1 4 rfl rfl)
theorem dX1_canUndo_28 : decode cX1_canUndo 28 = .ok (.invokestatic 7, 3) := dk_184 0 7 (dk_at dksX1_canUndo_1 6 rfl rfl)
theorem dX1_canUndo_31 : decode cX1_canUndo 31 = .ok (.aload_n 0, 1) := dk_42 (dk_at dksX1_canUndo_1 9 rfl rfl)
theorem dX1_canUndo_32 : decode cX1_canUndo 32 = .ok (.getfield 50, 3) := dk_180 0 50 (dk_at dksX1_canUndo_1 10 rfl rfl)
theorem dX1_canUndo_35 : decode cX1_canUndo 35 = .ok (.bipush 19, 2) := dk_16 19 (dk_at dksX1_canUndo_1 13 rfl rfl)
theorem dX1_canUndo_37 : decode cX1_canUndo 37 = .ok (.aload_n 1, 1) := dk_43 (dk_at dksX1_canUndo_1 15 rfl rfl)
theorem dX1_canUndo_38 : decode cX1_canUndo 38 = .ok (.aastore, 1) := dk_83 (dk_at dksX1_canUndo_1 16 rfl rfl)
theorem dX1_canUndo_39 : decode cX1_canUndo 39 = .ok (.aload_n 0, 1) := dk_42 (dk_at dksX1_canUndo_1 17 rfl rfl)
theorem dX1_canUndo_40 : decode cX1_canUndo 40 = .ok (.dup, 1) := dk_89 (dk_at dksX1_canUndo_1 18 rfl rfl)
theorem dX1_canUndo_41 : decode cX1_canUndo 41 = .ok (.getfield 108, 3) := dk_180 0 108 (dk_at dksX1_canUndo_1 19 rfl rfl)
theorem dX1_canUndo_44 : decode cX1_canUndo 44 = .ok (.iconst 1, 1) := dk_4 (dk_at dksX1_canUndo_1 22 rfl rfl)
theorem dX1_canUndo_45 : decode cX1_canUndo 45 = .ok (.isub, 1) := dk_100 (dk_at dksX1_canUndo_1 23 rfl rfl)
theorem dX1_canUndo_46 : decode cX1_canUndo 46 = .ok (.putfield 108, 3) := dk_181 0 108 (dk_at dksX1_canUndo_2 0 rfl rfl)
theorem dX1_canUndo_49 : decode cX1_canUndo 49 = .ok (.aload_n 0, 1) := dk_42 (dk_at dksX1_canUndo_2 3 rfl rfl)
theorem dX1_canUndo_50 : decode cX1_canUndo 50 = .ok (.getfield 50, 3) := dk_180 0 50 (dk_at dksX1_canUndo_2 4 rfl rfl)
theorem dX1_canUndo_53 : decode cX1_canUndo 53 = .ok (.aload_n 0, 1) := dk_42 (dk_at dksX1_canUndo_2 7 rfl rfl)
theorem dX1_canUndo_54 : decode cX1_canUndo 54 = .ok (.getfield 108, 3) := dk_180 0 108 (dk_at dksX1_canUndo_2 8 rfl rfl)
theorem dX1_canUndo_57 : decode cX1_canUndo 57 = .ok (.aaload, 1) := dk_50 (dk_at dksX1_canUndo_2 11 rfl rfl)
theorem dX1_canUndo_58 : decode cX1_canUndo 58 = .ok (.ifnonnull 19, 3) := dk_199 0 19 (dk_at dksX1_canUndo_2 12 rfl rfl)
theorem dX1_canUndo_61 : decode cX1_canUndo 61 = .ok (.aload_n 0, 1) := dk_42 (dk_at dksX1_canUndo_2 15 rfl rfl)
theorem dX1_canUndo_62 : decode cX1_canUndo 62 = .ok (.getfield 50, 3) := dk_180 0 50 (dk_at dksX1_canUndo_2 16 rfl rfl)
theorem dX1_canUndo_65 : decode cX1_canUndo 65 = .ok (.aload_n 0, 1) := dk_42 (dk_at dksX1_canUndo_2 19 rfl rfl)
theorem dX1_canUndo_66 : decode cX1_canUndo 66 = .ok (.getfield 108, 3) := dk_180 0 108 (dk_at dksX1_canUndo_2 20 rfl rfl)
theorem dX1_canUndo_69 : decode cX1_canUndo 69 = .ok (.new 37, 3) := dk_187 0 37 (dk_at dksX1_canUndo_3 0 rfl rfl)
theorem dX1_canUndo_72 : decode cX1_canUndo 72 = .ok (.dup, 1) := dk_89 (dk_at dksX1_canUndo_3 3 rfl rfl)
theorem dX1_canUndo_73 : decode cX1_canUndo 73 = .ok (.invokespecial 39, 3) := dk_183 0 39 (dk_at dksX1_canUndo_3 4 rfl rfl)
theorem dX1_canUndo_76 : decode cX1_canUndo 76 = .ok (.aastore, 1) := dk_83 (dk_at dksX1_canUndo_3 7 rfl rfl)
theorem dX1_canUndo_77 : decode cX1_canUndo 77 = .ok (.aload_n 0, 1) := dk_42 (dk_at dksX1_canUndo_3 8 rfl rfl)
theorem dX1_canUndo_78 : decode cX1_canUndo 78 = .ok (.getfield 50, 3) := dk_180 0 50 (dk_at dksX1_canUndo_3 9 rfl rfl)
theorem dX1_canUndo_81 : decode cX1_canUndo 81 = .ok (.aload_n 0, 1) := dk_42 (dk_at dksX1_canUndo_3 12 rfl rfl)
theorem dX1_canUndo_82 : decode cX1_canUndo 82 = .ok (.getfield 108, 3) := dk_180 0 108 (dk_at dksX1_canUndo_3 13 rfl rfl)
theorem dX1_canUndo_85 : decode cX1_canUndo 85 = .ok (.aaload, 1) := dk_50 (dk_at dksX1_canUndo_3 16 rfl rfl)
theorem dX1_canUndo_86 : decode cX1_canUndo 86 = .ok (.aload_n 0, 1) := dk_42 (dk_at dksX1_canUndo_3 17 rfl rfl)
theorem dX1_canUndo_87 : decode cX1_canUndo 87 = .ok (.getfield 40, 3) := dk_180 0 40 (dk_at dksX1_canUndo_3 18 rfl rfl)
theorem dX1_canUndo_90 : decode cX1_canUndo 90 = .ok (.invokevirtual 115, 3) := dk_182 0 115 (dk_at dksX1_canUndo_3 21 rfl rfl)
theorem dX1_canUndo_93 : decode cX1_canUndo 93 = .ok (.pop, 1) := dk_87 (dk_at dksX1_canUndo_4 0 rfl rfl)
theorem dX1_canUndo_94 : decode cX1_canUndo 94 = .ok (.aload_n 0, 1) := dk_42 (dk_at dksX1_canUndo_4 1 rfl rfl)
theorem dX1_canUndo_95 : decode cX1_canUndo 95 = .ok (.dup, 1) := dk_89 (dk_at dksX1_canUndo_4 2 rfl rfl)
theorem dX1_canUndo_96 : decode cX1_canUndo 96 = .ok (.getfield 108, 3) := dk_180 0 108 (dk_at dksX1_canUndo_4 3 rfl rfl)
theorem dX1_canUndo_99 : decode cX1_canUndo 99 = .ok (.iconst 1, 1) := dk_4 (dk_at dksX1_canUndo_4 6 rfl rfl)
theorem dX1_canUndo_100 : decode cX1_canUndo 100 = .ok (.iadd, 1) := dk_96 (dk_at dksX1_canUndo_4 7 rfl rfl)
theorem dX1_canUndo_101 : decode cX1_canUndo 101 = .ok (.putfield 108, 3) := dk_181 0 108 (dk_at dksX1_canUndo_4 8 rfl rfl)
theorem dX1_canUndo_104 : decode cX1_canUndo 104 = .ok (.return_, 1) := dk_177 (dk_at dksX1_canUndo_4 11 rfl rfl)
abbrev cX1_block : ByteArray := prog_1_method_18_code
def yX1_block : MethodName := ⟨RX1, "block", "(I)I"⟩
def dkwX1_block_2 : List UInt8 := [27, 51, 153, 0, 7, 4, 167, 0, 4, 3, 172]
abbrev dktX1_block_2 : List UInt8 := dkwX1_block_2 ++ []
def dkwX1_block_1 : List UInt8 := [180, 0, 40, 180, 0, 142, 27, 51, 154, 0, 7, 4, 167, 0, 4, 3, 84, 42, 180, 0, 40, 180, 0, 142]
abbrev dktX1_block_1 : List UInt8 := dkwX1_block_1 ++ dktX1_block_2
def dkwX1_block_0 : List UInt8 := [42, 27, 182, 0, 139, 154, 0, 5, 2, 172, 42, 182, 0, 136, 42, 180, 0, 40, 180, 0, 142, 27, 42]
abbrev dktX1_block_0 : List UInt8 := dkwX1_block_0 ++ dktX1_block_1
theorem dksX1_block_0 : cX1_block.data.toList.drop 0 = dktX1_block_0 := by decide +kernel
theorem dksX1_block_1 : cX1_block.data.toList.drop 23 = dktX1_block_1 := dk_seg dksX1_block_0 23 rfl rfl
theorem dksX1_block_2 : cX1_block.data.toList.drop 47 = dktX1_block_2 := dk_seg dksX1_block_1 24 rfl rfl
theorem dX1_block_0 : decode cX1_block 0 = .ok (.aload_n 0, 1) := dk_42 (dk_at dksX1_block_0 0 rfl rfl)
theorem dX1_block_1 : decode cX1_block 1 = .ok (.iload_n 1, 1) := dk_27 (dk_at dksX1_block_0 1 rfl rfl)
theorem dX1_block_2 : decode cX1_block 2 = .ok (.invokevirtual 139, 3) := dk_182 0 139 (dk_at dksX1_block_0 2 rfl rfl)
theorem dX1_block_5 : decode cX1_block 5 = .ok (.ifCond .ne 5, 3) := dk_154 0 5 (dk_at dksX1_block_0 5 rfl rfl)
theorem dX1_block_8 : decode cX1_block 8 = .ok (.iconst (-1), 1) := dk_2 (dk_at dksX1_block_0 8 rfl rfl)
theorem dX1_block_9 : decode cX1_block 9 = .ok (.ireturn, 1) := dk_172 (dk_at dksX1_block_0 9 rfl rfl)
theorem dX1_block_10 : decode cX1_block 10 = .ok (.aload_n 0, 1) := dk_42 (dk_at dksX1_block_0 10 rfl rfl)
theorem dX1_block_11 : decode cX1_block 11 = .ok (.invokevirtual 136, 3) := dk_182 0 136 (dk_at dksX1_block_0 11 rfl rfl)
theorem dX1_block_14 : decode cX1_block 14 = .ok (.aload_n 0, 1) := dk_42 (dk_at dksX1_block_0 14 rfl rfl)
theorem dX1_block_15 : decode cX1_block 15 = .ok (.getfield 40, 3) := dk_180 0 40 (dk_at dksX1_block_0 15 rfl rfl)
theorem dX1_block_18 : decode cX1_block 18 = .ok (.getfield 142, 3) := dk_180 0 142 (dk_at dksX1_block_0 18 rfl rfl)
theorem dX1_block_21 : decode cX1_block 21 = .ok (.iload_n 1, 1) := dk_27 (dk_at dksX1_block_0 21 rfl rfl)
theorem dX1_block_22 : decode cX1_block 22 = .ok (.aload_n 0, 1) := dk_42 (dk_at dksX1_block_0 22 rfl rfl)
theorem dX1_block_23 : decode cX1_block 23 = .ok (.getfield 40, 3) := dk_180 0 40 (dk_at dksX1_block_1 0 rfl rfl)
theorem dX1_block_26 : decode cX1_block 26 = .ok (.getfield 142, 3) := dk_180 0 142 (dk_at dksX1_block_1 3 rfl rfl)
theorem dX1_block_29 : decode cX1_block 29 = .ok (.iload_n 1, 1) := dk_27 (dk_at dksX1_block_1 6 rfl rfl)
theorem dX1_block_30 : decode cX1_block 30 = .ok (.baload, 1) := dk_51 (dk_at dksX1_block_1 7 rfl rfl)
theorem dX1_block_31 : decode cX1_block 31 = .ok (.ifCond .ne 7, 3) := dk_154 0 7 (dk_at dksX1_block_1 8 rfl rfl)
theorem dX1_block_34 : decode cX1_block 34 = .ok (.iconst 1, 1) := dk_4 (dk_at dksX1_block_1 11 rfl rfl)
theorem dX1_block_35 : decode cX1_block 35 = .ok (.goto 4, 3) := dk_167 0 4 (dk_at dksX1_block_1 12 rfl rfl)
theorem dX1_block_38 : decode cX1_block 38 = .ok (.iconst 0, 1) := dk_3 (dk_at dksX1_block_1 15 rfl rfl)
theorem dX1_block_39 : decode cX1_block 39 = .ok (.bastore, 1) := dk_84 (dk_at dksX1_block_1 16 rfl rfl)
theorem dX1_block_40 : decode cX1_block 40 = .ok (.aload_n 0, 1) := dk_42 (dk_at dksX1_block_1 17 rfl rfl)
theorem dX1_block_41 : decode cX1_block 41 = .ok (.getfield 40, 3) := dk_180 0 40 (dk_at dksX1_block_1 18 rfl rfl)
theorem dX1_block_44 : decode cX1_block 44 = .ok (.getfield 142, 3) := dk_180 0 142 (dk_at dksX1_block_1 21 rfl rfl)
theorem dX1_block_47 : decode cX1_block 47 = .ok (.iload_n 1, 1) := dk_27 (dk_at dksX1_block_2 0 rfl rfl)
theorem dX1_block_48 : decode cX1_block 48 = .ok (.baload, 1) := dk_51 (dk_at dksX1_block_2 1 rfl rfl)
theorem dX1_block_49 : decode cX1_block 49 = .ok (.ifCond .eq 7, 3) := dk_153 0 7 (dk_at dksX1_block_2 2 rfl rfl)
theorem dX1_block_52 : decode cX1_block 52 = .ok (.iconst 1, 1) := dk_4 (dk_at dksX1_block_2 5 rfl rfl)
theorem dX1_block_53 : decode cX1_block 53 = .ok (.goto 4, 3) := dk_167 0 4 (dk_at dksX1_block_2 6 rfl rfl)
theorem dX1_block_56 : decode cX1_block 56 = .ok (.iconst 0, 1) := dk_3 (dk_at dksX1_block_2 9 rfl rfl)
theorem dX1_block_57 : decode cX1_block 57 = .ok (.ireturn, 1) := dk_172 (dk_at dksX1_block_2 10 rfl rfl)
abbrev cX1_isChannel : ByteArray := prog_1_method_16_code
def yX1_isChannel : MethodName := ⟨RX1, "isChannel", "(I)Z"⟩
def dkwX1_isChannel_0 : List UInt8 := [27, 4, 42, 180, 0, 33, 180, 0, 129, 184, 0, 75, 172]
abbrev dktX1_isChannel_0 : List UInt8 := dkwX1_isChannel_0 ++ []
theorem dksX1_isChannel_0 : cX1_isChannel.data.toList.drop 0 = dktX1_isChannel_0 := by decide +kernel
theorem dX1_isChannel_0 : decode cX1_isChannel 0 = .ok (.iload_n 1, 1) := dk_27 (dk_at dksX1_isChannel_0 0 rfl rfl)
theorem dX1_isChannel_1 : decode cX1_isChannel 1 = .ok (.iconst 1, 1) := dk_4 (dk_at dksX1_isChannel_0 1 rfl rfl)
theorem dX1_isChannel_2 : decode cX1_isChannel 2 = .ok (.aload_n 0, 1) := dk_42 (dk_at dksX1_isChannel_0 2 rfl rfl)
theorem dX1_isChannel_3 : decode cX1_isChannel 3 = .ok (.getfield 33, 3) := dk_180 0 33 (dk_at dksX1_isChannel_0 3 rfl rfl)
theorem dX1_isChannel_6 : decode cX1_isChannel 6 = .ok (.getfield 129, 3) := dk_180 0 129 (dk_at dksX1_isChannel_0 6 rfl rfl)
theorem dX1_isChannel_9 : decode cX1_isChannel 9 = .ok (.invokestatic 75, 3) := dk_184 0 75 (dk_at dksX1_isChannel_0 9 rfl rfl)
theorem dX1_isChannel_12 : decode cX1_isChannel 12 = .ok (.ireturn, 1) := dk_172 (dk_at dksX1_isChannel_0 12 rfl rfl)
abbrev cX1_power : ByteArray := prog_1_method_19_code
def yX1_power : MethodName := ⟨RX1, "power", "(II)I"⟩
def dkwX1_power_1 : List UInt8 := [42, 180, 0, 40, 180, 0, 146, 27, 46, 62, 42, 180, 0, 40, 180, 0, 146, 27, 28, 79, 29, 172]
abbrev dktX1_power_1 : List UInt8 := dkwX1_power_1 ++ []
def dkwX1_power_0 : List UInt8 := [42, 27, 182, 0, 132, 153, 0, 13, 28, 3, 16, 30, 184, 0, 75, 154, 0, 5, 2, 172, 42, 182, 0, 136]
abbrev dktX1_power_0 : List UInt8 := dkwX1_power_0 ++ dktX1_power_1
theorem dksX1_power_0 : cX1_power.data.toList.drop 0 = dktX1_power_0 := by decide +kernel
theorem dksX1_power_1 : cX1_power.data.toList.drop 24 = dktX1_power_1 := dk_seg dksX1_power_0 24 rfl rfl
theorem dX1_power_0 : decode cX1_power 0 = .ok (.aload_n 0, 1) := dk_42 (dk_at dksX1_power_0 0 rfl rfl)
theorem dX1_power_1 : decode cX1_power 1 = .ok (.iload_n 1, 1) := dk_27 (dk_at dksX1_power_0 1 rfl rfl)
theorem dX1_power_2 : decode cX1_power 2 = .ok (.invokevirtual 132, 3) := dk_182 0 132 (dk_at dksX1_power_0 2 rfl rfl)
theorem dX1_power_5 : decode cX1_power 5 = .ok (.ifCond .eq 13, 3) := dk_153 0 13 (dk_at dksX1_power_0 5 rfl rfl)
theorem dX1_power_8 : decode cX1_power 8 = .ok (.iload_n 2, 1) := dk_28 (dk_at dksX1_power_0 8 rfl rfl)
theorem dX1_power_9 : decode cX1_power 9 = .ok (.iconst 0, 1) := dk_3 (dk_at dksX1_power_0 9 rfl rfl)
theorem dX1_power_10 : decode cX1_power 10 = .ok (.bipush 30, 2) := dk_16 30 (dk_at dksX1_power_0 10 rfl rfl)
theorem dX1_power_12 : decode cX1_power 12 = .ok (.invokestatic 75, 3) := dk_184 0 75 (dk_at dksX1_power_0 12 rfl rfl)
theorem dX1_power_15 : decode cX1_power 15 = .ok (.ifCond .ne 5, 3) := dk_154 0 5 (dk_at dksX1_power_0 15 rfl rfl)
theorem dX1_power_18 : decode cX1_power 18 = .ok (.iconst (-1), 1) := dk_2 (dk_at dksX1_power_0 18 rfl rfl)
theorem dX1_power_19 : decode cX1_power 19 = .ok (.ireturn, 1) := dk_172 (dk_at dksX1_power_0 19 rfl rfl)
theorem dX1_power_20 : decode cX1_power 20 = .ok (.aload_n 0, 1) := dk_42 (dk_at dksX1_power_0 20 rfl rfl)
theorem dX1_power_21 : decode cX1_power 21 = .ok (.invokevirtual 136, 3) := dk_182 0 136 (dk_at dksX1_power_0 21 rfl rfl)
theorem dX1_power_24 : decode cX1_power 24 = .ok (.aload_n 0, 1) := dk_42 (dk_at dksX1_power_1 0 rfl rfl)
theorem dX1_power_25 : decode cX1_power 25 = .ok (.getfield 40, 3) := dk_180 0 40 (dk_at dksX1_power_1 1 rfl rfl)
theorem dX1_power_28 : decode cX1_power 28 = .ok (.getfield 146, 3) := dk_180 0 146 (dk_at dksX1_power_1 4 rfl rfl)
theorem dX1_power_31 : decode cX1_power 31 = .ok (.iload_n 1, 1) := dk_27 (dk_at dksX1_power_1 7 rfl rfl)
theorem dX1_power_32 : decode cX1_power 32 = .ok (.iaload, 1) := dk_46 (dk_at dksX1_power_1 8 rfl rfl)
theorem dX1_power_33 : decode cX1_power 33 = .ok (.istore_n 3, 1) := dk_62 (dk_at dksX1_power_1 9 rfl rfl)
theorem dX1_power_34 : decode cX1_power 34 = .ok (.aload_n 0, 1) := dk_42 (dk_at dksX1_power_1 10 rfl rfl)
theorem dX1_power_35 : decode cX1_power 35 = .ok (.getfield 40, 3) := dk_180 0 40 (dk_at dksX1_power_1 11 rfl rfl)
theorem dX1_power_38 : decode cX1_power 38 = .ok (.getfield 146, 3) := dk_180 0 146 (dk_at dksX1_power_1 14 rfl rfl)
theorem dX1_power_41 : decode cX1_power 41 = .ok (.iload_n 1, 1) := dk_27 (dk_at dksX1_power_1 17 rfl rfl)
theorem dX1_power_42 : decode cX1_power 42 = .ok (.iload_n 2, 1) := dk_28 (dk_at dksX1_power_1 18 rfl rfl)
theorem dX1_power_43 : decode cX1_power 43 = .ok (.iastore, 1) := dk_79 (dk_at dksX1_power_1 19 rfl rfl)
theorem dX1_power_44 : decode cX1_power 44 = .ok (.iload_n 3, 1) := dk_29 (dk_at dksX1_power_1 20 rfl rfl)
theorem dX1_power_45 : decode cX1_power 45 = .ok (.ireturn, 1) := dk_172 (dk_at dksX1_power_1 21 rfl rfl)
abbrev cX1_slots : ByteArray := prog_1_method_20_code
def yX1_slots : MethodName := ⟨RX1, "slots", "(II)I"⟩
def dkwX1_slots_2 : List UInt8 := [172]
abbrev dktX1_slots_2 : List UInt8 := dkwX1_slots_2 ++ []
def dkwX1_slots_1 : List UInt8 := [182, 0, 136, 42, 180, 0, 40, 180, 0, 149, 27, 46, 62, 42, 180, 0, 40, 180, 0, 149, 27, 28, 79, 29]
abbrev dktX1_slots_1 : List UInt8 := dkwX1_slots_1 ++ dktX1_slots_2
def dkwX1_slots_0 : List UInt8 := [42, 27, 182, 0, 132, 153, 0, 14, 28, 4, 17, 0, 255, 184, 0, 75, 154, 0, 5, 2, 172, 42]
abbrev dktX1_slots_0 : List UInt8 := dkwX1_slots_0 ++ dktX1_slots_1
theorem dksX1_slots_0 : cX1_slots.data.toList.drop 0 = dktX1_slots_0 := by decide +kernel
theorem dksX1_slots_1 : cX1_slots.data.toList.drop 22 = dktX1_slots_1 := dk_seg dksX1_slots_0 22 rfl rfl
theorem dksX1_slots_2 : cX1_slots.data.toList.drop 46 = dktX1_slots_2 := dk_seg dksX1_slots_1 24 rfl rfl
theorem dX1_slots_0 : decode cX1_slots 0 = .ok (.aload_n 0, 1) := dk_42 (dk_at dksX1_slots_0 0 rfl rfl)
theorem dX1_slots_1 : decode cX1_slots 1 = .ok (.iload_n 1, 1) := dk_27 (dk_at dksX1_slots_0 1 rfl rfl)
theorem dX1_slots_2 : decode cX1_slots 2 = .ok (.invokevirtual 132, 3) := dk_182 0 132 (dk_at dksX1_slots_0 2 rfl rfl)
theorem dX1_slots_5 : decode cX1_slots 5 = .ok (.ifCond .eq 14, 3) := dk_153 0 14 (dk_at dksX1_slots_0 5 rfl rfl)
theorem dX1_slots_8 : decode cX1_slots 8 = .ok (.iload_n 2, 1) := dk_28 (dk_at dksX1_slots_0 8 rfl rfl)
theorem dX1_slots_9 : decode cX1_slots 9 = .ok (.iconst 1, 1) := dk_4 (dk_at dksX1_slots_0 9 rfl rfl)
theorem dX1_slots_10 : decode cX1_slots 10 = .ok (.sipush 255, 3) := dk_17 0 255 (dk_at dksX1_slots_0 10 rfl rfl)
theorem dX1_slots_13 : decode cX1_slots 13 = .ok (.invokestatic 75, 3) := dk_184 0 75 (dk_at dksX1_slots_0 13 rfl rfl)
theorem dX1_slots_16 : decode cX1_slots 16 = .ok (.ifCond .ne 5, 3) := dk_154 0 5 (dk_at dksX1_slots_0 16 rfl rfl)
theorem dX1_slots_19 : decode cX1_slots 19 = .ok (.iconst (-1), 1) := dk_2 (dk_at dksX1_slots_0 19 rfl rfl)
theorem dX1_slots_20 : decode cX1_slots 20 = .ok (.ireturn, 1) := dk_172 (dk_at dksX1_slots_0 20 rfl rfl)
theorem dX1_slots_21 : decode cX1_slots 21 = .ok (.aload_n 0, 1) := dk_42 (dk_at dksX1_slots_0 21 rfl rfl)
theorem dX1_slots_22 : decode cX1_slots 22 = .ok (.invokevirtual 136, 3) := dk_182 0 136 (dk_at dksX1_slots_1 0 rfl rfl)
theorem dX1_slots_25 : decode cX1_slots 25 = .ok (.aload_n 0, 1) := dk_42 (dk_at dksX1_slots_1 3 rfl rfl)
theorem dX1_slots_26 : decode cX1_slots 26 = .ok (.getfield 40, 3) := dk_180 0 40 (dk_at dksX1_slots_1 4 rfl rfl)
theorem dX1_slots_29 : decode cX1_slots 29 = .ok (.getfield 149, 3) := dk_180 0 149 (dk_at dksX1_slots_1 7 rfl rfl)
theorem dX1_slots_32 : decode cX1_slots 32 = .ok (.iload_n 1, 1) := dk_27 (dk_at dksX1_slots_1 10 rfl rfl)
theorem dX1_slots_33 : decode cX1_slots 33 = .ok (.iaload, 1) := dk_46 (dk_at dksX1_slots_1 11 rfl rfl)
theorem dX1_slots_34 : decode cX1_slots 34 = .ok (.istore_n 3, 1) := dk_62 (dk_at dksX1_slots_1 12 rfl rfl)
theorem dX1_slots_35 : decode cX1_slots 35 = .ok (.aload_n 0, 1) := dk_42 (dk_at dksX1_slots_1 13 rfl rfl)
theorem dX1_slots_36 : decode cX1_slots 36 = .ok (.getfield 40, 3) := dk_180 0 40 (dk_at dksX1_slots_1 14 rfl rfl)
theorem dX1_slots_39 : decode cX1_slots 39 = .ok (.getfield 149, 3) := dk_180 0 149 (dk_at dksX1_slots_1 17 rfl rfl)
theorem dX1_slots_42 : decode cX1_slots 42 = .ok (.iload_n 1, 1) := dk_27 (dk_at dksX1_slots_1 20 rfl rfl)
theorem dX1_slots_43 : decode cX1_slots 43 = .ok (.iload_n 2, 1) := dk_28 (dk_at dksX1_slots_1 21 rfl rfl)
theorem dX1_slots_44 : decode cX1_slots 44 = .ok (.iastore, 1) := dk_79 (dk_at dksX1_slots_1 22 rfl rfl)
theorem dX1_slots_45 : decode cX1_slots 45 = .ok (.iload_n 3, 1) := dk_29 (dk_at dksX1_slots_1 23 rfl rfl)
theorem dX1_slots_46 : decode cX1_slots 46 = .ok (.ireturn, 1) := dk_172 (dk_at dksX1_slots_2 0 rfl rfl)
abbrev cX1_complete : ByteArray := prog_1_method_26_code
def yX1_complete : MethodName := ⟨RX1, "complete", "()I"⟩
def dkwX1_complete_2 : List UInt8 := [42, 182, 0, 136, 42, 180, 0, 40, 42, 180, 0, 47, 182, 0, 115, 87, 43, 180, 0, 195, 172]
abbrev dktX1_complete_2 : List UInt8 := dkwX1_complete_2 ++ []
def dkwX1_complete_1 : List UInt8 := [183, 0, 189, 76, 43, 182, 0, 192, 61, 28, 153, 0, 5, 28, 172, 43, 180, 0, 195, 154, 0, 5, 3, 172]
abbrev dktX1_complete_1 : List UInt8 := dkwX1_complete_1 ++ dktX1_complete_2
def dkwX1_complete_0 : List UInt8 := [187, 0, 184, 89, 42, 42, 180, 0, 47, 42, 180, 0, 40, 182, 0, 115, 42, 42, 180, 0, 40, 182, 0, 186]
abbrev dktX1_complete_0 : List UInt8 := dkwX1_complete_0 ++ dktX1_complete_1
theorem dksX1_complete_0 : cX1_complete.data.toList.drop 0 = dktX1_complete_0 := by decide +kernel
theorem dksX1_complete_1 : cX1_complete.data.toList.drop 24 = dktX1_complete_1 := dk_seg dksX1_complete_0 24 rfl rfl
theorem dksX1_complete_2 : cX1_complete.data.toList.drop 48 = dktX1_complete_2 := dk_seg dksX1_complete_1 24 rfl rfl
theorem dX1_complete_0 : decode cX1_complete 0 = .ok (.new 184, 3) := dk_187 0 184 (dk_at dksX1_complete_0 0 rfl rfl)
theorem dX1_complete_3 : decode cX1_complete 3 = .ok (.dup, 1) := dk_89 (dk_at dksX1_complete_0 3 rfl rfl)
theorem dX1_complete_4 : decode cX1_complete 4 = .ok (.aload_n 0, 1) := dk_42 (dk_at dksX1_complete_0 4 rfl rfl)
theorem dX1_complete_5 : decode cX1_complete 5 = .ok (.aload_n 0, 1) := dk_42 (dk_at dksX1_complete_0 5 rfl rfl)
theorem dX1_complete_6 : decode cX1_complete 6 = .ok (.getfield 47, 3) := dk_180 0 47 (dk_at dksX1_complete_0 6 rfl rfl)
theorem dX1_complete_9 : decode cX1_complete 9 = .ok (.aload_n 0, 1) := dk_42 (dk_at dksX1_complete_0 9 rfl rfl)
theorem dX1_complete_10 : decode cX1_complete 10 = .ok (.getfield 40, 3) := dk_180 0 40 (dk_at dksX1_complete_0 10 rfl rfl)
theorem dX1_complete_13 : decode cX1_complete 13 = .ok (.invokevirtual 115, 3) := dk_182 0 115 (dk_at dksX1_complete_0 13 rfl rfl)
theorem dX1_complete_16 : decode cX1_complete 16 = .ok (.aload_n 0, 1) := dk_42 (dk_at dksX1_complete_0 16 rfl rfl)
theorem dX1_complete_17 : decode cX1_complete 17 = .ok (.aload_n 0, 1) := dk_42 (dk_at dksX1_complete_0 17 rfl rfl)
theorem dX1_complete_18 : decode cX1_complete 18 = .ok (.getfield 40, 3) := dk_180 0 40 (dk_at dksX1_complete_0 18 rfl rfl)
theorem dX1_complete_21 : decode cX1_complete 21 = .ok (.invokevirtual 186, 3) := dk_182 0 186 (dk_at dksX1_complete_0 21 rfl rfl)
theorem dX1_complete_24 : decode cX1_complete 24 = .ok (.invokespecial 189, 3) := dk_183 0 189 (dk_at dksX1_complete_1 0 rfl rfl)
theorem dX1_complete_27 : decode cX1_complete 27 = .ok (.astore_n 1, 1) := dk_76 (dk_at dksX1_complete_1 3 rfl rfl)
theorem dX1_complete_28 : decode cX1_complete 28 = .ok (.aload_n 1, 1) := dk_43 (dk_at dksX1_complete_1 4 rfl rfl)
theorem dX1_complete_29 : decode cX1_complete 29 = .ok (.invokevirtual 192, 3) := dk_182 0 192 (dk_at dksX1_complete_1 5 rfl rfl)
theorem dX1_complete_32 : decode cX1_complete 32 = .ok (.istore_n 2, 1) := dk_61 (dk_at dksX1_complete_1 8 rfl rfl)
theorem dX1_complete_33 : decode cX1_complete 33 = .ok (.iload_n 2, 1) := dk_28 (dk_at dksX1_complete_1 9 rfl rfl)
theorem dX1_complete_34 : decode cX1_complete 34 = .ok (.ifCond .eq 5, 3) := dk_153 0 5 (dk_at dksX1_complete_1 10 rfl rfl)
theorem dX1_complete_37 : decode cX1_complete 37 = .ok (.iload_n 2, 1) := dk_28 (dk_at dksX1_complete_1 13 rfl rfl)
theorem dX1_complete_38 : decode cX1_complete 38 = .ok (.ireturn, 1) := dk_172 (dk_at dksX1_complete_1 14 rfl rfl)
theorem dX1_complete_39 : decode cX1_complete 39 = .ok (.aload_n 1, 1) := dk_43 (dk_at dksX1_complete_1 15 rfl rfl)
theorem dX1_complete_40 : decode cX1_complete 40 = .ok (.getfield 195, 3) := dk_180 0 195 (dk_at dksX1_complete_1 16 rfl rfl)
theorem dX1_complete_43 : decode cX1_complete 43 = .ok (.ifCond .ne 5, 3) := dk_154 0 5 (dk_at dksX1_complete_1 19 rfl rfl)
theorem dX1_complete_46 : decode cX1_complete 46 = .ok (.iconst 0, 1) := dk_3 (dk_at dksX1_complete_1 22 rfl rfl)
theorem dX1_complete_47 : decode cX1_complete 47 = .ok (.ireturn, 1) := dk_172 (dk_at dksX1_complete_1 23 rfl rfl)
theorem dX1_complete_48 : decode cX1_complete 48 = .ok (.aload_n 0, 1) := dk_42 (dk_at dksX1_complete_2 0 rfl rfl)
theorem dX1_complete_49 : decode cX1_complete 49 = .ok (.invokevirtual 136, 3) := dk_182 0 136 (dk_at dksX1_complete_2 1 rfl rfl)
theorem dX1_complete_52 : decode cX1_complete 52 = .ok (.aload_n 0, 1) := dk_42 (dk_at dksX1_complete_2 4 rfl rfl)
theorem dX1_complete_53 : decode cX1_complete 53 = .ok (.getfield 40, 3) := dk_180 0 40 (dk_at dksX1_complete_2 5 rfl rfl)
theorem dX1_complete_56 : decode cX1_complete 56 = .ok (.aload_n 0, 1) := dk_42 (dk_at dksX1_complete_2 8 rfl rfl)
theorem dX1_complete_57 : decode cX1_complete 57 = .ok (.getfield 47, 3) := dk_180 0 47 (dk_at dksX1_complete_2 9 rfl rfl)
theorem dX1_complete_60 : decode cX1_complete 60 = .ok (.invokevirtual 115, 3) := dk_182 0 115 (dk_at dksX1_complete_2 12 rfl rfl)
theorem dX1_complete_63 : decode cX1_complete 63 = .ok (.pop, 1) := dk_87 (dk_at dksX1_complete_2 15 rfl rfl)
theorem dX1_complete_64 : decode cX1_complete 64 = .ok (.aload_n 1, 1) := dk_43 (dk_at dksX1_complete_2 16 rfl rfl)
theorem dX1_complete_65 : decode cX1_complete 65 = .ok (.getfield 195, 3) := dk_180 0 195 (dk_at dksX1_complete_2 17 rfl rfl)
theorem dX1_complete_68 : decode cX1_complete 68 = .ok (.ireturn, 1) := dk_172 (dk_at dksX1_complete_2 20 rfl rfl)
abbrev cX1_untuned : ByteArray := prog_1_method_25_code
def yX1_untuned : MethodName := ⟨RX1, "untuned", "(LQuietChannels$Plan;)I"⟩
def dkwX1_untuned_1 : List UInt8 := [154, 0, 9, 4, 29, 120, 167, 0, 4, 3, 128, 61, 132, 3, 1, 167, 255, 223, 28, 172]
abbrev dktX1_untuned_1 : List UInt8 := dkwX1_untuned_1 ++ []
def dkwX1_untuned_0 : List UInt8 := [3, 61, 3, 62, 29, 42, 180, 0, 33, 180, 0, 119, 162, 0, 28, 28, 43, 180, 0, 122, 29, 46]
abbrev dktX1_untuned_0 : List UInt8 := dkwX1_untuned_0 ++ dktX1_untuned_1
theorem dksX1_untuned_0 : cX1_untuned.data.toList.drop 0 = dktX1_untuned_0 := by decide +kernel
theorem dksX1_untuned_1 : cX1_untuned.data.toList.drop 22 = dktX1_untuned_1 := dk_seg dksX1_untuned_0 22 rfl rfl
theorem dX1_untuned_0 : decode cX1_untuned 0 = .ok (.iconst 0, 1) := dk_3 (dk_at dksX1_untuned_0 0 rfl rfl)
theorem dX1_untuned_1 : decode cX1_untuned 1 = .ok (.istore_n 2, 1) := dk_61 (dk_at dksX1_untuned_0 1 rfl rfl)
theorem dX1_untuned_2 : decode cX1_untuned 2 = .ok (.iconst 0, 1) := dk_3 (dk_at dksX1_untuned_0 2 rfl rfl)
theorem dX1_untuned_3 : decode cX1_untuned 3 = .ok (.istore_n 3, 1) := dk_62 (dk_at dksX1_untuned_0 3 rfl rfl)
theorem dX1_untuned_4 : decode cX1_untuned 4 = .ok (.iload_n 3, 1) := dk_29 (dk_at dksX1_untuned_0 4 rfl rfl)
theorem dX1_untuned_5 : decode cX1_untuned 5 = .ok (.aload_n 0, 1) := dk_42 (dk_at dksX1_untuned_0 5 rfl rfl)
theorem dX1_untuned_6 : decode cX1_untuned 6 = .ok (.getfield 33, 3) := dk_180 0 33 (dk_at dksX1_untuned_0 6 rfl rfl)
theorem dX1_untuned_9 : decode cX1_untuned 9 = .ok (.getfield 119, 3) := dk_180 0 119 (dk_at dksX1_untuned_0 9 rfl rfl)
theorem dX1_untuned_12 : decode cX1_untuned 12 = .ok (.if_icmp .ge 28, 3) := dk_162 0 28 (dk_at dksX1_untuned_0 12 rfl rfl)
theorem dX1_untuned_15 : decode cX1_untuned 15 = .ok (.iload_n 2, 1) := dk_28 (dk_at dksX1_untuned_0 15 rfl rfl)
theorem dX1_untuned_16 : decode cX1_untuned 16 = .ok (.aload_n 1, 1) := dk_43 (dk_at dksX1_untuned_0 16 rfl rfl)
theorem dX1_untuned_17 : decode cX1_untuned 17 = .ok (.getfield 122, 3) := dk_180 0 122 (dk_at dksX1_untuned_0 17 rfl rfl)
theorem dX1_untuned_20 : decode cX1_untuned 20 = .ok (.iload_n 3, 1) := dk_29 (dk_at dksX1_untuned_0 20 rfl rfl)
theorem dX1_untuned_21 : decode cX1_untuned 21 = .ok (.iaload, 1) := dk_46 (dk_at dksX1_untuned_0 21 rfl rfl)
theorem dX1_untuned_22 : decode cX1_untuned 22 = .ok (.ifCond .ne 9, 3) := dk_154 0 9 (dk_at dksX1_untuned_1 0 rfl rfl)
theorem dX1_untuned_25 : decode cX1_untuned 25 = .ok (.iconst 1, 1) := dk_4 (dk_at dksX1_untuned_1 3 rfl rfl)
theorem dX1_untuned_26 : decode cX1_untuned 26 = .ok (.iload_n 3, 1) := dk_29 (dk_at dksX1_untuned_1 4 rfl rfl)
theorem dX1_untuned_27 : decode cX1_untuned 27 = .ok (.ishl, 1) := dk_120 (dk_at dksX1_untuned_1 5 rfl rfl)
theorem dX1_untuned_28 : decode cX1_untuned 28 = .ok (.goto 4, 3) := dk_167 0 4 (dk_at dksX1_untuned_1 6 rfl rfl)
theorem dX1_untuned_31 : decode cX1_untuned 31 = .ok (.iconst 0, 1) := dk_3 (dk_at dksX1_untuned_1 9 rfl rfl)
theorem dX1_untuned_32 : decode cX1_untuned 32 = .ok (.ior, 1) := dk_128 (dk_at dksX1_untuned_1 10 rfl rfl)
theorem dX1_untuned_33 : decode cX1_untuned 33 = .ok (.istore_n 2, 1) := dk_61 (dk_at dksX1_untuned_1 11 rfl rfl)
theorem dX1_untuned_34 : decode cX1_untuned 34 = .ok (.iinc 3 1, 3) := dk_132 3 1 (dk_at dksX1_untuned_1 12 rfl rfl)
theorem dX1_untuned_37 : decode cX1_untuned 37 = .ok (.goto (-33), 3) := dk_167 255 223 (dk_at dksX1_untuned_1 15 rfl rfl)
theorem dX1_untuned_40 : decode cX1_untuned 40 = .ok (.iload_n 2, 1) := dk_28 (dk_at dksX1_untuned_1 18 rfl rfl)
theorem dX1_untuned_41 : decode cX1_untuned 41 = .ok (.ireturn, 1) := dk_172 (dk_at dksX1_untuned_1 19 rfl rfl)
abbrev cX1_isClean : ByteArray := prog_1_method_23_code
def yX1_isClean : MethodName := ⟨RX1, "isClean", "(LQuietChannels$Plan;I)Z"⟩
def dkwX1_isClean_2 : List UInt8 := [181, 0, 176, 42, 180, 0, 59, 182, 0, 156, 182, 0, 177, 154, 0, 7, 4, 167, 0, 4, 3, 172]
abbrev dktX1_isClean_2 : List UInt8 := dkwX1_isClean_2 ++ []
def dkwX1_isClean_1 : List UInt8 := [29, 182, 0, 172, 154, 0, 5, 3, 172, 132, 3, 1, 167, 255, 222, 42, 180, 0, 59, 43, 182, 0, 152, 28]
abbrev dktX1_isClean_1 : List UInt8 := dkwX1_isClean_1 ++ dktX1_isClean_2
def dkwX1_isClean_0 : List UInt8 := [3, 62, 29, 42, 180, 0, 33, 180, 0, 119, 162, 0, 29, 43, 180, 0, 122, 29, 46, 158, 0, 14, 42, 43]
abbrev dktX1_isClean_0 : List UInt8 := dkwX1_isClean_0 ++ dktX1_isClean_1
theorem dksX1_isClean_0 : cX1_isClean.data.toList.drop 0 = dktX1_isClean_0 := by decide +kernel
theorem dksX1_isClean_1 : cX1_isClean.data.toList.drop 24 = dktX1_isClean_1 := dk_seg dksX1_isClean_0 24 rfl rfl
theorem dksX1_isClean_2 : cX1_isClean.data.toList.drop 48 = dktX1_isClean_2 := dk_seg dksX1_isClean_1 24 rfl rfl
theorem dX1_isClean_0 : decode cX1_isClean 0 = .ok (.iconst 0, 1) := dk_3 (dk_at dksX1_isClean_0 0 rfl rfl)
theorem dX1_isClean_1 : decode cX1_isClean 1 = .ok (.istore_n 3, 1) := dk_62 (dk_at dksX1_isClean_0 1 rfl rfl)
theorem dX1_isClean_2 : decode cX1_isClean 2 = .ok (.iload_n 3, 1) := dk_29 (dk_at dksX1_isClean_0 2 rfl rfl)
theorem dX1_isClean_3 : decode cX1_isClean 3 = .ok (.aload_n 0, 1) := dk_42 (dk_at dksX1_isClean_0 3 rfl rfl)
theorem dX1_isClean_4 : decode cX1_isClean 4 = .ok (.getfield 33, 3) := dk_180 0 33 (dk_at dksX1_isClean_0 4 rfl rfl)
theorem dX1_isClean_7 : decode cX1_isClean 7 = .ok (.getfield 119, 3) := dk_180 0 119 (dk_at dksX1_isClean_0 7 rfl rfl)
theorem dX1_isClean_10 : decode cX1_isClean 10 = .ok (.if_icmp .ge 29, 3) := dk_162 0 29 (dk_at dksX1_isClean_0 10 rfl rfl)
theorem dX1_isClean_13 : decode cX1_isClean 13 = .ok (.aload_n 1, 1) := dk_43 (dk_at dksX1_isClean_0 13 rfl rfl)
theorem dX1_isClean_14 : decode cX1_isClean 14 = .ok (.getfield 122, 3) := dk_180 0 122 (dk_at dksX1_isClean_0 14 rfl rfl)
theorem dX1_isClean_17 : decode cX1_isClean 17 = .ok (.iload_n 3, 1) := dk_29 (dk_at dksX1_isClean_0 17 rfl rfl)
theorem dX1_isClean_18 : decode cX1_isClean 18 = .ok (.iaload, 1) := dk_46 (dk_at dksX1_isClean_0 18 rfl rfl)
theorem dX1_isClean_19 : decode cX1_isClean 19 = .ok (.ifCond .le 14, 3) := dk_158 0 14 (dk_at dksX1_isClean_0 19 rfl rfl)
theorem dX1_isClean_22 : decode cX1_isClean 22 = .ok (.aload_n 0, 1) := dk_42 (dk_at dksX1_isClean_0 22 rfl rfl)
theorem dX1_isClean_23 : decode cX1_isClean 23 = .ok (.aload_n 1, 1) := dk_43 (dk_at dksX1_isClean_0 23 rfl rfl)
theorem dX1_isClean_24 : decode cX1_isClean 24 = .ok (.iload_n 3, 1) := dk_29 (dk_at dksX1_isClean_1 0 rfl rfl)
theorem dX1_isClean_25 : decode cX1_isClean 25 = .ok (.invokevirtual 172, 3) := dk_182 0 172 (dk_at dksX1_isClean_1 1 rfl rfl)
theorem dX1_isClean_28 : decode cX1_isClean 28 = .ok (.ifCond .ne 5, 3) := dk_154 0 5 (dk_at dksX1_isClean_1 4 rfl rfl)
theorem dX1_isClean_31 : decode cX1_isClean 31 = .ok (.iconst 0, 1) := dk_3 (dk_at dksX1_isClean_1 7 rfl rfl)
theorem dX1_isClean_32 : decode cX1_isClean 32 = .ok (.ireturn, 1) := dk_172 (dk_at dksX1_isClean_1 8 rfl rfl)
theorem dX1_isClean_33 : decode cX1_isClean 33 = .ok (.iinc 3 1, 3) := dk_132 3 1 (dk_at dksX1_isClean_1 9 rfl rfl)
theorem dX1_isClean_36 : decode cX1_isClean 36 = .ok (.goto (-34), 3) := dk_167 255 222 (dk_at dksX1_isClean_1 12 rfl rfl)
theorem dX1_isClean_39 : decode cX1_isClean 39 = .ok (.aload_n 0, 1) := dk_42 (dk_at dksX1_isClean_1 15 rfl rfl)
theorem dX1_isClean_40 : decode cX1_isClean 40 = .ok (.getfield 59, 3) := dk_180 0 59 (dk_at dksX1_isClean_1 16 rfl rfl)
theorem dX1_isClean_43 : decode cX1_isClean 43 = .ok (.aload_n 1, 1) := dk_43 (dk_at dksX1_isClean_1 19 rfl rfl)
theorem dX1_isClean_44 : decode cX1_isClean 44 = .ok (.invokevirtual 152, 3) := dk_182 0 152 (dk_at dksX1_isClean_1 20 rfl rfl)
theorem dX1_isClean_47 : decode cX1_isClean 47 = .ok (.iload_n 2, 1) := dk_28 (dk_at dksX1_isClean_1 23 rfl rfl)
theorem dX1_isClean_48 : decode cX1_isClean 48 = .ok (.putfield 176, 3) := dk_181 0 176 (dk_at dksX1_isClean_2 0 rfl rfl)
theorem dX1_isClean_51 : decode cX1_isClean 51 = .ok (.aload_n 0, 1) := dk_42 (dk_at dksX1_isClean_2 3 rfl rfl)
theorem dX1_isClean_52 : decode cX1_isClean 52 = .ok (.getfield 59, 3) := dk_180 0 59 (dk_at dksX1_isClean_2 4 rfl rfl)
theorem dX1_isClean_55 : decode cX1_isClean 55 = .ok (.invokevirtual 156, 3) := dk_182 0 156 (dk_at dksX1_isClean_2 7 rfl rfl)
theorem dX1_isClean_58 : decode cX1_isClean 58 = .ok (.invokevirtual 177, 3) := dk_182 0 177 (dk_at dksX1_isClean_2 10 rfl rfl)
theorem dX1_isClean_61 : decode cX1_isClean 61 = .ok (.ifCond .ne 7, 3) := dk_154 0 7 (dk_at dksX1_isClean_2 13 rfl rfl)
theorem dX1_isClean_64 : decode cX1_isClean 64 = .ok (.iconst 1, 1) := dk_4 (dk_at dksX1_isClean_2 16 rfl rfl)
theorem dX1_isClean_65 : decode cX1_isClean 65 = .ok (.goto 4, 3) := dk_167 0 4 (dk_at dksX1_isClean_2 17 rfl rfl)
theorem dX1_isClean_68 : decode cX1_isClean 68 = .ok (.iconst 0, 1) := dk_3 (dk_at dksX1_isClean_2 20 rfl rfl)
theorem dX1_isClean_69 : decode cX1_isClean 69 = .ok (.ireturn, 1) := dk_172 (dk_at dksX1_isClean_2 21 rfl rfl)
abbrev cX1_isRight : ByteArray := prog_1_method_22_code
def yX1_isRight : MethodName := ⟨RX1, "isRight", "(LQuietChannels$Plan;I)Z"⟩
def dkwX1_isRight_2 : List UInt8 := [51, 154, 0, 7, 4, 167, 0, 4, 3, 172]
abbrev dktX1_isRight_2 : List UInt8 := dkwX1_isRight_2 ++ []
def dkwX1_isRight_1 : List UInt8 := [180, 0, 160, 28, 50, 180, 0, 169, 184, 0, 75, 153, 0, 21, 43, 180, 0, 142, 43, 180, 0, 122, 28, 46]
abbrev dktX1_isRight_1 : List UInt8 := dkwX1_isRight_1 ++ dktX1_isRight_2
def dkwX1_isRight_0 : List UInt8 := [43, 180, 0, 122, 28, 46, 42, 180, 0, 33, 180, 0, 160, 28, 50, 180, 0, 164, 42, 180, 0, 33]
abbrev dktX1_isRight_0 : List UInt8 := dkwX1_isRight_0 ++ dktX1_isRight_1
theorem dksX1_isRight_0 : cX1_isRight.data.toList.drop 0 = dktX1_isRight_0 := by decide +kernel
theorem dksX1_isRight_1 : cX1_isRight.data.toList.drop 22 = dktX1_isRight_1 := dk_seg dksX1_isRight_0 22 rfl rfl
theorem dksX1_isRight_2 : cX1_isRight.data.toList.drop 46 = dktX1_isRight_2 := dk_seg dksX1_isRight_1 24 rfl rfl
theorem dX1_isRight_0 : decode cX1_isRight 0 = .ok (.aload_n 1, 1) := dk_43 (dk_at dksX1_isRight_0 0 rfl rfl)
theorem dX1_isRight_1 : decode cX1_isRight 1 = .ok (.getfield 122, 3) := dk_180 0 122 (dk_at dksX1_isRight_0 1 rfl rfl)
theorem dX1_isRight_4 : decode cX1_isRight 4 = .ok (.iload_n 2, 1) := dk_28 (dk_at dksX1_isRight_0 4 rfl rfl)
theorem dX1_isRight_5 : decode cX1_isRight 5 = .ok (.iaload, 1) := dk_46 (dk_at dksX1_isRight_0 5 rfl rfl)
theorem dX1_isRight_6 : decode cX1_isRight 6 = .ok (.aload_n 0, 1) := dk_42 (dk_at dksX1_isRight_0 6 rfl rfl)
theorem dX1_isRight_7 : decode cX1_isRight 7 = .ok (.getfield 33, 3) := dk_180 0 33 (dk_at dksX1_isRight_0 7 rfl rfl)
theorem dX1_isRight_10 : decode cX1_isRight 10 = .ok (.getfield 160, 3) := dk_180 0 160 (dk_at dksX1_isRight_0 10 rfl rfl)
theorem dX1_isRight_13 : decode cX1_isRight 13 = .ok (.iload_n 2, 1) := dk_28 (dk_at dksX1_isRight_0 13 rfl rfl)
theorem dX1_isRight_14 : decode cX1_isRight 14 = .ok (.aaload, 1) := dk_50 (dk_at dksX1_isRight_0 14 rfl rfl)
theorem dX1_isRight_15 : decode cX1_isRight 15 = .ok (.getfield 164, 3) := dk_180 0 164 (dk_at dksX1_isRight_0 15 rfl rfl)
theorem dX1_isRight_18 : decode cX1_isRight 18 = .ok (.aload_n 0, 1) := dk_42 (dk_at dksX1_isRight_0 18 rfl rfl)
theorem dX1_isRight_19 : decode cX1_isRight 19 = .ok (.getfield 33, 3) := dk_180 0 33 (dk_at dksX1_isRight_0 19 rfl rfl)
theorem dX1_isRight_22 : decode cX1_isRight 22 = .ok (.getfield 160, 3) := dk_180 0 160 (dk_at dksX1_isRight_1 0 rfl rfl)
theorem dX1_isRight_25 : decode cX1_isRight 25 = .ok (.iload_n 2, 1) := dk_28 (dk_at dksX1_isRight_1 3 rfl rfl)
theorem dX1_isRight_26 : decode cX1_isRight 26 = .ok (.aaload, 1) := dk_50 (dk_at dksX1_isRight_1 4 rfl rfl)
theorem dX1_isRight_27 : decode cX1_isRight 27 = .ok (.getfield 169, 3) := dk_180 0 169 (dk_at dksX1_isRight_1 5 rfl rfl)
theorem dX1_isRight_30 : decode cX1_isRight 30 = .ok (.invokestatic 75, 3) := dk_184 0 75 (dk_at dksX1_isRight_1 8 rfl rfl)
theorem dX1_isRight_33 : decode cX1_isRight 33 = .ok (.ifCond .eq 21, 3) := dk_153 0 21 (dk_at dksX1_isRight_1 11 rfl rfl)
theorem dX1_isRight_36 : decode cX1_isRight 36 = .ok (.aload_n 1, 1) := dk_43 (dk_at dksX1_isRight_1 14 rfl rfl)
theorem dX1_isRight_37 : decode cX1_isRight 37 = .ok (.getfield 142, 3) := dk_180 0 142 (dk_at dksX1_isRight_1 15 rfl rfl)
theorem dX1_isRight_40 : decode cX1_isRight 40 = .ok (.aload_n 1, 1) := dk_43 (dk_at dksX1_isRight_1 18 rfl rfl)
theorem dX1_isRight_41 : decode cX1_isRight 41 = .ok (.getfield 122, 3) := dk_180 0 122 (dk_at dksX1_isRight_1 19 rfl rfl)
theorem dX1_isRight_44 : decode cX1_isRight 44 = .ok (.iload_n 2, 1) := dk_28 (dk_at dksX1_isRight_1 22 rfl rfl)
theorem dX1_isRight_45 : decode cX1_isRight 45 = .ok (.iaload, 1) := dk_46 (dk_at dksX1_isRight_1 23 rfl rfl)
theorem dX1_isRight_46 : decode cX1_isRight 46 = .ok (.baload, 1) := dk_51 (dk_at dksX1_isRight_2 0 rfl rfl)
theorem dX1_isRight_47 : decode cX1_isRight 47 = .ok (.ifCond .ne 7, 3) := dk_154 0 7 (dk_at dksX1_isRight_2 1 rfl rfl)
theorem dX1_isRight_50 : decode cX1_isRight 50 = .ok (.iconst 1, 1) := dk_4 (dk_at dksX1_isRight_2 4 rfl rfl)
theorem dX1_isRight_51 : decode cX1_isRight 51 = .ok (.goto 4, 3) := dk_167 0 4 (dk_at dksX1_isRight_2 5 rfl rfl)
theorem dX1_isRight_54 : decode cX1_isRight 54 = .ok (.iconst 0, 1) := dk_3 (dk_at dksX1_isRight_2 8 rfl rfl)
theorem dX1_isRight_55 : decode cX1_isRight 55 = .ok (.ireturn, 1) := dk_172 (dk_at dksX1_isRight_2 9 rfl rfl)
abbrev cX1_lesser : ByteArray := prog_1_method_4_code
def yX1_lesser : MethodName := ⟨RX1, "lesser", "(II)I"⟩
def dkwX1_lesser_0 : List UInt8 := [26, 27, 162, 0, 7, 26, 167, 0, 4, 27, 172]
abbrev dktX1_lesser_0 : List UInt8 := dkwX1_lesser_0 ++ []
theorem dksX1_lesser_0 : cX1_lesser.data.toList.drop 0 = dktX1_lesser_0 := by decide +kernel
theorem dX1_lesser_0 : decode cX1_lesser 0 = .ok (.iload_n 0, 1) := dk_26 (dk_at dksX1_lesser_0 0 rfl rfl)
theorem dX1_lesser_1 : decode cX1_lesser 1 = .ok (.iload_n 1, 1) := dk_27 (dk_at dksX1_lesser_0 1 rfl rfl)
theorem dX1_lesser_2 : decode cX1_lesser 2 = .ok (.if_icmp .ge 7, 3) := dk_162 0 7 (dk_at dksX1_lesser_0 2 rfl rfl)
theorem dX1_lesser_5 : decode cX1_lesser 5 = .ok (.iload_n 0, 1) := dk_26 (dk_at dksX1_lesser_0 5 rfl rfl)
theorem dX1_lesser_6 : decode cX1_lesser 6 = .ok (.goto 4, 3) := dk_167 0 4 (dk_at dksX1_lesser_0 6 rfl rfl)
theorem dX1_lesser_9 : decode cX1_lesser 9 = .ok (.iload_n 1, 1) := dk_27 (dk_at dksX1_lesser_0 9 rfl rfl)
theorem dX1_lesser_10 : decode cX1_lesser 10 = .ok (.ireturn, 1) := dk_172 (dk_at dksX1_lesser_0 10 rfl rfl)
abbrev cX1_planned : ByteArray := prog_1_method_27_code
def yX1_planned : MethodName := ⟨RX1, "planned", "(I)I"⟩
def dkwX1_planned_3 : List UInt8 := [167, 0, 4, 28, 172]
abbrev dktX1_planned_3 : List UInt8 := dkwX1_planned_3 ++ []
def dkwX1_planned_2 : List UInt8 := [182, 0, 186, 183, 0, 189, 182, 0, 192, 61, 28, 154, 0, 15, 42, 180, 0, 47, 180, 0, 122, 27, 46]
abbrev dktX1_planned_2 : List UInt8 := dkwX1_planned_2 ++ dktX1_planned_3
def dkwX1_planned_1 : List UInt8 := [172, 187, 0, 184, 89, 42, 42, 180, 0, 47, 42, 180, 0, 40, 182, 0, 115, 42, 42, 180, 0, 40]
abbrev dktX1_planned_1 : List UInt8 := dkwX1_planned_1 ++ dktX1_planned_2
def dkwX1_planned_0 : List UInt8 := [42, 27, 182, 0, 132, 154, 0, 5, 2, 172, 42, 180, 0, 40, 180, 0, 122, 27, 46, 158, 0, 6, 16, 254]
abbrev dktX1_planned_0 : List UInt8 := dkwX1_planned_0 ++ dktX1_planned_1
theorem dksX1_planned_0 : cX1_planned.data.toList.drop 0 = dktX1_planned_0 := by decide +kernel
theorem dksX1_planned_1 : cX1_planned.data.toList.drop 24 = dktX1_planned_1 := dk_seg dksX1_planned_0 24 rfl rfl
theorem dksX1_planned_2 : cX1_planned.data.toList.drop 46 = dktX1_planned_2 := dk_seg dksX1_planned_1 22 rfl rfl
theorem dksX1_planned_3 : cX1_planned.data.toList.drop 69 = dktX1_planned_3 := dk_seg dksX1_planned_2 23 rfl rfl
theorem dX1_planned_0 : decode cX1_planned 0 = .ok (.aload_n 0, 1) := dk_42 (dk_at dksX1_planned_0 0 rfl rfl)
theorem dX1_planned_1 : decode cX1_planned 1 = .ok (.iload_n 1, 1) := dk_27 (dk_at dksX1_planned_0 1 rfl rfl)
theorem dX1_planned_2 : decode cX1_planned 2 = .ok (.invokevirtual 132, 3) := dk_182 0 132 (dk_at dksX1_planned_0 2 rfl rfl)
theorem dX1_planned_5 : decode cX1_planned 5 = .ok (.ifCond .ne 5, 3) := dk_154 0 5 (dk_at dksX1_planned_0 5 rfl rfl)
theorem dX1_planned_8 : decode cX1_planned 8 = .ok (.iconst (-1), 1) := dk_2 (dk_at dksX1_planned_0 8 rfl rfl)
theorem dX1_planned_9 : decode cX1_planned 9 = .ok (.ireturn, 1) := dk_172 (dk_at dksX1_planned_0 9 rfl rfl)
theorem dX1_planned_10 : decode cX1_planned 10 = .ok (.aload_n 0, 1) := dk_42 (dk_at dksX1_planned_0 10 rfl rfl)
theorem dX1_planned_11 : decode cX1_planned 11 = .ok (.getfield 40, 3) := dk_180 0 40 (dk_at dksX1_planned_0 11 rfl rfl)
theorem dX1_planned_14 : decode cX1_planned 14 = .ok (.getfield 122, 3) := dk_180 0 122 (dk_at dksX1_planned_0 14 rfl rfl)
theorem dX1_planned_17 : decode cX1_planned 17 = .ok (.iload_n 1, 1) := dk_27 (dk_at dksX1_planned_0 17 rfl rfl)
theorem dX1_planned_18 : decode cX1_planned 18 = .ok (.iaload, 1) := dk_46 (dk_at dksX1_planned_0 18 rfl rfl)
theorem dX1_planned_19 : decode cX1_planned 19 = .ok (.ifCond .le 6, 3) := dk_158 0 6 (dk_at dksX1_planned_0 19 rfl rfl)
theorem dX1_planned_22 : decode cX1_planned 22 = .ok (.bipush (-2), 2) := dk_16 254 (dk_at dksX1_planned_0 22 rfl rfl)
theorem dX1_planned_24 : decode cX1_planned 24 = .ok (.ireturn, 1) := dk_172 (dk_at dksX1_planned_1 0 rfl rfl)
theorem dX1_planned_25 : decode cX1_planned 25 = .ok (.new 184, 3) := dk_187 0 184 (dk_at dksX1_planned_1 1 rfl rfl)
theorem dX1_planned_28 : decode cX1_planned 28 = .ok (.dup, 1) := dk_89 (dk_at dksX1_planned_1 4 rfl rfl)
theorem dX1_planned_29 : decode cX1_planned 29 = .ok (.aload_n 0, 1) := dk_42 (dk_at dksX1_planned_1 5 rfl rfl)
theorem dX1_planned_30 : decode cX1_planned 30 = .ok (.aload_n 0, 1) := dk_42 (dk_at dksX1_planned_1 6 rfl rfl)
theorem dX1_planned_31 : decode cX1_planned 31 = .ok (.getfield 47, 3) := dk_180 0 47 (dk_at dksX1_planned_1 7 rfl rfl)
theorem dX1_planned_34 : decode cX1_planned 34 = .ok (.aload_n 0, 1) := dk_42 (dk_at dksX1_planned_1 10 rfl rfl)
theorem dX1_planned_35 : decode cX1_planned 35 = .ok (.getfield 40, 3) := dk_180 0 40 (dk_at dksX1_planned_1 11 rfl rfl)
theorem dX1_planned_38 : decode cX1_planned 38 = .ok (.invokevirtual 115, 3) := dk_182 0 115 (dk_at dksX1_planned_1 14 rfl rfl)
theorem dX1_planned_41 : decode cX1_planned 41 = .ok (.aload_n 0, 1) := dk_42 (dk_at dksX1_planned_1 17 rfl rfl)
theorem dX1_planned_42 : decode cX1_planned 42 = .ok (.aload_n 0, 1) := dk_42 (dk_at dksX1_planned_1 18 rfl rfl)
theorem dX1_planned_43 : decode cX1_planned 43 = .ok (.getfield 40, 3) := dk_180 0 40 (dk_at dksX1_planned_1 19 rfl rfl)
theorem dX1_planned_46 : decode cX1_planned 46 = .ok (.invokevirtual 186, 3) := dk_182 0 186 (dk_at dksX1_planned_2 0 rfl rfl)
theorem dX1_planned_49 : decode cX1_planned 49 = .ok (.invokespecial 189, 3) := dk_183 0 189 (dk_at dksX1_planned_2 3 rfl rfl)
theorem dX1_planned_52 : decode cX1_planned 52 = .ok (.invokevirtual 192, 3) := dk_182 0 192 (dk_at dksX1_planned_2 6 rfl rfl)
theorem dX1_planned_55 : decode cX1_planned 55 = .ok (.istore_n 2, 1) := dk_61 (dk_at dksX1_planned_2 9 rfl rfl)
theorem dX1_planned_56 : decode cX1_planned 56 = .ok (.iload_n 2, 1) := dk_28 (dk_at dksX1_planned_2 10 rfl rfl)
theorem dX1_planned_57 : decode cX1_planned 57 = .ok (.ifCond .ne 15, 3) := dk_154 0 15 (dk_at dksX1_planned_2 11 rfl rfl)
theorem dX1_planned_60 : decode cX1_planned 60 = .ok (.aload_n 0, 1) := dk_42 (dk_at dksX1_planned_2 14 rfl rfl)
theorem dX1_planned_61 : decode cX1_planned 61 = .ok (.getfield 47, 3) := dk_180 0 47 (dk_at dksX1_planned_2 15 rfl rfl)
theorem dX1_planned_64 : decode cX1_planned 64 = .ok (.getfield 122, 3) := dk_180 0 122 (dk_at dksX1_planned_2 18 rfl rfl)
theorem dX1_planned_67 : decode cX1_planned 67 = .ok (.iload_n 1, 1) := dk_27 (dk_at dksX1_planned_2 21 rfl rfl)
theorem dX1_planned_68 : decode cX1_planned 68 = .ok (.iaload, 1) := dk_46 (dk_at dksX1_planned_2 22 rfl rfl)
theorem dX1_planned_69 : decode cX1_planned 69 = .ok (.goto 4, 3) := dk_167 0 4 (dk_at dksX1_planned_3 0 rfl rfl)
theorem dX1_planned_72 : decode cX1_planned 72 = .ok (.iload_n 2, 1) := dk_28 (dk_at dksX1_planned_3 3 rfl rfl)
theorem dX1_planned_73 : decode cX1_planned 73 = .ok (.ireturn, 1) := dk_172 (dk_at dksX1_planned_3 4 rfl rfl)
abbrev cX1_mended : ByteArray := prog_1_method_29_code
def yX1_mended : MethodName := ⟨RX1, "mended", "()I"⟩
theorem dX1_mended_0 : decode cX1_mended 0 = .ok (.aload_n 0, 1) := by decide +kernel
theorem dX1_mended_1 : decode cX1_mended 1 = .ok (.invokevirtual 203, 3) := by decide +kernel
theorem dX1_mended_4 : decode cX1_mended 4 = .ok (.ireturn, 1) := by decide +kernel
abbrev cX1_mendedSet : ByteArray := prog_1_method_28_code
def yX1_mendedSet : MethodName := ⟨RX1, "mendedSet", "()I"⟩
def dkwX1_mendedSet_4 : List UInt8 := [132, 2, 1, 167, 255, 182, 16, 254, 172]
abbrev dktX1_mendedSet_4 : List UInt8 := dkwX1_mendedSet_4 ++ []
def dkwX1_mendedSet_3 : List UInt8 := [180, 0, 40, 182, 0, 115, 29, 183, 0, 189, 182, 0, 192, 154, 0, 5, 29, 172, 132, 3, 1, 167, 255, 201]
abbrev dktX1_mendedSet_3 : List UInt8 := dkwX1_mendedSet_3 ++ dktX1_mendedSet_4
def dkwX1_mendedSet_2 : List UInt8 := [160, 0, 42, 29, 27, 2, 130, 126, 153, 0, 6, 167, 0, 31, 187, 0, 184, 89, 42, 42, 180, 0, 47, 42]
abbrev dktX1_mendedSet_2 : List UInt8 := dkwX1_mendedSet_2 ++ dktX1_mendedSet_3
def dkwX1_mendedSet_1 : List UInt8 := [61, 28, 42, 180, 0, 33, 180, 0, 119, 163, 0, 69, 3, 62, 29, 27, 163, 0, 56, 29, 184, 0, 198, 28]
abbrev dktX1_mendedSet_1 : List UInt8 := dkwX1_mendedSet_1 ++ dktX1_mendedSet_2
def dkwX1_mendedSet_0 : List UInt8 := [4, 42, 180, 0, 33, 180, 0, 119, 120, 4, 100, 42, 42, 180, 0, 40, 182, 0, 186, 2, 130, 126, 60, 3]
abbrev dktX1_mendedSet_0 : List UInt8 := dkwX1_mendedSet_0 ++ dktX1_mendedSet_1
theorem dksX1_mendedSet_0 : cX1_mendedSet.data.toList.drop 0 = dktX1_mendedSet_0 := by decide +kernel
theorem dksX1_mendedSet_1 : cX1_mendedSet.data.toList.drop 24 = dktX1_mendedSet_1 := dk_seg dksX1_mendedSet_0 24 rfl rfl
theorem dksX1_mendedSet_2 : cX1_mendedSet.data.toList.drop 48 = dktX1_mendedSet_2 := dk_seg dksX1_mendedSet_1 24 rfl rfl
theorem dksX1_mendedSet_3 : cX1_mendedSet.data.toList.drop 72 = dktX1_mendedSet_3 := dk_seg dksX1_mendedSet_2 24 rfl rfl
theorem dksX1_mendedSet_4 : cX1_mendedSet.data.toList.drop 96 = dktX1_mendedSet_4 := dk_seg dksX1_mendedSet_3 24 rfl rfl
theorem dX1_mendedSet_0 : decode cX1_mendedSet 0 = .ok (.iconst 1, 1) := dk_4 (dk_at dksX1_mendedSet_0 0 rfl rfl)
theorem dX1_mendedSet_1 : decode cX1_mendedSet 1 = .ok (.aload_n 0, 1) := dk_42 (dk_at dksX1_mendedSet_0 1 rfl rfl)
theorem dX1_mendedSet_2 : decode cX1_mendedSet 2 = .ok (.getfield 33, 3) := dk_180 0 33 (dk_at dksX1_mendedSet_0 2 rfl rfl)
theorem dX1_mendedSet_5 : decode cX1_mendedSet 5 = .ok (.getfield 119, 3) := dk_180 0 119 (dk_at dksX1_mendedSet_0 5 rfl rfl)
theorem dX1_mendedSet_8 : decode cX1_mendedSet 8 = .ok (.ishl, 1) := dk_120 (dk_at dksX1_mendedSet_0 8 rfl rfl)
theorem dX1_mendedSet_9 : decode cX1_mendedSet 9 = .ok (.iconst 1, 1) := dk_4 (dk_at dksX1_mendedSet_0 9 rfl rfl)
theorem dX1_mendedSet_10 : decode cX1_mendedSet 10 = .ok (.isub, 1) := dk_100 (dk_at dksX1_mendedSet_0 10 rfl rfl)
theorem dX1_mendedSet_11 : decode cX1_mendedSet 11 = .ok (.aload_n 0, 1) := dk_42 (dk_at dksX1_mendedSet_0 11 rfl rfl)
theorem dX1_mendedSet_12 : decode cX1_mendedSet 12 = .ok (.aload_n 0, 1) := dk_42 (dk_at dksX1_mendedSet_0 12 rfl rfl)
theorem dX1_mendedSet_13 : decode cX1_mendedSet 13 = .ok (.getfield 40, 3) := dk_180 0 40 (dk_at dksX1_mendedSet_0 13 rfl rfl)
theorem dX1_mendedSet_16 : decode cX1_mendedSet 16 = .ok (.invokevirtual 186, 3) := dk_182 0 186 (dk_at dksX1_mendedSet_0 16 rfl rfl)
theorem dX1_mendedSet_19 : decode cX1_mendedSet 19 = .ok (.iconst (-1), 1) := dk_2 (dk_at dksX1_mendedSet_0 19 rfl rfl)
theorem dX1_mendedSet_20 : decode cX1_mendedSet 20 = .ok (.ixor, 1) := dk_130 (dk_at dksX1_mendedSet_0 20 rfl rfl)
theorem dX1_mendedSet_21 : decode cX1_mendedSet 21 = .ok (.iand, 1) := dk_126 (dk_at dksX1_mendedSet_0 21 rfl rfl)
theorem dX1_mendedSet_22 : decode cX1_mendedSet 22 = .ok (.istore_n 1, 1) := dk_60 (dk_at dksX1_mendedSet_0 22 rfl rfl)
theorem dX1_mendedSet_23 : decode cX1_mendedSet 23 = .ok (.iconst 0, 1) := dk_3 (dk_at dksX1_mendedSet_0 23 rfl rfl)
theorem dX1_mendedSet_24 : decode cX1_mendedSet 24 = .ok (.istore_n 2, 1) := dk_61 (dk_at dksX1_mendedSet_1 0 rfl rfl)
theorem dX1_mendedSet_25 : decode cX1_mendedSet 25 = .ok (.iload_n 2, 1) := dk_28 (dk_at dksX1_mendedSet_1 1 rfl rfl)
theorem dX1_mendedSet_26 : decode cX1_mendedSet 26 = .ok (.aload_n 0, 1) := dk_42 (dk_at dksX1_mendedSet_1 2 rfl rfl)
theorem dX1_mendedSet_27 : decode cX1_mendedSet 27 = .ok (.getfield 33, 3) := dk_180 0 33 (dk_at dksX1_mendedSet_1 3 rfl rfl)
theorem dX1_mendedSet_30 : decode cX1_mendedSet 30 = .ok (.getfield 119, 3) := dk_180 0 119 (dk_at dksX1_mendedSet_1 6 rfl rfl)
theorem dX1_mendedSet_33 : decode cX1_mendedSet 33 = .ok (.if_icmp .gt 69, 3) := dk_163 0 69 (dk_at dksX1_mendedSet_1 9 rfl rfl)
theorem dX1_mendedSet_36 : decode cX1_mendedSet 36 = .ok (.iconst 0, 1) := dk_3 (dk_at dksX1_mendedSet_1 12 rfl rfl)
theorem dX1_mendedSet_37 : decode cX1_mendedSet 37 = .ok (.istore_n 3, 1) := dk_62 (dk_at dksX1_mendedSet_1 13 rfl rfl)
theorem dX1_mendedSet_38 : decode cX1_mendedSet 38 = .ok (.iload_n 3, 1) := dk_29 (dk_at dksX1_mendedSet_1 14 rfl rfl)
theorem dX1_mendedSet_39 : decode cX1_mendedSet 39 = .ok (.iload_n 1, 1) := dk_27 (dk_at dksX1_mendedSet_1 15 rfl rfl)
theorem dX1_mendedSet_40 : decode cX1_mendedSet 40 = .ok (.if_icmp .gt 56, 3) := dk_163 0 56 (dk_at dksX1_mendedSet_1 16 rfl rfl)
theorem dX1_mendedSet_43 : decode cX1_mendedSet 43 = .ok (.iload_n 3, 1) := dk_29 (dk_at dksX1_mendedSet_1 19 rfl rfl)
theorem dX1_mendedSet_44 : decode cX1_mendedSet 44 = .ok (.invokestatic 198, 3) := dk_184 0 198 (dk_at dksX1_mendedSet_1 20 rfl rfl)
theorem dX1_mendedSet_47 : decode cX1_mendedSet 47 = .ok (.iload_n 2, 1) := dk_28 (dk_at dksX1_mendedSet_1 23 rfl rfl)
theorem dX1_mendedSet_48 : decode cX1_mendedSet 48 = .ok (.if_icmp .ne 42, 3) := dk_160 0 42 (dk_at dksX1_mendedSet_2 0 rfl rfl)
theorem dX1_mendedSet_51 : decode cX1_mendedSet 51 = .ok (.iload_n 3, 1) := dk_29 (dk_at dksX1_mendedSet_2 3 rfl rfl)
theorem dX1_mendedSet_52 : decode cX1_mendedSet 52 = .ok (.iload_n 1, 1) := dk_27 (dk_at dksX1_mendedSet_2 4 rfl rfl)
theorem dX1_mendedSet_53 : decode cX1_mendedSet 53 = .ok (.iconst (-1), 1) := dk_2 (dk_at dksX1_mendedSet_2 5 rfl rfl)
theorem dX1_mendedSet_54 : decode cX1_mendedSet 54 = .ok (.ixor, 1) := dk_130 (dk_at dksX1_mendedSet_2 6 rfl rfl)
theorem dX1_mendedSet_55 : decode cX1_mendedSet 55 = .ok (.iand, 1) := dk_126 (dk_at dksX1_mendedSet_2 7 rfl rfl)
theorem dX1_mendedSet_56 : decode cX1_mendedSet 56 = .ok (.ifCond .eq 6, 3) := dk_153 0 6 (dk_at dksX1_mendedSet_2 8 rfl rfl)
theorem dX1_mendedSet_59 : decode cX1_mendedSet 59 = .ok (.goto 31, 3) := dk_167 0 31 (dk_at dksX1_mendedSet_2 11 rfl rfl)
theorem dX1_mendedSet_62 : decode cX1_mendedSet 62 = .ok (.new 184, 3) := dk_187 0 184 (dk_at dksX1_mendedSet_2 14 rfl rfl)
theorem dX1_mendedSet_65 : decode cX1_mendedSet 65 = .ok (.dup, 1) := dk_89 (dk_at dksX1_mendedSet_2 17 rfl rfl)
theorem dX1_mendedSet_66 : decode cX1_mendedSet 66 = .ok (.aload_n 0, 1) := dk_42 (dk_at dksX1_mendedSet_2 18 rfl rfl)
theorem dX1_mendedSet_67 : decode cX1_mendedSet 67 = .ok (.aload_n 0, 1) := dk_42 (dk_at dksX1_mendedSet_2 19 rfl rfl)
theorem dX1_mendedSet_68 : decode cX1_mendedSet 68 = .ok (.getfield 47, 3) := dk_180 0 47 (dk_at dksX1_mendedSet_2 20 rfl rfl)
theorem dX1_mendedSet_71 : decode cX1_mendedSet 71 = .ok (.aload_n 0, 1) := dk_42 (dk_at dksX1_mendedSet_2 23 rfl rfl)
theorem dX1_mendedSet_72 : decode cX1_mendedSet 72 = .ok (.getfield 40, 3) := dk_180 0 40 (dk_at dksX1_mendedSet_3 0 rfl rfl)
theorem dX1_mendedSet_75 : decode cX1_mendedSet 75 = .ok (.invokevirtual 115, 3) := dk_182 0 115 (dk_at dksX1_mendedSet_3 3 rfl rfl)
theorem dX1_mendedSet_78 : decode cX1_mendedSet 78 = .ok (.iload_n 3, 1) := dk_29 (dk_at dksX1_mendedSet_3 6 rfl rfl)
theorem dX1_mendedSet_79 : decode cX1_mendedSet 79 = .ok (.invokespecial 189, 3) := dk_183 0 189 (dk_at dksX1_mendedSet_3 7 rfl rfl)
theorem dX1_mendedSet_82 : decode cX1_mendedSet 82 = .ok (.invokevirtual 192, 3) := dk_182 0 192 (dk_at dksX1_mendedSet_3 10 rfl rfl)
theorem dX1_mendedSet_85 : decode cX1_mendedSet 85 = .ok (.ifCond .ne 5, 3) := dk_154 0 5 (dk_at dksX1_mendedSet_3 13 rfl rfl)
theorem dX1_mendedSet_88 : decode cX1_mendedSet 88 = .ok (.iload_n 3, 1) := dk_29 (dk_at dksX1_mendedSet_3 16 rfl rfl)
theorem dX1_mendedSet_89 : decode cX1_mendedSet 89 = .ok (.ireturn, 1) := dk_172 (dk_at dksX1_mendedSet_3 17 rfl rfl)
theorem dX1_mendedSet_90 : decode cX1_mendedSet 90 = .ok (.iinc 3 1, 3) := dk_132 3 1 (dk_at dksX1_mendedSet_3 18 rfl rfl)
theorem dX1_mendedSet_93 : decode cX1_mendedSet 93 = .ok (.goto (-55), 3) := dk_167 255 201 (dk_at dksX1_mendedSet_3 21 rfl rfl)
theorem dX1_mendedSet_96 : decode cX1_mendedSet 96 = .ok (.iinc 2 1, 3) := dk_132 2 1 (dk_at dksX1_mendedSet_4 0 rfl rfl)
theorem dX1_mendedSet_99 : decode cX1_mendedSet 99 = .ok (.goto (-74), 3) := dk_167 255 182 (dk_at dksX1_mendedSet_4 3 rfl rfl)
theorem dX1_mendedSet_102 : decode cX1_mendedSet 102 = .ok (.bipush (-2), 2) := dk_16 254 (dk_at dksX1_mendedSet_4 6 rfl rfl)
theorem dX1_mendedSet_104 : decode cX1_mendedSet 104 = .ok (.ireturn, 1) := dk_172 (dk_at dksX1_mendedSet_4 8 rfl rfl)
abbrev cX1_mend : ByteArray := prog_1_method_30_code
def yX1_mend : MethodName := ⟨RX1, "mend", "()I"⟩
def dkwX1_mend_1 : List UInt8 := [182, 0, 115, 87, 27, 172]
abbrev dktX1_mend_1 : List UInt8 := dkwX1_mend_1 ++ []
def dkwX1_mend_0 : List UInt8 := [42, 182, 0, 203, 60, 27, 157, 0, 5, 27, 172, 42, 182, 0, 136, 42, 180, 0, 40, 42, 180, 0, 47]
abbrev dktX1_mend_0 : List UInt8 := dkwX1_mend_0 ++ dktX1_mend_1
theorem dksX1_mend_0 : cX1_mend.data.toList.drop 0 = dktX1_mend_0 := by decide +kernel
theorem dksX1_mend_1 : cX1_mend.data.toList.drop 23 = dktX1_mend_1 := dk_seg dksX1_mend_0 23 rfl rfl
theorem dX1_mend_0 : decode cX1_mend 0 = .ok (.aload_n 0, 1) := dk_42 (dk_at dksX1_mend_0 0 rfl rfl)
theorem dX1_mend_1 : decode cX1_mend 1 = .ok (.invokevirtual 203, 3) := dk_182 0 203 (dk_at dksX1_mend_0 1 rfl rfl)
theorem dX1_mend_4 : decode cX1_mend 4 = .ok (.istore_n 1, 1) := dk_60 (dk_at dksX1_mend_0 4 rfl rfl)
theorem dX1_mend_5 : decode cX1_mend 5 = .ok (.iload_n 1, 1) := dk_27 (dk_at dksX1_mend_0 5 rfl rfl)
theorem dX1_mend_6 : decode cX1_mend 6 = .ok (.ifCond .gt 5, 3) := dk_157 0 5 (dk_at dksX1_mend_0 6 rfl rfl)
theorem dX1_mend_9 : decode cX1_mend 9 = .ok (.iload_n 1, 1) := dk_27 (dk_at dksX1_mend_0 9 rfl rfl)
theorem dX1_mend_10 : decode cX1_mend 10 = .ok (.ireturn, 1) := dk_172 (dk_at dksX1_mend_0 10 rfl rfl)
theorem dX1_mend_11 : decode cX1_mend 11 = .ok (.aload_n 0, 1) := dk_42 (dk_at dksX1_mend_0 11 rfl rfl)
theorem dX1_mend_12 : decode cX1_mend 12 = .ok (.invokevirtual 136, 3) := dk_182 0 136 (dk_at dksX1_mend_0 12 rfl rfl)
theorem dX1_mend_15 : decode cX1_mend 15 = .ok (.aload_n 0, 1) := dk_42 (dk_at dksX1_mend_0 15 rfl rfl)
theorem dX1_mend_16 : decode cX1_mend 16 = .ok (.getfield 40, 3) := dk_180 0 40 (dk_at dksX1_mend_0 16 rfl rfl)
theorem dX1_mend_19 : decode cX1_mend 19 = .ok (.aload_n 0, 1) := dk_42 (dk_at dksX1_mend_0 19 rfl rfl)
theorem dX1_mend_20 : decode cX1_mend 20 = .ok (.getfield 47, 3) := dk_180 0 47 (dk_at dksX1_mend_0 20 rfl rfl)
theorem dX1_mend_23 : decode cX1_mend 23 = .ok (.invokevirtual 115, 3) := dk_182 0 115 (dk_at dksX1_mend_1 0 rfl rfl)
theorem dX1_mend_26 : decode cX1_mend 26 = .ok (.pop, 1) := dk_87 (dk_at dksX1_mend_1 3 rfl rfl)
theorem dX1_mend_27 : decode cX1_mend 27 = .ok (.iload_n 1, 1) := dk_27 (dk_at dksX1_mend_1 4 rfl rfl)
theorem dX1_mend_28 : decode cX1_mend 28 = .ok (.ireturn, 1) := dk_172 (dk_at dksX1_mend_1 5 rfl rfl)
abbrev cX1_leastBand : ByteArray := prog_1_method_31_code
def yX1_leastBand : MethodName := ⟨RX1, "leastBand", "()I"⟩
def dkwX1_leastBand_2 : List UInt8 := [132, 1, 1, 167, 255, 208, 16, 254, 172]
abbrev dktX1_leastBand_2 : List UInt8 := dkwX1_leastBand_2 ++ []
def dkwX1_leastBand_1 : List UInt8 := [4, 42, 180, 0, 33, 180, 0, 119, 120, 4, 100, 27, 183, 0, 206, 182, 0, 192, 154, 0, 5, 27, 172]
abbrev dktX1_leastBand_1 : List UInt8 := dkwX1_leastBand_1 ++ dktX1_leastBand_2
def dkwX1_leastBand_0 : List UInt8 := [7, 60, 27, 16, 60, 163, 0, 48, 187, 0, 184, 89, 42, 42, 180, 0, 47, 42, 180, 0, 40, 182, 0, 115]
abbrev dktX1_leastBand_0 : List UInt8 := dkwX1_leastBand_0 ++ dktX1_leastBand_1
theorem dksX1_leastBand_0 : cX1_leastBand.data.toList.drop 0 = dktX1_leastBand_0 := by decide +kernel
theorem dksX1_leastBand_1 : cX1_leastBand.data.toList.drop 24 = dktX1_leastBand_1 := dk_seg dksX1_leastBand_0 24 rfl rfl
theorem dksX1_leastBand_2 : cX1_leastBand.data.toList.drop 47 = dktX1_leastBand_2 := dk_seg dksX1_leastBand_1 23 rfl rfl
theorem dX1_leastBand_0 : decode cX1_leastBand 0 = .ok (.iconst 4, 1) := dk_7 (dk_at dksX1_leastBand_0 0 rfl rfl)
theorem dX1_leastBand_1 : decode cX1_leastBand 1 = .ok (.istore_n 1, 1) := dk_60 (dk_at dksX1_leastBand_0 1 rfl rfl)
theorem dX1_leastBand_2 : decode cX1_leastBand 2 = .ok (.iload_n 1, 1) := dk_27 (dk_at dksX1_leastBand_0 2 rfl rfl)
theorem dX1_leastBand_3 : decode cX1_leastBand 3 = .ok (.bipush 60, 2) := dk_16 60 (dk_at dksX1_leastBand_0 3 rfl rfl)
theorem dX1_leastBand_5 : decode cX1_leastBand 5 = .ok (.if_icmp .gt 48, 3) := dk_163 0 48 (dk_at dksX1_leastBand_0 5 rfl rfl)
theorem dX1_leastBand_8 : decode cX1_leastBand 8 = .ok (.new 184, 3) := dk_187 0 184 (dk_at dksX1_leastBand_0 8 rfl rfl)
theorem dX1_leastBand_11 : decode cX1_leastBand 11 = .ok (.dup, 1) := dk_89 (dk_at dksX1_leastBand_0 11 rfl rfl)
theorem dX1_leastBand_12 : decode cX1_leastBand 12 = .ok (.aload_n 0, 1) := dk_42 (dk_at dksX1_leastBand_0 12 rfl rfl)
theorem dX1_leastBand_13 : decode cX1_leastBand 13 = .ok (.aload_n 0, 1) := dk_42 (dk_at dksX1_leastBand_0 13 rfl rfl)
theorem dX1_leastBand_14 : decode cX1_leastBand 14 = .ok (.getfield 47, 3) := dk_180 0 47 (dk_at dksX1_leastBand_0 14 rfl rfl)
theorem dX1_leastBand_17 : decode cX1_leastBand 17 = .ok (.aload_n 0, 1) := dk_42 (dk_at dksX1_leastBand_0 17 rfl rfl)
theorem dX1_leastBand_18 : decode cX1_leastBand 18 = .ok (.getfield 40, 3) := dk_180 0 40 (dk_at dksX1_leastBand_0 18 rfl rfl)
theorem dX1_leastBand_21 : decode cX1_leastBand 21 = .ok (.invokevirtual 115, 3) := dk_182 0 115 (dk_at dksX1_leastBand_0 21 rfl rfl)
theorem dX1_leastBand_24 : decode cX1_leastBand 24 = .ok (.iconst 1, 1) := dk_4 (dk_at dksX1_leastBand_1 0 rfl rfl)
theorem dX1_leastBand_25 : decode cX1_leastBand 25 = .ok (.aload_n 0, 1) := dk_42 (dk_at dksX1_leastBand_1 1 rfl rfl)
theorem dX1_leastBand_26 : decode cX1_leastBand 26 = .ok (.getfield 33, 3) := dk_180 0 33 (dk_at dksX1_leastBand_1 2 rfl rfl)
theorem dX1_leastBand_29 : decode cX1_leastBand 29 = .ok (.getfield 119, 3) := dk_180 0 119 (dk_at dksX1_leastBand_1 5 rfl rfl)
theorem dX1_leastBand_32 : decode cX1_leastBand 32 = .ok (.ishl, 1) := dk_120 (dk_at dksX1_leastBand_1 8 rfl rfl)
theorem dX1_leastBand_33 : decode cX1_leastBand 33 = .ok (.iconst 1, 1) := dk_4 (dk_at dksX1_leastBand_1 9 rfl rfl)
theorem dX1_leastBand_34 : decode cX1_leastBand 34 = .ok (.isub, 1) := dk_100 (dk_at dksX1_leastBand_1 10 rfl rfl)
theorem dX1_leastBand_35 : decode cX1_leastBand 35 = .ok (.iload_n 1, 1) := dk_27 (dk_at dksX1_leastBand_1 11 rfl rfl)
theorem dX1_leastBand_36 : decode cX1_leastBand 36 = .ok (.invokespecial 206, 3) := dk_183 0 206 (dk_at dksX1_leastBand_1 12 rfl rfl)
theorem dX1_leastBand_39 : decode cX1_leastBand 39 = .ok (.invokevirtual 192, 3) := dk_182 0 192 (dk_at dksX1_leastBand_1 15 rfl rfl)
theorem dX1_leastBand_42 : decode cX1_leastBand 42 = .ok (.ifCond .ne 5, 3) := dk_154 0 5 (dk_at dksX1_leastBand_1 18 rfl rfl)
theorem dX1_leastBand_45 : decode cX1_leastBand 45 = .ok (.iload_n 1, 1) := dk_27 (dk_at dksX1_leastBand_1 21 rfl rfl)
theorem dX1_leastBand_46 : decode cX1_leastBand 46 = .ok (.ireturn, 1) := dk_172 (dk_at dksX1_leastBand_1 22 rfl rfl)
theorem dX1_leastBand_47 : decode cX1_leastBand 47 = .ok (.iinc 1 1, 3) := dk_132 1 1 (dk_at dksX1_leastBand_2 0 rfl rfl)
theorem dX1_leastBand_50 : decode cX1_leastBand 50 = .ok (.goto (-48), 3) := dk_167 255 208 (dk_at dksX1_leastBand_2 3 rfl rfl)
theorem dX1_leastBand_53 : decode cX1_leastBand 53 = .ok (.bipush (-2), 2) := dk_16 254 (dk_at dksX1_leastBand_2 6 rfl rfl)
theorem dX1_leastBand_55 : decode cX1_leastBand 55 = .ok (.ireturn, 1) := dk_172 (dk_at dksX1_leastBand_2 8 rfl rfl)
abbrev cX1_blocked : ByteArray := prog_1_method_33_code
def yX1_blocked : MethodName := ⟨RX1, "blocked", "(I)I"⟩
def dkwX1_blocked_1 : List UInt8 := [4, 167, 0, 4, 3, 172]
abbrev dktX1_blocked_1 : List UInt8 := dkwX1_blocked_1 ++ []
def dkwX1_blocked_0 : List UInt8 := [42, 27, 182, 0, 139, 154, 0, 7, 2, 167, 0, 20, 42, 180, 0, 40, 180, 0, 142, 27, 51, 153, 0, 7]
abbrev dktX1_blocked_0 : List UInt8 := dkwX1_blocked_0 ++ dktX1_blocked_1
theorem dksX1_blocked_0 : cX1_blocked.data.toList.drop 0 = dktX1_blocked_0 := by decide +kernel
theorem dksX1_blocked_1 : cX1_blocked.data.toList.drop 24 = dktX1_blocked_1 := dk_seg dksX1_blocked_0 24 rfl rfl
theorem dX1_blocked_0 : decode cX1_blocked 0 = .ok (.aload_n 0, 1) := dk_42 (dk_at dksX1_blocked_0 0 rfl rfl)
theorem dX1_blocked_1 : decode cX1_blocked 1 = .ok (.iload_n 1, 1) := dk_27 (dk_at dksX1_blocked_0 1 rfl rfl)
theorem dX1_blocked_2 : decode cX1_blocked 2 = .ok (.invokevirtual 139, 3) := dk_182 0 139 (dk_at dksX1_blocked_0 2 rfl rfl)
theorem dX1_blocked_5 : decode cX1_blocked 5 = .ok (.ifCond .ne 7, 3) := dk_154 0 7 (dk_at dksX1_blocked_0 5 rfl rfl)
theorem dX1_blocked_8 : decode cX1_blocked 8 = .ok (.iconst (-1), 1) := dk_2 (dk_at dksX1_blocked_0 8 rfl rfl)
theorem dX1_blocked_9 : decode cX1_blocked 9 = .ok (.goto 20, 3) := dk_167 0 20 (dk_at dksX1_blocked_0 9 rfl rfl)
theorem dX1_blocked_12 : decode cX1_blocked 12 = .ok (.aload_n 0, 1) := dk_42 (dk_at dksX1_blocked_0 12 rfl rfl)
theorem dX1_blocked_13 : decode cX1_blocked 13 = .ok (.getfield 40, 3) := dk_180 0 40 (dk_at dksX1_blocked_0 13 rfl rfl)
theorem dX1_blocked_16 : decode cX1_blocked 16 = .ok (.getfield 142, 3) := dk_180 0 142 (dk_at dksX1_blocked_0 16 rfl rfl)
theorem dX1_blocked_19 : decode cX1_blocked 19 = .ok (.iload_n 1, 1) := dk_27 (dk_at dksX1_blocked_0 19 rfl rfl)
theorem dX1_blocked_20 : decode cX1_blocked 20 = .ok (.baload, 1) := dk_51 (dk_at dksX1_blocked_0 20 rfl rfl)
theorem dX1_blocked_21 : decode cX1_blocked 21 = .ok (.ifCond .eq 7, 3) := dk_153 0 7 (dk_at dksX1_blocked_0 21 rfl rfl)
theorem dX1_blocked_24 : decode cX1_blocked 24 = .ok (.iconst 1, 1) := dk_4 (dk_at dksX1_blocked_1 0 rfl rfl)
theorem dX1_blocked_25 : decode cX1_blocked 25 = .ok (.goto 4, 3) := dk_167 0 4 (dk_at dksX1_blocked_1 1 rfl rfl)
theorem dX1_blocked_28 : decode cX1_blocked 28 = .ok (.iconst 0, 1) := dk_3 (dk_at dksX1_blocked_1 4 rfl rfl)
theorem dX1_blocked_29 : decode cX1_blocked 29 = .ok (.ireturn, 1) := dk_172 (dk_at dksX1_blocked_1 5 rfl rfl)
abbrev cX1_products : ByteArray := prog_1_method_34_code
def yX1_products : MethodName := ⟨RX1, "products", "(I)I"⟩
def dkwX1_products_2 : List UInt8 := [167, 0, 7, 44, 180, 0, 230, 172]
abbrev dktX1_products_2 : List UInt8 := dkwX1_products_2 ++ []
def dkwX1_products_1 : List UInt8 := [167, 0, 31, 27, 4, 160, 0, 10, 44, 180, 0, 224, 167, 0, 19, 27, 5, 160, 0, 10, 44, 180, 0, 227]
abbrev dktX1_products_1 : List UInt8 := dkwX1_products_1 ++ dktX1_products_2
def dkwX1_products_0 : List UInt8 := [27, 3, 6, 184, 0, 75, 154, 0, 5, 2, 172, 42, 182, 0, 218, 77, 27, 154, 0, 10, 44, 180, 0, 221]
abbrev dktX1_products_0 : List UInt8 := dkwX1_products_0 ++ dktX1_products_1
theorem dksX1_products_0 : cX1_products.data.toList.drop 0 = dktX1_products_0 := by decide +kernel
theorem dksX1_products_1 : cX1_products.data.toList.drop 24 = dktX1_products_1 := dk_seg dksX1_products_0 24 rfl rfl
theorem dksX1_products_2 : cX1_products.data.toList.drop 48 = dktX1_products_2 := dk_seg dksX1_products_1 24 rfl rfl
theorem dX1_products_0 : decode cX1_products 0 = .ok (.iload_n 1, 1) := dk_27 (dk_at dksX1_products_0 0 rfl rfl)
theorem dX1_products_1 : decode cX1_products 1 = .ok (.iconst 0, 1) := dk_3 (dk_at dksX1_products_0 1 rfl rfl)
theorem dX1_products_2 : decode cX1_products 2 = .ok (.iconst 3, 1) := dk_6 (dk_at dksX1_products_0 2 rfl rfl)
theorem dX1_products_3 : decode cX1_products 3 = .ok (.invokestatic 75, 3) := dk_184 0 75 (dk_at dksX1_products_0 3 rfl rfl)
theorem dX1_products_6 : decode cX1_products 6 = .ok (.ifCond .ne 5, 3) := dk_154 0 5 (dk_at dksX1_products_0 6 rfl rfl)
theorem dX1_products_9 : decode cX1_products 9 = .ok (.iconst (-1), 1) := dk_2 (dk_at dksX1_products_0 9 rfl rfl)
theorem dX1_products_10 : decode cX1_products 10 = .ok (.ireturn, 1) := dk_172 (dk_at dksX1_products_0 10 rfl rfl)
theorem dX1_products_11 : decode cX1_products 11 = .ok (.aload_n 0, 1) := dk_42 (dk_at dksX1_products_0 11 rfl rfl)
theorem dX1_products_12 : decode cX1_products 12 = .ok (.invokevirtual 218, 3) := dk_182 0 218 (dk_at dksX1_products_0 12 rfl rfl)
theorem dX1_products_15 : decode cX1_products 15 = .ok (.astore_n 2, 1) := dk_77 (dk_at dksX1_products_0 15 rfl rfl)
theorem dX1_products_16 : decode cX1_products 16 = .ok (.iload_n 1, 1) := dk_27 (dk_at dksX1_products_0 16 rfl rfl)
theorem dX1_products_17 : decode cX1_products 17 = .ok (.ifCond .ne 10, 3) := dk_154 0 10 (dk_at dksX1_products_0 17 rfl rfl)
theorem dX1_products_20 : decode cX1_products 20 = .ok (.aload_n 2, 1) := dk_44 (dk_at dksX1_products_0 20 rfl rfl)
theorem dX1_products_21 : decode cX1_products 21 = .ok (.getfield 221, 3) := dk_180 0 221 (dk_at dksX1_products_0 21 rfl rfl)
theorem dX1_products_24 : decode cX1_products 24 = .ok (.goto 31, 3) := dk_167 0 31 (dk_at dksX1_products_1 0 rfl rfl)
theorem dX1_products_27 : decode cX1_products 27 = .ok (.iload_n 1, 1) := dk_27 (dk_at dksX1_products_1 3 rfl rfl)
theorem dX1_products_28 : decode cX1_products 28 = .ok (.iconst 1, 1) := dk_4 (dk_at dksX1_products_1 4 rfl rfl)
theorem dX1_products_29 : decode cX1_products 29 = .ok (.if_icmp .ne 10, 3) := dk_160 0 10 (dk_at dksX1_products_1 5 rfl rfl)
theorem dX1_products_32 : decode cX1_products 32 = .ok (.aload_n 2, 1) := dk_44 (dk_at dksX1_products_1 8 rfl rfl)
theorem dX1_products_33 : decode cX1_products 33 = .ok (.getfield 224, 3) := dk_180 0 224 (dk_at dksX1_products_1 9 rfl rfl)
theorem dX1_products_36 : decode cX1_products 36 = .ok (.goto 19, 3) := dk_167 0 19 (dk_at dksX1_products_1 12 rfl rfl)
theorem dX1_products_39 : decode cX1_products 39 = .ok (.iload_n 1, 1) := dk_27 (dk_at dksX1_products_1 15 rfl rfl)
theorem dX1_products_40 : decode cX1_products 40 = .ok (.iconst 2, 1) := dk_5 (dk_at dksX1_products_1 16 rfl rfl)
theorem dX1_products_41 : decode cX1_products 41 = .ok (.if_icmp .ne 10, 3) := dk_160 0 10 (dk_at dksX1_products_1 17 rfl rfl)
theorem dX1_products_44 : decode cX1_products 44 = .ok (.aload_n 2, 1) := dk_44 (dk_at dksX1_products_1 20 rfl rfl)
theorem dX1_products_45 : decode cX1_products 45 = .ok (.getfield 227, 3) := dk_180 0 227 (dk_at dksX1_products_1 21 rfl rfl)
theorem dX1_products_48 : decode cX1_products 48 = .ok (.goto 7, 3) := dk_167 0 7 (dk_at dksX1_products_2 0 rfl rfl)
theorem dX1_products_51 : decode cX1_products 51 = .ok (.aload_n 2, 1) := dk_44 (dk_at dksX1_products_2 3 rfl rfl)
theorem dX1_products_52 : decode cX1_products 52 = .ok (.getfield 230, 3) := dk_180 0 230 (dk_at dksX1_products_2 4 rfl rfl)
theorem dX1_products_55 : decode cX1_products 55 = .ok (.ireturn, 1) := dk_172 (dk_at dksX1_products_2 7 rfl rfl)
abbrev cX1_nowAir : ByteArray := prog_1_method_21_code
def yX1_nowAir : MethodName := ⟨RX1, "nowAir", "()LQuietChannels$Air;"⟩
def dkwX1_nowAir_0 : List UInt8 := [42, 180, 0, 59, 42, 180, 0, 40, 182, 0, 152, 182, 0, 156, 176]
abbrev dktX1_nowAir_0 : List UInt8 := dkwX1_nowAir_0 ++ []
theorem dksX1_nowAir_0 : cX1_nowAir.data.toList.drop 0 = dktX1_nowAir_0 := by decide +kernel
theorem dX1_nowAir_0 : decode cX1_nowAir 0 = .ok (.aload_n 0, 1) := dk_42 (dk_at dksX1_nowAir_0 0 rfl rfl)
theorem dX1_nowAir_1 : decode cX1_nowAir 1 = .ok (.getfield 59, 3) := dk_180 0 59 (dk_at dksX1_nowAir_0 1 rfl rfl)
theorem dX1_nowAir_4 : decode cX1_nowAir 4 = .ok (.aload_n 0, 1) := dk_42 (dk_at dksX1_nowAir_0 4 rfl rfl)
theorem dX1_nowAir_5 : decode cX1_nowAir 5 = .ok (.getfield 40, 3) := dk_180 0 40 (dk_at dksX1_nowAir_0 5 rfl rfl)
theorem dX1_nowAir_8 : decode cX1_nowAir 8 = .ok (.invokevirtual 152, 3) := dk_182 0 152 (dk_at dksX1_nowAir_0 8 rfl rfl)
theorem dX1_nowAir_11 : decode cX1_nowAir 11 = .ok (.invokevirtual 156, 3) := dk_182 0 156 (dk_at dksX1_nowAir_0 11 rfl rfl)
theorem dX1_nowAir_14 : decode cX1_nowAir 14 = .ok (.areturn, 1) := dk_176 (dk_at dksX1_nowAir_0 14 rfl rfl)
abbrev cX1_product : ByteArray := prog_1_method_35_code
def yX1_product : MethodName := ⟨RX1, "product", "(II)I"⟩
def dkwX1_product_4 : List UInt8 := [172, 45, 180, 0, 249, 172, 45, 180, 0, 252, 172]
abbrev dktX1_product_4 : List UInt8 := dkwX1_product_4 ++ []
def dkwX1_product_3 : List UInt8 := [45, 180, 0, 236, 172, 45, 180, 0, 237, 172, 45, 180, 0, 240, 172, 45, 180, 0, 243, 172, 45, 180, 0, 246]
abbrev dktX1_product_3 : List UInt8 := dkwX1_product_3 ++ dktX1_product_4
def dkwX1_product_2 : List UInt8 := [170, 0, 0, 0, 67, 0, 0, 0, 0, 0, 0, 0, 5, 0, 0, 0, 37, 0, 0, 0, 42, 0, 0, 0, 47, 0, 0, 0, 52, 0, 0, 0, 57, 0, 0, 0, 62]
abbrev dktX1_product_2 : List UInt8 := dkwX1_product_2 ++ dktX1_product_3
def dkwX1_product_1 : List UInt8 := [180, 0, 40, 182, 0, 152, 27, 182, 0, 233, 78, 27, 45, 180, 0, 221, 161, 0, 7, 17, 252, 24, 172, 28]
abbrev dktX1_product_1 : List UInt8 := dkwX1_product_1 ++ dktX1_product_2
def dkwX1_product_0 : List UInt8 := [27, 155, 0, 13, 28, 3, 16, 6, 184, 0, 75, 154, 0, 7, 17, 252, 24, 172, 42, 180, 0, 59, 42]
abbrev dktX1_product_0 : List UInt8 := dkwX1_product_0 ++ dktX1_product_1
theorem dksX1_product_0 : cX1_product.data.toList.drop 0 = dktX1_product_0 := by decide +kernel
theorem dksX1_product_1 : cX1_product.data.toList.drop 23 = dktX1_product_1 := dk_seg dksX1_product_0 23 rfl rfl
theorem dksX1_product_2 : cX1_product.data.toList.drop 47 = dktX1_product_2 := dk_seg dksX1_product_1 24 rfl rfl
theorem dksX1_product_3 : cX1_product.data.toList.drop 84 = dktX1_product_3 := dk_seg dksX1_product_2 37 rfl rfl
theorem dksX1_product_4 : cX1_product.data.toList.drop 108 = dktX1_product_4 := dk_seg dksX1_product_3 24 rfl rfl
theorem dX1_product_0 : decode cX1_product 0 = .ok (.iload_n 1, 1) := dk_27 (dk_at dksX1_product_0 0 rfl rfl)
theorem dX1_product_1 : decode cX1_product 1 = .ok (.ifCond .lt 13, 3) := dk_155 0 13 (dk_at dksX1_product_0 1 rfl rfl)
theorem dX1_product_4 : decode cX1_product 4 = .ok (.iload_n 2, 1) := dk_28 (dk_at dksX1_product_0 4 rfl rfl)
theorem dX1_product_5 : decode cX1_product 5 = .ok (.iconst 0, 1) := dk_3 (dk_at dksX1_product_0 5 rfl rfl)
theorem dX1_product_6 : decode cX1_product 6 = .ok (.bipush 6, 2) := dk_16 6 (dk_at dksX1_product_0 6 rfl rfl)
theorem dX1_product_8 : decode cX1_product 8 = .ok (.invokestatic 75, 3) := dk_184 0 75 (dk_at dksX1_product_0 8 rfl rfl)
theorem dX1_product_11 : decode cX1_product 11 = .ok (.ifCond .ne 7, 3) := dk_154 0 7 (dk_at dksX1_product_0 11 rfl rfl)
theorem dX1_product_14 : decode cX1_product 14 = .ok (.sipush (-1000), 3) := dk_17 252 24 (dk_at dksX1_product_0 14 rfl rfl)
theorem dX1_product_17 : decode cX1_product 17 = .ok (.ireturn, 1) := dk_172 (dk_at dksX1_product_0 17 rfl rfl)
theorem dX1_product_18 : decode cX1_product 18 = .ok (.aload_n 0, 1) := dk_42 (dk_at dksX1_product_0 18 rfl rfl)
theorem dX1_product_19 : decode cX1_product 19 = .ok (.getfield 59, 3) := dk_180 0 59 (dk_at dksX1_product_0 19 rfl rfl)
theorem dX1_product_22 : decode cX1_product 22 = .ok (.aload_n 0, 1) := dk_42 (dk_at dksX1_product_0 22 rfl rfl)
theorem dX1_product_23 : decode cX1_product 23 = .ok (.getfield 40, 3) := dk_180 0 40 (dk_at dksX1_product_1 0 rfl rfl)
theorem dX1_product_26 : decode cX1_product 26 = .ok (.invokevirtual 152, 3) := dk_182 0 152 (dk_at dksX1_product_1 3 rfl rfl)
theorem dX1_product_29 : decode cX1_product 29 = .ok (.iload_n 1, 1) := dk_27 (dk_at dksX1_product_1 6 rfl rfl)
theorem dX1_product_30 : decode cX1_product 30 = .ok (.invokevirtual 233, 3) := dk_182 0 233 (dk_at dksX1_product_1 7 rfl rfl)
theorem dX1_product_33 : decode cX1_product 33 = .ok (.astore_n 3, 1) := dk_78 (dk_at dksX1_product_1 10 rfl rfl)
theorem dX1_product_34 : decode cX1_product 34 = .ok (.iload_n 1, 1) := dk_27 (dk_at dksX1_product_1 11 rfl rfl)
theorem dX1_product_35 : decode cX1_product 35 = .ok (.aload_n 3, 1) := dk_45 (dk_at dksX1_product_1 12 rfl rfl)
theorem dX1_product_36 : decode cX1_product 36 = .ok (.getfield 221, 3) := dk_180 0 221 (dk_at dksX1_product_1 13 rfl rfl)
theorem dX1_product_39 : decode cX1_product 39 = .ok (.if_icmp .lt 7, 3) := dk_161 0 7 (dk_at dksX1_product_1 16 rfl rfl)
theorem dX1_product_42 : decode cX1_product 42 = .ok (.sipush (-1000), 3) := dk_17 252 24 (dk_at dksX1_product_1 19 rfl rfl)
theorem dX1_product_45 : decode cX1_product 45 = .ok (.ireturn, 1) := dk_172 (dk_at dksX1_product_1 22 rfl rfl)
theorem dX1_product_46 : decode cX1_product 46 = .ok (.iload_n 2, 1) := dk_28 (dk_at dksX1_product_1 23 rfl rfl)
theorem dX1_product_47 : decode cX1_product 47 = .ok (.tableswitch 67 0 5 #[37, 42, 47, 52, 57, 62], 37) := by decide +kernel
theorem dX1_product_84 : decode cX1_product 84 = .ok (.aload_n 3, 1) := dk_45 (dk_at dksX1_product_3 0 rfl rfl)
theorem dX1_product_85 : decode cX1_product 85 = .ok (.getfield 236, 3) := dk_180 0 236 (dk_at dksX1_product_3 1 rfl rfl)
theorem dX1_product_88 : decode cX1_product 88 = .ok (.ireturn, 1) := dk_172 (dk_at dksX1_product_3 4 rfl rfl)
theorem dX1_product_89 : decode cX1_product 89 = .ok (.aload_n 3, 1) := dk_45 (dk_at dksX1_product_3 5 rfl rfl)
theorem dX1_product_90 : decode cX1_product 90 = .ok (.getfield 237, 3) := dk_180 0 237 (dk_at dksX1_product_3 6 rfl rfl)
theorem dX1_product_93 : decode cX1_product 93 = .ok (.ireturn, 1) := dk_172 (dk_at dksX1_product_3 9 rfl rfl)
theorem dX1_product_94 : decode cX1_product 94 = .ok (.aload_n 3, 1) := dk_45 (dk_at dksX1_product_3 10 rfl rfl)
theorem dX1_product_95 : decode cX1_product 95 = .ok (.getfield 240, 3) := dk_180 0 240 (dk_at dksX1_product_3 11 rfl rfl)
theorem dX1_product_98 : decode cX1_product 98 = .ok (.ireturn, 1) := dk_172 (dk_at dksX1_product_3 14 rfl rfl)
theorem dX1_product_99 : decode cX1_product 99 = .ok (.aload_n 3, 1) := dk_45 (dk_at dksX1_product_3 15 rfl rfl)
theorem dX1_product_100 : decode cX1_product 100 = .ok (.getfield 243, 3) := dk_180 0 243 (dk_at dksX1_product_3 16 rfl rfl)
theorem dX1_product_103 : decode cX1_product 103 = .ok (.ireturn, 1) := dk_172 (dk_at dksX1_product_3 19 rfl rfl)
theorem dX1_product_104 : decode cX1_product 104 = .ok (.aload_n 3, 1) := dk_45 (dk_at dksX1_product_3 20 rfl rfl)
theorem dX1_product_105 : decode cX1_product 105 = .ok (.getfield 246, 3) := dk_180 0 246 (dk_at dksX1_product_3 21 rfl rfl)
theorem dX1_product_108 : decode cX1_product 108 = .ok (.ireturn, 1) := dk_172 (dk_at dksX1_product_4 0 rfl rfl)
theorem dX1_product_109 : decode cX1_product 109 = .ok (.aload_n 3, 1) := dk_45 (dk_at dksX1_product_4 1 rfl rfl)
theorem dX1_product_110 : decode cX1_product 110 = .ok (.getfield 249, 3) := dk_180 0 249 (dk_at dksX1_product_4 2 rfl rfl)
theorem dX1_product_113 : decode cX1_product 113 = .ok (.ireturn, 1) := dk_172 (dk_at dksX1_product_4 5 rfl rfl)
theorem dX1_product_114 : decode cX1_product 114 = .ok (.aload_n 3, 1) := dk_45 (dk_at dksX1_product_4 6 rfl rfl)
theorem dX1_product_115 : decode cX1_product 115 = .ok (.getfield 252, 3) := dk_180 0 252 (dk_at dksX1_product_4 7 rfl rfl)
theorem dX1_product_118 : decode cX1_product 118 = .ok (.ireturn, 1) := dk_172 (dk_at dksX1_product_4 10 rfl rfl)
abbrev cX1_hits : ByteArray := prog_1_method_36_code
def yX1_hits : MethodName := ⟨RX1, "hits", "(I)I"⟩
def dkwX1_hits_1 : List UInt8 := [16, 254, 167, 0, 12, 42, 182, 0, 218, 180, 0, 255, 27, 46, 172]
abbrev dktX1_hits_1 : List UInt8 := dkwX1_hits_1 ++ []
def dkwX1_hits_0 : List UInt8 := [42, 27, 182, 0, 132, 154, 0, 7, 2, 167, 0, 29, 42, 180, 0, 40, 180, 0, 122, 27, 46, 154, 0, 8]
abbrev dktX1_hits_0 : List UInt8 := dkwX1_hits_0 ++ dktX1_hits_1
theorem dksX1_hits_0 : cX1_hits.data.toList.drop 0 = dktX1_hits_0 := by decide +kernel
theorem dksX1_hits_1 : cX1_hits.data.toList.drop 24 = dktX1_hits_1 := dk_seg dksX1_hits_0 24 rfl rfl
theorem dX1_hits_0 : decode cX1_hits 0 = .ok (.aload_n 0, 1) := dk_42 (dk_at dksX1_hits_0 0 rfl rfl)
theorem dX1_hits_1 : decode cX1_hits 1 = .ok (.iload_n 1, 1) := dk_27 (dk_at dksX1_hits_0 1 rfl rfl)
theorem dX1_hits_2 : decode cX1_hits 2 = .ok (.invokevirtual 132, 3) := dk_182 0 132 (dk_at dksX1_hits_0 2 rfl rfl)
theorem dX1_hits_5 : decode cX1_hits 5 = .ok (.ifCond .ne 7, 3) := dk_154 0 7 (dk_at dksX1_hits_0 5 rfl rfl)
theorem dX1_hits_8 : decode cX1_hits 8 = .ok (.iconst (-1), 1) := dk_2 (dk_at dksX1_hits_0 8 rfl rfl)
theorem dX1_hits_9 : decode cX1_hits 9 = .ok (.goto 29, 3) := dk_167 0 29 (dk_at dksX1_hits_0 9 rfl rfl)
theorem dX1_hits_12 : decode cX1_hits 12 = .ok (.aload_n 0, 1) := dk_42 (dk_at dksX1_hits_0 12 rfl rfl)
theorem dX1_hits_13 : decode cX1_hits 13 = .ok (.getfield 40, 3) := dk_180 0 40 (dk_at dksX1_hits_0 13 rfl rfl)
theorem dX1_hits_16 : decode cX1_hits 16 = .ok (.getfield 122, 3) := dk_180 0 122 (dk_at dksX1_hits_0 16 rfl rfl)
theorem dX1_hits_19 : decode cX1_hits 19 = .ok (.iload_n 1, 1) := dk_27 (dk_at dksX1_hits_0 19 rfl rfl)
theorem dX1_hits_20 : decode cX1_hits 20 = .ok (.iaload, 1) := dk_46 (dk_at dksX1_hits_0 20 rfl rfl)
theorem dX1_hits_21 : decode cX1_hits 21 = .ok (.ifCond .ne 8, 3) := dk_154 0 8 (dk_at dksX1_hits_0 21 rfl rfl)
theorem dX1_hits_24 : decode cX1_hits 24 = .ok (.bipush (-2), 2) := dk_16 254 (dk_at dksX1_hits_1 0 rfl rfl)
theorem dX1_hits_26 : decode cX1_hits 26 = .ok (.goto 12, 3) := dk_167 0 12 (dk_at dksX1_hits_1 2 rfl rfl)
theorem dX1_hits_29 : decode cX1_hits 29 = .ok (.aload_n 0, 1) := dk_42 (dk_at dksX1_hits_1 5 rfl rfl)
theorem dX1_hits_30 : decode cX1_hits 30 = .ok (.invokevirtual 218, 3) := dk_182 0 218 (dk_at dksX1_hits_1 6 rfl rfl)
theorem dX1_hits_33 : decode cX1_hits 33 = .ok (.getfield 255, 3) := dk_180 0 255 (dk_at dksX1_hits_1 9 rfl rfl)
theorem dX1_hits_36 : decode cX1_hits 36 = .ok (.iload_n 1, 1) := dk_27 (dk_at dksX1_hits_1 12 rfl rfl)
theorem dX1_hits_37 : decode cX1_hits 37 = .ok (.iaload, 1) := dk_46 (dk_at dksX1_hits_1 13 rfl rfl)
theorem dX1_hits_38 : decode cX1_hits 38 = .ok (.ireturn, 1) := dk_172 (dk_at dksX1_hits_1 14 rfl rfl)
abbrev cX1_hitBy : ByteArray := prog_1_method_37_code
def yX1_hitBy : MethodName := ⟨RX1, "hitBy", "(II)I"⟩
def dkwX1_hitBy_3 : List UInt8 := [167, 255, 214, 16, 254, 172]
abbrev dktX1_hitBy_3 : List UInt8 := dkwX1_hitBy_3 ++ []
def dkwX1_hitBy_2 : List UInt8 := [27, 122, 4, 126, 154, 0, 6, 167, 0, 13, 29, 154, 0, 6, 21, 5, 172, 132, 3, 255, 132, 5, 1]
abbrev dktX1_hitBy_2 : List UInt8 := dkwX1_hitBy_2 ++ dktX1_hitBy_3
def dkwX1_hitBy_1 : List UInt8 := [54, 4, 3, 54, 5, 21, 5, 21, 4, 162, 0, 41, 42, 180, 0, 59, 21, 5, 182, 0, 233, 180, 0, 252]
abbrev dktX1_hitBy_1 : List UInt8 := dkwX1_hitBy_1 ++ dktX1_hitBy_2
def dkwX1_hitBy_0 : List UInt8 := [42, 27, 182, 0, 132, 153, 0, 7, 28, 156, 0, 5, 2, 172, 28, 62, 42, 182, 0, 218, 180, 0, 221]
abbrev dktX1_hitBy_0 : List UInt8 := dkwX1_hitBy_0 ++ dktX1_hitBy_1
theorem dksX1_hitBy_0 : cX1_hitBy.data.toList.drop 0 = dktX1_hitBy_0 := by decide +kernel
theorem dksX1_hitBy_1 : cX1_hitBy.data.toList.drop 23 = dktX1_hitBy_1 := dk_seg dksX1_hitBy_0 23 rfl rfl
theorem dksX1_hitBy_2 : cX1_hitBy.data.toList.drop 47 = dktX1_hitBy_2 := dk_seg dksX1_hitBy_1 24 rfl rfl
theorem dksX1_hitBy_3 : cX1_hitBy.data.toList.drop 70 = dktX1_hitBy_3 := dk_seg dksX1_hitBy_2 23 rfl rfl
theorem dX1_hitBy_0 : decode cX1_hitBy 0 = .ok (.aload_n 0, 1) := dk_42 (dk_at dksX1_hitBy_0 0 rfl rfl)
theorem dX1_hitBy_1 : decode cX1_hitBy 1 = .ok (.iload_n 1, 1) := dk_27 (dk_at dksX1_hitBy_0 1 rfl rfl)
theorem dX1_hitBy_2 : decode cX1_hitBy 2 = .ok (.invokevirtual 132, 3) := dk_182 0 132 (dk_at dksX1_hitBy_0 2 rfl rfl)
theorem dX1_hitBy_5 : decode cX1_hitBy 5 = .ok (.ifCond .eq 7, 3) := dk_153 0 7 (dk_at dksX1_hitBy_0 5 rfl rfl)
theorem dX1_hitBy_8 : decode cX1_hitBy 8 = .ok (.iload_n 2, 1) := dk_28 (dk_at dksX1_hitBy_0 8 rfl rfl)
theorem dX1_hitBy_9 : decode cX1_hitBy 9 = .ok (.ifCond .ge 5, 3) := dk_156 0 5 (dk_at dksX1_hitBy_0 9 rfl rfl)
theorem dX1_hitBy_12 : decode cX1_hitBy 12 = .ok (.iconst (-1), 1) := dk_2 (dk_at dksX1_hitBy_0 12 rfl rfl)
theorem dX1_hitBy_13 : decode cX1_hitBy 13 = .ok (.ireturn, 1) := dk_172 (dk_at dksX1_hitBy_0 13 rfl rfl)
theorem dX1_hitBy_14 : decode cX1_hitBy 14 = .ok (.iload_n 2, 1) := dk_28 (dk_at dksX1_hitBy_0 14 rfl rfl)
theorem dX1_hitBy_15 : decode cX1_hitBy 15 = .ok (.istore_n 3, 1) := dk_62 (dk_at dksX1_hitBy_0 15 rfl rfl)
theorem dX1_hitBy_16 : decode cX1_hitBy 16 = .ok (.aload_n 0, 1) := dk_42 (dk_at dksX1_hitBy_0 16 rfl rfl)
theorem dX1_hitBy_17 : decode cX1_hitBy 17 = .ok (.invokevirtual 218, 3) := dk_182 0 218 (dk_at dksX1_hitBy_0 17 rfl rfl)
theorem dX1_hitBy_20 : decode cX1_hitBy 20 = .ok (.getfield 221, 3) := dk_180 0 221 (dk_at dksX1_hitBy_0 20 rfl rfl)
theorem dX1_hitBy_23 : decode cX1_hitBy 23 = .ok (.istore 4, 2) := dk_54 4 (dk_at dksX1_hitBy_1 0 rfl rfl)
theorem dX1_hitBy_25 : decode cX1_hitBy 25 = .ok (.iconst 0, 1) := dk_3 (dk_at dksX1_hitBy_1 2 rfl rfl)
theorem dX1_hitBy_26 : decode cX1_hitBy 26 = .ok (.istore 5, 2) := dk_54 5 (dk_at dksX1_hitBy_1 3 rfl rfl)
theorem dX1_hitBy_28 : decode cX1_hitBy 28 = .ok (.iload 5, 2) := dk_21 5 (dk_at dksX1_hitBy_1 5 rfl rfl)
theorem dX1_hitBy_30 : decode cX1_hitBy 30 = .ok (.iload 4, 2) := dk_21 4 (dk_at dksX1_hitBy_1 7 rfl rfl)
theorem dX1_hitBy_32 : decode cX1_hitBy 32 = .ok (.if_icmp .ge 41, 3) := dk_162 0 41 (dk_at dksX1_hitBy_1 9 rfl rfl)
theorem dX1_hitBy_35 : decode cX1_hitBy 35 = .ok (.aload_n 0, 1) := dk_42 (dk_at dksX1_hitBy_1 12 rfl rfl)
theorem dX1_hitBy_36 : decode cX1_hitBy 36 = .ok (.getfield 59, 3) := dk_180 0 59 (dk_at dksX1_hitBy_1 13 rfl rfl)
theorem dX1_hitBy_39 : decode cX1_hitBy 39 = .ok (.iload 5, 2) := dk_21 5 (dk_at dksX1_hitBy_1 16 rfl rfl)
theorem dX1_hitBy_41 : decode cX1_hitBy 41 = .ok (.invokevirtual 233, 3) := dk_182 0 233 (dk_at dksX1_hitBy_1 18 rfl rfl)
theorem dX1_hitBy_44 : decode cX1_hitBy 44 = .ok (.getfield 252, 3) := dk_180 0 252 (dk_at dksX1_hitBy_1 21 rfl rfl)
theorem dX1_hitBy_47 : decode cX1_hitBy 47 = .ok (.iload_n 1, 1) := dk_27 (dk_at dksX1_hitBy_2 0 rfl rfl)
theorem dX1_hitBy_48 : decode cX1_hitBy 48 = .ok (.ishr, 1) := dk_122 (dk_at dksX1_hitBy_2 1 rfl rfl)
theorem dX1_hitBy_49 : decode cX1_hitBy 49 = .ok (.iconst 1, 1) := dk_4 (dk_at dksX1_hitBy_2 2 rfl rfl)
theorem dX1_hitBy_50 : decode cX1_hitBy 50 = .ok (.iand, 1) := dk_126 (dk_at dksX1_hitBy_2 3 rfl rfl)
theorem dX1_hitBy_51 : decode cX1_hitBy 51 = .ok (.ifCond .ne 6, 3) := dk_154 0 6 (dk_at dksX1_hitBy_2 4 rfl rfl)
theorem dX1_hitBy_54 : decode cX1_hitBy 54 = .ok (.goto 13, 3) := dk_167 0 13 (dk_at dksX1_hitBy_2 7 rfl rfl)
theorem dX1_hitBy_57 : decode cX1_hitBy 57 = .ok (.iload_n 3, 1) := dk_29 (dk_at dksX1_hitBy_2 10 rfl rfl)
theorem dX1_hitBy_58 : decode cX1_hitBy 58 = .ok (.ifCond .ne 6, 3) := dk_154 0 6 (dk_at dksX1_hitBy_2 11 rfl rfl)
theorem dX1_hitBy_61 : decode cX1_hitBy 61 = .ok (.iload 5, 2) := dk_21 5 (dk_at dksX1_hitBy_2 14 rfl rfl)
theorem dX1_hitBy_63 : decode cX1_hitBy 63 = .ok (.ireturn, 1) := dk_172 (dk_at dksX1_hitBy_2 16 rfl rfl)
theorem dX1_hitBy_64 : decode cX1_hitBy 64 = .ok (.iinc 3 (-1), 3) := dk_132 3 255 (dk_at dksX1_hitBy_2 17 rfl rfl)
theorem dX1_hitBy_67 : decode cX1_hitBy 67 = .ok (.iinc 5 1, 3) := dk_132 5 1 (dk_at dksX1_hitBy_2 20 rfl rfl)
theorem dX1_hitBy_70 : decode cX1_hitBy 70 = .ok (.goto (-42), 3) := dk_167 255 214 (dk_at dksX1_hitBy_3 0 rfl rfl)
theorem dX1_hitBy_73 : decode cX1_hitBy 73 = .ok (.bipush (-2), 2) := dk_16 254 (dk_at dksX1_hitBy_3 3 rfl rfl)
theorem dX1_hitBy_75 : decode cX1_hitBy 75 = .ok (.ireturn, 1) := dk_172 (dk_at dksX1_hitBy_3 5 rfl rfl)
abbrev cX1_crowds : ByteArray := prog_1_method_38_code
def yX1_crowds : MethodName := ⟨RX1, "crowds", "(I)I"⟩
def dkwX1_crowds_2 : List UInt8 := [153, 0, 10, 4, 21, 4, 120, 167, 0, 4, 3, 128, 62, 132, 4, 1, 167, 255, 220, 29, 172]
abbrev dktX1_crowds_2 : List UInt8 := dkwX1_crowds_2 ++ []
def dkwX1_crowds_1 : List UInt8 := [3, 54, 4, 21, 4, 42, 180, 0, 33, 180, 0, 119, 162, 0, 30, 29, 44, 27, 21, 4, 182, 1, 2]
abbrev dktX1_crowds_1 : List UInt8 := dkwX1_crowds_1 ++ dktX1_crowds_2
def dkwX1_crowds_0 : List UInt8 := [42, 27, 182, 0, 132, 154, 0, 5, 2, 172, 42, 180, 0, 59, 42, 180, 0, 40, 182, 0, 152, 77, 3, 62]
abbrev dktX1_crowds_0 : List UInt8 := dkwX1_crowds_0 ++ dktX1_crowds_1
theorem dksX1_crowds_0 : cX1_crowds.data.toList.drop 0 = dktX1_crowds_0 := by decide +kernel
theorem dksX1_crowds_1 : cX1_crowds.data.toList.drop 24 = dktX1_crowds_1 := dk_seg dksX1_crowds_0 24 rfl rfl
theorem dksX1_crowds_2 : cX1_crowds.data.toList.drop 47 = dktX1_crowds_2 := dk_seg dksX1_crowds_1 23 rfl rfl
theorem dX1_crowds_0 : decode cX1_crowds 0 = .ok (.aload_n 0, 1) := dk_42 (dk_at dksX1_crowds_0 0 rfl rfl)
theorem dX1_crowds_1 : decode cX1_crowds 1 = .ok (.iload_n 1, 1) := dk_27 (dk_at dksX1_crowds_0 1 rfl rfl)
theorem dX1_crowds_2 : decode cX1_crowds 2 = .ok (.invokevirtual 132, 3) := dk_182 0 132 (dk_at dksX1_crowds_0 2 rfl rfl)
theorem dX1_crowds_5 : decode cX1_crowds 5 = .ok (.ifCond .ne 5, 3) := dk_154 0 5 (dk_at dksX1_crowds_0 5 rfl rfl)
theorem dX1_crowds_8 : decode cX1_crowds 8 = .ok (.iconst (-1), 1) := dk_2 (dk_at dksX1_crowds_0 8 rfl rfl)
theorem dX1_crowds_9 : decode cX1_crowds 9 = .ok (.ireturn, 1) := dk_172 (dk_at dksX1_crowds_0 9 rfl rfl)
theorem dX1_crowds_10 : decode cX1_crowds 10 = .ok (.aload_n 0, 1) := dk_42 (dk_at dksX1_crowds_0 10 rfl rfl)
theorem dX1_crowds_11 : decode cX1_crowds 11 = .ok (.getfield 59, 3) := dk_180 0 59 (dk_at dksX1_crowds_0 11 rfl rfl)
theorem dX1_crowds_14 : decode cX1_crowds 14 = .ok (.aload_n 0, 1) := dk_42 (dk_at dksX1_crowds_0 14 rfl rfl)
theorem dX1_crowds_15 : decode cX1_crowds 15 = .ok (.getfield 40, 3) := dk_180 0 40 (dk_at dksX1_crowds_0 15 rfl rfl)
theorem dX1_crowds_18 : decode cX1_crowds 18 = .ok (.invokevirtual 152, 3) := dk_182 0 152 (dk_at dksX1_crowds_0 18 rfl rfl)
theorem dX1_crowds_21 : decode cX1_crowds 21 = .ok (.astore_n 2, 1) := dk_77 (dk_at dksX1_crowds_0 21 rfl rfl)
theorem dX1_crowds_22 : decode cX1_crowds 22 = .ok (.iconst 0, 1) := dk_3 (dk_at dksX1_crowds_0 22 rfl rfl)
theorem dX1_crowds_23 : decode cX1_crowds 23 = .ok (.istore_n 3, 1) := dk_62 (dk_at dksX1_crowds_0 23 rfl rfl)
theorem dX1_crowds_24 : decode cX1_crowds 24 = .ok (.iconst 0, 1) := dk_3 (dk_at dksX1_crowds_1 0 rfl rfl)
theorem dX1_crowds_25 : decode cX1_crowds 25 = .ok (.istore 4, 2) := dk_54 4 (dk_at dksX1_crowds_1 1 rfl rfl)
theorem dX1_crowds_27 : decode cX1_crowds 27 = .ok (.iload 4, 2) := dk_21 4 (dk_at dksX1_crowds_1 3 rfl rfl)
theorem dX1_crowds_29 : decode cX1_crowds 29 = .ok (.aload_n 0, 1) := dk_42 (dk_at dksX1_crowds_1 5 rfl rfl)
theorem dX1_crowds_30 : decode cX1_crowds 30 = .ok (.getfield 33, 3) := dk_180 0 33 (dk_at dksX1_crowds_1 6 rfl rfl)
theorem dX1_crowds_33 : decode cX1_crowds 33 = .ok (.getfield 119, 3) := dk_180 0 119 (dk_at dksX1_crowds_1 9 rfl rfl)
theorem dX1_crowds_36 : decode cX1_crowds 36 = .ok (.if_icmp .ge 30, 3) := dk_162 0 30 (dk_at dksX1_crowds_1 12 rfl rfl)
theorem dX1_crowds_39 : decode cX1_crowds 39 = .ok (.iload_n 3, 1) := dk_29 (dk_at dksX1_crowds_1 15 rfl rfl)
theorem dX1_crowds_40 : decode cX1_crowds 40 = .ok (.aload_n 2, 1) := dk_44 (dk_at dksX1_crowds_1 16 rfl rfl)
theorem dX1_crowds_41 : decode cX1_crowds 41 = .ok (.iload_n 1, 1) := dk_27 (dk_at dksX1_crowds_1 17 rfl rfl)
theorem dX1_crowds_42 : decode cX1_crowds 42 = .ok (.iload 4, 2) := dk_21 4 (dk_at dksX1_crowds_1 18 rfl rfl)
theorem dX1_crowds_44 : decode cX1_crowds 44 = .ok (.invokevirtual 258, 3) := dk_182 1 2 (dk_at dksX1_crowds_1 20 rfl rfl)
theorem dX1_crowds_47 : decode cX1_crowds 47 = .ok (.ifCond .eq 10, 3) := dk_153 0 10 (dk_at dksX1_crowds_2 0 rfl rfl)
theorem dX1_crowds_50 : decode cX1_crowds 50 = .ok (.iconst 1, 1) := dk_4 (dk_at dksX1_crowds_2 3 rfl rfl)
theorem dX1_crowds_51 : decode cX1_crowds 51 = .ok (.iload 4, 2) := dk_21 4 (dk_at dksX1_crowds_2 4 rfl rfl)
theorem dX1_crowds_53 : decode cX1_crowds 53 = .ok (.ishl, 1) := dk_120 (dk_at dksX1_crowds_2 6 rfl rfl)
theorem dX1_crowds_54 : decode cX1_crowds 54 = .ok (.goto 4, 3) := dk_167 0 4 (dk_at dksX1_crowds_2 7 rfl rfl)
theorem dX1_crowds_57 : decode cX1_crowds 57 = .ok (.iconst 0, 1) := dk_3 (dk_at dksX1_crowds_2 10 rfl rfl)
theorem dX1_crowds_58 : decode cX1_crowds 58 = .ok (.ior, 1) := dk_128 (dk_at dksX1_crowds_2 11 rfl rfl)
theorem dX1_crowds_59 : decode cX1_crowds 59 = .ok (.istore_n 3, 1) := dk_62 (dk_at dksX1_crowds_2 12 rfl rfl)
theorem dX1_crowds_60 : decode cX1_crowds 60 = .ok (.iinc 4 1, 3) := dk_132 4 1 (dk_at dksX1_crowds_2 13 rfl rfl)
theorem dX1_crowds_63 : decode cX1_crowds 63 = .ok (.goto (-36), 3) := dk_167 255 220 (dk_at dksX1_crowds_2 16 rfl rfl)
theorem dX1_crowds_66 : decode cX1_crowds 66 = .ok (.iload_n 3, 1) := dk_29 (dk_at dksX1_crowds_2 19 rfl rfl)
theorem dX1_crowds_67 : decode cX1_crowds 67 = .ok (.ireturn, 1) := dk_172 (dk_at dksX1_crowds_2 20 rfl rfl)
abbrev cX1_clean : ByteArray := prog_1_method_39_code
def yX1_clean : MethodName := ⟨RX1, "clean", "()I"⟩
def dkwX1_clean_0 : List UInt8 := [42, 42, 180, 0, 40, 182, 1, 6, 153, 0, 7, 4, 167, 0, 4, 3, 172]
abbrev dktX1_clean_0 : List UInt8 := dkwX1_clean_0 ++ []
theorem dksX1_clean_0 : cX1_clean.data.toList.drop 0 = dktX1_clean_0 := by decide +kernel
theorem dX1_clean_0 : decode cX1_clean 0 = .ok (.aload_n 0, 1) := dk_42 (dk_at dksX1_clean_0 0 rfl rfl)
theorem dX1_clean_1 : decode cX1_clean 1 = .ok (.aload_n 0, 1) := dk_42 (dk_at dksX1_clean_0 1 rfl rfl)
theorem dX1_clean_2 : decode cX1_clean 2 = .ok (.getfield 40, 3) := dk_180 0 40 (dk_at dksX1_clean_0 2 rfl rfl)
theorem dX1_clean_5 : decode cX1_clean 5 = .ok (.invokevirtual 262, 3) := dk_182 1 6 (dk_at dksX1_clean_0 5 rfl rfl)
theorem dX1_clean_8 : decode cX1_clean 8 = .ok (.ifCond .eq 7, 3) := dk_153 0 7 (dk_at dksX1_clean_0 8 rfl rfl)
theorem dX1_clean_11 : decode cX1_clean 11 = .ok (.iconst 1, 1) := dk_4 (dk_at dksX1_clean_0 11 rfl rfl)
theorem dX1_clean_12 : decode cX1_clean 12 = .ok (.goto 4, 3) := dk_167 0 4 (dk_at dksX1_clean_0 12 rfl rfl)
theorem dX1_clean_15 : decode cX1_clean 15 = .ok (.iconst 0, 1) := dk_3 (dk_at dksX1_clean_0 15 rfl rfl)
theorem dX1_clean_16 : decode cX1_clean 16 = .ok (.ireturn, 1) := dk_172 (dk_at dksX1_clean_0 16 rfl rfl)
abbrev cX1_isClean_2 : ByteArray := prog_1_method_24_code
def yX1_isClean_2 : MethodName := ⟨RX1, "isClean", "(LQuietChannels$Plan;)Z"⟩
def dkwX1_isClean_2_0 : List UInt8 := [42, 43, 42, 180, 0, 33, 180, 0, 129, 182, 0, 181, 172]
abbrev dktX1_isClean_2_0 : List UInt8 := dkwX1_isClean_2_0 ++ []
theorem dksX1_isClean_2_0 : cX1_isClean_2.data.toList.drop 0 = dktX1_isClean_2_0 := by decide +kernel
theorem dX1_isClean_2_0 : decode cX1_isClean_2 0 = .ok (.aload_n 0, 1) := dk_42 (dk_at dksX1_isClean_2_0 0 rfl rfl)
theorem dX1_isClean_2_1 : decode cX1_isClean_2 1 = .ok (.aload_n 1, 1) := dk_43 (dk_at dksX1_isClean_2_0 1 rfl rfl)
theorem dX1_isClean_2_2 : decode cX1_isClean_2 2 = .ok (.aload_n 0, 1) := dk_42 (dk_at dksX1_isClean_2_0 2 rfl rfl)
theorem dX1_isClean_2_3 : decode cX1_isClean_2 3 = .ok (.getfield 33, 3) := dk_180 0 33 (dk_at dksX1_isClean_2_0 3 rfl rfl)
theorem dX1_isClean_2_6 : decode cX1_isClean_2 6 = .ok (.getfield 129, 3) := dk_180 0 129 (dk_at dksX1_isClean_2_0 6 rfl rfl)
theorem dX1_isClean_2_9 : decode cX1_isClean_2 9 = .ok (.invokevirtual 181, 3) := dk_182 0 181 (dk_at dksX1_isClean_2_0 9 rfl rfl)
theorem dX1_isClean_2_12 : decode cX1_isClean_2 12 = .ok (.ireturn, 1) := dk_172 (dk_at dksX1_isClean_2_0 12 rfl rfl)
abbrev cX1_fits : ByteArray := prog_1_method_41_code
def yX1_fits : MethodName := ⟨RX1, "fits", "(II)I"⟩
def dkwX1_fits_1 : List UInt8 := [182, 1, 9, 153, 0, 7, 4, 167, 0, 4, 3, 172]
abbrev dktX1_fits_1 : List UInt8 := dkwX1_fits_1 ++ []
def dkwX1_fits_0 : List UInt8 := [42, 27, 182, 0, 132, 153, 0, 11, 42, 28, 182, 0, 139, 154, 0, 7, 2, 167, 0, 17, 42, 27, 28]
abbrev dktX1_fits_0 : List UInt8 := dkwX1_fits_0 ++ dktX1_fits_1
theorem dksX1_fits_0 : cX1_fits.data.toList.drop 0 = dktX1_fits_0 := by decide +kernel
theorem dksX1_fits_1 : cX1_fits.data.toList.drop 23 = dktX1_fits_1 := dk_seg dksX1_fits_0 23 rfl rfl
theorem dX1_fits_0 : decode cX1_fits 0 = .ok (.aload_n 0, 1) := dk_42 (dk_at dksX1_fits_0 0 rfl rfl)
theorem dX1_fits_1 : decode cX1_fits 1 = .ok (.iload_n 1, 1) := dk_27 (dk_at dksX1_fits_0 1 rfl rfl)
theorem dX1_fits_2 : decode cX1_fits 2 = .ok (.invokevirtual 132, 3) := dk_182 0 132 (dk_at dksX1_fits_0 2 rfl rfl)
theorem dX1_fits_5 : decode cX1_fits 5 = .ok (.ifCond .eq 11, 3) := dk_153 0 11 (dk_at dksX1_fits_0 5 rfl rfl)
theorem dX1_fits_8 : decode cX1_fits 8 = .ok (.aload_n 0, 1) := dk_42 (dk_at dksX1_fits_0 8 rfl rfl)
theorem dX1_fits_9 : decode cX1_fits 9 = .ok (.iload_n 2, 1) := dk_28 (dk_at dksX1_fits_0 9 rfl rfl)
theorem dX1_fits_10 : decode cX1_fits 10 = .ok (.invokevirtual 139, 3) := dk_182 0 139 (dk_at dksX1_fits_0 10 rfl rfl)
theorem dX1_fits_13 : decode cX1_fits 13 = .ok (.ifCond .ne 7, 3) := dk_154 0 7 (dk_at dksX1_fits_0 13 rfl rfl)
theorem dX1_fits_16 : decode cX1_fits 16 = .ok (.iconst (-1), 1) := dk_2 (dk_at dksX1_fits_0 16 rfl rfl)
theorem dX1_fits_17 : decode cX1_fits 17 = .ok (.goto 17, 3) := dk_167 0 17 (dk_at dksX1_fits_0 17 rfl rfl)
theorem dX1_fits_20 : decode cX1_fits 20 = .ok (.aload_n 0, 1) := dk_42 (dk_at dksX1_fits_0 20 rfl rfl)
theorem dX1_fits_21 : decode cX1_fits 21 = .ok (.iload_n 1, 1) := dk_27 (dk_at dksX1_fits_0 21 rfl rfl)
theorem dX1_fits_22 : decode cX1_fits 22 = .ok (.iload_n 2, 1) := dk_28 (dk_at dksX1_fits_0 22 rfl rfl)
theorem dX1_fits_23 : decode cX1_fits 23 = .ok (.invokevirtual 265, 3) := dk_182 1 9 (dk_at dksX1_fits_1 0 rfl rfl)
theorem dX1_fits_26 : decode cX1_fits 26 = .ok (.ifCond .eq 7, 3) := dk_153 0 7 (dk_at dksX1_fits_1 3 rfl rfl)
theorem dX1_fits_29 : decode cX1_fits 29 = .ok (.iconst 1, 1) := dk_4 (dk_at dksX1_fits_1 6 rfl rfl)
theorem dX1_fits_30 : decode cX1_fits 30 = .ok (.goto 4, 3) := dk_167 0 4 (dk_at dksX1_fits_1 7 rfl rfl)
theorem dX1_fits_33 : decode cX1_fits 33 = .ok (.iconst 0, 1) := dk_3 (dk_at dksX1_fits_1 10 rfl rfl)
theorem dX1_fits_34 : decode cX1_fits 34 = .ok (.ireturn, 1) := dk_172 (dk_at dksX1_fits_1 11 rfl rfl)
abbrev cX1_fitsNow : ByteArray := prog_1_method_40_code
def yX1_fitsNow : MethodName := ⟨RX1, "fitsNow", "(II)Z"⟩
def dkwX1_fitsNow_1 : List UInt8 := [182, 1, 6, 172]
abbrev dktX1_fitsNow_1 : List UInt8 := dkwX1_fitsNow_1 ++ []
def dkwX1_fitsNow_0 : List UInt8 := [42, 180, 0, 47, 42, 180, 0, 40, 182, 0, 115, 180, 0, 122, 27, 28, 79, 42, 42, 180, 0, 47]
abbrev dktX1_fitsNow_0 : List UInt8 := dkwX1_fitsNow_0 ++ dktX1_fitsNow_1
theorem dksX1_fitsNow_0 : cX1_fitsNow.data.toList.drop 0 = dktX1_fitsNow_0 := by decide +kernel
theorem dksX1_fitsNow_1 : cX1_fitsNow.data.toList.drop 22 = dktX1_fitsNow_1 := dk_seg dksX1_fitsNow_0 22 rfl rfl
theorem dX1_fitsNow_0 : decode cX1_fitsNow 0 = .ok (.aload_n 0, 1) := dk_42 (dk_at dksX1_fitsNow_0 0 rfl rfl)
theorem dX1_fitsNow_1 : decode cX1_fitsNow 1 = .ok (.getfield 47, 3) := dk_180 0 47 (dk_at dksX1_fitsNow_0 1 rfl rfl)
theorem dX1_fitsNow_4 : decode cX1_fitsNow 4 = .ok (.aload_n 0, 1) := dk_42 (dk_at dksX1_fitsNow_0 4 rfl rfl)
theorem dX1_fitsNow_5 : decode cX1_fitsNow 5 = .ok (.getfield 40, 3) := dk_180 0 40 (dk_at dksX1_fitsNow_0 5 rfl rfl)
theorem dX1_fitsNow_8 : decode cX1_fitsNow 8 = .ok (.invokevirtual 115, 3) := dk_182 0 115 (dk_at dksX1_fitsNow_0 8 rfl rfl)
theorem dX1_fitsNow_11 : decode cX1_fitsNow 11 = .ok (.getfield 122, 3) := dk_180 0 122 (dk_at dksX1_fitsNow_0 11 rfl rfl)
theorem dX1_fitsNow_14 : decode cX1_fitsNow 14 = .ok (.iload_n 1, 1) := dk_27 (dk_at dksX1_fitsNow_0 14 rfl rfl)
theorem dX1_fitsNow_15 : decode cX1_fitsNow 15 = .ok (.iload_n 2, 1) := dk_28 (dk_at dksX1_fitsNow_0 15 rfl rfl)
theorem dX1_fitsNow_16 : decode cX1_fitsNow 16 = .ok (.iastore, 1) := dk_79 (dk_at dksX1_fitsNow_0 16 rfl rfl)
theorem dX1_fitsNow_17 : decode cX1_fitsNow 17 = .ok (.aload_n 0, 1) := dk_42 (dk_at dksX1_fitsNow_0 17 rfl rfl)
theorem dX1_fitsNow_18 : decode cX1_fitsNow 18 = .ok (.aload_n 0, 1) := dk_42 (dk_at dksX1_fitsNow_0 18 rfl rfl)
theorem dX1_fitsNow_19 : decode cX1_fitsNow 19 = .ok (.getfield 47, 3) := dk_180 0 47 (dk_at dksX1_fitsNow_0 19 rfl rfl)
theorem dX1_fitsNow_22 : decode cX1_fitsNow 22 = .ok (.invokevirtual 262, 3) := dk_182 1 6 (dk_at dksX1_fitsNow_1 0 rfl rfl)
theorem dX1_fitsNow_25 : decode cX1_fitsNow 25 = .ok (.ireturn, 1) := dk_172 (dk_at dksX1_fitsNow_1 3 rfl rfl)
abbrev cX1_free : ByteArray := prog_1_method_42_code
def yX1_free : MethodName := ⟨RX1, "free", "(I)I"⟩
def dkwX1_free_2 : List UInt8 := [167, 255, 225, 28, 172]
abbrev dktX1_free_2 : List UInt8 := dkwX1_free_2 ++ []
def dkwX1_free_1 : List UInt8 := [163, 0, 26, 28, 42, 27, 29, 182, 1, 9, 153, 0, 7, 4, 167, 0, 4, 3, 96, 61, 132, 3, 1]
abbrev dktX1_free_1 : List UInt8 := dkwX1_free_1 ++ dktX1_free_2
def dkwX1_free_0 : List UInt8 := [42, 27, 182, 0, 132, 154, 0, 5, 2, 172, 3, 61, 4, 62, 29, 42, 180, 0, 33, 180, 0, 129]
abbrev dktX1_free_0 : List UInt8 := dkwX1_free_0 ++ dktX1_free_1
theorem dksX1_free_0 : cX1_free.data.toList.drop 0 = dktX1_free_0 := by decide +kernel
theorem dksX1_free_1 : cX1_free.data.toList.drop 22 = dktX1_free_1 := dk_seg dksX1_free_0 22 rfl rfl
theorem dksX1_free_2 : cX1_free.data.toList.drop 45 = dktX1_free_2 := dk_seg dksX1_free_1 23 rfl rfl
theorem dX1_free_0 : decode cX1_free 0 = .ok (.aload_n 0, 1) := dk_42 (dk_at dksX1_free_0 0 rfl rfl)
theorem dX1_free_1 : decode cX1_free 1 = .ok (.iload_n 1, 1) := dk_27 (dk_at dksX1_free_0 1 rfl rfl)
theorem dX1_free_2 : decode cX1_free 2 = .ok (.invokevirtual 132, 3) := dk_182 0 132 (dk_at dksX1_free_0 2 rfl rfl)
theorem dX1_free_5 : decode cX1_free 5 = .ok (.ifCond .ne 5, 3) := dk_154 0 5 (dk_at dksX1_free_0 5 rfl rfl)
theorem dX1_free_8 : decode cX1_free 8 = .ok (.iconst (-1), 1) := dk_2 (dk_at dksX1_free_0 8 rfl rfl)
theorem dX1_free_9 : decode cX1_free 9 = .ok (.ireturn, 1) := dk_172 (dk_at dksX1_free_0 9 rfl rfl)
theorem dX1_free_10 : decode cX1_free 10 = .ok (.iconst 0, 1) := dk_3 (dk_at dksX1_free_0 10 rfl rfl)
theorem dX1_free_11 : decode cX1_free 11 = .ok (.istore_n 2, 1) := dk_61 (dk_at dksX1_free_0 11 rfl rfl)
theorem dX1_free_12 : decode cX1_free 12 = .ok (.iconst 1, 1) := dk_4 (dk_at dksX1_free_0 12 rfl rfl)
theorem dX1_free_13 : decode cX1_free 13 = .ok (.istore_n 3, 1) := dk_62 (dk_at dksX1_free_0 13 rfl rfl)
theorem dX1_free_14 : decode cX1_free 14 = .ok (.iload_n 3, 1) := dk_29 (dk_at dksX1_free_0 14 rfl rfl)
theorem dX1_free_15 : decode cX1_free 15 = .ok (.aload_n 0, 1) := dk_42 (dk_at dksX1_free_0 15 rfl rfl)
theorem dX1_free_16 : decode cX1_free 16 = .ok (.getfield 33, 3) := dk_180 0 33 (dk_at dksX1_free_0 16 rfl rfl)
theorem dX1_free_19 : decode cX1_free 19 = .ok (.getfield 129, 3) := dk_180 0 129 (dk_at dksX1_free_0 19 rfl rfl)
theorem dX1_free_22 : decode cX1_free 22 = .ok (.if_icmp .gt 26, 3) := dk_163 0 26 (dk_at dksX1_free_1 0 rfl rfl)
theorem dX1_free_25 : decode cX1_free 25 = .ok (.iload_n 2, 1) := dk_28 (dk_at dksX1_free_1 3 rfl rfl)
theorem dX1_free_26 : decode cX1_free 26 = .ok (.aload_n 0, 1) := dk_42 (dk_at dksX1_free_1 4 rfl rfl)
theorem dX1_free_27 : decode cX1_free 27 = .ok (.iload_n 1, 1) := dk_27 (dk_at dksX1_free_1 5 rfl rfl)
theorem dX1_free_28 : decode cX1_free 28 = .ok (.iload_n 3, 1) := dk_29 (dk_at dksX1_free_1 6 rfl rfl)
theorem dX1_free_29 : decode cX1_free 29 = .ok (.invokevirtual 265, 3) := dk_182 1 9 (dk_at dksX1_free_1 7 rfl rfl)
theorem dX1_free_32 : decode cX1_free 32 = .ok (.ifCond .eq 7, 3) := dk_153 0 7 (dk_at dksX1_free_1 10 rfl rfl)
theorem dX1_free_35 : decode cX1_free 35 = .ok (.iconst 1, 1) := dk_4 (dk_at dksX1_free_1 13 rfl rfl)
theorem dX1_free_36 : decode cX1_free 36 = .ok (.goto 4, 3) := dk_167 0 4 (dk_at dksX1_free_1 14 rfl rfl)
theorem dX1_free_39 : decode cX1_free 39 = .ok (.iconst 0, 1) := dk_3 (dk_at dksX1_free_1 17 rfl rfl)
theorem dX1_free_40 : decode cX1_free 40 = .ok (.iadd, 1) := dk_96 (dk_at dksX1_free_1 18 rfl rfl)
theorem dX1_free_41 : decode cX1_free 41 = .ok (.istore_n 2, 1) := dk_61 (dk_at dksX1_free_1 19 rfl rfl)
theorem dX1_free_42 : decode cX1_free 42 = .ok (.iinc 3 1, 3) := dk_132 3 1 (dk_at dksX1_free_1 20 rfl rfl)
theorem dX1_free_45 : decode cX1_free 45 = .ok (.goto (-31), 3) := dk_167 255 225 (dk_at dksX1_free_2 0 rfl rfl)
theorem dX1_free_48 : decode cX1_free 48 = .ok (.iload_n 2, 1) := dk_28 (dk_at dksX1_free_2 3 rfl rfl)
theorem dX1_free_49 : decode cX1_free 49 = .ok (.ireturn, 1) := dk_172 (dk_at dksX1_free_2 4 rfl rfl)
abbrev cX1_freeAt : ByteArray := prog_1_method_43_code
def yX1_freeAt : MethodName := ⟨RX1, "freeAt", "(II)I"⟩
def dkwX1_freeAt_2 : List UInt8 := [154, 0, 6, 21, 4, 172, 132, 3, 255, 132, 4, 1, 167, 255, 218, 16, 254, 172]
abbrev dktX1_freeAt_2 : List UInt8 := dkwX1_freeAt_2 ++ []
def dkwX1_freeAt_1 : List UInt8 := [180, 0, 33, 180, 0, 129, 163, 0, 32, 42, 27, 21, 4, 182, 1, 9, 154, 0, 6, 167, 0, 13, 29]
abbrev dktX1_freeAt_1 : List UInt8 := dkwX1_freeAt_1 ++ dktX1_freeAt_2
def dkwX1_freeAt_0 : List UInt8 := [42, 27, 182, 0, 132, 153, 0, 7, 28, 156, 0, 5, 2, 172, 28, 62, 4, 54, 4, 21, 4, 42]
abbrev dktX1_freeAt_0 : List UInt8 := dkwX1_freeAt_0 ++ dktX1_freeAt_1
theorem dksX1_freeAt_0 : cX1_freeAt.data.toList.drop 0 = dktX1_freeAt_0 := by decide +kernel
theorem dksX1_freeAt_1 : cX1_freeAt.data.toList.drop 22 = dktX1_freeAt_1 := dk_seg dksX1_freeAt_0 22 rfl rfl
theorem dksX1_freeAt_2 : cX1_freeAt.data.toList.drop 45 = dktX1_freeAt_2 := dk_seg dksX1_freeAt_1 23 rfl rfl
theorem dX1_freeAt_0 : decode cX1_freeAt 0 = .ok (.aload_n 0, 1) := dk_42 (dk_at dksX1_freeAt_0 0 rfl rfl)
theorem dX1_freeAt_1 : decode cX1_freeAt 1 = .ok (.iload_n 1, 1) := dk_27 (dk_at dksX1_freeAt_0 1 rfl rfl)
theorem dX1_freeAt_2 : decode cX1_freeAt 2 = .ok (.invokevirtual 132, 3) := dk_182 0 132 (dk_at dksX1_freeAt_0 2 rfl rfl)
theorem dX1_freeAt_5 : decode cX1_freeAt 5 = .ok (.ifCond .eq 7, 3) := dk_153 0 7 (dk_at dksX1_freeAt_0 5 rfl rfl)
theorem dX1_freeAt_8 : decode cX1_freeAt 8 = .ok (.iload_n 2, 1) := dk_28 (dk_at dksX1_freeAt_0 8 rfl rfl)
theorem dX1_freeAt_9 : decode cX1_freeAt 9 = .ok (.ifCond .ge 5, 3) := dk_156 0 5 (dk_at dksX1_freeAt_0 9 rfl rfl)
theorem dX1_freeAt_12 : decode cX1_freeAt 12 = .ok (.iconst (-1), 1) := dk_2 (dk_at dksX1_freeAt_0 12 rfl rfl)
theorem dX1_freeAt_13 : decode cX1_freeAt 13 = .ok (.ireturn, 1) := dk_172 (dk_at dksX1_freeAt_0 13 rfl rfl)
theorem dX1_freeAt_14 : decode cX1_freeAt 14 = .ok (.iload_n 2, 1) := dk_28 (dk_at dksX1_freeAt_0 14 rfl rfl)
theorem dX1_freeAt_15 : decode cX1_freeAt 15 = .ok (.istore_n 3, 1) := dk_62 (dk_at dksX1_freeAt_0 15 rfl rfl)
theorem dX1_freeAt_16 : decode cX1_freeAt 16 = .ok (.iconst 1, 1) := dk_4 (dk_at dksX1_freeAt_0 16 rfl rfl)
theorem dX1_freeAt_17 : decode cX1_freeAt 17 = .ok (.istore 4, 2) := dk_54 4 (dk_at dksX1_freeAt_0 17 rfl rfl)
theorem dX1_freeAt_19 : decode cX1_freeAt 19 = .ok (.iload 4, 2) := dk_21 4 (dk_at dksX1_freeAt_0 19 rfl rfl)
theorem dX1_freeAt_21 : decode cX1_freeAt 21 = .ok (.aload_n 0, 1) := dk_42 (dk_at dksX1_freeAt_0 21 rfl rfl)
theorem dX1_freeAt_22 : decode cX1_freeAt 22 = .ok (.getfield 33, 3) := dk_180 0 33 (dk_at dksX1_freeAt_1 0 rfl rfl)
theorem dX1_freeAt_25 : decode cX1_freeAt 25 = .ok (.getfield 129, 3) := dk_180 0 129 (dk_at dksX1_freeAt_1 3 rfl rfl)
theorem dX1_freeAt_28 : decode cX1_freeAt 28 = .ok (.if_icmp .gt 32, 3) := dk_163 0 32 (dk_at dksX1_freeAt_1 6 rfl rfl)
theorem dX1_freeAt_31 : decode cX1_freeAt 31 = .ok (.aload_n 0, 1) := dk_42 (dk_at dksX1_freeAt_1 9 rfl rfl)
theorem dX1_freeAt_32 : decode cX1_freeAt 32 = .ok (.iload_n 1, 1) := dk_27 (dk_at dksX1_freeAt_1 10 rfl rfl)
theorem dX1_freeAt_33 : decode cX1_freeAt 33 = .ok (.iload 4, 2) := dk_21 4 (dk_at dksX1_freeAt_1 11 rfl rfl)
theorem dX1_freeAt_35 : decode cX1_freeAt 35 = .ok (.invokevirtual 265, 3) := dk_182 1 9 (dk_at dksX1_freeAt_1 13 rfl rfl)
theorem dX1_freeAt_38 : decode cX1_freeAt 38 = .ok (.ifCond .ne 6, 3) := dk_154 0 6 (dk_at dksX1_freeAt_1 16 rfl rfl)
theorem dX1_freeAt_41 : decode cX1_freeAt 41 = .ok (.goto 13, 3) := dk_167 0 13 (dk_at dksX1_freeAt_1 19 rfl rfl)
theorem dX1_freeAt_44 : decode cX1_freeAt 44 = .ok (.iload_n 3, 1) := dk_29 (dk_at dksX1_freeAt_1 22 rfl rfl)
theorem dX1_freeAt_45 : decode cX1_freeAt 45 = .ok (.ifCond .ne 6, 3) := dk_154 0 6 (dk_at dksX1_freeAt_2 0 rfl rfl)
theorem dX1_freeAt_48 : decode cX1_freeAt 48 = .ok (.iload 4, 2) := dk_21 4 (dk_at dksX1_freeAt_2 3 rfl rfl)
theorem dX1_freeAt_50 : decode cX1_freeAt 50 = .ok (.ireturn, 1) := dk_172 (dk_at dksX1_freeAt_2 5 rfl rfl)
theorem dX1_freeAt_51 : decode cX1_freeAt 51 = .ok (.iinc 3 (-1), 3) := dk_132 3 255 (dk_at dksX1_freeAt_2 6 rfl rfl)
theorem dX1_freeAt_54 : decode cX1_freeAt 54 = .ok (.iinc 4 1, 3) := dk_132 4 1 (dk_at dksX1_freeAt_2 9 rfl rfl)
theorem dX1_freeAt_57 : decode cX1_freeAt 57 = .ok (.goto (-38), 3) := dk_167 255 218 (dk_at dksX1_freeAt_2 12 rfl rfl)
theorem dX1_freeAt_60 : decode cX1_freeAt 60 = .ok (.bipush (-2), 2) := dk_16 254 (dk_at dksX1_freeAt_2 15 rfl rfl)
theorem dX1_freeAt_62 : decode cX1_freeAt 62 = .ok (.ireturn, 1) := dk_172 (dk_at dksX1_freeAt_2 17 rfl rfl)
abbrev cX1_ifTuned : ByteArray := prog_1_method_45_code
def yX1_ifTuned : MethodName := ⟨RX1, "ifTuned", "(II)I"⟩
def dkwX1_ifTuned_1 : List UInt8 := [27, 28, 182, 1, 12, 167, 0, 4, 2, 172]
abbrev dktX1_ifTuned_1 : List UInt8 := dkwX1_ifTuned_1 ++ []
def dkwX1_ifTuned_0 : List UInt8 := [42, 27, 182, 0, 132, 153, 0, 27, 28, 3, 42, 180, 0, 33, 180, 0, 129, 184, 0, 75, 153, 0, 12, 42]
abbrev dktX1_ifTuned_0 : List UInt8 := dkwX1_ifTuned_0 ++ dktX1_ifTuned_1
theorem dksX1_ifTuned_0 : cX1_ifTuned.data.toList.drop 0 = dktX1_ifTuned_0 := by decide +kernel
theorem dksX1_ifTuned_1 : cX1_ifTuned.data.toList.drop 24 = dktX1_ifTuned_1 := dk_seg dksX1_ifTuned_0 24 rfl rfl
theorem dX1_ifTuned_0 : decode cX1_ifTuned 0 = .ok (.aload_n 0, 1) := dk_42 (dk_at dksX1_ifTuned_0 0 rfl rfl)
theorem dX1_ifTuned_1 : decode cX1_ifTuned 1 = .ok (.iload_n 1, 1) := dk_27 (dk_at dksX1_ifTuned_0 1 rfl rfl)
theorem dX1_ifTuned_2 : decode cX1_ifTuned 2 = .ok (.invokevirtual 132, 3) := dk_182 0 132 (dk_at dksX1_ifTuned_0 2 rfl rfl)
theorem dX1_ifTuned_5 : decode cX1_ifTuned 5 = .ok (.ifCond .eq 27, 3) := dk_153 0 27 (dk_at dksX1_ifTuned_0 5 rfl rfl)
theorem dX1_ifTuned_8 : decode cX1_ifTuned 8 = .ok (.iload_n 2, 1) := dk_28 (dk_at dksX1_ifTuned_0 8 rfl rfl)
theorem dX1_ifTuned_9 : decode cX1_ifTuned 9 = .ok (.iconst 0, 1) := dk_3 (dk_at dksX1_ifTuned_0 9 rfl rfl)
theorem dX1_ifTuned_10 : decode cX1_ifTuned 10 = .ok (.aload_n 0, 1) := dk_42 (dk_at dksX1_ifTuned_0 10 rfl rfl)
theorem dX1_ifTuned_11 : decode cX1_ifTuned 11 = .ok (.getfield 33, 3) := dk_180 0 33 (dk_at dksX1_ifTuned_0 11 rfl rfl)
theorem dX1_ifTuned_14 : decode cX1_ifTuned 14 = .ok (.getfield 129, 3) := dk_180 0 129 (dk_at dksX1_ifTuned_0 14 rfl rfl)
theorem dX1_ifTuned_17 : decode cX1_ifTuned 17 = .ok (.invokestatic 75, 3) := dk_184 0 75 (dk_at dksX1_ifTuned_0 17 rfl rfl)
theorem dX1_ifTuned_20 : decode cX1_ifTuned 20 = .ok (.ifCond .eq 12, 3) := dk_153 0 12 (dk_at dksX1_ifTuned_0 20 rfl rfl)
theorem dX1_ifTuned_23 : decode cX1_ifTuned 23 = .ok (.aload_n 0, 1) := dk_42 (dk_at dksX1_ifTuned_0 23 rfl rfl)
theorem dX1_ifTuned_24 : decode cX1_ifTuned 24 = .ok (.iload_n 1, 1) := dk_27 (dk_at dksX1_ifTuned_1 0 rfl rfl)
theorem dX1_ifTuned_25 : decode cX1_ifTuned 25 = .ok (.iload_n 2, 1) := dk_28 (dk_at dksX1_ifTuned_1 1 rfl rfl)
theorem dX1_ifTuned_26 : decode cX1_ifTuned 26 = .ok (.invokevirtual 268, 3) := dk_182 1 12 (dk_at dksX1_ifTuned_1 2 rfl rfl)
theorem dX1_ifTuned_29 : decode cX1_ifTuned 29 = .ok (.goto 4, 3) := dk_167 0 4 (dk_at dksX1_ifTuned_1 5 rfl rfl)
theorem dX1_ifTuned_32 : decode cX1_ifTuned 32 = .ok (.iconst (-1), 1) := dk_2 (dk_at dksX1_ifTuned_1 8 rfl rfl)
theorem dX1_ifTuned_33 : decode cX1_ifTuned 33 = .ok (.ireturn, 1) := dk_172 (dk_at dksX1_ifTuned_1 9 rfl rfl)
abbrev cX1_troubleBy : ByteArray := prog_1_method_44_code
def yX1_troubleBy : MethodName := ⟨RX1, "troubleBy", "(II)I"⟩
def dkwX1_troubleBy_1 : List UInt8 := [180, 0, 47, 182, 0, 152, 182, 0, 156, 182, 0, 177, 172]
abbrev dktX1_troubleBy_1 : List UInt8 := dkwX1_troubleBy_1 ++ []
def dkwX1_troubleBy_0 : List UInt8 := [42, 180, 0, 47, 42, 180, 0, 40, 182, 0, 115, 180, 0, 122, 27, 28, 79, 42, 180, 0, 59, 42]
abbrev dktX1_troubleBy_0 : List UInt8 := dkwX1_troubleBy_0 ++ dktX1_troubleBy_1
theorem dksX1_troubleBy_0 : cX1_troubleBy.data.toList.drop 0 = dktX1_troubleBy_0 := by decide +kernel
theorem dksX1_troubleBy_1 : cX1_troubleBy.data.toList.drop 22 = dktX1_troubleBy_1 := dk_seg dksX1_troubleBy_0 22 rfl rfl
theorem dX1_troubleBy_0 : decode cX1_troubleBy 0 = .ok (.aload_n 0, 1) := dk_42 (dk_at dksX1_troubleBy_0 0 rfl rfl)
theorem dX1_troubleBy_1 : decode cX1_troubleBy 1 = .ok (.getfield 47, 3) := dk_180 0 47 (dk_at dksX1_troubleBy_0 1 rfl rfl)
theorem dX1_troubleBy_4 : decode cX1_troubleBy 4 = .ok (.aload_n 0, 1) := dk_42 (dk_at dksX1_troubleBy_0 4 rfl rfl)
theorem dX1_troubleBy_5 : decode cX1_troubleBy 5 = .ok (.getfield 40, 3) := dk_180 0 40 (dk_at dksX1_troubleBy_0 5 rfl rfl)
theorem dX1_troubleBy_8 : decode cX1_troubleBy 8 = .ok (.invokevirtual 115, 3) := dk_182 0 115 (dk_at dksX1_troubleBy_0 8 rfl rfl)
theorem dX1_troubleBy_11 : decode cX1_troubleBy 11 = .ok (.getfield 122, 3) := dk_180 0 122 (dk_at dksX1_troubleBy_0 11 rfl rfl)
theorem dX1_troubleBy_14 : decode cX1_troubleBy 14 = .ok (.iload_n 1, 1) := dk_27 (dk_at dksX1_troubleBy_0 14 rfl rfl)
theorem dX1_troubleBy_15 : decode cX1_troubleBy 15 = .ok (.iload_n 2, 1) := dk_28 (dk_at dksX1_troubleBy_0 15 rfl rfl)
theorem dX1_troubleBy_16 : decode cX1_troubleBy 16 = .ok (.iastore, 1) := dk_79 (dk_at dksX1_troubleBy_0 16 rfl rfl)
theorem dX1_troubleBy_17 : decode cX1_troubleBy 17 = .ok (.aload_n 0, 1) := dk_42 (dk_at dksX1_troubleBy_0 17 rfl rfl)
theorem dX1_troubleBy_18 : decode cX1_troubleBy 18 = .ok (.getfield 59, 3) := dk_180 0 59 (dk_at dksX1_troubleBy_0 18 rfl rfl)
theorem dX1_troubleBy_21 : decode cX1_troubleBy 21 = .ok (.aload_n 0, 1) := dk_42 (dk_at dksX1_troubleBy_0 21 rfl rfl)
theorem dX1_troubleBy_22 : decode cX1_troubleBy 22 = .ok (.getfield 47, 3) := dk_180 0 47 (dk_at dksX1_troubleBy_1 0 rfl rfl)
theorem dX1_troubleBy_25 : decode cX1_troubleBy 25 = .ok (.invokevirtual 152, 3) := dk_182 0 152 (dk_at dksX1_troubleBy_1 3 rfl rfl)
theorem dX1_troubleBy_28 : decode cX1_troubleBy 28 = .ok (.invokevirtual 156, 3) := dk_182 0 156 (dk_at dksX1_troubleBy_1 6 rfl rfl)
theorem dX1_troubleBy_31 : decode cX1_troubleBy 31 = .ok (.invokevirtual 177, 3) := dk_182 0 177 (dk_at dksX1_troubleBy_1 9 rfl rfl)
theorem dX1_troubleBy_34 : decode cX1_troubleBy 34 = .ok (.ireturn, 1) := dk_172 (dk_at dksX1_troubleBy_1 12 rfl rfl)
abbrev cX1_quietest : ByteArray := prog_1_method_46_code
def yX1_quietest : MethodName := ⟨RX1, "quietest", "(I)I"⟩
def dkwX1_quietest_4 : List UInt8 := [167, 255, 192, 28, 172]
abbrev dktX1_quietest_4 : List UInt8 := dkwX1_quietest_4 ++ []
def dkwX1_quietest_3 : List UInt8 := [28, 155, 0, 12, 21, 5, 29, 161, 0, 6, 167, 0, 9, 21, 4, 61, 21, 5, 62, 132, 4, 1]
abbrev dktX1_quietest_3 : List UInt8 := dkwX1_quietest_3 ++ dktX1_quietest_4
def dkwX1_quietest_2 : List UInt8 := [180, 0, 40, 180, 0, 142, 21, 4, 51, 153, 0, 6, 167, 0, 31, 42, 27, 21, 4, 182, 1, 12, 54, 5]
abbrev dktX1_quietest_2 : List UInt8 := dkwX1_quietest_2 ++ dktX1_quietest_3
def dkwX1_quietest_1 : List UInt8 := [180, 0, 164, 54, 4, 21, 4, 42, 180, 0, 33, 180, 0, 160, 27, 50, 180, 0, 169, 163, 0, 53, 42]
abbrev dktX1_quietest_1 : List UInt8 := dkwX1_quietest_1 ++ dktX1_quietest_2
def dkwX1_quietest_0 : List UInt8 := [42, 27, 182, 0, 132, 154, 0, 5, 2, 172, 16, 254, 61, 3, 62, 42, 180, 0, 33, 180, 0, 160, 27, 50]
abbrev dktX1_quietest_0 : List UInt8 := dkwX1_quietest_0 ++ dktX1_quietest_1
theorem dksX1_quietest_0 : cX1_quietest.data.toList.drop 0 = dktX1_quietest_0 := by decide +kernel
theorem dksX1_quietest_1 : cX1_quietest.data.toList.drop 24 = dktX1_quietest_1 := dk_seg dksX1_quietest_0 24 rfl rfl
theorem dksX1_quietest_2 : cX1_quietest.data.toList.drop 47 = dktX1_quietest_2 := dk_seg dksX1_quietest_1 23 rfl rfl
theorem dksX1_quietest_3 : cX1_quietest.data.toList.drop 71 = dktX1_quietest_3 := dk_seg dksX1_quietest_2 24 rfl rfl
theorem dksX1_quietest_4 : cX1_quietest.data.toList.drop 93 = dktX1_quietest_4 := dk_seg dksX1_quietest_3 22 rfl rfl
theorem dX1_quietest_0 : decode cX1_quietest 0 = .ok (.aload_n 0, 1) := dk_42 (dk_at dksX1_quietest_0 0 rfl rfl)
theorem dX1_quietest_1 : decode cX1_quietest 1 = .ok (.iload_n 1, 1) := dk_27 (dk_at dksX1_quietest_0 1 rfl rfl)
theorem dX1_quietest_2 : decode cX1_quietest 2 = .ok (.invokevirtual 132, 3) := dk_182 0 132 (dk_at dksX1_quietest_0 2 rfl rfl)
theorem dX1_quietest_5 : decode cX1_quietest 5 = .ok (.ifCond .ne 5, 3) := dk_154 0 5 (dk_at dksX1_quietest_0 5 rfl rfl)
theorem dX1_quietest_8 : decode cX1_quietest 8 = .ok (.iconst (-1), 1) := dk_2 (dk_at dksX1_quietest_0 8 rfl rfl)
theorem dX1_quietest_9 : decode cX1_quietest 9 = .ok (.ireturn, 1) := dk_172 (dk_at dksX1_quietest_0 9 rfl rfl)
theorem dX1_quietest_10 : decode cX1_quietest 10 = .ok (.bipush (-2), 2) := dk_16 254 (dk_at dksX1_quietest_0 10 rfl rfl)
theorem dX1_quietest_12 : decode cX1_quietest 12 = .ok (.istore_n 2, 1) := dk_61 (dk_at dksX1_quietest_0 12 rfl rfl)
theorem dX1_quietest_13 : decode cX1_quietest 13 = .ok (.iconst 0, 1) := dk_3 (dk_at dksX1_quietest_0 13 rfl rfl)
theorem dX1_quietest_14 : decode cX1_quietest 14 = .ok (.istore_n 3, 1) := dk_62 (dk_at dksX1_quietest_0 14 rfl rfl)
theorem dX1_quietest_15 : decode cX1_quietest 15 = .ok (.aload_n 0, 1) := dk_42 (dk_at dksX1_quietest_0 15 rfl rfl)
theorem dX1_quietest_16 : decode cX1_quietest 16 = .ok (.getfield 33, 3) := dk_180 0 33 (dk_at dksX1_quietest_0 16 rfl rfl)
theorem dX1_quietest_19 : decode cX1_quietest 19 = .ok (.getfield 160, 3) := dk_180 0 160 (dk_at dksX1_quietest_0 19 rfl rfl)
theorem dX1_quietest_22 : decode cX1_quietest 22 = .ok (.iload_n 1, 1) := dk_27 (dk_at dksX1_quietest_0 22 rfl rfl)
theorem dX1_quietest_23 : decode cX1_quietest 23 = .ok (.aaload, 1) := dk_50 (dk_at dksX1_quietest_0 23 rfl rfl)
theorem dX1_quietest_24 : decode cX1_quietest 24 = .ok (.getfield 164, 3) := dk_180 0 164 (dk_at dksX1_quietest_1 0 rfl rfl)
theorem dX1_quietest_27 : decode cX1_quietest 27 = .ok (.istore 4, 2) := dk_54 4 (dk_at dksX1_quietest_1 3 rfl rfl)
theorem dX1_quietest_29 : decode cX1_quietest 29 = .ok (.iload 4, 2) := dk_21 4 (dk_at dksX1_quietest_1 5 rfl rfl)
theorem dX1_quietest_31 : decode cX1_quietest 31 = .ok (.aload_n 0, 1) := dk_42 (dk_at dksX1_quietest_1 7 rfl rfl)
theorem dX1_quietest_32 : decode cX1_quietest 32 = .ok (.getfield 33, 3) := dk_180 0 33 (dk_at dksX1_quietest_1 8 rfl rfl)
theorem dX1_quietest_35 : decode cX1_quietest 35 = .ok (.getfield 160, 3) := dk_180 0 160 (dk_at dksX1_quietest_1 11 rfl rfl)
theorem dX1_quietest_38 : decode cX1_quietest 38 = .ok (.iload_n 1, 1) := dk_27 (dk_at dksX1_quietest_1 14 rfl rfl)
theorem dX1_quietest_39 : decode cX1_quietest 39 = .ok (.aaload, 1) := dk_50 (dk_at dksX1_quietest_1 15 rfl rfl)
theorem dX1_quietest_40 : decode cX1_quietest 40 = .ok (.getfield 169, 3) := dk_180 0 169 (dk_at dksX1_quietest_1 16 rfl rfl)
theorem dX1_quietest_43 : decode cX1_quietest 43 = .ok (.if_icmp .gt 53, 3) := dk_163 0 53 (dk_at dksX1_quietest_1 19 rfl rfl)
theorem dX1_quietest_46 : decode cX1_quietest 46 = .ok (.aload_n 0, 1) := dk_42 (dk_at dksX1_quietest_1 22 rfl rfl)
theorem dX1_quietest_47 : decode cX1_quietest 47 = .ok (.getfield 40, 3) := dk_180 0 40 (dk_at dksX1_quietest_2 0 rfl rfl)
theorem dX1_quietest_50 : decode cX1_quietest 50 = .ok (.getfield 142, 3) := dk_180 0 142 (dk_at dksX1_quietest_2 3 rfl rfl)
theorem dX1_quietest_53 : decode cX1_quietest 53 = .ok (.iload 4, 2) := dk_21 4 (dk_at dksX1_quietest_2 6 rfl rfl)
theorem dX1_quietest_55 : decode cX1_quietest 55 = .ok (.baload, 1) := dk_51 (dk_at dksX1_quietest_2 8 rfl rfl)
theorem dX1_quietest_56 : decode cX1_quietest 56 = .ok (.ifCond .eq 6, 3) := dk_153 0 6 (dk_at dksX1_quietest_2 9 rfl rfl)
theorem dX1_quietest_59 : decode cX1_quietest 59 = .ok (.goto 31, 3) := dk_167 0 31 (dk_at dksX1_quietest_2 12 rfl rfl)
theorem dX1_quietest_62 : decode cX1_quietest 62 = .ok (.aload_n 0, 1) := dk_42 (dk_at dksX1_quietest_2 15 rfl rfl)
theorem dX1_quietest_63 : decode cX1_quietest 63 = .ok (.iload_n 1, 1) := dk_27 (dk_at dksX1_quietest_2 16 rfl rfl)
theorem dX1_quietest_64 : decode cX1_quietest 64 = .ok (.iload 4, 2) := dk_21 4 (dk_at dksX1_quietest_2 17 rfl rfl)
theorem dX1_quietest_66 : decode cX1_quietest 66 = .ok (.invokevirtual 268, 3) := dk_182 1 12 (dk_at dksX1_quietest_2 19 rfl rfl)
theorem dX1_quietest_69 : decode cX1_quietest 69 = .ok (.istore 5, 2) := dk_54 5 (dk_at dksX1_quietest_2 22 rfl rfl)
theorem dX1_quietest_71 : decode cX1_quietest 71 = .ok (.iload_n 2, 1) := dk_28 (dk_at dksX1_quietest_3 0 rfl rfl)
theorem dX1_quietest_72 : decode cX1_quietest 72 = .ok (.ifCond .lt 12, 3) := dk_155 0 12 (dk_at dksX1_quietest_3 1 rfl rfl)
theorem dX1_quietest_75 : decode cX1_quietest 75 = .ok (.iload 5, 2) := dk_21 5 (dk_at dksX1_quietest_3 4 rfl rfl)
theorem dX1_quietest_77 : decode cX1_quietest 77 = .ok (.iload_n 3, 1) := dk_29 (dk_at dksX1_quietest_3 6 rfl rfl)
theorem dX1_quietest_78 : decode cX1_quietest 78 = .ok (.if_icmp .lt 6, 3) := dk_161 0 6 (dk_at dksX1_quietest_3 7 rfl rfl)
theorem dX1_quietest_81 : decode cX1_quietest 81 = .ok (.goto 9, 3) := dk_167 0 9 (dk_at dksX1_quietest_3 10 rfl rfl)
theorem dX1_quietest_84 : decode cX1_quietest 84 = .ok (.iload 4, 2) := dk_21 4 (dk_at dksX1_quietest_3 13 rfl rfl)
theorem dX1_quietest_86 : decode cX1_quietest 86 = .ok (.istore_n 2, 1) := dk_61 (dk_at dksX1_quietest_3 15 rfl rfl)
theorem dX1_quietest_87 : decode cX1_quietest 87 = .ok (.iload 5, 2) := dk_21 5 (dk_at dksX1_quietest_3 16 rfl rfl)
theorem dX1_quietest_89 : decode cX1_quietest 89 = .ok (.istore_n 3, 1) := dk_62 (dk_at dksX1_quietest_3 18 rfl rfl)
theorem dX1_quietest_90 : decode cX1_quietest 90 = .ok (.iinc 4 1, 3) := dk_132 4 1 (dk_at dksX1_quietest_3 19 rfl rfl)
theorem dX1_quietest_93 : decode cX1_quietest 93 = .ok (.goto (-64), 3) := dk_167 255 192 (dk_at dksX1_quietest_4 0 rfl rfl)
theorem dX1_quietest_96 : decode cX1_quietest 96 = .ok (.iload_n 2, 1) := dk_28 (dk_at dksX1_quietest_4 3 rfl rfl)
theorem dX1_quietest_97 : decode cX1_quietest 97 = .ok (.ireturn, 1) := dk_172 (dk_at dksX1_quietest_4 4 rfl rfl)
abbrev cX1_worst : ByteArray := prog_1_method_47_code
def yX1_worst : MethodName := ⟨RX1, "worst", "()I"⟩
def dkwX1_worst_0 : List UInt8 := [42, 42, 182, 0, 218, 182, 1, 16, 172]
abbrev dktX1_worst_0 : List UInt8 := dkwX1_worst_0 ++ []
theorem dksX1_worst_0 : cX1_worst.data.toList.drop 0 = dktX1_worst_0 := by decide +kernel
theorem dX1_worst_0 : decode cX1_worst 0 = .ok (.aload_n 0, 1) := dk_42 (dk_at dksX1_worst_0 0 rfl rfl)
theorem dX1_worst_1 : decode cX1_worst 1 = .ok (.aload_n 0, 1) := dk_42 (dk_at dksX1_worst_0 1 rfl rfl)
theorem dX1_worst_2 : decode cX1_worst 2 = .ok (.invokevirtual 218, 3) := dk_182 0 218 (dk_at dksX1_worst_0 2 rfl rfl)
theorem dX1_worst_5 : decode cX1_worst 5 = .ok (.invokevirtual 272, 3) := dk_182 1 16 (dk_at dksX1_worst_0 5 rfl rfl)
theorem dX1_worst_8 : decode cX1_worst 8 = .ok (.ireturn, 1) := dk_172 (dk_at dksX1_worst_0 8 rfl rfl)
abbrev cX1_loudOne : ByteArray := prog_1_method_58_code
def yX1_loudOne : MethodName := ⟨RX1, "loudOne", "(LQuietChannels$Air;)I"⟩
def dkwX1_loudOne_2 : List UInt8 := [16, 254, 167, 0, 4, 28, 172]
abbrev dktX1_loudOne_2 : List UInt8 := dkwX1_loudOne_2 ++ []
def dkwX1_loudOne_1 : List UInt8 := [180, 1, 43, 28, 46, 164, 0, 5, 29, 61, 132, 3, 1, 167, 255, 225, 43, 180, 0, 227, 154, 0, 8]
abbrev dktX1_loudOne_1 : List UInt8 := dkwX1_loudOne_1 ++ dktX1_loudOne_2
def dkwX1_loudOne_0 : List UInt8 := [3, 61, 4, 62, 29, 42, 180, 0, 33, 180, 0, 119, 162, 0, 26, 43, 180, 1, 43, 29, 46, 43]
abbrev dktX1_loudOne_0 : List UInt8 := dkwX1_loudOne_0 ++ dktX1_loudOne_1
theorem dksX1_loudOne_0 : cX1_loudOne.data.toList.drop 0 = dktX1_loudOne_0 := by decide +kernel
theorem dksX1_loudOne_1 : cX1_loudOne.data.toList.drop 22 = dktX1_loudOne_1 := dk_seg dksX1_loudOne_0 22 rfl rfl
theorem dksX1_loudOne_2 : cX1_loudOne.data.toList.drop 45 = dktX1_loudOne_2 := dk_seg dksX1_loudOne_1 23 rfl rfl
theorem dX1_loudOne_0 : decode cX1_loudOne 0 = .ok (.iconst 0, 1) := dk_3 (dk_at dksX1_loudOne_0 0 rfl rfl)
theorem dX1_loudOne_1 : decode cX1_loudOne 1 = .ok (.istore_n 2, 1) := dk_61 (dk_at dksX1_loudOne_0 1 rfl rfl)
theorem dX1_loudOne_2 : decode cX1_loudOne 2 = .ok (.iconst 1, 1) := dk_4 (dk_at dksX1_loudOne_0 2 rfl rfl)
theorem dX1_loudOne_3 : decode cX1_loudOne 3 = .ok (.istore_n 3, 1) := dk_62 (dk_at dksX1_loudOne_0 3 rfl rfl)
theorem dX1_loudOne_4 : decode cX1_loudOne 4 = .ok (.iload_n 3, 1) := dk_29 (dk_at dksX1_loudOne_0 4 rfl rfl)
theorem dX1_loudOne_5 : decode cX1_loudOne 5 = .ok (.aload_n 0, 1) := dk_42 (dk_at dksX1_loudOne_0 5 rfl rfl)
theorem dX1_loudOne_6 : decode cX1_loudOne 6 = .ok (.getfield 33, 3) := dk_180 0 33 (dk_at dksX1_loudOne_0 6 rfl rfl)
theorem dX1_loudOne_9 : decode cX1_loudOne 9 = .ok (.getfield 119, 3) := dk_180 0 119 (dk_at dksX1_loudOne_0 9 rfl rfl)
theorem dX1_loudOne_12 : decode cX1_loudOne 12 = .ok (.if_icmp .ge 26, 3) := dk_162 0 26 (dk_at dksX1_loudOne_0 12 rfl rfl)
theorem dX1_loudOne_15 : decode cX1_loudOne 15 = .ok (.aload_n 1, 1) := dk_43 (dk_at dksX1_loudOne_0 15 rfl rfl)
theorem dX1_loudOne_16 : decode cX1_loudOne 16 = .ok (.getfield 299, 3) := dk_180 1 43 (dk_at dksX1_loudOne_0 16 rfl rfl)
theorem dX1_loudOne_19 : decode cX1_loudOne 19 = .ok (.iload_n 3, 1) := dk_29 (dk_at dksX1_loudOne_0 19 rfl rfl)
theorem dX1_loudOne_20 : decode cX1_loudOne 20 = .ok (.iaload, 1) := dk_46 (dk_at dksX1_loudOne_0 20 rfl rfl)
theorem dX1_loudOne_21 : decode cX1_loudOne 21 = .ok (.aload_n 1, 1) := dk_43 (dk_at dksX1_loudOne_0 21 rfl rfl)
theorem dX1_loudOne_22 : decode cX1_loudOne 22 = .ok (.getfield 299, 3) := dk_180 1 43 (dk_at dksX1_loudOne_1 0 rfl rfl)
theorem dX1_loudOne_25 : decode cX1_loudOne 25 = .ok (.iload_n 2, 1) := dk_28 (dk_at dksX1_loudOne_1 3 rfl rfl)
theorem dX1_loudOne_26 : decode cX1_loudOne 26 = .ok (.iaload, 1) := dk_46 (dk_at dksX1_loudOne_1 4 rfl rfl)
theorem dX1_loudOne_27 : decode cX1_loudOne 27 = .ok (.if_icmp .le 5, 3) := dk_164 0 5 (dk_at dksX1_loudOne_1 5 rfl rfl)
theorem dX1_loudOne_30 : decode cX1_loudOne 30 = .ok (.iload_n 3, 1) := dk_29 (dk_at dksX1_loudOne_1 8 rfl rfl)
theorem dX1_loudOne_31 : decode cX1_loudOne 31 = .ok (.istore_n 2, 1) := dk_61 (dk_at dksX1_loudOne_1 9 rfl rfl)
theorem dX1_loudOne_32 : decode cX1_loudOne 32 = .ok (.iinc 3 1, 3) := dk_132 3 1 (dk_at dksX1_loudOne_1 10 rfl rfl)
theorem dX1_loudOne_35 : decode cX1_loudOne 35 = .ok (.goto (-31), 3) := dk_167 255 225 (dk_at dksX1_loudOne_1 13 rfl rfl)
theorem dX1_loudOne_38 : decode cX1_loudOne 38 = .ok (.aload_n 1, 1) := dk_43 (dk_at dksX1_loudOne_1 16 rfl rfl)
theorem dX1_loudOne_39 : decode cX1_loudOne 39 = .ok (.getfield 227, 3) := dk_180 0 227 (dk_at dksX1_loudOne_1 17 rfl rfl)
theorem dX1_loudOne_42 : decode cX1_loudOne 42 = .ok (.ifCond .ne 8, 3) := dk_154 0 8 (dk_at dksX1_loudOne_1 20 rfl rfl)
theorem dX1_loudOne_45 : decode cX1_loudOne 45 = .ok (.bipush (-2), 2) := dk_16 254 (dk_at dksX1_loudOne_2 0 rfl rfl)
theorem dX1_loudOne_47 : decode cX1_loudOne 47 = .ok (.goto 4, 3) := dk_167 0 4 (dk_at dksX1_loudOne_2 2 rfl rfl)
theorem dX1_loudOne_50 : decode cX1_loudOne 50 = .ok (.iload_n 2, 1) := dk_28 (dk_at dksX1_loudOne_2 5 rfl rfl)
theorem dX1_loudOne_51 : decode cX1_loudOne 51 = .ok (.ireturn, 1) := dk_172 (dk_at dksX1_loudOne_2 6 rfl rfl)
abbrev cX1_bySort : ByteArray := prog_1_method_48_code
def yX1_bySort : MethodName := ⟨RX1, "bySort", "(II)I"⟩
def dkwX1_bySort_1 : List UInt8 := [180, 1, 20, 6, 27, 104, 28, 96, 46, 167, 0, 4, 2, 172]
abbrev dktX1_bySort_1 : List UInt8 := dkwX1_bySort_1 ++ []
def dkwX1_bySort_0 : List UInt8 := [27, 3, 8, 184, 0, 75, 153, 0, 28, 28, 3, 5, 184, 0, 75, 153, 0, 19, 42, 182, 0, 218]
abbrev dktX1_bySort_0 : List UInt8 := dkwX1_bySort_0 ++ dktX1_bySort_1
theorem dksX1_bySort_0 : cX1_bySort.data.toList.drop 0 = dktX1_bySort_0 := by decide +kernel
theorem dksX1_bySort_1 : cX1_bySort.data.toList.drop 22 = dktX1_bySort_1 := dk_seg dksX1_bySort_0 22 rfl rfl
theorem dX1_bySort_0 : decode cX1_bySort 0 = .ok (.iload_n 1, 1) := dk_27 (dk_at dksX1_bySort_0 0 rfl rfl)
theorem dX1_bySort_1 : decode cX1_bySort 1 = .ok (.iconst 0, 1) := dk_3 (dk_at dksX1_bySort_0 1 rfl rfl)
theorem dX1_bySort_2 : decode cX1_bySort 2 = .ok (.iconst 5, 1) := dk_8 (dk_at dksX1_bySort_0 2 rfl rfl)
theorem dX1_bySort_3 : decode cX1_bySort 3 = .ok (.invokestatic 75, 3) := dk_184 0 75 (dk_at dksX1_bySort_0 3 rfl rfl)
theorem dX1_bySort_6 : decode cX1_bySort 6 = .ok (.ifCond .eq 28, 3) := dk_153 0 28 (dk_at dksX1_bySort_0 6 rfl rfl)
theorem dX1_bySort_9 : decode cX1_bySort 9 = .ok (.iload_n 2, 1) := dk_28 (dk_at dksX1_bySort_0 9 rfl rfl)
theorem dX1_bySort_10 : decode cX1_bySort 10 = .ok (.iconst 0, 1) := dk_3 (dk_at dksX1_bySort_0 10 rfl rfl)
theorem dX1_bySort_11 : decode cX1_bySort 11 = .ok (.iconst 2, 1) := dk_5 (dk_at dksX1_bySort_0 11 rfl rfl)
theorem dX1_bySort_12 : decode cX1_bySort 12 = .ok (.invokestatic 75, 3) := dk_184 0 75 (dk_at dksX1_bySort_0 12 rfl rfl)
theorem dX1_bySort_15 : decode cX1_bySort 15 = .ok (.ifCond .eq 19, 3) := dk_153 0 19 (dk_at dksX1_bySort_0 15 rfl rfl)
theorem dX1_bySort_18 : decode cX1_bySort 18 = .ok (.aload_n 0, 1) := dk_42 (dk_at dksX1_bySort_0 18 rfl rfl)
theorem dX1_bySort_19 : decode cX1_bySort 19 = .ok (.invokevirtual 218, 3) := dk_182 0 218 (dk_at dksX1_bySort_0 19 rfl rfl)
theorem dX1_bySort_22 : decode cX1_bySort 22 = .ok (.getfield 276, 3) := dk_180 1 20 (dk_at dksX1_bySort_1 0 rfl rfl)
theorem dX1_bySort_25 : decode cX1_bySort 25 = .ok (.iconst 3, 1) := dk_6 (dk_at dksX1_bySort_1 3 rfl rfl)
theorem dX1_bySort_26 : decode cX1_bySort 26 = .ok (.iload_n 1, 1) := dk_27 (dk_at dksX1_bySort_1 4 rfl rfl)
theorem dX1_bySort_27 : decode cX1_bySort 27 = .ok (.imul, 1) := dk_104 (dk_at dksX1_bySort_1 5 rfl rfl)
theorem dX1_bySort_28 : decode cX1_bySort 28 = .ok (.iload_n 2, 1) := dk_28 (dk_at dksX1_bySort_1 6 rfl rfl)
theorem dX1_bySort_29 : decode cX1_bySort 29 = .ok (.iadd, 1) := dk_96 (dk_at dksX1_bySort_1 7 rfl rfl)
theorem dX1_bySort_30 : decode cX1_bySort 30 = .ok (.iaload, 1) := dk_46 (dk_at dksX1_bySort_1 8 rfl rfl)
theorem dX1_bySort_31 : decode cX1_bySort 31 = .ok (.goto 4, 3) := dk_167 0 4 (dk_at dksX1_bySort_1 9 rfl rfl)
theorem dX1_bySort_34 : decode cX1_bySort 34 = .ok (.iconst (-1), 1) := dk_2 (dk_at dksX1_bySort_1 12 rfl rfl)
theorem dX1_bySort_35 : decode cX1_bySort 35 = .ok (.ireturn, 1) := dk_172 (dk_at dksX1_bySort_1 13 rfl rfl)
abbrev cX1_loudest : ByteArray := prog_1_method_49_code
def yX1_loudest : MethodName := ⟨RX1, "loudest", "()I"⟩
def dkwX1_loudest_0 : List UInt8 := [42, 182, 0, 218, 180, 1, 23, 172]
abbrev dktX1_loudest_0 : List UInt8 := dkwX1_loudest_0 ++ []
theorem dksX1_loudest_0 : cX1_loudest.data.toList.drop 0 = dktX1_loudest_0 := by decide +kernel
theorem dX1_loudest_0 : decode cX1_loudest 0 = .ok (.aload_n 0, 1) := dk_42 (dk_at dksX1_loudest_0 0 rfl rfl)
theorem dX1_loudest_1 : decode cX1_loudest 1 = .ok (.invokevirtual 218, 3) := dk_182 0 218 (dk_at dksX1_loudest_0 1 rfl rfl)
theorem dX1_loudest_4 : decode cX1_loudest 4 = .ok (.getfield 279, 3) := dk_180 1 23 (dk_at dksX1_loudest_0 4 rfl rfl)
theorem dX1_loudest_7 : decode cX1_loudest 7 = .ok (.ireturn, 1) := dk_172 (dk_at dksX1_loudest_0 7 rfl rfl)
abbrev cX1_when : ByteArray := prog_1_method_50_code
def yX1_when : MethodName := ⟨RX1, "when", "(I)I"⟩
def dkwX1_when_0 : List UInt8 := [42, 27, 182, 0, 132, 153, 0, 15, 42, 182, 0, 218, 180, 1, 26, 27, 46, 167, 0, 4, 2, 172]
abbrev dktX1_when_0 : List UInt8 := dkwX1_when_0 ++ []
theorem dksX1_when_0 : cX1_when.data.toList.drop 0 = dktX1_when_0 := by decide +kernel
theorem dX1_when_0 : decode cX1_when 0 = .ok (.aload_n 0, 1) := dk_42 (dk_at dksX1_when_0 0 rfl rfl)
theorem dX1_when_1 : decode cX1_when 1 = .ok (.iload_n 1, 1) := dk_27 (dk_at dksX1_when_0 1 rfl rfl)
theorem dX1_when_2 : decode cX1_when 2 = .ok (.invokevirtual 132, 3) := dk_182 0 132 (dk_at dksX1_when_0 2 rfl rfl)
theorem dX1_when_5 : decode cX1_when 5 = .ok (.ifCond .eq 15, 3) := dk_153 0 15 (dk_at dksX1_when_0 5 rfl rfl)
theorem dX1_when_8 : decode cX1_when 8 = .ok (.aload_n 0, 1) := dk_42 (dk_at dksX1_when_0 8 rfl rfl)
theorem dX1_when_9 : decode cX1_when 9 = .ok (.invokevirtual 218, 3) := dk_182 0 218 (dk_at dksX1_when_0 9 rfl rfl)
theorem dX1_when_12 : decode cX1_when 12 = .ok (.getfield 282, 3) := dk_180 1 26 (dk_at dksX1_when_0 12 rfl rfl)
theorem dX1_when_15 : decode cX1_when 15 = .ok (.iload_n 1, 1) := dk_27 (dk_at dksX1_when_0 15 rfl rfl)
theorem dX1_when_16 : decode cX1_when 16 = .ok (.iaload, 1) := dk_46 (dk_at dksX1_when_0 16 rfl rfl)
theorem dX1_when_17 : decode cX1_when 17 = .ok (.goto 4, 3) := dk_167 0 4 (dk_at dksX1_when_0 17 rfl rfl)
theorem dX1_when_20 : decode cX1_when 20 = .ok (.iconst (-1), 1) := dk_2 (dk_at dksX1_when_0 20 rfl rfl)
theorem dX1_when_21 : decode cX1_when 21 = .ok (.ireturn, 1) := dk_172 (dk_at dksX1_when_0 21 rfl rfl)
abbrev cX1_clearance : ByteArray := prog_1_method_51_code
def yX1_clearance : MethodName := ⟨RX1, "clearance", "(I)I"⟩
def dkwX1_clearance_0 : List UInt8 := [42, 27, 182, 0, 132, 153, 0, 15, 42, 182, 0, 218, 180, 1, 29, 27, 46, 167, 0, 4, 2, 172]
abbrev dktX1_clearance_0 : List UInt8 := dkwX1_clearance_0 ++ []
theorem dksX1_clearance_0 : cX1_clearance.data.toList.drop 0 = dktX1_clearance_0 := by decide +kernel
theorem dX1_clearance_0 : decode cX1_clearance 0 = .ok (.aload_n 0, 1) := dk_42 (dk_at dksX1_clearance_0 0 rfl rfl)
theorem dX1_clearance_1 : decode cX1_clearance 1 = .ok (.iload_n 1, 1) := dk_27 (dk_at dksX1_clearance_0 1 rfl rfl)
theorem dX1_clearance_2 : decode cX1_clearance 2 = .ok (.invokevirtual 132, 3) := dk_182 0 132 (dk_at dksX1_clearance_0 2 rfl rfl)
theorem dX1_clearance_5 : decode cX1_clearance 5 = .ok (.ifCond .eq 15, 3) := dk_153 0 15 (dk_at dksX1_clearance_0 5 rfl rfl)
theorem dX1_clearance_8 : decode cX1_clearance 8 = .ok (.aload_n 0, 1) := dk_42 (dk_at dksX1_clearance_0 8 rfl rfl)
theorem dX1_clearance_9 : decode cX1_clearance 9 = .ok (.invokevirtual 218, 3) := dk_182 0 218 (dk_at dksX1_clearance_0 9 rfl rfl)
theorem dX1_clearance_12 : decode cX1_clearance 12 = .ok (.getfield 285, 3) := dk_180 1 29 (dk_at dksX1_clearance_0 12 rfl rfl)
theorem dX1_clearance_15 : decode cX1_clearance 15 = .ok (.iload_n 1, 1) := dk_27 (dk_at dksX1_clearance_0 15 rfl rfl)
theorem dX1_clearance_16 : decode cX1_clearance 16 = .ok (.iaload, 1) := dk_46 (dk_at dksX1_clearance_0 16 rfl rfl)
theorem dX1_clearance_17 : decode cX1_clearance 17 = .ok (.goto 4, 3) := dk_167 0 4 (dk_at dksX1_clearance_0 17 rfl rfl)
theorem dX1_clearance_20 : decode cX1_clearance 20 = .ok (.iconst (-1), 1) := dk_2 (dk_at dksX1_clearance_0 20 rfl rfl)
theorem dX1_clearance_21 : decode cX1_clearance 21 = .ok (.ireturn, 1) := dk_172 (dk_at dksX1_clearance_0 21 rfl rfl)
abbrev cX1_nearest : ByteArray := prog_1_method_52_code
def yX1_nearest : MethodName := ⟨RX1, "nearest", "(I)I"⟩
def dkwX1_nearest_4 : List UInt8 := [42, 28, 27, 182, 1, 32, 162, 0, 5, 29, 61, 132, 3, 1, 167, 255, 162, 28, 172]
abbrev dktX1_nearest_4 : List UInt8 := dkwX1_nearest_4 ++ []
def dkwX1_nearest_3 : List UInt8 := [180, 0, 40, 180, 0, 122, 27, 46, 154, 0, 6, 167, 0, 24, 28, 155, 0, 18, 42, 29, 27, 182, 1, 32]
abbrev dktX1_nearest_3 : List UInt8 := dkwX1_nearest_3 ++ dktX1_nearest_4
def dkwX1_nearest_2 : List UInt8 := [180, 0, 160, 27, 50, 180, 0, 212, 160, 0, 51, 42, 180, 0, 40, 180, 0, 122, 29, 46, 153, 0, 39, 42]
abbrev dktX1_nearest_2 : List UInt8 := dkwX1_nearest_2 ++ dktX1_nearest_3
def dkwX1_nearest_1 : List UInt8 := [162, 0, 89, 29, 27, 159, 0, 78, 42, 180, 0, 33, 180, 0, 160, 29, 50, 180, 0, 212, 42, 180, 0, 33]
abbrev dktX1_nearest_1 : List UInt8 := dkwX1_nearest_1 ++ dktX1_nearest_2
def dkwX1_nearest_0 : List UInt8 := [42, 27, 182, 0, 132, 154, 0, 5, 2, 172, 16, 254, 61, 3, 62, 29, 42, 180, 0, 33, 180, 0, 119]
abbrev dktX1_nearest_0 : List UInt8 := dkwX1_nearest_0 ++ dktX1_nearest_1
theorem dksX1_nearest_0 : cX1_nearest.data.toList.drop 0 = dktX1_nearest_0 := by decide +kernel
theorem dksX1_nearest_1 : cX1_nearest.data.toList.drop 23 = dktX1_nearest_1 := dk_seg dksX1_nearest_0 23 rfl rfl
theorem dksX1_nearest_2 : cX1_nearest.data.toList.drop 47 = dktX1_nearest_2 := dk_seg dksX1_nearest_1 24 rfl rfl
theorem dksX1_nearest_3 : cX1_nearest.data.toList.drop 71 = dktX1_nearest_3 := dk_seg dksX1_nearest_2 24 rfl rfl
theorem dksX1_nearest_4 : cX1_nearest.data.toList.drop 95 = dktX1_nearest_4 := dk_seg dksX1_nearest_3 24 rfl rfl
theorem dX1_nearest_0 : decode cX1_nearest 0 = .ok (.aload_n 0, 1) := dk_42 (dk_at dksX1_nearest_0 0 rfl rfl)
theorem dX1_nearest_1 : decode cX1_nearest 1 = .ok (.iload_n 1, 1) := dk_27 (dk_at dksX1_nearest_0 1 rfl rfl)
theorem dX1_nearest_2 : decode cX1_nearest 2 = .ok (.invokevirtual 132, 3) := dk_182 0 132 (dk_at dksX1_nearest_0 2 rfl rfl)
theorem dX1_nearest_5 : decode cX1_nearest 5 = .ok (.ifCond .ne 5, 3) := dk_154 0 5 (dk_at dksX1_nearest_0 5 rfl rfl)
theorem dX1_nearest_8 : decode cX1_nearest 8 = .ok (.iconst (-1), 1) := dk_2 (dk_at dksX1_nearest_0 8 rfl rfl)
theorem dX1_nearest_9 : decode cX1_nearest 9 = .ok (.ireturn, 1) := dk_172 (dk_at dksX1_nearest_0 9 rfl rfl)
theorem dX1_nearest_10 : decode cX1_nearest 10 = .ok (.bipush (-2), 2) := dk_16 254 (dk_at dksX1_nearest_0 10 rfl rfl)
theorem dX1_nearest_12 : decode cX1_nearest 12 = .ok (.istore_n 2, 1) := dk_61 (dk_at dksX1_nearest_0 12 rfl rfl)
theorem dX1_nearest_13 : decode cX1_nearest 13 = .ok (.iconst 0, 1) := dk_3 (dk_at dksX1_nearest_0 13 rfl rfl)
theorem dX1_nearest_14 : decode cX1_nearest 14 = .ok (.istore_n 3, 1) := dk_62 (dk_at dksX1_nearest_0 14 rfl rfl)
theorem dX1_nearest_15 : decode cX1_nearest 15 = .ok (.iload_n 3, 1) := dk_29 (dk_at dksX1_nearest_0 15 rfl rfl)
theorem dX1_nearest_16 : decode cX1_nearest 16 = .ok (.aload_n 0, 1) := dk_42 (dk_at dksX1_nearest_0 16 rfl rfl)
theorem dX1_nearest_17 : decode cX1_nearest 17 = .ok (.getfield 33, 3) := dk_180 0 33 (dk_at dksX1_nearest_0 17 rfl rfl)
theorem dX1_nearest_20 : decode cX1_nearest 20 = .ok (.getfield 119, 3) := dk_180 0 119 (dk_at dksX1_nearest_0 20 rfl rfl)
theorem dX1_nearest_23 : decode cX1_nearest 23 = .ok (.if_icmp .ge 89, 3) := dk_162 0 89 (dk_at dksX1_nearest_1 0 rfl rfl)
theorem dX1_nearest_26 : decode cX1_nearest 26 = .ok (.iload_n 3, 1) := dk_29 (dk_at dksX1_nearest_1 3 rfl rfl)
theorem dX1_nearest_27 : decode cX1_nearest 27 = .ok (.iload_n 1, 1) := dk_27 (dk_at dksX1_nearest_1 4 rfl rfl)
theorem dX1_nearest_28 : decode cX1_nearest 28 = .ok (.if_icmp .eq 78, 3) := dk_159 0 78 (dk_at dksX1_nearest_1 5 rfl rfl)
theorem dX1_nearest_31 : decode cX1_nearest 31 = .ok (.aload_n 0, 1) := dk_42 (dk_at dksX1_nearest_1 8 rfl rfl)
theorem dX1_nearest_32 : decode cX1_nearest 32 = .ok (.getfield 33, 3) := dk_180 0 33 (dk_at dksX1_nearest_1 9 rfl rfl)
theorem dX1_nearest_35 : decode cX1_nearest 35 = .ok (.getfield 160, 3) := dk_180 0 160 (dk_at dksX1_nearest_1 12 rfl rfl)
theorem dX1_nearest_38 : decode cX1_nearest 38 = .ok (.iload_n 3, 1) := dk_29 (dk_at dksX1_nearest_1 15 rfl rfl)
theorem dX1_nearest_39 : decode cX1_nearest 39 = .ok (.aaload, 1) := dk_50 (dk_at dksX1_nearest_1 16 rfl rfl)
theorem dX1_nearest_40 : decode cX1_nearest 40 = .ok (.getfield 212, 3) := dk_180 0 212 (dk_at dksX1_nearest_1 17 rfl rfl)
theorem dX1_nearest_43 : decode cX1_nearest 43 = .ok (.aload_n 0, 1) := dk_42 (dk_at dksX1_nearest_1 20 rfl rfl)
theorem dX1_nearest_44 : decode cX1_nearest 44 = .ok (.getfield 33, 3) := dk_180 0 33 (dk_at dksX1_nearest_1 21 rfl rfl)
theorem dX1_nearest_47 : decode cX1_nearest 47 = .ok (.getfield 160, 3) := dk_180 0 160 (dk_at dksX1_nearest_2 0 rfl rfl)
theorem dX1_nearest_50 : decode cX1_nearest 50 = .ok (.iload_n 1, 1) := dk_27 (dk_at dksX1_nearest_2 3 rfl rfl)
theorem dX1_nearest_51 : decode cX1_nearest 51 = .ok (.aaload, 1) := dk_50 (dk_at dksX1_nearest_2 4 rfl rfl)
theorem dX1_nearest_52 : decode cX1_nearest 52 = .ok (.getfield 212, 3) := dk_180 0 212 (dk_at dksX1_nearest_2 5 rfl rfl)
theorem dX1_nearest_55 : decode cX1_nearest 55 = .ok (.if_icmp .ne 51, 3) := dk_160 0 51 (dk_at dksX1_nearest_2 8 rfl rfl)
theorem dX1_nearest_58 : decode cX1_nearest 58 = .ok (.aload_n 0, 1) := dk_42 (dk_at dksX1_nearest_2 11 rfl rfl)
theorem dX1_nearest_59 : decode cX1_nearest 59 = .ok (.getfield 40, 3) := dk_180 0 40 (dk_at dksX1_nearest_2 12 rfl rfl)
theorem dX1_nearest_62 : decode cX1_nearest 62 = .ok (.getfield 122, 3) := dk_180 0 122 (dk_at dksX1_nearest_2 15 rfl rfl)
theorem dX1_nearest_65 : decode cX1_nearest 65 = .ok (.iload_n 3, 1) := dk_29 (dk_at dksX1_nearest_2 18 rfl rfl)
theorem dX1_nearest_66 : decode cX1_nearest 66 = .ok (.iaload, 1) := dk_46 (dk_at dksX1_nearest_2 19 rfl rfl)
theorem dX1_nearest_67 : decode cX1_nearest 67 = .ok (.ifCond .eq 39, 3) := dk_153 0 39 (dk_at dksX1_nearest_2 20 rfl rfl)
theorem dX1_nearest_70 : decode cX1_nearest 70 = .ok (.aload_n 0, 1) := dk_42 (dk_at dksX1_nearest_2 23 rfl rfl)
theorem dX1_nearest_71 : decode cX1_nearest 71 = .ok (.getfield 40, 3) := dk_180 0 40 (dk_at dksX1_nearest_3 0 rfl rfl)
theorem dX1_nearest_74 : decode cX1_nearest 74 = .ok (.getfield 122, 3) := dk_180 0 122 (dk_at dksX1_nearest_3 3 rfl rfl)
theorem dX1_nearest_77 : decode cX1_nearest 77 = .ok (.iload_n 1, 1) := dk_27 (dk_at dksX1_nearest_3 6 rfl rfl)
theorem dX1_nearest_78 : decode cX1_nearest 78 = .ok (.iaload, 1) := dk_46 (dk_at dksX1_nearest_3 7 rfl rfl)
theorem dX1_nearest_79 : decode cX1_nearest 79 = .ok (.ifCond .ne 6, 3) := dk_154 0 6 (dk_at dksX1_nearest_3 8 rfl rfl)
theorem dX1_nearest_82 : decode cX1_nearest 82 = .ok (.goto 24, 3) := dk_167 0 24 (dk_at dksX1_nearest_3 11 rfl rfl)
theorem dX1_nearest_85 : decode cX1_nearest 85 = .ok (.iload_n 2, 1) := dk_28 (dk_at dksX1_nearest_3 14 rfl rfl)
theorem dX1_nearest_86 : decode cX1_nearest 86 = .ok (.ifCond .lt 18, 3) := dk_155 0 18 (dk_at dksX1_nearest_3 15 rfl rfl)
theorem dX1_nearest_89 : decode cX1_nearest 89 = .ok (.aload_n 0, 1) := dk_42 (dk_at dksX1_nearest_3 18 rfl rfl)
theorem dX1_nearest_90 : decode cX1_nearest 90 = .ok (.iload_n 3, 1) := dk_29 (dk_at dksX1_nearest_3 19 rfl rfl)
theorem dX1_nearest_91 : decode cX1_nearest 91 = .ok (.iload_n 1, 1) := dk_27 (dk_at dksX1_nearest_3 20 rfl rfl)
theorem dX1_nearest_92 : decode cX1_nearest 92 = .ok (.invokevirtual 288, 3) := dk_182 1 32 (dk_at dksX1_nearest_3 21 rfl rfl)
theorem dX1_nearest_95 : decode cX1_nearest 95 = .ok (.aload_n 0, 1) := dk_42 (dk_at dksX1_nearest_4 0 rfl rfl)
theorem dX1_nearest_96 : decode cX1_nearest 96 = .ok (.iload_n 2, 1) := dk_28 (dk_at dksX1_nearest_4 1 rfl rfl)
theorem dX1_nearest_97 : decode cX1_nearest 97 = .ok (.iload_n 1, 1) := dk_27 (dk_at dksX1_nearest_4 2 rfl rfl)
theorem dX1_nearest_98 : decode cX1_nearest 98 = .ok (.invokevirtual 288, 3) := dk_182 1 32 (dk_at dksX1_nearest_4 3 rfl rfl)
theorem dX1_nearest_101 : decode cX1_nearest 101 = .ok (.if_icmp .ge 5, 3) := dk_162 0 5 (dk_at dksX1_nearest_4 6 rfl rfl)
theorem dX1_nearest_104 : decode cX1_nearest 104 = .ok (.iload_n 3, 1) := dk_29 (dk_at dksX1_nearest_4 9 rfl rfl)
theorem dX1_nearest_105 : decode cX1_nearest 105 = .ok (.istore_n 2, 1) := dk_61 (dk_at dksX1_nearest_4 10 rfl rfl)
theorem dX1_nearest_106 : decode cX1_nearest 106 = .ok (.iinc 3 1, 3) := dk_132 3 1 (dk_at dksX1_nearest_4 11 rfl rfl)
theorem dX1_nearest_109 : decode cX1_nearest 109 = .ok (.goto (-94), 3) := dk_167 255 162 (dk_at dksX1_nearest_4 14 rfl rfl)
theorem dX1_nearest_112 : decode cX1_nearest 112 = .ok (.iload_n 2, 1) := dk_28 (dk_at dksX1_nearest_4 17 rfl rfl)
theorem dX1_nearest_113 : decode cX1_nearest 113 = .ok (.ireturn, 1) := dk_172 (dk_at dksX1_nearest_4 18 rfl rfl)
abbrev cX1_apart : ByteArray := prog_1_method_53_code
def yX1_apart : MethodName := ⟨RX1, "apart", "(II)I"⟩
def dkwX1_apart_0 : List UInt8 := [42, 180, 0, 40, 180, 0, 122, 27, 46, 42, 180, 0, 40, 180, 0, 122, 28, 46, 100, 184, 1, 35, 172]
abbrev dktX1_apart_0 : List UInt8 := dkwX1_apart_0 ++ []
theorem dksX1_apart_0 : cX1_apart.data.toList.drop 0 = dktX1_apart_0 := by decide +kernel
theorem dX1_apart_0 : decode cX1_apart 0 = .ok (.aload_n 0, 1) := dk_42 (dk_at dksX1_apart_0 0 rfl rfl)
theorem dX1_apart_1 : decode cX1_apart 1 = .ok (.getfield 40, 3) := dk_180 0 40 (dk_at dksX1_apart_0 1 rfl rfl)
theorem dX1_apart_4 : decode cX1_apart 4 = .ok (.getfield 122, 3) := dk_180 0 122 (dk_at dksX1_apart_0 4 rfl rfl)
theorem dX1_apart_7 : decode cX1_apart 7 = .ok (.iload_n 1, 1) := dk_27 (dk_at dksX1_apart_0 7 rfl rfl)
theorem dX1_apart_8 : decode cX1_apart 8 = .ok (.iaload, 1) := dk_46 (dk_at dksX1_apart_0 8 rfl rfl)
theorem dX1_apart_9 : decode cX1_apart 9 = .ok (.aload_n 0, 1) := dk_42 (dk_at dksX1_apart_0 9 rfl rfl)
theorem dX1_apart_10 : decode cX1_apart 10 = .ok (.getfield 40, 3) := dk_180 0 40 (dk_at dksX1_apart_0 10 rfl rfl)
theorem dX1_apart_13 : decode cX1_apart 13 = .ok (.getfield 122, 3) := dk_180 0 122 (dk_at dksX1_apart_0 13 rfl rfl)
theorem dX1_apart_16 : decode cX1_apart 16 = .ok (.iload_n 2, 1) := dk_28 (dk_at dksX1_apart_0 16 rfl rfl)
theorem dX1_apart_17 : decode cX1_apart 17 = .ok (.iaload, 1) := dk_46 (dk_at dksX1_apart_0 17 rfl rfl)
theorem dX1_apart_18 : decode cX1_apart 18 = .ok (.isub, 1) := dk_100 (dk_at dksX1_apart_0 18 rfl rfl)
theorem dX1_apart_19 : decode cX1_apart 19 = .ok (.invokestatic 291, 3) := dk_184 1 35 (dk_at dksX1_apart_0 19 rfl rfl)
theorem dX1_apart_22 : decode cX1_apart 22 = .ok (.ireturn, 1) := dk_172 (dk_at dksX1_apart_0 22 rfl rfl)
abbrev cX1_mostSpace : ByteArray := prog_1_method_54_code
def yX1_mostSpace : MethodName := ⟨RX1, "mostSpace", "()I"⟩
def dkwX1_mostSpace_2 : List UInt8 := [16, 254, 172]
abbrev dktX1_mostSpace_2 : List UInt8 := dkwX1_mostSpace_2 ++ []
def dkwX1_mostSpace_1 : List UInt8 := [181, 1, 40, 42, 180, 0, 59, 182, 0, 156, 180, 0, 230, 154, 0, 5, 27, 172, 132, 1, 255, 167, 255, 226]
abbrev dktX1_mostSpace_1 : List UInt8 := dkwX1_mostSpace_1 ++ dktX1_mostSpace_2
def dkwX1_mostSpace_0 : List UInt8 := [42, 180, 0, 59, 42, 180, 0, 40, 182, 0, 152, 87, 16, 20, 60, 27, 158, 0, 32, 42, 180, 0, 59, 27]
abbrev dktX1_mostSpace_0 : List UInt8 := dkwX1_mostSpace_0 ++ dktX1_mostSpace_1
theorem dksX1_mostSpace_0 : cX1_mostSpace.data.toList.drop 0 = dktX1_mostSpace_0 := by decide +kernel
theorem dksX1_mostSpace_1 : cX1_mostSpace.data.toList.drop 24 = dktX1_mostSpace_1 := dk_seg dksX1_mostSpace_0 24 rfl rfl
theorem dksX1_mostSpace_2 : cX1_mostSpace.data.toList.drop 48 = dktX1_mostSpace_2 := dk_seg dksX1_mostSpace_1 24 rfl rfl
theorem dX1_mostSpace_0 : decode cX1_mostSpace 0 = .ok (.aload_n 0, 1) := dk_42 (dk_at dksX1_mostSpace_0 0 rfl rfl)
theorem dX1_mostSpace_1 : decode cX1_mostSpace 1 = .ok (.getfield 59, 3) := dk_180 0 59 (dk_at dksX1_mostSpace_0 1 rfl rfl)
theorem dX1_mostSpace_4 : decode cX1_mostSpace 4 = .ok (.aload_n 0, 1) := dk_42 (dk_at dksX1_mostSpace_0 4 rfl rfl)
theorem dX1_mostSpace_5 : decode cX1_mostSpace 5 = .ok (.getfield 40, 3) := dk_180 0 40 (dk_at dksX1_mostSpace_0 5 rfl rfl)
theorem dX1_mostSpace_8 : decode cX1_mostSpace 8 = .ok (.invokevirtual 152, 3) := dk_182 0 152 (dk_at dksX1_mostSpace_0 8 rfl rfl)
theorem dX1_mostSpace_11 : decode cX1_mostSpace 11 = .ok (.pop, 1) := dk_87 (dk_at dksX1_mostSpace_0 11 rfl rfl)
theorem dX1_mostSpace_12 : decode cX1_mostSpace 12 = .ok (.bipush 20, 2) := dk_16 20 (dk_at dksX1_mostSpace_0 12 rfl rfl)
theorem dX1_mostSpace_14 : decode cX1_mostSpace 14 = .ok (.istore_n 1, 1) := dk_60 (dk_at dksX1_mostSpace_0 14 rfl rfl)
theorem dX1_mostSpace_15 : decode cX1_mostSpace 15 = .ok (.iload_n 1, 1) := dk_27 (dk_at dksX1_mostSpace_0 15 rfl rfl)
theorem dX1_mostSpace_16 : decode cX1_mostSpace 16 = .ok (.ifCond .le 32, 3) := dk_158 0 32 (dk_at dksX1_mostSpace_0 16 rfl rfl)
theorem dX1_mostSpace_19 : decode cX1_mostSpace 19 = .ok (.aload_n 0, 1) := dk_42 (dk_at dksX1_mostSpace_0 19 rfl rfl)
theorem dX1_mostSpace_20 : decode cX1_mostSpace 20 = .ok (.getfield 59, 3) := dk_180 0 59 (dk_at dksX1_mostSpace_0 20 rfl rfl)
theorem dX1_mostSpace_23 : decode cX1_mostSpace 23 = .ok (.iload_n 1, 1) := dk_27 (dk_at dksX1_mostSpace_0 23 rfl rfl)
theorem dX1_mostSpace_24 : decode cX1_mostSpace 24 = .ok (.putfield 296, 3) := dk_181 1 40 (dk_at dksX1_mostSpace_1 0 rfl rfl)
theorem dX1_mostSpace_27 : decode cX1_mostSpace 27 = .ok (.aload_n 0, 1) := dk_42 (dk_at dksX1_mostSpace_1 3 rfl rfl)
theorem dX1_mostSpace_28 : decode cX1_mostSpace 28 = .ok (.getfield 59, 3) := dk_180 0 59 (dk_at dksX1_mostSpace_1 4 rfl rfl)
theorem dX1_mostSpace_31 : decode cX1_mostSpace 31 = .ok (.invokevirtual 156, 3) := dk_182 0 156 (dk_at dksX1_mostSpace_1 7 rfl rfl)
theorem dX1_mostSpace_34 : decode cX1_mostSpace 34 = .ok (.getfield 230, 3) := dk_180 0 230 (dk_at dksX1_mostSpace_1 10 rfl rfl)
theorem dX1_mostSpace_37 : decode cX1_mostSpace 37 = .ok (.ifCond .ne 5, 3) := dk_154 0 5 (dk_at dksX1_mostSpace_1 13 rfl rfl)
theorem dX1_mostSpace_40 : decode cX1_mostSpace 40 = .ok (.iload_n 1, 1) := dk_27 (dk_at dksX1_mostSpace_1 16 rfl rfl)
theorem dX1_mostSpace_41 : decode cX1_mostSpace 41 = .ok (.ireturn, 1) := dk_172 (dk_at dksX1_mostSpace_1 17 rfl rfl)
theorem dX1_mostSpace_42 : decode cX1_mostSpace 42 = .ok (.iinc 1 (-1), 3) := dk_132 1 255 (dk_at dksX1_mostSpace_1 18 rfl rfl)
theorem dX1_mostSpace_45 : decode cX1_mostSpace 45 = .ok (.goto (-30), 3) := dk_167 255 226 (dk_at dksX1_mostSpace_1 21 rfl rfl)
theorem dX1_mostSpace_48 : decode cX1_mostSpace 48 = .ok (.bipush (-2), 2) := dk_16 254 (dk_at dksX1_mostSpace_2 0 rfl rfl)
theorem dX1_mostSpace_50 : decode cX1_mostSpace 50 = .ok (.ireturn, 1) := dk_172 (dk_at dksX1_mostSpace_2 2 rfl rfl)
abbrev cX1_spare : ByteArray := prog_1_method_55_code
def yX1_spare : MethodName := ⟨RX1, "spare", "(I)I"⟩
def dkwX1_spare_3 : List UInt8 := [3, 96, 61, 132, 3, 1, 167, 255, 196, 28, 172]
abbrev dktX1_spare_3 : List UInt8 := dkwX1_spare_3 ++ []
def dkwX1_spare_2 : List UInt8 := [180, 0, 47, 42, 42, 180, 0, 47, 182, 0, 186, 183, 0, 189, 182, 0, 192, 154, 0, 7, 4, 167, 0, 4]
abbrev dktX1_spare_2 : List UInt8 := dkwX1_spare_2 ++ dktX1_spare_3
def dkwX1_spare_1 : List UInt8 := [163, 0, 55, 42, 27, 29, 182, 1, 9, 154, 0, 6, 167, 0, 37, 28, 187, 0, 184, 89, 42, 42]
abbrev dktX1_spare_1 : List UInt8 := dkwX1_spare_1 ++ dktX1_spare_2
def dkwX1_spare_0 : List UInt8 := [42, 27, 182, 0, 132, 154, 0, 5, 2, 172, 3, 61, 4, 62, 29, 42, 180, 0, 33, 180, 0, 129]
abbrev dktX1_spare_0 : List UInt8 := dkwX1_spare_0 ++ dktX1_spare_1
theorem dksX1_spare_0 : cX1_spare.data.toList.drop 0 = dktX1_spare_0 := by decide +kernel
theorem dksX1_spare_1 : cX1_spare.data.toList.drop 22 = dktX1_spare_1 := dk_seg dksX1_spare_0 22 rfl rfl
theorem dksX1_spare_2 : cX1_spare.data.toList.drop 44 = dktX1_spare_2 := dk_seg dksX1_spare_1 22 rfl rfl
theorem dksX1_spare_3 : cX1_spare.data.toList.drop 68 = dktX1_spare_3 := dk_seg dksX1_spare_2 24 rfl rfl
theorem dX1_spare_0 : decode cX1_spare 0 = .ok (.aload_n 0, 1) := dk_42 (dk_at dksX1_spare_0 0 rfl rfl)
theorem dX1_spare_1 : decode cX1_spare 1 = .ok (.iload_n 1, 1) := dk_27 (dk_at dksX1_spare_0 1 rfl rfl)
theorem dX1_spare_2 : decode cX1_spare 2 = .ok (.invokevirtual 132, 3) := dk_182 0 132 (dk_at dksX1_spare_0 2 rfl rfl)
theorem dX1_spare_5 : decode cX1_spare 5 = .ok (.ifCond .ne 5, 3) := dk_154 0 5 (dk_at dksX1_spare_0 5 rfl rfl)
theorem dX1_spare_8 : decode cX1_spare 8 = .ok (.iconst (-1), 1) := dk_2 (dk_at dksX1_spare_0 8 rfl rfl)
theorem dX1_spare_9 : decode cX1_spare 9 = .ok (.ireturn, 1) := dk_172 (dk_at dksX1_spare_0 9 rfl rfl)
theorem dX1_spare_10 : decode cX1_spare 10 = .ok (.iconst 0, 1) := dk_3 (dk_at dksX1_spare_0 10 rfl rfl)
theorem dX1_spare_11 : decode cX1_spare 11 = .ok (.istore_n 2, 1) := dk_61 (dk_at dksX1_spare_0 11 rfl rfl)
theorem dX1_spare_12 : decode cX1_spare 12 = .ok (.iconst 1, 1) := dk_4 (dk_at dksX1_spare_0 12 rfl rfl)
theorem dX1_spare_13 : decode cX1_spare 13 = .ok (.istore_n 3, 1) := dk_62 (dk_at dksX1_spare_0 13 rfl rfl)
theorem dX1_spare_14 : decode cX1_spare 14 = .ok (.iload_n 3, 1) := dk_29 (dk_at dksX1_spare_0 14 rfl rfl)
theorem dX1_spare_15 : decode cX1_spare 15 = .ok (.aload_n 0, 1) := dk_42 (dk_at dksX1_spare_0 15 rfl rfl)
theorem dX1_spare_16 : decode cX1_spare 16 = .ok (.getfield 33, 3) := dk_180 0 33 (dk_at dksX1_spare_0 16 rfl rfl)
theorem dX1_spare_19 : decode cX1_spare 19 = .ok (.getfield 129, 3) := dk_180 0 129 (dk_at dksX1_spare_0 19 rfl rfl)
theorem dX1_spare_22 : decode cX1_spare 22 = .ok (.if_icmp .gt 55, 3) := dk_163 0 55 (dk_at dksX1_spare_1 0 rfl rfl)
theorem dX1_spare_25 : decode cX1_spare 25 = .ok (.aload_n 0, 1) := dk_42 (dk_at dksX1_spare_1 3 rfl rfl)
theorem dX1_spare_26 : decode cX1_spare 26 = .ok (.iload_n 1, 1) := dk_27 (dk_at dksX1_spare_1 4 rfl rfl)
theorem dX1_spare_27 : decode cX1_spare 27 = .ok (.iload_n 3, 1) := dk_29 (dk_at dksX1_spare_1 5 rfl rfl)
theorem dX1_spare_28 : decode cX1_spare 28 = .ok (.invokevirtual 265, 3) := dk_182 1 9 (dk_at dksX1_spare_1 6 rfl rfl)
theorem dX1_spare_31 : decode cX1_spare 31 = .ok (.ifCond .ne 6, 3) := dk_154 0 6 (dk_at dksX1_spare_1 9 rfl rfl)
theorem dX1_spare_34 : decode cX1_spare 34 = .ok (.goto 37, 3) := dk_167 0 37 (dk_at dksX1_spare_1 12 rfl rfl)
theorem dX1_spare_37 : decode cX1_spare 37 = .ok (.iload_n 2, 1) := dk_28 (dk_at dksX1_spare_1 15 rfl rfl)
theorem dX1_spare_38 : decode cX1_spare 38 = .ok (.new 184, 3) := dk_187 0 184 (dk_at dksX1_spare_1 16 rfl rfl)
theorem dX1_spare_41 : decode cX1_spare 41 = .ok (.dup, 1) := dk_89 (dk_at dksX1_spare_1 19 rfl rfl)
theorem dX1_spare_42 : decode cX1_spare 42 = .ok (.aload_n 0, 1) := dk_42 (dk_at dksX1_spare_1 20 rfl rfl)
theorem dX1_spare_43 : decode cX1_spare 43 = .ok (.aload_n 0, 1) := dk_42 (dk_at dksX1_spare_1 21 rfl rfl)
theorem dX1_spare_44 : decode cX1_spare 44 = .ok (.getfield 47, 3) := dk_180 0 47 (dk_at dksX1_spare_2 0 rfl rfl)
theorem dX1_spare_47 : decode cX1_spare 47 = .ok (.aload_n 0, 1) := dk_42 (dk_at dksX1_spare_2 3 rfl rfl)
theorem dX1_spare_48 : decode cX1_spare 48 = .ok (.aload_n 0, 1) := dk_42 (dk_at dksX1_spare_2 4 rfl rfl)
theorem dX1_spare_49 : decode cX1_spare 49 = .ok (.getfield 47, 3) := dk_180 0 47 (dk_at dksX1_spare_2 5 rfl rfl)
theorem dX1_spare_52 : decode cX1_spare 52 = .ok (.invokevirtual 186, 3) := dk_182 0 186 (dk_at dksX1_spare_2 8 rfl rfl)
theorem dX1_spare_55 : decode cX1_spare 55 = .ok (.invokespecial 189, 3) := dk_183 0 189 (dk_at dksX1_spare_2 11 rfl rfl)
theorem dX1_spare_58 : decode cX1_spare 58 = .ok (.invokevirtual 192, 3) := dk_182 0 192 (dk_at dksX1_spare_2 14 rfl rfl)
theorem dX1_spare_61 : decode cX1_spare 61 = .ok (.ifCond .ne 7, 3) := dk_154 0 7 (dk_at dksX1_spare_2 17 rfl rfl)
theorem dX1_spare_64 : decode cX1_spare 64 = .ok (.iconst 1, 1) := dk_4 (dk_at dksX1_spare_2 20 rfl rfl)
theorem dX1_spare_65 : decode cX1_spare 65 = .ok (.goto 4, 3) := dk_167 0 4 (dk_at dksX1_spare_2 21 rfl rfl)
theorem dX1_spare_68 : decode cX1_spare 68 = .ok (.iconst 0, 1) := dk_3 (dk_at dksX1_spare_3 0 rfl rfl)
theorem dX1_spare_69 : decode cX1_spare 69 = .ok (.iadd, 1) := dk_96 (dk_at dksX1_spare_3 1 rfl rfl)
theorem dX1_spare_70 : decode cX1_spare 70 = .ok (.istore_n 2, 1) := dk_61 (dk_at dksX1_spare_3 2 rfl rfl)
theorem dX1_spare_71 : decode cX1_spare 71 = .ok (.iinc 3 1, 3) := dk_132 3 1 (dk_at dksX1_spare_3 3 rfl rfl)
theorem dX1_spare_74 : decode cX1_spare 74 = .ok (.goto (-60), 3) := dk_167 255 196 (dk_at dksX1_spare_3 6 rfl rfl)
theorem dX1_spare_77 : decode cX1_spare 77 = .ok (.iload_n 2, 1) := dk_28 (dk_at dksX1_spare_3 9 rfl rfl)
theorem dX1_spare_78 : decode cX1_spare 78 = .ok (.ireturn, 1) := dk_172 (dk_at dksX1_spare_3 10 rfl rfl)
abbrev cX1_rank : ByteArray := prog_1_method_56_code
def yX1_rank : MethodName := ⟨RX1, "rank", "(I)I"⟩
def dkwX1_rank_4 : List UInt8 := [132, 5, 1, 167, 255, 193, 21, 4, 27, 160, 0, 5, 29, 172, 132, 3, 1, 167, 255, 162, 2, 172]
abbrev dktX1_rank_4 : List UInt8 := dkwX1_rank_4 ++ []
def dkwX1_rank_3 : List UInt8 := [46, 44, 180, 1, 43, 29, 46, 160, 0, 13, 21, 5, 29, 162, 0, 7, 4, 167, 0, 4, 3, 96, 54, 4]
abbrev dktX1_rank_3 : List UInt8 := dkwX1_rank_3 ++ dktX1_rank_4
def dkwX1_rank_2 : List UInt8 := [21, 4, 44, 180, 1, 43, 21, 5, 46, 44, 180, 1, 43, 29, 46, 163, 0, 25, 44, 180, 1, 43, 21, 5]
abbrev dktX1_rank_2 : List UInt8 := dkwX1_rank_2 ++ dktX1_rank_3
def dkwX1_rank_1 : List UInt8 := [180, 0, 119, 162, 0, 89, 3, 54, 4, 3, 54, 5, 21, 5, 42, 180, 0, 33, 180, 0, 119, 162, 0, 57]
abbrev dktX1_rank_1 : List UInt8 := dkwX1_rank_1 ++ dktX1_rank_2
def dkwX1_rank_0 : List UInt8 := [42, 27, 182, 0, 132, 154, 0, 5, 2, 172, 42, 182, 0, 218, 77, 3, 62, 29, 42, 180, 0, 33]
abbrev dktX1_rank_0 : List UInt8 := dkwX1_rank_0 ++ dktX1_rank_1
theorem dksX1_rank_0 : cX1_rank.data.toList.drop 0 = dktX1_rank_0 := by decide +kernel
theorem dksX1_rank_1 : cX1_rank.data.toList.drop 22 = dktX1_rank_1 := dk_seg dksX1_rank_0 22 rfl rfl
theorem dksX1_rank_2 : cX1_rank.data.toList.drop 46 = dktX1_rank_2 := dk_seg dksX1_rank_1 24 rfl rfl
theorem dksX1_rank_3 : cX1_rank.data.toList.drop 70 = dktX1_rank_3 := dk_seg dksX1_rank_2 24 rfl rfl
theorem dksX1_rank_4 : cX1_rank.data.toList.drop 94 = dktX1_rank_4 := dk_seg dksX1_rank_3 24 rfl rfl
theorem dX1_rank_0 : decode cX1_rank 0 = .ok (.aload_n 0, 1) := dk_42 (dk_at dksX1_rank_0 0 rfl rfl)
theorem dX1_rank_1 : decode cX1_rank 1 = .ok (.iload_n 1, 1) := dk_27 (dk_at dksX1_rank_0 1 rfl rfl)
theorem dX1_rank_2 : decode cX1_rank 2 = .ok (.invokevirtual 132, 3) := dk_182 0 132 (dk_at dksX1_rank_0 2 rfl rfl)
theorem dX1_rank_5 : decode cX1_rank 5 = .ok (.ifCond .ne 5, 3) := dk_154 0 5 (dk_at dksX1_rank_0 5 rfl rfl)
theorem dX1_rank_8 : decode cX1_rank 8 = .ok (.iconst (-1), 1) := dk_2 (dk_at dksX1_rank_0 8 rfl rfl)
theorem dX1_rank_9 : decode cX1_rank 9 = .ok (.ireturn, 1) := dk_172 (dk_at dksX1_rank_0 9 rfl rfl)
theorem dX1_rank_10 : decode cX1_rank 10 = .ok (.aload_n 0, 1) := dk_42 (dk_at dksX1_rank_0 10 rfl rfl)
theorem dX1_rank_11 : decode cX1_rank 11 = .ok (.invokevirtual 218, 3) := dk_182 0 218 (dk_at dksX1_rank_0 11 rfl rfl)
theorem dX1_rank_14 : decode cX1_rank 14 = .ok (.astore_n 2, 1) := dk_77 (dk_at dksX1_rank_0 14 rfl rfl)
theorem dX1_rank_15 : decode cX1_rank 15 = .ok (.iconst 0, 1) := dk_3 (dk_at dksX1_rank_0 15 rfl rfl)
theorem dX1_rank_16 : decode cX1_rank 16 = .ok (.istore_n 3, 1) := dk_62 (dk_at dksX1_rank_0 16 rfl rfl)
theorem dX1_rank_17 : decode cX1_rank 17 = .ok (.iload_n 3, 1) := dk_29 (dk_at dksX1_rank_0 17 rfl rfl)
theorem dX1_rank_18 : decode cX1_rank 18 = .ok (.aload_n 0, 1) := dk_42 (dk_at dksX1_rank_0 18 rfl rfl)
theorem dX1_rank_19 : decode cX1_rank 19 = .ok (.getfield 33, 3) := dk_180 0 33 (dk_at dksX1_rank_0 19 rfl rfl)
theorem dX1_rank_22 : decode cX1_rank 22 = .ok (.getfield 119, 3) := dk_180 0 119 (dk_at dksX1_rank_1 0 rfl rfl)
theorem dX1_rank_25 : decode cX1_rank 25 = .ok (.if_icmp .ge 89, 3) := dk_162 0 89 (dk_at dksX1_rank_1 3 rfl rfl)
theorem dX1_rank_28 : decode cX1_rank 28 = .ok (.iconst 0, 1) := dk_3 (dk_at dksX1_rank_1 6 rfl rfl)
theorem dX1_rank_29 : decode cX1_rank 29 = .ok (.istore 4, 2) := dk_54 4 (dk_at dksX1_rank_1 7 rfl rfl)
theorem dX1_rank_31 : decode cX1_rank 31 = .ok (.iconst 0, 1) := dk_3 (dk_at dksX1_rank_1 9 rfl rfl)
theorem dX1_rank_32 : decode cX1_rank 32 = .ok (.istore 5, 2) := dk_54 5 (dk_at dksX1_rank_1 10 rfl rfl)
theorem dX1_rank_34 : decode cX1_rank 34 = .ok (.iload 5, 2) := dk_21 5 (dk_at dksX1_rank_1 12 rfl rfl)
theorem dX1_rank_36 : decode cX1_rank 36 = .ok (.aload_n 0, 1) := dk_42 (dk_at dksX1_rank_1 14 rfl rfl)
theorem dX1_rank_37 : decode cX1_rank 37 = .ok (.getfield 33, 3) := dk_180 0 33 (dk_at dksX1_rank_1 15 rfl rfl)
theorem dX1_rank_40 : decode cX1_rank 40 = .ok (.getfield 119, 3) := dk_180 0 119 (dk_at dksX1_rank_1 18 rfl rfl)
theorem dX1_rank_43 : decode cX1_rank 43 = .ok (.if_icmp .ge 57, 3) := dk_162 0 57 (dk_at dksX1_rank_1 21 rfl rfl)
theorem dX1_rank_46 : decode cX1_rank 46 = .ok (.iload 4, 2) := dk_21 4 (dk_at dksX1_rank_2 0 rfl rfl)
theorem dX1_rank_48 : decode cX1_rank 48 = .ok (.aload_n 2, 1) := dk_44 (dk_at dksX1_rank_2 2 rfl rfl)
theorem dX1_rank_49 : decode cX1_rank 49 = .ok (.getfield 299, 3) := dk_180 1 43 (dk_at dksX1_rank_2 3 rfl rfl)
theorem dX1_rank_52 : decode cX1_rank 52 = .ok (.iload 5, 2) := dk_21 5 (dk_at dksX1_rank_2 6 rfl rfl)
theorem dX1_rank_54 : decode cX1_rank 54 = .ok (.iaload, 1) := dk_46 (dk_at dksX1_rank_2 8 rfl rfl)
theorem dX1_rank_55 : decode cX1_rank 55 = .ok (.aload_n 2, 1) := dk_44 (dk_at dksX1_rank_2 9 rfl rfl)
theorem dX1_rank_56 : decode cX1_rank 56 = .ok (.getfield 299, 3) := dk_180 1 43 (dk_at dksX1_rank_2 10 rfl rfl)
theorem dX1_rank_59 : decode cX1_rank 59 = .ok (.iload_n 3, 1) := dk_29 (dk_at dksX1_rank_2 13 rfl rfl)
theorem dX1_rank_60 : decode cX1_rank 60 = .ok (.iaload, 1) := dk_46 (dk_at dksX1_rank_2 14 rfl rfl)
theorem dX1_rank_61 : decode cX1_rank 61 = .ok (.if_icmp .gt 25, 3) := dk_163 0 25 (dk_at dksX1_rank_2 15 rfl rfl)
theorem dX1_rank_64 : decode cX1_rank 64 = .ok (.aload_n 2, 1) := dk_44 (dk_at dksX1_rank_2 18 rfl rfl)
theorem dX1_rank_65 : decode cX1_rank 65 = .ok (.getfield 299, 3) := dk_180 1 43 (dk_at dksX1_rank_2 19 rfl rfl)
theorem dX1_rank_68 : decode cX1_rank 68 = .ok (.iload 5, 2) := dk_21 5 (dk_at dksX1_rank_2 22 rfl rfl)
theorem dX1_rank_70 : decode cX1_rank 70 = .ok (.iaload, 1) := dk_46 (dk_at dksX1_rank_3 0 rfl rfl)
theorem dX1_rank_71 : decode cX1_rank 71 = .ok (.aload_n 2, 1) := dk_44 (dk_at dksX1_rank_3 1 rfl rfl)
theorem dX1_rank_72 : decode cX1_rank 72 = .ok (.getfield 299, 3) := dk_180 1 43 (dk_at dksX1_rank_3 2 rfl rfl)
theorem dX1_rank_75 : decode cX1_rank 75 = .ok (.iload_n 3, 1) := dk_29 (dk_at dksX1_rank_3 5 rfl rfl)
theorem dX1_rank_76 : decode cX1_rank 76 = .ok (.iaload, 1) := dk_46 (dk_at dksX1_rank_3 6 rfl rfl)
theorem dX1_rank_77 : decode cX1_rank 77 = .ok (.if_icmp .ne 13, 3) := dk_160 0 13 (dk_at dksX1_rank_3 7 rfl rfl)
theorem dX1_rank_80 : decode cX1_rank 80 = .ok (.iload 5, 2) := dk_21 5 (dk_at dksX1_rank_3 10 rfl rfl)
theorem dX1_rank_82 : decode cX1_rank 82 = .ok (.iload_n 3, 1) := dk_29 (dk_at dksX1_rank_3 12 rfl rfl)
theorem dX1_rank_83 : decode cX1_rank 83 = .ok (.if_icmp .ge 7, 3) := dk_162 0 7 (dk_at dksX1_rank_3 13 rfl rfl)
theorem dX1_rank_86 : decode cX1_rank 86 = .ok (.iconst 1, 1) := dk_4 (dk_at dksX1_rank_3 16 rfl rfl)
theorem dX1_rank_87 : decode cX1_rank 87 = .ok (.goto 4, 3) := dk_167 0 4 (dk_at dksX1_rank_3 17 rfl rfl)
theorem dX1_rank_90 : decode cX1_rank 90 = .ok (.iconst 0, 1) := dk_3 (dk_at dksX1_rank_3 20 rfl rfl)
theorem dX1_rank_91 : decode cX1_rank 91 = .ok (.iadd, 1) := dk_96 (dk_at dksX1_rank_3 21 rfl rfl)
theorem dX1_rank_92 : decode cX1_rank 92 = .ok (.istore 4, 2) := dk_54 4 (dk_at dksX1_rank_3 22 rfl rfl)
theorem dX1_rank_94 : decode cX1_rank 94 = .ok (.iinc 5 1, 3) := dk_132 5 1 (dk_at dksX1_rank_4 0 rfl rfl)
theorem dX1_rank_97 : decode cX1_rank 97 = .ok (.goto (-63), 3) := dk_167 255 193 (dk_at dksX1_rank_4 3 rfl rfl)
theorem dX1_rank_100 : decode cX1_rank 100 = .ok (.iload 4, 2) := dk_21 4 (dk_at dksX1_rank_4 6 rfl rfl)
theorem dX1_rank_102 : decode cX1_rank 102 = .ok (.iload_n 1, 1) := dk_27 (dk_at dksX1_rank_4 8 rfl rfl)
theorem dX1_rank_103 : decode cX1_rank 103 = .ok (.if_icmp .ne 5, 3) := dk_160 0 5 (dk_at dksX1_rank_4 9 rfl rfl)
theorem dX1_rank_106 : decode cX1_rank 106 = .ok (.iload_n 3, 1) := dk_29 (dk_at dksX1_rank_4 12 rfl rfl)
theorem dX1_rank_107 : decode cX1_rank 107 = .ok (.ireturn, 1) := dk_172 (dk_at dksX1_rank_4 13 rfl rfl)
theorem dX1_rank_108 : decode cX1_rank 108 = .ok (.iinc 3 1, 3) := dk_132 3 1 (dk_at dksX1_rank_4 14 rfl rfl)
theorem dX1_rank_111 : decode cX1_rank 111 = .ok (.goto (-94), 3) := dk_167 255 162 (dk_at dksX1_rank_4 17 rfl rfl)
theorem dX1_rank_114 : decode cX1_rank 114 = .ok (.iconst (-1), 1) := dk_2 (dk_at dksX1_rank_4 20 rfl rfl)
theorem dX1_rank_115 : decode cX1_rank 115 = .ok (.ireturn, 1) := dk_172 (dk_at dksX1_rank_4 21 rfl rfl)
abbrev cX1_linked : ByteArray := prog_1_method_57_code
def yX1_linked : MethodName := ⟨RX1, "linked", "(II)I"⟩
def dkwX1_linked_1 : List UInt8 := [167, 0, 16, 42, 180, 0, 33, 180, 1, 46, 6, 27, 104, 28, 96, 46, 172]
abbrev dktX1_linked_1 : List UInt8 := dkwX1_linked_1 ++ []
def dkwX1_linked_0 : List UInt8 := [27, 3, 5, 184, 0, 75, 153, 0, 17, 28, 3, 5, 184, 0, 75, 153, 0, 8, 27, 28, 160, 0, 7, 2]
abbrev dktX1_linked_0 : List UInt8 := dkwX1_linked_0 ++ dktX1_linked_1
theorem dksX1_linked_0 : cX1_linked.data.toList.drop 0 = dktX1_linked_0 := by decide +kernel
theorem dksX1_linked_1 : cX1_linked.data.toList.drop 24 = dktX1_linked_1 := dk_seg dksX1_linked_0 24 rfl rfl
theorem dX1_linked_0 : decode cX1_linked 0 = .ok (.iload_n 1, 1) := dk_27 (dk_at dksX1_linked_0 0 rfl rfl)
theorem dX1_linked_1 : decode cX1_linked 1 = .ok (.iconst 0, 1) := dk_3 (dk_at dksX1_linked_0 1 rfl rfl)
theorem dX1_linked_2 : decode cX1_linked 2 = .ok (.iconst 2, 1) := dk_5 (dk_at dksX1_linked_0 2 rfl rfl)
theorem dX1_linked_3 : decode cX1_linked 3 = .ok (.invokestatic 75, 3) := dk_184 0 75 (dk_at dksX1_linked_0 3 rfl rfl)
theorem dX1_linked_6 : decode cX1_linked 6 = .ok (.ifCond .eq 17, 3) := dk_153 0 17 (dk_at dksX1_linked_0 6 rfl rfl)
theorem dX1_linked_9 : decode cX1_linked 9 = .ok (.iload_n 2, 1) := dk_28 (dk_at dksX1_linked_0 9 rfl rfl)
theorem dX1_linked_10 : decode cX1_linked 10 = .ok (.iconst 0, 1) := dk_3 (dk_at dksX1_linked_0 10 rfl rfl)
theorem dX1_linked_11 : decode cX1_linked 11 = .ok (.iconst 2, 1) := dk_5 (dk_at dksX1_linked_0 11 rfl rfl)
theorem dX1_linked_12 : decode cX1_linked 12 = .ok (.invokestatic 75, 3) := dk_184 0 75 (dk_at dksX1_linked_0 12 rfl rfl)
theorem dX1_linked_15 : decode cX1_linked 15 = .ok (.ifCond .eq 8, 3) := dk_153 0 8 (dk_at dksX1_linked_0 15 rfl rfl)
theorem dX1_linked_18 : decode cX1_linked 18 = .ok (.iload_n 1, 1) := dk_27 (dk_at dksX1_linked_0 18 rfl rfl)
theorem dX1_linked_19 : decode cX1_linked 19 = .ok (.iload_n 2, 1) := dk_28 (dk_at dksX1_linked_0 19 rfl rfl)
theorem dX1_linked_20 : decode cX1_linked 20 = .ok (.if_icmp .ne 7, 3) := dk_160 0 7 (dk_at dksX1_linked_0 20 rfl rfl)
theorem dX1_linked_23 : decode cX1_linked 23 = .ok (.iconst (-1), 1) := dk_2 (dk_at dksX1_linked_0 23 rfl rfl)
theorem dX1_linked_24 : decode cX1_linked 24 = .ok (.goto 16, 3) := dk_167 0 16 (dk_at dksX1_linked_1 0 rfl rfl)
theorem dX1_linked_27 : decode cX1_linked 27 = .ok (.aload_n 0, 1) := dk_42 (dk_at dksX1_linked_1 3 rfl rfl)
theorem dX1_linked_28 : decode cX1_linked 28 = .ok (.getfield 33, 3) := dk_180 0 33 (dk_at dksX1_linked_1 4 rfl rfl)
theorem dX1_linked_31 : decode cX1_linked 31 = .ok (.getfield 302, 3) := dk_180 1 46 (dk_at dksX1_linked_1 7 rfl rfl)
theorem dX1_linked_34 : decode cX1_linked 34 = .ok (.iconst 3, 1) := dk_6 (dk_at dksX1_linked_1 10 rfl rfl)
theorem dX1_linked_35 : decode cX1_linked 35 = .ok (.iload_n 1, 1) := dk_27 (dk_at dksX1_linked_1 11 rfl rfl)
theorem dX1_linked_36 : decode cX1_linked 36 = .ok (.imul, 1) := dk_104 (dk_at dksX1_linked_1 12 rfl rfl)
theorem dX1_linked_37 : decode cX1_linked 37 = .ok (.iload_n 2, 1) := dk_28 (dk_at dksX1_linked_1 13 rfl rfl)
theorem dX1_linked_38 : decode cX1_linked 38 = .ok (.iadd, 1) := dk_96 (dk_at dksX1_linked_1 14 rfl rfl)
theorem dX1_linked_39 : decode cX1_linked 39 = .ok (.iaload, 1) := dk_46 (dk_at dksX1_linked_1 15 rfl rfl)
theorem dX1_linked_40 : decode cX1_linked 40 = .ok (.ireturn, 1) := dk_172 (dk_at dksX1_linked_1 16 rfl rfl)
abbrev cX1_turned : ByteArray := prog_1_method_60_code
def yX1_turned : MethodName := ⟨RX1, "turned", "(I)I"⟩
def dkwX1_turned_1 : List UInt8 := [160, 0, 7, 28, 167, 0, 12, 42, 180, 0, 47, 180, 0, 146, 27, 46, 172]
abbrev dktX1_turned_1 : List UInt8 := dkwX1_turned_1 ++ []
def dkwX1_turned_0 : List UInt8 := [27, 2, 159, 0, 14, 42, 27, 182, 0, 132, 154, 0, 6, 16, 254, 172, 42, 182, 1, 49, 61, 27, 2]
abbrev dktX1_turned_0 : List UInt8 := dkwX1_turned_0 ++ dktX1_turned_1
theorem dksX1_turned_0 : cX1_turned.data.toList.drop 0 = dktX1_turned_0 := by decide +kernel
theorem dksX1_turned_1 : cX1_turned.data.toList.drop 23 = dktX1_turned_1 := dk_seg dksX1_turned_0 23 rfl rfl
theorem dX1_turned_0 : decode cX1_turned 0 = .ok (.iload_n 1, 1) := dk_27 (dk_at dksX1_turned_0 0 rfl rfl)
theorem dX1_turned_1 : decode cX1_turned 1 = .ok (.iconst (-1), 1) := dk_2 (dk_at dksX1_turned_0 1 rfl rfl)
theorem dX1_turned_2 : decode cX1_turned 2 = .ok (.if_icmp .eq 14, 3) := dk_159 0 14 (dk_at dksX1_turned_0 2 rfl rfl)
theorem dX1_turned_5 : decode cX1_turned 5 = .ok (.aload_n 0, 1) := dk_42 (dk_at dksX1_turned_0 5 rfl rfl)
theorem dX1_turned_6 : decode cX1_turned 6 = .ok (.iload_n 1, 1) := dk_27 (dk_at dksX1_turned_0 6 rfl rfl)
theorem dX1_turned_7 : decode cX1_turned 7 = .ok (.invokevirtual 132, 3) := dk_182 0 132 (dk_at dksX1_turned_0 7 rfl rfl)
theorem dX1_turned_10 : decode cX1_turned 10 = .ok (.ifCond .ne 6, 3) := dk_154 0 6 (dk_at dksX1_turned_0 10 rfl rfl)
theorem dX1_turned_13 : decode cX1_turned 13 = .ok (.bipush (-2), 2) := dk_16 254 (dk_at dksX1_turned_0 13 rfl rfl)
theorem dX1_turned_15 : decode cX1_turned 15 = .ok (.ireturn, 1) := dk_172 (dk_at dksX1_turned_0 15 rfl rfl)
theorem dX1_turned_16 : decode cX1_turned 16 = .ok (.aload_n 0, 1) := dk_42 (dk_at dksX1_turned_0 16 rfl rfl)
theorem dX1_turned_17 : decode cX1_turned 17 = .ok (.invokevirtual 305, 3) := dk_182 1 49 (dk_at dksX1_turned_0 17 rfl rfl)
theorem dX1_turned_20 : decode cX1_turned 20 = .ok (.istore_n 2, 1) := dk_61 (dk_at dksX1_turned_0 20 rfl rfl)
theorem dX1_turned_21 : decode cX1_turned 21 = .ok (.iload_n 1, 1) := dk_27 (dk_at dksX1_turned_0 21 rfl rfl)
theorem dX1_turned_22 : decode cX1_turned 22 = .ok (.iconst (-1), 1) := dk_2 (dk_at dksX1_turned_0 22 rfl rfl)
theorem dX1_turned_23 : decode cX1_turned 23 = .ok (.if_icmp .ne 7, 3) := dk_160 0 7 (dk_at dksX1_turned_1 0 rfl rfl)
theorem dX1_turned_26 : decode cX1_turned 26 = .ok (.iload_n 2, 1) := dk_28 (dk_at dksX1_turned_1 3 rfl rfl)
theorem dX1_turned_27 : decode cX1_turned 27 = .ok (.goto 12, 3) := dk_167 0 12 (dk_at dksX1_turned_1 4 rfl rfl)
theorem dX1_turned_30 : decode cX1_turned 30 = .ok (.aload_n 0, 1) := dk_42 (dk_at dksX1_turned_1 7 rfl rfl)
theorem dX1_turned_31 : decode cX1_turned 31 = .ok (.getfield 47, 3) := dk_180 0 47 (dk_at dksX1_turned_1 8 rfl rfl)
theorem dX1_turned_34 : decode cX1_turned 34 = .ok (.getfield 146, 3) := dk_180 0 146 (dk_at dksX1_turned_1 11 rfl rfl)
theorem dX1_turned_37 : decode cX1_turned 37 = .ok (.iload_n 1, 1) := dk_27 (dk_at dksX1_turned_1 14 rfl rfl)
theorem dX1_turned_38 : decode cX1_turned 38 = .ok (.iaload, 1) := dk_46 (dk_at dksX1_turned_1 15 rfl rfl)
theorem dX1_turned_39 : decode cX1_turned 39 = .ok (.ireturn, 1) := dk_172 (dk_at dksX1_turned_1 16 rfl rfl)
abbrev cX1_turnsDown : ByteArray := prog_1_method_59_code
def yX1_turnsDown : MethodName := ⟨RX1, "turnsDown", "()I"⟩
def dkwX1_turnsDown_3 : List UInt8 := [42, 180, 0, 47, 182, 0, 152, 182, 0, 156, 182, 1, 16, 61, 167, 255, 205, 27, 172]
abbrev dktX1_turnsDown_3 : List UInt8 := dkwX1_turnsDown_3 ++ []
def dkwX1_turnsDown_2 : List UInt8 := [158, 0, 41, 42, 180, 0, 47, 180, 0, 146, 28, 92, 46, 4, 100, 79, 132, 1, 1, 42, 42, 180, 0, 59]
abbrev dktX1_turnsDown_2 : List UInt8 := dkwX1_turnsDown_2 ++ dktX1_turnsDown_3
def dkwX1_turnsDown_1 : List UInt8 := [182, 0, 152, 182, 0, 156, 182, 1, 16, 61, 28, 155, 0, 53, 42, 180, 0, 47, 180, 0, 146, 28, 46]
abbrev dktX1_turnsDown_1 : List UInt8 := dkwX1_turnsDown_1 ++ dktX1_turnsDown_2
def dkwX1_turnsDown_0 : List UInt8 := [42, 180, 0, 47, 42, 180, 0, 40, 182, 0, 115, 87, 3, 60, 42, 42, 180, 0, 59, 42, 180, 0, 47]
abbrev dktX1_turnsDown_0 : List UInt8 := dkwX1_turnsDown_0 ++ dktX1_turnsDown_1
theorem dksX1_turnsDown_0 : cX1_turnsDown.data.toList.drop 0 = dktX1_turnsDown_0 := by decide +kernel
theorem dksX1_turnsDown_1 : cX1_turnsDown.data.toList.drop 23 = dktX1_turnsDown_1 := dk_seg dksX1_turnsDown_0 23 rfl rfl
theorem dksX1_turnsDown_2 : cX1_turnsDown.data.toList.drop 46 = dktX1_turnsDown_2 := dk_seg dksX1_turnsDown_1 23 rfl rfl
theorem dksX1_turnsDown_3 : cX1_turnsDown.data.toList.drop 70 = dktX1_turnsDown_3 := dk_seg dksX1_turnsDown_2 24 rfl rfl
theorem dX1_turnsDown_0 : decode cX1_turnsDown 0 = .ok (.aload_n 0, 1) := dk_42 (dk_at dksX1_turnsDown_0 0 rfl rfl)
theorem dX1_turnsDown_1 : decode cX1_turnsDown 1 = .ok (.getfield 47, 3) := dk_180 0 47 (dk_at dksX1_turnsDown_0 1 rfl rfl)
theorem dX1_turnsDown_4 : decode cX1_turnsDown 4 = .ok (.aload_n 0, 1) := dk_42 (dk_at dksX1_turnsDown_0 4 rfl rfl)
theorem dX1_turnsDown_5 : decode cX1_turnsDown 5 = .ok (.getfield 40, 3) := dk_180 0 40 (dk_at dksX1_turnsDown_0 5 rfl rfl)
theorem dX1_turnsDown_8 : decode cX1_turnsDown 8 = .ok (.invokevirtual 115, 3) := dk_182 0 115 (dk_at dksX1_turnsDown_0 8 rfl rfl)
theorem dX1_turnsDown_11 : decode cX1_turnsDown 11 = .ok (.pop, 1) := dk_87 (dk_at dksX1_turnsDown_0 11 rfl rfl)
theorem dX1_turnsDown_12 : decode cX1_turnsDown 12 = .ok (.iconst 0, 1) := dk_3 (dk_at dksX1_turnsDown_0 12 rfl rfl)
theorem dX1_turnsDown_13 : decode cX1_turnsDown 13 = .ok (.istore_n 1, 1) := dk_60 (dk_at dksX1_turnsDown_0 13 rfl rfl)
theorem dX1_turnsDown_14 : decode cX1_turnsDown 14 = .ok (.aload_n 0, 1) := dk_42 (dk_at dksX1_turnsDown_0 14 rfl rfl)
theorem dX1_turnsDown_15 : decode cX1_turnsDown 15 = .ok (.aload_n 0, 1) := dk_42 (dk_at dksX1_turnsDown_0 15 rfl rfl)
theorem dX1_turnsDown_16 : decode cX1_turnsDown 16 = .ok (.getfield 59, 3) := dk_180 0 59 (dk_at dksX1_turnsDown_0 16 rfl rfl)
theorem dX1_turnsDown_19 : decode cX1_turnsDown 19 = .ok (.aload_n 0, 1) := dk_42 (dk_at dksX1_turnsDown_0 19 rfl rfl)
theorem dX1_turnsDown_20 : decode cX1_turnsDown 20 = .ok (.getfield 47, 3) := dk_180 0 47 (dk_at dksX1_turnsDown_0 20 rfl rfl)
theorem dX1_turnsDown_23 : decode cX1_turnsDown 23 = .ok (.invokevirtual 152, 3) := dk_182 0 152 (dk_at dksX1_turnsDown_1 0 rfl rfl)
theorem dX1_turnsDown_26 : decode cX1_turnsDown 26 = .ok (.invokevirtual 156, 3) := dk_182 0 156 (dk_at dksX1_turnsDown_1 3 rfl rfl)
theorem dX1_turnsDown_29 : decode cX1_turnsDown 29 = .ok (.invokevirtual 272, 3) := dk_182 1 16 (dk_at dksX1_turnsDown_1 6 rfl rfl)
theorem dX1_turnsDown_32 : decode cX1_turnsDown 32 = .ok (.istore_n 2, 1) := dk_61 (dk_at dksX1_turnsDown_1 9 rfl rfl)
theorem dX1_turnsDown_33 : decode cX1_turnsDown 33 = .ok (.iload_n 2, 1) := dk_28 (dk_at dksX1_turnsDown_1 10 rfl rfl)
theorem dX1_turnsDown_34 : decode cX1_turnsDown 34 = .ok (.ifCond .lt 53, 3) := dk_155 0 53 (dk_at dksX1_turnsDown_1 11 rfl rfl)
theorem dX1_turnsDown_37 : decode cX1_turnsDown 37 = .ok (.aload_n 0, 1) := dk_42 (dk_at dksX1_turnsDown_1 14 rfl rfl)
theorem dX1_turnsDown_38 : decode cX1_turnsDown 38 = .ok (.getfield 47, 3) := dk_180 0 47 (dk_at dksX1_turnsDown_1 15 rfl rfl)
theorem dX1_turnsDown_41 : decode cX1_turnsDown 41 = .ok (.getfield 146, 3) := dk_180 0 146 (dk_at dksX1_turnsDown_1 18 rfl rfl)
theorem dX1_turnsDown_44 : decode cX1_turnsDown 44 = .ok (.iload_n 2, 1) := dk_28 (dk_at dksX1_turnsDown_1 21 rfl rfl)
theorem dX1_turnsDown_45 : decode cX1_turnsDown 45 = .ok (.iaload, 1) := dk_46 (dk_at dksX1_turnsDown_1 22 rfl rfl)
theorem dX1_turnsDown_46 : decode cX1_turnsDown 46 = .ok (.ifCond .le 41, 3) := dk_158 0 41 (dk_at dksX1_turnsDown_2 0 rfl rfl)
theorem dX1_turnsDown_49 : decode cX1_turnsDown 49 = .ok (.aload_n 0, 1) := dk_42 (dk_at dksX1_turnsDown_2 3 rfl rfl)
theorem dX1_turnsDown_50 : decode cX1_turnsDown 50 = .ok (.getfield 47, 3) := dk_180 0 47 (dk_at dksX1_turnsDown_2 4 rfl rfl)
theorem dX1_turnsDown_53 : decode cX1_turnsDown 53 = .ok (.getfield 146, 3) := dk_180 0 146 (dk_at dksX1_turnsDown_2 7 rfl rfl)
theorem dX1_turnsDown_56 : decode cX1_turnsDown 56 = .ok (.iload_n 2, 1) := dk_28 (dk_at dksX1_turnsDown_2 10 rfl rfl)
theorem dX1_turnsDown_57 : decode cX1_turnsDown 57 = .ok (.dup2, 1) := dk_92 (dk_at dksX1_turnsDown_2 11 rfl rfl)
theorem dX1_turnsDown_58 : decode cX1_turnsDown 58 = .ok (.iaload, 1) := dk_46 (dk_at dksX1_turnsDown_2 12 rfl rfl)
theorem dX1_turnsDown_59 : decode cX1_turnsDown 59 = .ok (.iconst 1, 1) := dk_4 (dk_at dksX1_turnsDown_2 13 rfl rfl)
theorem dX1_turnsDown_60 : decode cX1_turnsDown 60 = .ok (.isub, 1) := dk_100 (dk_at dksX1_turnsDown_2 14 rfl rfl)
theorem dX1_turnsDown_61 : decode cX1_turnsDown 61 = .ok (.iastore, 1) := dk_79 (dk_at dksX1_turnsDown_2 15 rfl rfl)
theorem dX1_turnsDown_62 : decode cX1_turnsDown 62 = .ok (.iinc 1 1, 3) := dk_132 1 1 (dk_at dksX1_turnsDown_2 16 rfl rfl)
theorem dX1_turnsDown_65 : decode cX1_turnsDown 65 = .ok (.aload_n 0, 1) := dk_42 (dk_at dksX1_turnsDown_2 19 rfl rfl)
theorem dX1_turnsDown_66 : decode cX1_turnsDown 66 = .ok (.aload_n 0, 1) := dk_42 (dk_at dksX1_turnsDown_2 20 rfl rfl)
theorem dX1_turnsDown_67 : decode cX1_turnsDown 67 = .ok (.getfield 59, 3) := dk_180 0 59 (dk_at dksX1_turnsDown_2 21 rfl rfl)
theorem dX1_turnsDown_70 : decode cX1_turnsDown 70 = .ok (.aload_n 0, 1) := dk_42 (dk_at dksX1_turnsDown_3 0 rfl rfl)
theorem dX1_turnsDown_71 : decode cX1_turnsDown 71 = .ok (.getfield 47, 3) := dk_180 0 47 (dk_at dksX1_turnsDown_3 1 rfl rfl)
theorem dX1_turnsDown_74 : decode cX1_turnsDown 74 = .ok (.invokevirtual 152, 3) := dk_182 0 152 (dk_at dksX1_turnsDown_3 4 rfl rfl)
theorem dX1_turnsDown_77 : decode cX1_turnsDown 77 = .ok (.invokevirtual 156, 3) := dk_182 0 156 (dk_at dksX1_turnsDown_3 7 rfl rfl)
theorem dX1_turnsDown_80 : decode cX1_turnsDown 80 = .ok (.invokevirtual 272, 3) := dk_182 1 16 (dk_at dksX1_turnsDown_3 10 rfl rfl)
theorem dX1_turnsDown_83 : decode cX1_turnsDown 83 = .ok (.istore_n 2, 1) := dk_61 (dk_at dksX1_turnsDown_3 13 rfl rfl)
theorem dX1_turnsDown_84 : decode cX1_turnsDown 84 = .ok (.goto (-51), 3) := dk_167 255 205 (dk_at dksX1_turnsDown_3 14 rfl rfl)
theorem dX1_turnsDown_87 : decode cX1_turnsDown 87 = .ok (.iload_n 1, 1) := dk_27 (dk_at dksX1_turnsDown_3 17 rfl rfl)
theorem dX1_turnsDown_88 : decode cX1_turnsDown 88 = .ok (.ireturn, 1) := dk_172 (dk_at dksX1_turnsDown_3 18 rfl rfl)
abbrev cX1_left : ByteArray := prog_1_method_61_code
def yX1_left : MethodName := ⟨RX1, "left", "()I"⟩
def dkwX1_left_0 : List UInt8 := [42, 182, 1, 49, 87, 42, 180, 0, 59, 42, 180, 0, 47, 182, 0, 152, 182, 0, 156, 180, 0, 227, 172]
abbrev dktX1_left_0 : List UInt8 := dkwX1_left_0 ++ []
theorem dksX1_left_0 : cX1_left.data.toList.drop 0 = dktX1_left_0 := by decide +kernel
theorem dX1_left_0 : decode cX1_left 0 = .ok (.aload_n 0, 1) := dk_42 (dk_at dksX1_left_0 0 rfl rfl)
theorem dX1_left_1 : decode cX1_left 1 = .ok (.invokevirtual 305, 3) := dk_182 1 49 (dk_at dksX1_left_0 1 rfl rfl)
theorem dX1_left_4 : decode cX1_left 4 = .ok (.pop, 1) := dk_87 (dk_at dksX1_left_0 4 rfl rfl)
theorem dX1_left_5 : decode cX1_left 5 = .ok (.aload_n 0, 1) := dk_42 (dk_at dksX1_left_0 5 rfl rfl)
theorem dX1_left_6 : decode cX1_left 6 = .ok (.getfield 59, 3) := dk_180 0 59 (dk_at dksX1_left_0 6 rfl rfl)
theorem dX1_left_9 : decode cX1_left 9 = .ok (.aload_n 0, 1) := dk_42 (dk_at dksX1_left_0 9 rfl rfl)
theorem dX1_left_10 : decode cX1_left 10 = .ok (.getfield 47, 3) := dk_180 0 47 (dk_at dksX1_left_0 10 rfl rfl)
theorem dX1_left_13 : decode cX1_left 13 = .ok (.invokevirtual 152, 3) := dk_182 0 152 (dk_at dksX1_left_0 13 rfl rfl)
theorem dX1_left_16 : decode cX1_left 16 = .ok (.invokevirtual 156, 3) := dk_182 0 156 (dk_at dksX1_left_0 16 rfl rfl)
theorem dX1_left_19 : decode cX1_left 19 = .ok (.getfield 227, 3) := dk_180 0 227 (dk_at dksX1_left_0 19 rfl rfl)
theorem dX1_left_22 : decode cX1_left 22 = .ok (.ireturn, 1) := dk_172 (dk_at dksX1_left_0 22 rfl rfl)
abbrev cX1_bestSwap : ByteArray := prog_1_method_62_code
def yX1_bestSwap : MethodName := ⟨RX1, "bestSwap", "()I"⟩
def dkwX1_bestSwap_7 : List UInt8 := [172]
abbrev dktX1_bestSwap_7 : List UInt8 := dkwX1_bestSwap_7 ++ []
def dkwX1_bestSwap_6 : List UInt8 := [16, 6, 29, 104, 21, 4, 96, 60, 21, 5, 61, 132, 4, 1, 167, 255, 129, 132, 3, 1, 167, 255, 107, 27]
abbrev dktX1_bestSwap_6 : List UInt8 := dkwX1_bestSwap_6 ++ dktX1_bestSwap_7
def dkwX1_bestSwap_5 : List UInt8 := [42, 180, 0, 47, 182, 0, 152, 182, 0, 156, 182, 0, 177, 54, 5, 21, 5, 28, 161, 0, 6, 167, 0, 14]
abbrev dktX1_bestSwap_5 : List UInt8 := dkwX1_bestSwap_5 ++ dktX1_bestSwap_6
def dkwX1_bestSwap_4 : List UInt8 := [79, 42, 180, 0, 47, 180, 0, 122, 21, 4, 42, 180, 0, 40, 180, 0, 122, 29, 46, 79, 42, 180, 0, 59]
abbrev dktX1_bestSwap_4 : List UInt8 := dkwX1_bestSwap_4 ++ dktX1_bestSwap_5
def dkwX1_bestSwap_3 : List UInt8 := [180, 0, 47, 42, 180, 0, 40, 182, 0, 115, 180, 0, 122, 29, 42, 180, 0, 40, 180, 0, 122, 21, 4, 46]
abbrev dktX1_bestSwap_3 : List UInt8 := dkwX1_bestSwap_3 ++ dktX1_bestSwap_4
def dkwX1_bestSwap_2 : List UInt8 := [29, 46, 153, 0, 103, 42, 180, 0, 40, 180, 0, 122, 21, 4, 46, 154, 0, 6, 167, 0, 87, 42]
abbrev dktX1_bestSwap_2 : List UInt8 := dkwX1_bestSwap_2 ++ dktX1_bestSwap_3
def dkwX1_bestSwap_1 : List UInt8 := [29, 4, 96, 54, 4, 21, 4, 42, 180, 0, 33, 180, 0, 119, 162, 0, 121, 42, 180, 0, 40, 180, 0, 122]
abbrev dktX1_bestSwap_1 : List UInt8 := dkwX1_bestSwap_1 ++ dktX1_bestSwap_2
def dkwX1_bestSwap_0 : List UInt8 := [16, 254, 60, 42, 182, 0, 218, 182, 0, 177, 61, 3, 62, 29, 42, 180, 0, 33, 180, 0, 119, 162, 0, 144]
abbrev dktX1_bestSwap_0 : List UInt8 := dkwX1_bestSwap_0 ++ dktX1_bestSwap_1
theorem dksX1_bestSwap_0 : cX1_bestSwap.data.toList.drop 0 = dktX1_bestSwap_0 := by decide +kernel
theorem dksX1_bestSwap_1 : cX1_bestSwap.data.toList.drop 24 = dktX1_bestSwap_1 := dk_seg dksX1_bestSwap_0 24 rfl rfl
theorem dksX1_bestSwap_2 : cX1_bestSwap.data.toList.drop 48 = dktX1_bestSwap_2 := dk_seg dksX1_bestSwap_1 24 rfl rfl
theorem dksX1_bestSwap_3 : cX1_bestSwap.data.toList.drop 70 = dktX1_bestSwap_3 := dk_seg dksX1_bestSwap_2 22 rfl rfl
theorem dksX1_bestSwap_4 : cX1_bestSwap.data.toList.drop 94 = dktX1_bestSwap_4 := dk_seg dksX1_bestSwap_3 24 rfl rfl
theorem dksX1_bestSwap_5 : cX1_bestSwap.data.toList.drop 118 = dktX1_bestSwap_5 := dk_seg dksX1_bestSwap_4 24 rfl rfl
theorem dksX1_bestSwap_6 : cX1_bestSwap.data.toList.drop 142 = dktX1_bestSwap_6 := dk_seg dksX1_bestSwap_5 24 rfl rfl
theorem dksX1_bestSwap_7 : cX1_bestSwap.data.toList.drop 166 = dktX1_bestSwap_7 := dk_seg dksX1_bestSwap_6 24 rfl rfl
theorem dX1_bestSwap_0 : decode cX1_bestSwap 0 = .ok (.bipush (-2), 2) := dk_16 254 (dk_at dksX1_bestSwap_0 0 rfl rfl)
theorem dX1_bestSwap_2 : decode cX1_bestSwap 2 = .ok (.istore_n 1, 1) := dk_60 (dk_at dksX1_bestSwap_0 2 rfl rfl)
theorem dX1_bestSwap_3 : decode cX1_bestSwap 3 = .ok (.aload_n 0, 1) := dk_42 (dk_at dksX1_bestSwap_0 3 rfl rfl)
theorem dX1_bestSwap_4 : decode cX1_bestSwap 4 = .ok (.invokevirtual 218, 3) := dk_182 0 218 (dk_at dksX1_bestSwap_0 4 rfl rfl)
theorem dX1_bestSwap_7 : decode cX1_bestSwap 7 = .ok (.invokevirtual 177, 3) := dk_182 0 177 (dk_at dksX1_bestSwap_0 7 rfl rfl)
theorem dX1_bestSwap_10 : decode cX1_bestSwap 10 = .ok (.istore_n 2, 1) := dk_61 (dk_at dksX1_bestSwap_0 10 rfl rfl)
theorem dX1_bestSwap_11 : decode cX1_bestSwap 11 = .ok (.iconst 0, 1) := dk_3 (dk_at dksX1_bestSwap_0 11 rfl rfl)
theorem dX1_bestSwap_12 : decode cX1_bestSwap 12 = .ok (.istore_n 3, 1) := dk_62 (dk_at dksX1_bestSwap_0 12 rfl rfl)
theorem dX1_bestSwap_13 : decode cX1_bestSwap 13 = .ok (.iload_n 3, 1) := dk_29 (dk_at dksX1_bestSwap_0 13 rfl rfl)
theorem dX1_bestSwap_14 : decode cX1_bestSwap 14 = .ok (.aload_n 0, 1) := dk_42 (dk_at dksX1_bestSwap_0 14 rfl rfl)
theorem dX1_bestSwap_15 : decode cX1_bestSwap 15 = .ok (.getfield 33, 3) := dk_180 0 33 (dk_at dksX1_bestSwap_0 15 rfl rfl)
theorem dX1_bestSwap_18 : decode cX1_bestSwap 18 = .ok (.getfield 119, 3) := dk_180 0 119 (dk_at dksX1_bestSwap_0 18 rfl rfl)
theorem dX1_bestSwap_21 : decode cX1_bestSwap 21 = .ok (.if_icmp .ge 144, 3) := dk_162 0 144 (dk_at dksX1_bestSwap_0 21 rfl rfl)
theorem dX1_bestSwap_24 : decode cX1_bestSwap 24 = .ok (.iload_n 3, 1) := dk_29 (dk_at dksX1_bestSwap_1 0 rfl rfl)
theorem dX1_bestSwap_25 : decode cX1_bestSwap 25 = .ok (.iconst 1, 1) := dk_4 (dk_at dksX1_bestSwap_1 1 rfl rfl)
theorem dX1_bestSwap_26 : decode cX1_bestSwap 26 = .ok (.iadd, 1) := dk_96 (dk_at dksX1_bestSwap_1 2 rfl rfl)
theorem dX1_bestSwap_27 : decode cX1_bestSwap 27 = .ok (.istore 4, 2) := dk_54 4 (dk_at dksX1_bestSwap_1 3 rfl rfl)
theorem dX1_bestSwap_29 : decode cX1_bestSwap 29 = .ok (.iload 4, 2) := dk_21 4 (dk_at dksX1_bestSwap_1 5 rfl rfl)
theorem dX1_bestSwap_31 : decode cX1_bestSwap 31 = .ok (.aload_n 0, 1) := dk_42 (dk_at dksX1_bestSwap_1 7 rfl rfl)
theorem dX1_bestSwap_32 : decode cX1_bestSwap 32 = .ok (.getfield 33, 3) := dk_180 0 33 (dk_at dksX1_bestSwap_1 8 rfl rfl)
theorem dX1_bestSwap_35 : decode cX1_bestSwap 35 = .ok (.getfield 119, 3) := dk_180 0 119 (dk_at dksX1_bestSwap_1 11 rfl rfl)
theorem dX1_bestSwap_38 : decode cX1_bestSwap 38 = .ok (.if_icmp .ge 121, 3) := dk_162 0 121 (dk_at dksX1_bestSwap_1 14 rfl rfl)
theorem dX1_bestSwap_41 : decode cX1_bestSwap 41 = .ok (.aload_n 0, 1) := dk_42 (dk_at dksX1_bestSwap_1 17 rfl rfl)
theorem dX1_bestSwap_42 : decode cX1_bestSwap 42 = .ok (.getfield 40, 3) := dk_180 0 40 (dk_at dksX1_bestSwap_1 18 rfl rfl)
theorem dX1_bestSwap_45 : decode cX1_bestSwap 45 = .ok (.getfield 122, 3) := dk_180 0 122 (dk_at dksX1_bestSwap_1 21 rfl rfl)
theorem dX1_bestSwap_48 : decode cX1_bestSwap 48 = .ok (.iload_n 3, 1) := dk_29 (dk_at dksX1_bestSwap_2 0 rfl rfl)
theorem dX1_bestSwap_49 : decode cX1_bestSwap 49 = .ok (.iaload, 1) := dk_46 (dk_at dksX1_bestSwap_2 1 rfl rfl)
theorem dX1_bestSwap_50 : decode cX1_bestSwap 50 = .ok (.ifCond .eq 103, 3) := dk_153 0 103 (dk_at dksX1_bestSwap_2 2 rfl rfl)
theorem dX1_bestSwap_53 : decode cX1_bestSwap 53 = .ok (.aload_n 0, 1) := dk_42 (dk_at dksX1_bestSwap_2 5 rfl rfl)
theorem dX1_bestSwap_54 : decode cX1_bestSwap 54 = .ok (.getfield 40, 3) := dk_180 0 40 (dk_at dksX1_bestSwap_2 6 rfl rfl)
theorem dX1_bestSwap_57 : decode cX1_bestSwap 57 = .ok (.getfield 122, 3) := dk_180 0 122 (dk_at dksX1_bestSwap_2 9 rfl rfl)
theorem dX1_bestSwap_60 : decode cX1_bestSwap 60 = .ok (.iload 4, 2) := dk_21 4 (dk_at dksX1_bestSwap_2 12 rfl rfl)
theorem dX1_bestSwap_62 : decode cX1_bestSwap 62 = .ok (.iaload, 1) := dk_46 (dk_at dksX1_bestSwap_2 14 rfl rfl)
theorem dX1_bestSwap_63 : decode cX1_bestSwap 63 = .ok (.ifCond .ne 6, 3) := dk_154 0 6 (dk_at dksX1_bestSwap_2 15 rfl rfl)
theorem dX1_bestSwap_66 : decode cX1_bestSwap 66 = .ok (.goto 87, 3) := dk_167 0 87 (dk_at dksX1_bestSwap_2 18 rfl rfl)
theorem dX1_bestSwap_69 : decode cX1_bestSwap 69 = .ok (.aload_n 0, 1) := dk_42 (dk_at dksX1_bestSwap_2 21 rfl rfl)
theorem dX1_bestSwap_70 : decode cX1_bestSwap 70 = .ok (.getfield 47, 3) := dk_180 0 47 (dk_at dksX1_bestSwap_3 0 rfl rfl)
theorem dX1_bestSwap_73 : decode cX1_bestSwap 73 = .ok (.aload_n 0, 1) := dk_42 (dk_at dksX1_bestSwap_3 3 rfl rfl)
theorem dX1_bestSwap_74 : decode cX1_bestSwap 74 = .ok (.getfield 40, 3) := dk_180 0 40 (dk_at dksX1_bestSwap_3 4 rfl rfl)
theorem dX1_bestSwap_77 : decode cX1_bestSwap 77 = .ok (.invokevirtual 115, 3) := dk_182 0 115 (dk_at dksX1_bestSwap_3 7 rfl rfl)
theorem dX1_bestSwap_80 : decode cX1_bestSwap 80 = .ok (.getfield 122, 3) := dk_180 0 122 (dk_at dksX1_bestSwap_3 10 rfl rfl)
theorem dX1_bestSwap_83 : decode cX1_bestSwap 83 = .ok (.iload_n 3, 1) := dk_29 (dk_at dksX1_bestSwap_3 13 rfl rfl)
theorem dX1_bestSwap_84 : decode cX1_bestSwap 84 = .ok (.aload_n 0, 1) := dk_42 (dk_at dksX1_bestSwap_3 14 rfl rfl)
theorem dX1_bestSwap_85 : decode cX1_bestSwap 85 = .ok (.getfield 40, 3) := dk_180 0 40 (dk_at dksX1_bestSwap_3 15 rfl rfl)
theorem dX1_bestSwap_88 : decode cX1_bestSwap 88 = .ok (.getfield 122, 3) := dk_180 0 122 (dk_at dksX1_bestSwap_3 18 rfl rfl)
theorem dX1_bestSwap_91 : decode cX1_bestSwap 91 = .ok (.iload 4, 2) := dk_21 4 (dk_at dksX1_bestSwap_3 21 rfl rfl)
theorem dX1_bestSwap_93 : decode cX1_bestSwap 93 = .ok (.iaload, 1) := dk_46 (dk_at dksX1_bestSwap_3 23 rfl rfl)
theorem dX1_bestSwap_94 : decode cX1_bestSwap 94 = .ok (.iastore, 1) := dk_79 (dk_at dksX1_bestSwap_4 0 rfl rfl)
theorem dX1_bestSwap_95 : decode cX1_bestSwap 95 = .ok (.aload_n 0, 1) := dk_42 (dk_at dksX1_bestSwap_4 1 rfl rfl)
theorem dX1_bestSwap_96 : decode cX1_bestSwap 96 = .ok (.getfield 47, 3) := dk_180 0 47 (dk_at dksX1_bestSwap_4 2 rfl rfl)
theorem dX1_bestSwap_99 : decode cX1_bestSwap 99 = .ok (.getfield 122, 3) := dk_180 0 122 (dk_at dksX1_bestSwap_4 5 rfl rfl)
theorem dX1_bestSwap_102 : decode cX1_bestSwap 102 = .ok (.iload 4, 2) := dk_21 4 (dk_at dksX1_bestSwap_4 8 rfl rfl)
theorem dX1_bestSwap_104 : decode cX1_bestSwap 104 = .ok (.aload_n 0, 1) := dk_42 (dk_at dksX1_bestSwap_4 10 rfl rfl)
theorem dX1_bestSwap_105 : decode cX1_bestSwap 105 = .ok (.getfield 40, 3) := dk_180 0 40 (dk_at dksX1_bestSwap_4 11 rfl rfl)
theorem dX1_bestSwap_108 : decode cX1_bestSwap 108 = .ok (.getfield 122, 3) := dk_180 0 122 (dk_at dksX1_bestSwap_4 14 rfl rfl)
theorem dX1_bestSwap_111 : decode cX1_bestSwap 111 = .ok (.iload_n 3, 1) := dk_29 (dk_at dksX1_bestSwap_4 17 rfl rfl)
theorem dX1_bestSwap_112 : decode cX1_bestSwap 112 = .ok (.iaload, 1) := dk_46 (dk_at dksX1_bestSwap_4 18 rfl rfl)
theorem dX1_bestSwap_113 : decode cX1_bestSwap 113 = .ok (.iastore, 1) := dk_79 (dk_at dksX1_bestSwap_4 19 rfl rfl)
theorem dX1_bestSwap_114 : decode cX1_bestSwap 114 = .ok (.aload_n 0, 1) := dk_42 (dk_at dksX1_bestSwap_4 20 rfl rfl)
theorem dX1_bestSwap_115 : decode cX1_bestSwap 115 = .ok (.getfield 59, 3) := dk_180 0 59 (dk_at dksX1_bestSwap_4 21 rfl rfl)
theorem dX1_bestSwap_118 : decode cX1_bestSwap 118 = .ok (.aload_n 0, 1) := dk_42 (dk_at dksX1_bestSwap_5 0 rfl rfl)
theorem dX1_bestSwap_119 : decode cX1_bestSwap 119 = .ok (.getfield 47, 3) := dk_180 0 47 (dk_at dksX1_bestSwap_5 1 rfl rfl)
theorem dX1_bestSwap_122 : decode cX1_bestSwap 122 = .ok (.invokevirtual 152, 3) := dk_182 0 152 (dk_at dksX1_bestSwap_5 4 rfl rfl)
theorem dX1_bestSwap_125 : decode cX1_bestSwap 125 = .ok (.invokevirtual 156, 3) := dk_182 0 156 (dk_at dksX1_bestSwap_5 7 rfl rfl)
theorem dX1_bestSwap_128 : decode cX1_bestSwap 128 = .ok (.invokevirtual 177, 3) := dk_182 0 177 (dk_at dksX1_bestSwap_5 10 rfl rfl)
theorem dX1_bestSwap_131 : decode cX1_bestSwap 131 = .ok (.istore 5, 2) := dk_54 5 (dk_at dksX1_bestSwap_5 13 rfl rfl)
theorem dX1_bestSwap_133 : decode cX1_bestSwap 133 = .ok (.iload 5, 2) := dk_21 5 (dk_at dksX1_bestSwap_5 15 rfl rfl)
theorem dX1_bestSwap_135 : decode cX1_bestSwap 135 = .ok (.iload_n 2, 1) := dk_28 (dk_at dksX1_bestSwap_5 17 rfl rfl)
theorem dX1_bestSwap_136 : decode cX1_bestSwap 136 = .ok (.if_icmp .lt 6, 3) := dk_161 0 6 (dk_at dksX1_bestSwap_5 18 rfl rfl)
theorem dX1_bestSwap_139 : decode cX1_bestSwap 139 = .ok (.goto 14, 3) := dk_167 0 14 (dk_at dksX1_bestSwap_5 21 rfl rfl)
theorem dX1_bestSwap_142 : decode cX1_bestSwap 142 = .ok (.bipush 6, 2) := dk_16 6 (dk_at dksX1_bestSwap_6 0 rfl rfl)
theorem dX1_bestSwap_144 : decode cX1_bestSwap 144 = .ok (.iload_n 3, 1) := dk_29 (dk_at dksX1_bestSwap_6 2 rfl rfl)
theorem dX1_bestSwap_145 : decode cX1_bestSwap 145 = .ok (.imul, 1) := dk_104 (dk_at dksX1_bestSwap_6 3 rfl rfl)
theorem dX1_bestSwap_146 : decode cX1_bestSwap 146 = .ok (.iload 4, 2) := dk_21 4 (dk_at dksX1_bestSwap_6 4 rfl rfl)
theorem dX1_bestSwap_148 : decode cX1_bestSwap 148 = .ok (.iadd, 1) := dk_96 (dk_at dksX1_bestSwap_6 6 rfl rfl)
theorem dX1_bestSwap_149 : decode cX1_bestSwap 149 = .ok (.istore_n 1, 1) := dk_60 (dk_at dksX1_bestSwap_6 7 rfl rfl)
theorem dX1_bestSwap_150 : decode cX1_bestSwap 150 = .ok (.iload 5, 2) := dk_21 5 (dk_at dksX1_bestSwap_6 8 rfl rfl)
theorem dX1_bestSwap_152 : decode cX1_bestSwap 152 = .ok (.istore_n 2, 1) := dk_61 (dk_at dksX1_bestSwap_6 10 rfl rfl)
theorem dX1_bestSwap_153 : decode cX1_bestSwap 153 = .ok (.iinc 4 1, 3) := dk_132 4 1 (dk_at dksX1_bestSwap_6 11 rfl rfl)
theorem dX1_bestSwap_156 : decode cX1_bestSwap 156 = .ok (.goto (-127), 3) := dk_167 255 129 (dk_at dksX1_bestSwap_6 14 rfl rfl)
theorem dX1_bestSwap_159 : decode cX1_bestSwap 159 = .ok (.iinc 3 1, 3) := dk_132 3 1 (dk_at dksX1_bestSwap_6 17 rfl rfl)
theorem dX1_bestSwap_162 : decode cX1_bestSwap 162 = .ok (.goto (-149), 3) := dk_167 255 107 (dk_at dksX1_bestSwap_6 20 rfl rfl)
theorem dX1_bestSwap_165 : decode cX1_bestSwap 165 = .ok (.iload_n 1, 1) := dk_27 (dk_at dksX1_bestSwap_6 23 rfl rfl)
theorem dX1_bestSwap_166 : decode cX1_bestSwap 166 = .ok (.ireturn, 1) := dk_172 (dk_at dksX1_bestSwap_7 0 rfl rfl)
abbrev cX1_mostPower : ByteArray := prog_1_method_63_code
def yX1_mostPower : MethodName := ⟨RX1, "mostPower", "(I)I"⟩
def dkwX1_mostPower_2 : List UInt8 := [182, 0, 152, 182, 0, 156, 180, 0, 227, 154, 0, 5, 28, 172, 132, 2, 255, 167, 255, 217, 16, 254, 172]
abbrev dktX1_mostPower_2 : List UInt8 := dkwX1_mostPower_2 ++ []
def dkwX1_mostPower_1 : List UInt8 := [61, 28, 155, 0, 41, 42, 180, 0, 47, 180, 0, 146, 27, 28, 79, 42, 180, 0, 59, 42, 180, 0, 47]
abbrev dktX1_mostPower_1 : List UInt8 := dkwX1_mostPower_1 ++ dktX1_mostPower_2
def dkwX1_mostPower_0 : List UInt8 := [42, 27, 182, 0, 132, 154, 0, 5, 2, 172, 42, 180, 0, 47, 42, 180, 0, 40, 182, 0, 115, 87, 16, 30]
abbrev dktX1_mostPower_0 : List UInt8 := dkwX1_mostPower_0 ++ dktX1_mostPower_1
theorem dksX1_mostPower_0 : cX1_mostPower.data.toList.drop 0 = dktX1_mostPower_0 := by decide +kernel
theorem dksX1_mostPower_1 : cX1_mostPower.data.toList.drop 24 = dktX1_mostPower_1 := dk_seg dksX1_mostPower_0 24 rfl rfl
theorem dksX1_mostPower_2 : cX1_mostPower.data.toList.drop 47 = dktX1_mostPower_2 := dk_seg dksX1_mostPower_1 23 rfl rfl
theorem dX1_mostPower_0 : decode cX1_mostPower 0 = .ok (.aload_n 0, 1) := dk_42 (dk_at dksX1_mostPower_0 0 rfl rfl)
theorem dX1_mostPower_1 : decode cX1_mostPower 1 = .ok (.iload_n 1, 1) := dk_27 (dk_at dksX1_mostPower_0 1 rfl rfl)
theorem dX1_mostPower_2 : decode cX1_mostPower 2 = .ok (.invokevirtual 132, 3) := dk_182 0 132 (dk_at dksX1_mostPower_0 2 rfl rfl)
theorem dX1_mostPower_5 : decode cX1_mostPower 5 = .ok (.ifCond .ne 5, 3) := dk_154 0 5 (dk_at dksX1_mostPower_0 5 rfl rfl)
theorem dX1_mostPower_8 : decode cX1_mostPower 8 = .ok (.iconst (-1), 1) := dk_2 (dk_at dksX1_mostPower_0 8 rfl rfl)
theorem dX1_mostPower_9 : decode cX1_mostPower 9 = .ok (.ireturn, 1) := dk_172 (dk_at dksX1_mostPower_0 9 rfl rfl)
theorem dX1_mostPower_10 : decode cX1_mostPower 10 = .ok (.aload_n 0, 1) := dk_42 (dk_at dksX1_mostPower_0 10 rfl rfl)
theorem dX1_mostPower_11 : decode cX1_mostPower 11 = .ok (.getfield 47, 3) := dk_180 0 47 (dk_at dksX1_mostPower_0 11 rfl rfl)
theorem dX1_mostPower_14 : decode cX1_mostPower 14 = .ok (.aload_n 0, 1) := dk_42 (dk_at dksX1_mostPower_0 14 rfl rfl)
theorem dX1_mostPower_15 : decode cX1_mostPower 15 = .ok (.getfield 40, 3) := dk_180 0 40 (dk_at dksX1_mostPower_0 15 rfl rfl)
theorem dX1_mostPower_18 : decode cX1_mostPower 18 = .ok (.invokevirtual 115, 3) := dk_182 0 115 (dk_at dksX1_mostPower_0 18 rfl rfl)
theorem dX1_mostPower_21 : decode cX1_mostPower 21 = .ok (.pop, 1) := dk_87 (dk_at dksX1_mostPower_0 21 rfl rfl)
theorem dX1_mostPower_22 : decode cX1_mostPower 22 = .ok (.bipush 30, 2) := dk_16 30 (dk_at dksX1_mostPower_0 22 rfl rfl)
theorem dX1_mostPower_24 : decode cX1_mostPower 24 = .ok (.istore_n 2, 1) := dk_61 (dk_at dksX1_mostPower_1 0 rfl rfl)
theorem dX1_mostPower_25 : decode cX1_mostPower 25 = .ok (.iload_n 2, 1) := dk_28 (dk_at dksX1_mostPower_1 1 rfl rfl)
theorem dX1_mostPower_26 : decode cX1_mostPower 26 = .ok (.ifCond .lt 41, 3) := dk_155 0 41 (dk_at dksX1_mostPower_1 2 rfl rfl)
theorem dX1_mostPower_29 : decode cX1_mostPower 29 = .ok (.aload_n 0, 1) := dk_42 (dk_at dksX1_mostPower_1 5 rfl rfl)
theorem dX1_mostPower_30 : decode cX1_mostPower 30 = .ok (.getfield 47, 3) := dk_180 0 47 (dk_at dksX1_mostPower_1 6 rfl rfl)
theorem dX1_mostPower_33 : decode cX1_mostPower 33 = .ok (.getfield 146, 3) := dk_180 0 146 (dk_at dksX1_mostPower_1 9 rfl rfl)
theorem dX1_mostPower_36 : decode cX1_mostPower 36 = .ok (.iload_n 1, 1) := dk_27 (dk_at dksX1_mostPower_1 12 rfl rfl)
theorem dX1_mostPower_37 : decode cX1_mostPower 37 = .ok (.iload_n 2, 1) := dk_28 (dk_at dksX1_mostPower_1 13 rfl rfl)
theorem dX1_mostPower_38 : decode cX1_mostPower 38 = .ok (.iastore, 1) := dk_79 (dk_at dksX1_mostPower_1 14 rfl rfl)
theorem dX1_mostPower_39 : decode cX1_mostPower 39 = .ok (.aload_n 0, 1) := dk_42 (dk_at dksX1_mostPower_1 15 rfl rfl)
theorem dX1_mostPower_40 : decode cX1_mostPower 40 = .ok (.getfield 59, 3) := dk_180 0 59 (dk_at dksX1_mostPower_1 16 rfl rfl)
theorem dX1_mostPower_43 : decode cX1_mostPower 43 = .ok (.aload_n 0, 1) := dk_42 (dk_at dksX1_mostPower_1 19 rfl rfl)
theorem dX1_mostPower_44 : decode cX1_mostPower 44 = .ok (.getfield 47, 3) := dk_180 0 47 (dk_at dksX1_mostPower_1 20 rfl rfl)
theorem dX1_mostPower_47 : decode cX1_mostPower 47 = .ok (.invokevirtual 152, 3) := dk_182 0 152 (dk_at dksX1_mostPower_2 0 rfl rfl)
theorem dX1_mostPower_50 : decode cX1_mostPower 50 = .ok (.invokevirtual 156, 3) := dk_182 0 156 (dk_at dksX1_mostPower_2 3 rfl rfl)
theorem dX1_mostPower_53 : decode cX1_mostPower 53 = .ok (.getfield 227, 3) := dk_180 0 227 (dk_at dksX1_mostPower_2 6 rfl rfl)
theorem dX1_mostPower_56 : decode cX1_mostPower 56 = .ok (.ifCond .ne 5, 3) := dk_154 0 5 (dk_at dksX1_mostPower_2 9 rfl rfl)
theorem dX1_mostPower_59 : decode cX1_mostPower 59 = .ok (.iload_n 2, 1) := dk_28 (dk_at dksX1_mostPower_2 12 rfl rfl)
theorem dX1_mostPower_60 : decode cX1_mostPower 60 = .ok (.ireturn, 1) := dk_172 (dk_at dksX1_mostPower_2 13 rfl rfl)
theorem dX1_mostPower_61 : decode cX1_mostPower 61 = .ok (.iinc 2 (-1), 3) := dk_132 2 255 (dk_at dksX1_mostPower_2 14 rfl rfl)
theorem dX1_mostPower_64 : decode cX1_mostPower 64 = .ok (.goto (-39), 3) := dk_167 255 217 (dk_at dksX1_mostPower_2 17 rfl rfl)
theorem dX1_mostPower_67 : decode cX1_mostPower 67 = .ok (.bipush (-2), 2) := dk_16 254 (dk_at dksX1_mostPower_2 20 rfl rfl)
theorem dX1_mostPower_69 : decode cX1_mostPower 69 = .ok (.ireturn, 1) := dk_172 (dk_at dksX1_mostPower_2 22 rfl rfl)
abbrev cX1_mostGuard : ByteArray := prog_1_method_64_code
def yX1_mostGuard : MethodName := ⟨RX1, "mostGuard", "()I"⟩
def dkwX1_mostGuard_2 : List UInt8 := [16, 254, 172]
abbrev dktX1_mostGuard_2 : List UInt8 := dkwX1_mostGuard_2 ++ []
def dkwX1_mostGuard_1 : List UInt8 := [181, 1, 52, 42, 180, 0, 59, 182, 0, 156, 180, 0, 227, 154, 0, 5, 27, 172, 132, 1, 255, 167, 255, 226]
abbrev dktX1_mostGuard_1 : List UInt8 := dkwX1_mostGuard_1 ++ dktX1_mostGuard_2
def dkwX1_mostGuard_0 : List UInt8 := [42, 180, 0, 59, 42, 180, 0, 40, 182, 0, 152, 87, 8, 60, 27, 155, 0, 32, 42, 180, 0, 59, 27]
abbrev dktX1_mostGuard_0 : List UInt8 := dkwX1_mostGuard_0 ++ dktX1_mostGuard_1
theorem dksX1_mostGuard_0 : cX1_mostGuard.data.toList.drop 0 = dktX1_mostGuard_0 := by decide +kernel
theorem dksX1_mostGuard_1 : cX1_mostGuard.data.toList.drop 23 = dktX1_mostGuard_1 := dk_seg dksX1_mostGuard_0 23 rfl rfl
theorem dksX1_mostGuard_2 : cX1_mostGuard.data.toList.drop 47 = dktX1_mostGuard_2 := dk_seg dksX1_mostGuard_1 24 rfl rfl
theorem dX1_mostGuard_0 : decode cX1_mostGuard 0 = .ok (.aload_n 0, 1) := dk_42 (dk_at dksX1_mostGuard_0 0 rfl rfl)
theorem dX1_mostGuard_1 : decode cX1_mostGuard 1 = .ok (.getfield 59, 3) := dk_180 0 59 (dk_at dksX1_mostGuard_0 1 rfl rfl)
theorem dX1_mostGuard_4 : decode cX1_mostGuard 4 = .ok (.aload_n 0, 1) := dk_42 (dk_at dksX1_mostGuard_0 4 rfl rfl)
theorem dX1_mostGuard_5 : decode cX1_mostGuard 5 = .ok (.getfield 40, 3) := dk_180 0 40 (dk_at dksX1_mostGuard_0 5 rfl rfl)
theorem dX1_mostGuard_8 : decode cX1_mostGuard 8 = .ok (.invokevirtual 152, 3) := dk_182 0 152 (dk_at dksX1_mostGuard_0 8 rfl rfl)
theorem dX1_mostGuard_11 : decode cX1_mostGuard 11 = .ok (.pop, 1) := dk_87 (dk_at dksX1_mostGuard_0 11 rfl rfl)
theorem dX1_mostGuard_12 : decode cX1_mostGuard 12 = .ok (.iconst 5, 1) := dk_8 (dk_at dksX1_mostGuard_0 12 rfl rfl)
theorem dX1_mostGuard_13 : decode cX1_mostGuard 13 = .ok (.istore_n 1, 1) := dk_60 (dk_at dksX1_mostGuard_0 13 rfl rfl)
theorem dX1_mostGuard_14 : decode cX1_mostGuard 14 = .ok (.iload_n 1, 1) := dk_27 (dk_at dksX1_mostGuard_0 14 rfl rfl)
theorem dX1_mostGuard_15 : decode cX1_mostGuard 15 = .ok (.ifCond .lt 32, 3) := dk_155 0 32 (dk_at dksX1_mostGuard_0 15 rfl rfl)
theorem dX1_mostGuard_18 : decode cX1_mostGuard 18 = .ok (.aload_n 0, 1) := dk_42 (dk_at dksX1_mostGuard_0 18 rfl rfl)
theorem dX1_mostGuard_19 : decode cX1_mostGuard 19 = .ok (.getfield 59, 3) := dk_180 0 59 (dk_at dksX1_mostGuard_0 19 rfl rfl)
theorem dX1_mostGuard_22 : decode cX1_mostGuard 22 = .ok (.iload_n 1, 1) := dk_27 (dk_at dksX1_mostGuard_0 22 rfl rfl)
theorem dX1_mostGuard_23 : decode cX1_mostGuard 23 = .ok (.putfield 308, 3) := dk_181 1 52 (dk_at dksX1_mostGuard_1 0 rfl rfl)
theorem dX1_mostGuard_26 : decode cX1_mostGuard 26 = .ok (.aload_n 0, 1) := dk_42 (dk_at dksX1_mostGuard_1 3 rfl rfl)
theorem dX1_mostGuard_27 : decode cX1_mostGuard 27 = .ok (.getfield 59, 3) := dk_180 0 59 (dk_at dksX1_mostGuard_1 4 rfl rfl)
theorem dX1_mostGuard_30 : decode cX1_mostGuard 30 = .ok (.invokevirtual 156, 3) := dk_182 0 156 (dk_at dksX1_mostGuard_1 7 rfl rfl)
theorem dX1_mostGuard_33 : decode cX1_mostGuard 33 = .ok (.getfield 227, 3) := dk_180 0 227 (dk_at dksX1_mostGuard_1 10 rfl rfl)
theorem dX1_mostGuard_36 : decode cX1_mostGuard 36 = .ok (.ifCond .ne 5, 3) := dk_154 0 5 (dk_at dksX1_mostGuard_1 13 rfl rfl)
theorem dX1_mostGuard_39 : decode cX1_mostGuard 39 = .ok (.iload_n 1, 1) := dk_27 (dk_at dksX1_mostGuard_1 16 rfl rfl)
theorem dX1_mostGuard_40 : decode cX1_mostGuard 40 = .ok (.ireturn, 1) := dk_172 (dk_at dksX1_mostGuard_1 17 rfl rfl)
theorem dX1_mostGuard_41 : decode cX1_mostGuard 41 = .ok (.iinc 1 (-1), 3) := dk_132 1 255 (dk_at dksX1_mostGuard_1 18 rfl rfl)
theorem dX1_mostGuard_44 : decode cX1_mostGuard 44 = .ok (.goto (-30), 3) := dk_167 255 226 (dk_at dksX1_mostGuard_1 21 rfl rfl)
theorem dX1_mostGuard_47 : decode cX1_mostGuard 47 = .ok (.bipush (-2), 2) := dk_16 254 (dk_at dksX1_mostGuard_2 0 rfl rfl)
theorem dX1_mostGuard_49 : decode cX1_mostGuard 49 = .ok (.ireturn, 1) := dk_172 (dk_at dksX1_mostGuard_2 2 rfl rfl)
abbrev cX1_grown : ByteArray := prog_1_method_65_code
def yX1_grown : MethodName := ⟨RX1, "grown", "(IIII)I"⟩
def dkwX1_grown_10 : List UInt8 := [180, 1, 63, 21, 4, 46, 167, 0, 5, 16, 254, 172]
abbrev dktX1_grown_10 : List UInt8 := dkwX1_grown_10 ++ []
def dkwX1_grown_9 : List UInt8 := [132, 5, 1, 167, 255, 126, 21, 4, 42, 180, 0, 63, 180, 1, 58, 162, 0, 16, 42, 180, 0, 63]
abbrev dktX1_grown_9 : List UInt8 := dkwX1_grown_9 ++ dktX1_grown_10
def dkwX1_grown_8 : List UInt8 := [182, 0, 156, 182, 0, 177, 158, 0, 16, 42, 180, 0, 63, 89, 180, 1, 58, 4, 100, 181, 1, 58]
abbrev dktX1_grown_8 : List UInt8 := dkwX1_grown_8 ++ dktX1_grown_9
def dkwX1_grown_7 : List UInt8 := [180, 1, 58, 21, 5, 79, 42, 180, 0, 63, 89, 180, 1, 58, 4, 96, 181, 1, 58, 42, 180, 0, 63]
abbrev dktX1_grown_7 : List UInt8 := dkwX1_grown_7 ++ dktX1_grown_8
def dkwX1_grown_6 : List UInt8 := [42, 180, 0, 63, 180, 1, 58, 17, 0, 255, 79, 42, 180, 0, 63, 180, 1, 63, 42, 180, 0, 63]
abbrev dktX1_grown_6 : List UInt8 := dkwX1_grown_6 ++ dktX1_grown_7
def dkwX1_grown_5 : List UInt8 := [180, 0, 63, 180, 1, 61, 42, 180, 0, 63, 180, 1, 58, 17, 3, 231, 79, 42, 180, 0, 63, 180, 1, 62]
abbrev dktX1_grown_5 : List UInt8 := dkwX1_grown_5 ++ dktX1_grown_6
def dkwX1_grown_4 : List UInt8 := [16, 8, 162, 0, 117, 42, 180, 0, 63, 180, 1, 59, 42, 180, 0, 63, 180, 1, 58, 3, 79, 42]
abbrev dktX1_grown_4 : List UInt8 := dkwX1_grown_4 ++ dktX1_grown_5
def dkwX1_grown_3 : List UInt8 := [180, 0, 63, 3, 181, 1, 58, 4, 54, 5, 21, 5, 16, 60, 163, 0, 129, 42, 180, 0, 63, 180, 1, 58]
abbrev dktX1_grown_3 : List UInt8 := dkwX1_grown_3 ++ dktX1_grown_4
def dkwX1_grown_2 : List UInt8 := [180, 0, 63, 28, 181, 1, 52, 42, 180, 0, 63, 29, 181, 1, 40, 42, 180, 0, 63, 27, 181, 1, 55, 42]
abbrev dktX1_grown_2 : List UInt8 := dkwX1_grown_2 ++ dktX1_grown_3
def dkwX1_grown_1 : List UInt8 := [184, 0, 75, 153, 0, 8, 21, 4, 156, 0, 5, 2, 172, 42, 180, 0, 63, 16, 60, 181, 0, 176, 42]
abbrev dktX1_grown_1 : List UInt8 := dkwX1_grown_1 ++ dktX1_grown_2
def dkwX1_grown_0 : List UInt8 := [27, 3, 16, 7, 184, 0, 75, 153, 0, 27, 28, 3, 8, 184, 0, 75, 153, 0, 18, 29, 4, 16, 20]
abbrev dktX1_grown_0 : List UInt8 := dkwX1_grown_0 ++ dktX1_grown_1
theorem dksX1_grown_0 : cX1_grown.data.toList.drop 0 = dktX1_grown_0 := by decide +kernel
theorem dksX1_grown_1 : cX1_grown.data.toList.drop 23 = dktX1_grown_1 := dk_seg dksX1_grown_0 23 rfl rfl
theorem dksX1_grown_2 : cX1_grown.data.toList.drop 46 = dktX1_grown_2 := dk_seg dksX1_grown_1 23 rfl rfl
theorem dksX1_grown_3 : cX1_grown.data.toList.drop 70 = dktX1_grown_3 := dk_seg dksX1_grown_2 24 rfl rfl
theorem dksX1_grown_4 : cX1_grown.data.toList.drop 94 = dktX1_grown_4 := dk_seg dksX1_grown_3 24 rfl rfl
theorem dksX1_grown_5 : cX1_grown.data.toList.drop 116 = dktX1_grown_5 := dk_seg dksX1_grown_4 22 rfl rfl
theorem dksX1_grown_6 : cX1_grown.data.toList.drop 140 = dktX1_grown_6 := dk_seg dksX1_grown_5 24 rfl rfl
theorem dksX1_grown_7 : cX1_grown.data.toList.drop 162 = dktX1_grown_7 := dk_seg dksX1_grown_6 22 rfl rfl
theorem dksX1_grown_8 : cX1_grown.data.toList.drop 185 = dktX1_grown_8 := dk_seg dksX1_grown_7 23 rfl rfl
theorem dksX1_grown_9 : cX1_grown.data.toList.drop 207 = dktX1_grown_9 := dk_seg dksX1_grown_8 22 rfl rfl
theorem dksX1_grown_10 : cX1_grown.data.toList.drop 229 = dktX1_grown_10 := dk_seg dksX1_grown_9 22 rfl rfl
theorem dX1_grown_0 : decode cX1_grown 0 = .ok (.iload_n 1, 1) := dk_27 (dk_at dksX1_grown_0 0 rfl rfl)
theorem dX1_grown_1 : decode cX1_grown 1 = .ok (.iconst 0, 1) := dk_3 (dk_at dksX1_grown_0 1 rfl rfl)
theorem dX1_grown_2 : decode cX1_grown 2 = .ok (.bipush 7, 2) := dk_16 7 (dk_at dksX1_grown_0 2 rfl rfl)
theorem dX1_grown_4 : decode cX1_grown 4 = .ok (.invokestatic 75, 3) := dk_184 0 75 (dk_at dksX1_grown_0 4 rfl rfl)
theorem dX1_grown_7 : decode cX1_grown 7 = .ok (.ifCond .eq 27, 3) := dk_153 0 27 (dk_at dksX1_grown_0 7 rfl rfl)
theorem dX1_grown_10 : decode cX1_grown 10 = .ok (.iload_n 2, 1) := dk_28 (dk_at dksX1_grown_0 10 rfl rfl)
theorem dX1_grown_11 : decode cX1_grown 11 = .ok (.iconst 0, 1) := dk_3 (dk_at dksX1_grown_0 11 rfl rfl)
theorem dX1_grown_12 : decode cX1_grown 12 = .ok (.iconst 5, 1) := dk_8 (dk_at dksX1_grown_0 12 rfl rfl)
theorem dX1_grown_13 : decode cX1_grown 13 = .ok (.invokestatic 75, 3) := dk_184 0 75 (dk_at dksX1_grown_0 13 rfl rfl)
theorem dX1_grown_16 : decode cX1_grown 16 = .ok (.ifCond .eq 18, 3) := dk_153 0 18 (dk_at dksX1_grown_0 16 rfl rfl)
theorem dX1_grown_19 : decode cX1_grown 19 = .ok (.iload_n 3, 1) := dk_29 (dk_at dksX1_grown_0 19 rfl rfl)
theorem dX1_grown_20 : decode cX1_grown 20 = .ok (.iconst 1, 1) := dk_4 (dk_at dksX1_grown_0 20 rfl rfl)
theorem dX1_grown_21 : decode cX1_grown 21 = .ok (.bipush 20, 2) := dk_16 20 (dk_at dksX1_grown_0 21 rfl rfl)
theorem dX1_grown_23 : decode cX1_grown 23 = .ok (.invokestatic 75, 3) := dk_184 0 75 (dk_at dksX1_grown_1 0 rfl rfl)
theorem dX1_grown_26 : decode cX1_grown 26 = .ok (.ifCond .eq 8, 3) := dk_153 0 8 (dk_at dksX1_grown_1 3 rfl rfl)
theorem dX1_grown_29 : decode cX1_grown 29 = .ok (.iload 4, 2) := dk_21 4 (dk_at dksX1_grown_1 6 rfl rfl)
theorem dX1_grown_31 : decode cX1_grown 31 = .ok (.ifCond .ge 5, 3) := dk_156 0 5 (dk_at dksX1_grown_1 8 rfl rfl)
theorem dX1_grown_34 : decode cX1_grown 34 = .ok (.iconst (-1), 1) := dk_2 (dk_at dksX1_grown_1 11 rfl rfl)
theorem dX1_grown_35 : decode cX1_grown 35 = .ok (.ireturn, 1) := dk_172 (dk_at dksX1_grown_1 12 rfl rfl)
theorem dX1_grown_36 : decode cX1_grown 36 = .ok (.aload_n 0, 1) := dk_42 (dk_at dksX1_grown_1 13 rfl rfl)
theorem dX1_grown_37 : decode cX1_grown 37 = .ok (.getfield 63, 3) := dk_180 0 63 (dk_at dksX1_grown_1 14 rfl rfl)
theorem dX1_grown_40 : decode cX1_grown 40 = .ok (.bipush 60, 2) := dk_16 60 (dk_at dksX1_grown_1 17 rfl rfl)
theorem dX1_grown_42 : decode cX1_grown 42 = .ok (.putfield 176, 3) := dk_181 0 176 (dk_at dksX1_grown_1 19 rfl rfl)
theorem dX1_grown_45 : decode cX1_grown 45 = .ok (.aload_n 0, 1) := dk_42 (dk_at dksX1_grown_1 22 rfl rfl)
theorem dX1_grown_46 : decode cX1_grown 46 = .ok (.getfield 63, 3) := dk_180 0 63 (dk_at dksX1_grown_2 0 rfl rfl)
theorem dX1_grown_49 : decode cX1_grown 49 = .ok (.iload_n 2, 1) := dk_28 (dk_at dksX1_grown_2 3 rfl rfl)
theorem dX1_grown_50 : decode cX1_grown 50 = .ok (.putfield 308, 3) := dk_181 1 52 (dk_at dksX1_grown_2 4 rfl rfl)
theorem dX1_grown_53 : decode cX1_grown 53 = .ok (.aload_n 0, 1) := dk_42 (dk_at dksX1_grown_2 7 rfl rfl)
theorem dX1_grown_54 : decode cX1_grown 54 = .ok (.getfield 63, 3) := dk_180 0 63 (dk_at dksX1_grown_2 8 rfl rfl)
theorem dX1_grown_57 : decode cX1_grown 57 = .ok (.iload_n 3, 1) := dk_29 (dk_at dksX1_grown_2 11 rfl rfl)
theorem dX1_grown_58 : decode cX1_grown 58 = .ok (.putfield 296, 3) := dk_181 1 40 (dk_at dksX1_grown_2 12 rfl rfl)
theorem dX1_grown_61 : decode cX1_grown 61 = .ok (.aload_n 0, 1) := dk_42 (dk_at dksX1_grown_2 15 rfl rfl)
theorem dX1_grown_62 : decode cX1_grown 62 = .ok (.getfield 63, 3) := dk_180 0 63 (dk_at dksX1_grown_2 16 rfl rfl)
theorem dX1_grown_65 : decode cX1_grown 65 = .ok (.iload_n 1, 1) := dk_27 (dk_at dksX1_grown_2 19 rfl rfl)
theorem dX1_grown_66 : decode cX1_grown 66 = .ok (.putfield 311, 3) := dk_181 1 55 (dk_at dksX1_grown_2 20 rfl rfl)
theorem dX1_grown_69 : decode cX1_grown 69 = .ok (.aload_n 0, 1) := dk_42 (dk_at dksX1_grown_2 23 rfl rfl)
theorem dX1_grown_70 : decode cX1_grown 70 = .ok (.getfield 63, 3) := dk_180 0 63 (dk_at dksX1_grown_3 0 rfl rfl)
theorem dX1_grown_73 : decode cX1_grown 73 = .ok (.iconst 0, 1) := dk_3 (dk_at dksX1_grown_3 3 rfl rfl)
theorem dX1_grown_74 : decode cX1_grown 74 = .ok (.putfield 314, 3) := dk_181 1 58 (dk_at dksX1_grown_3 4 rfl rfl)
theorem dX1_grown_77 : decode cX1_grown 77 = .ok (.iconst 1, 1) := dk_4 (dk_at dksX1_grown_3 7 rfl rfl)
theorem dX1_grown_78 : decode cX1_grown 78 = .ok (.istore 5, 2) := dk_54 5 (dk_at dksX1_grown_3 8 rfl rfl)
theorem dX1_grown_80 : decode cX1_grown 80 = .ok (.iload 5, 2) := dk_21 5 (dk_at dksX1_grown_3 10 rfl rfl)
theorem dX1_grown_82 : decode cX1_grown 82 = .ok (.bipush 60, 2) := dk_16 60 (dk_at dksX1_grown_3 12 rfl rfl)
theorem dX1_grown_84 : decode cX1_grown 84 = .ok (.if_icmp .gt 129, 3) := dk_163 0 129 (dk_at dksX1_grown_3 14 rfl rfl)
theorem dX1_grown_87 : decode cX1_grown 87 = .ok (.aload_n 0, 1) := dk_42 (dk_at dksX1_grown_3 17 rfl rfl)
theorem dX1_grown_88 : decode cX1_grown 88 = .ok (.getfield 63, 3) := dk_180 0 63 (dk_at dksX1_grown_3 18 rfl rfl)
theorem dX1_grown_91 : decode cX1_grown 91 = .ok (.getfield 314, 3) := dk_180 1 58 (dk_at dksX1_grown_3 21 rfl rfl)
theorem dX1_grown_94 : decode cX1_grown 94 = .ok (.bipush 8, 2) := dk_16 8 (dk_at dksX1_grown_4 0 rfl rfl)
theorem dX1_grown_96 : decode cX1_grown 96 = .ok (.if_icmp .ge 117, 3) := dk_162 0 117 (dk_at dksX1_grown_4 2 rfl rfl)
theorem dX1_grown_99 : decode cX1_grown 99 = .ok (.aload_n 0, 1) := dk_42 (dk_at dksX1_grown_4 5 rfl rfl)
theorem dX1_grown_100 : decode cX1_grown 100 = .ok (.getfield 63, 3) := dk_180 0 63 (dk_at dksX1_grown_4 6 rfl rfl)
theorem dX1_grown_103 : decode cX1_grown 103 = .ok (.getfield 315, 3) := dk_180 1 59 (dk_at dksX1_grown_4 9 rfl rfl)
theorem dX1_grown_106 : decode cX1_grown 106 = .ok (.aload_n 0, 1) := dk_42 (dk_at dksX1_grown_4 12 rfl rfl)
theorem dX1_grown_107 : decode cX1_grown 107 = .ok (.getfield 63, 3) := dk_180 0 63 (dk_at dksX1_grown_4 13 rfl rfl)
theorem dX1_grown_110 : decode cX1_grown 110 = .ok (.getfield 314, 3) := dk_180 1 58 (dk_at dksX1_grown_4 16 rfl rfl)
theorem dX1_grown_113 : decode cX1_grown 113 = .ok (.iconst 0, 1) := dk_3 (dk_at dksX1_grown_4 19 rfl rfl)
theorem dX1_grown_114 : decode cX1_grown 114 = .ok (.iastore, 1) := dk_79 (dk_at dksX1_grown_4 20 rfl rfl)
theorem dX1_grown_115 : decode cX1_grown 115 = .ok (.aload_n 0, 1) := dk_42 (dk_at dksX1_grown_4 21 rfl rfl)
theorem dX1_grown_116 : decode cX1_grown 116 = .ok (.getfield 63, 3) := dk_180 0 63 (dk_at dksX1_grown_5 0 rfl rfl)
theorem dX1_grown_119 : decode cX1_grown 119 = .ok (.getfield 317, 3) := dk_180 1 61 (dk_at dksX1_grown_5 3 rfl rfl)
theorem dX1_grown_122 : decode cX1_grown 122 = .ok (.aload_n 0, 1) := dk_42 (dk_at dksX1_grown_5 6 rfl rfl)
theorem dX1_grown_123 : decode cX1_grown 123 = .ok (.getfield 63, 3) := dk_180 0 63 (dk_at dksX1_grown_5 7 rfl rfl)
theorem dX1_grown_126 : decode cX1_grown 126 = .ok (.getfield 314, 3) := dk_180 1 58 (dk_at dksX1_grown_5 10 rfl rfl)
theorem dX1_grown_129 : decode cX1_grown 129 = .ok (.sipush 999, 3) := dk_17 3 231 (dk_at dksX1_grown_5 13 rfl rfl)
theorem dX1_grown_132 : decode cX1_grown 132 = .ok (.iastore, 1) := dk_79 (dk_at dksX1_grown_5 16 rfl rfl)
theorem dX1_grown_133 : decode cX1_grown 133 = .ok (.aload_n 0, 1) := dk_42 (dk_at dksX1_grown_5 17 rfl rfl)
theorem dX1_grown_134 : decode cX1_grown 134 = .ok (.getfield 63, 3) := dk_180 0 63 (dk_at dksX1_grown_5 18 rfl rfl)
theorem dX1_grown_137 : decode cX1_grown 137 = .ok (.getfield 318, 3) := dk_180 1 62 (dk_at dksX1_grown_5 21 rfl rfl)
theorem dX1_grown_140 : decode cX1_grown 140 = .ok (.aload_n 0, 1) := dk_42 (dk_at dksX1_grown_6 0 rfl rfl)
theorem dX1_grown_141 : decode cX1_grown 141 = .ok (.getfield 63, 3) := dk_180 0 63 (dk_at dksX1_grown_6 1 rfl rfl)
theorem dX1_grown_144 : decode cX1_grown 144 = .ok (.getfield 314, 3) := dk_180 1 58 (dk_at dksX1_grown_6 4 rfl rfl)
theorem dX1_grown_147 : decode cX1_grown 147 = .ok (.sipush 255, 3) := dk_17 0 255 (dk_at dksX1_grown_6 7 rfl rfl)
theorem dX1_grown_150 : decode cX1_grown 150 = .ok (.iastore, 1) := dk_79 (dk_at dksX1_grown_6 10 rfl rfl)
theorem dX1_grown_151 : decode cX1_grown 151 = .ok (.aload_n 0, 1) := dk_42 (dk_at dksX1_grown_6 11 rfl rfl)
theorem dX1_grown_152 : decode cX1_grown 152 = .ok (.getfield 63, 3) := dk_180 0 63 (dk_at dksX1_grown_6 12 rfl rfl)
theorem dX1_grown_155 : decode cX1_grown 155 = .ok (.getfield 319, 3) := dk_180 1 63 (dk_at dksX1_grown_6 15 rfl rfl)
theorem dX1_grown_158 : decode cX1_grown 158 = .ok (.aload_n 0, 1) := dk_42 (dk_at dksX1_grown_6 18 rfl rfl)
theorem dX1_grown_159 : decode cX1_grown 159 = .ok (.getfield 63, 3) := dk_180 0 63 (dk_at dksX1_grown_6 19 rfl rfl)
theorem dX1_grown_162 : decode cX1_grown 162 = .ok (.getfield 314, 3) := dk_180 1 58 (dk_at dksX1_grown_7 0 rfl rfl)
theorem dX1_grown_165 : decode cX1_grown 165 = .ok (.iload 5, 2) := dk_21 5 (dk_at dksX1_grown_7 3 rfl rfl)
theorem dX1_grown_167 : decode cX1_grown 167 = .ok (.iastore, 1) := dk_79 (dk_at dksX1_grown_7 5 rfl rfl)
theorem dX1_grown_168 : decode cX1_grown 168 = .ok (.aload_n 0, 1) := dk_42 (dk_at dksX1_grown_7 6 rfl rfl)
theorem dX1_grown_169 : decode cX1_grown 169 = .ok (.getfield 63, 3) := dk_180 0 63 (dk_at dksX1_grown_7 7 rfl rfl)
theorem dX1_grown_172 : decode cX1_grown 172 = .ok (.dup, 1) := dk_89 (dk_at dksX1_grown_7 10 rfl rfl)
theorem dX1_grown_173 : decode cX1_grown 173 = .ok (.getfield 314, 3) := dk_180 1 58 (dk_at dksX1_grown_7 11 rfl rfl)
theorem dX1_grown_176 : decode cX1_grown 176 = .ok (.iconst 1, 1) := dk_4 (dk_at dksX1_grown_7 14 rfl rfl)
theorem dX1_grown_177 : decode cX1_grown 177 = .ok (.iadd, 1) := dk_96 (dk_at dksX1_grown_7 15 rfl rfl)
theorem dX1_grown_178 : decode cX1_grown 178 = .ok (.putfield 314, 3) := dk_181 1 58 (dk_at dksX1_grown_7 16 rfl rfl)
theorem dX1_grown_181 : decode cX1_grown 181 = .ok (.aload_n 0, 1) := dk_42 (dk_at dksX1_grown_7 19 rfl rfl)
theorem dX1_grown_182 : decode cX1_grown 182 = .ok (.getfield 63, 3) := dk_180 0 63 (dk_at dksX1_grown_7 20 rfl rfl)
theorem dX1_grown_185 : decode cX1_grown 185 = .ok (.invokevirtual 156, 3) := dk_182 0 156 (dk_at dksX1_grown_8 0 rfl rfl)
theorem dX1_grown_188 : decode cX1_grown 188 = .ok (.invokevirtual 177, 3) := dk_182 0 177 (dk_at dksX1_grown_8 3 rfl rfl)
theorem dX1_grown_191 : decode cX1_grown 191 = .ok (.ifCond .le 16, 3) := dk_158 0 16 (dk_at dksX1_grown_8 6 rfl rfl)
theorem dX1_grown_194 : decode cX1_grown 194 = .ok (.aload_n 0, 1) := dk_42 (dk_at dksX1_grown_8 9 rfl rfl)
theorem dX1_grown_195 : decode cX1_grown 195 = .ok (.getfield 63, 3) := dk_180 0 63 (dk_at dksX1_grown_8 10 rfl rfl)
theorem dX1_grown_198 : decode cX1_grown 198 = .ok (.dup, 1) := dk_89 (dk_at dksX1_grown_8 13 rfl rfl)
theorem dX1_grown_199 : decode cX1_grown 199 = .ok (.getfield 314, 3) := dk_180 1 58 (dk_at dksX1_grown_8 14 rfl rfl)
theorem dX1_grown_202 : decode cX1_grown 202 = .ok (.iconst 1, 1) := dk_4 (dk_at dksX1_grown_8 17 rfl rfl)
theorem dX1_grown_203 : decode cX1_grown 203 = .ok (.isub, 1) := dk_100 (dk_at dksX1_grown_8 18 rfl rfl)
theorem dX1_grown_204 : decode cX1_grown 204 = .ok (.putfield 314, 3) := dk_181 1 58 (dk_at dksX1_grown_8 19 rfl rfl)
theorem dX1_grown_207 : decode cX1_grown 207 = .ok (.iinc 5 1, 3) := dk_132 5 1 (dk_at dksX1_grown_9 0 rfl rfl)
theorem dX1_grown_210 : decode cX1_grown 210 = .ok (.goto (-130), 3) := dk_167 255 126 (dk_at dksX1_grown_9 3 rfl rfl)
theorem dX1_grown_213 : decode cX1_grown 213 = .ok (.iload 4, 2) := dk_21 4 (dk_at dksX1_grown_9 6 rfl rfl)
theorem dX1_grown_215 : decode cX1_grown 215 = .ok (.aload_n 0, 1) := dk_42 (dk_at dksX1_grown_9 8 rfl rfl)
theorem dX1_grown_216 : decode cX1_grown 216 = .ok (.getfield 63, 3) := dk_180 0 63 (dk_at dksX1_grown_9 9 rfl rfl)
theorem dX1_grown_219 : decode cX1_grown 219 = .ok (.getfield 314, 3) := dk_180 1 58 (dk_at dksX1_grown_9 12 rfl rfl)
theorem dX1_grown_222 : decode cX1_grown 222 = .ok (.if_icmp .ge 16, 3) := dk_162 0 16 (dk_at dksX1_grown_9 15 rfl rfl)
theorem dX1_grown_225 : decode cX1_grown 225 = .ok (.aload_n 0, 1) := dk_42 (dk_at dksX1_grown_9 18 rfl rfl)
theorem dX1_grown_226 : decode cX1_grown 226 = .ok (.getfield 63, 3) := dk_180 0 63 (dk_at dksX1_grown_9 19 rfl rfl)
theorem dX1_grown_229 : decode cX1_grown 229 = .ok (.getfield 319, 3) := dk_180 1 63 (dk_at dksX1_grown_10 0 rfl rfl)
theorem dX1_grown_232 : decode cX1_grown 232 = .ok (.iload 4, 2) := dk_21 4 (dk_at dksX1_grown_10 3 rfl rfl)
theorem dX1_grown_234 : decode cX1_grown 234 = .ok (.iaload, 1) := dk_46 (dk_at dksX1_grown_10 5 rfl rfl)
theorem dX1_grown_235 : decode cX1_grown 235 = .ok (.goto 5, 3) := dk_167 0 5 (dk_at dksX1_grown_10 6 rfl rfl)
theorem dX1_grown_238 : decode cX1_grown 238 = .ok (.bipush (-2), 2) := dk_16 254 (dk_at dksX1_grown_10 9 rfl rfl)
theorem dX1_grown_240 : decode cX1_grown 240 = .ok (.ireturn, 1) := dk_172 (dk_at dksX1_grown_10 11 rfl rfl)
abbrev cX1_chance : ByteArray := prog_1_method_67_code
def yX1_chance : MethodName := ⟨RX1, "chance", "(III)I"⟩
def dkwX1_chance_10 : List UInt8 := [180, 0, 66, 182, 1, 6, 153, 0, 7, 4, 167, 0, 4, 3, 172]
abbrev dktX1_chance_10 : List UInt8 := dkwX1_chance_10 ++ []
def dkwX1_chance_9 : List UInt8 := [42, 180, 0, 66, 182, 0, 125, 167, 0, 29, 29, 4, 160, 0, 8, 21, 4, 167, 0, 19, 42, 42]
abbrev dktX1_chance_9 : List UInt8 := dkwX1_chance_9 ++ dktX1_chance_10
def dkwX1_chance_8 : List UInt8 := [180, 0, 122, 21, 7, 46, 79, 132, 7, 1, 167, 255, 156, 132, 5, 1, 167, 255, 115, 29, 154, 0, 14, 42]
abbrev dktX1_chance_8 : List UInt8 := dkwX1_chance_8 ++ dktX1_chance_9
def dkwX1_chance_7 : List UInt8 := [182, 0, 192, 54, 8, 21, 8, 154, 0, 23, 42, 180, 0, 66, 180, 0, 122, 21, 7, 42, 180, 0, 47]
abbrev dktX1_chance_7 : List UInt8 := dkwX1_chance_7 ++ dktX1_chance_8
def dkwX1_chance_6 : List UInt8 := [79, 187, 0, 184, 89, 42, 42, 180, 0, 47, 42, 180, 0, 66, 182, 0, 115, 4, 21, 7, 120, 183, 0, 189]
abbrev dktX1_chance_6 : List UInt8 := dkwX1_chance_6 ++ dktX1_chance_7
def dkwX1_chance_5 : List UInt8 := [21, 7, 46, 21, 6, 159, 0, 6, 167, 0, 70, 132, 4, 1, 42, 180, 0, 66, 180, 0, 122, 21, 7, 3]
abbrev dktX1_chance_5 : List UInt8 := dkwX1_chance_5 ++ dktX1_chance_6
def dkwX1_chance_4 : List UInt8 := [84, 3, 54, 7, 21, 7, 42, 180, 0, 33, 180, 0, 119, 162, 0, 94, 42, 180, 0, 66, 180, 0, 122]
abbrev dktX1_chance_4 : List UInt8 := dkwX1_chance_4 ++ dktX1_chance_5
def dkwX1_chance_3 : List UInt8 := [42, 180, 0, 33, 180, 0, 129, 182, 1, 79, 4, 96, 54, 6, 42, 180, 0, 66, 180, 0, 142, 21, 6, 4]
abbrev dktX1_chance_3 : List UInt8 := dkwX1_chance_3 ++ dktX1_chance_4
def dkwX1_chance_2 : List UInt8 := [180, 0, 66, 42, 180, 0, 40, 182, 0, 115, 87, 3, 54, 4, 3, 54, 5, 21, 5, 28, 162, 0, 141, 42]
abbrev dktX1_chance_2 : List UInt8 := dkwX1_chance_2 ++ dktX1_chance_3
def dkwX1_chance_1 : List UInt8 := [2, 172, 42, 27, 156, 0, 14, 42, 180, 0, 33, 180, 1, 76, 133, 167, 0, 5, 27, 133, 181, 1, 64, 42]
abbrev dktX1_chance_1 : List UInt8 := dkwX1_chance_1 ++ dktX1_chance_2
def dkwX1_chance_0 : List UInt8 := [27, 2, 161, 0, 22, 28, 4, 16, 20, 184, 0, 75, 153, 0, 12, 29, 3, 5, 184, 0, 75, 154, 0, 5]
abbrev dktX1_chance_0 : List UInt8 := dkwX1_chance_0 ++ dktX1_chance_1
theorem dksX1_chance_0 : cX1_chance.data.toList.drop 0 = dktX1_chance_0 := by decide +kernel
theorem dksX1_chance_1 : cX1_chance.data.toList.drop 24 = dktX1_chance_1 := dk_seg dksX1_chance_0 24 rfl rfl
theorem dksX1_chance_2 : cX1_chance.data.toList.drop 48 = dktX1_chance_2 := dk_seg dksX1_chance_1 24 rfl rfl
theorem dksX1_chance_3 : cX1_chance.data.toList.drop 72 = dktX1_chance_3 := dk_seg dksX1_chance_2 24 rfl rfl
theorem dksX1_chance_4 : cX1_chance.data.toList.drop 96 = dktX1_chance_4 := dk_seg dksX1_chance_3 24 rfl rfl
theorem dksX1_chance_5 : cX1_chance.data.toList.drop 119 = dktX1_chance_5 := dk_seg dksX1_chance_4 23 rfl rfl
theorem dksX1_chance_6 : cX1_chance.data.toList.drop 143 = dktX1_chance_6 := dk_seg dksX1_chance_5 24 rfl rfl
theorem dksX1_chance_7 : cX1_chance.data.toList.drop 167 = dktX1_chance_7 := dk_seg dksX1_chance_6 24 rfl rfl
theorem dksX1_chance_8 : cX1_chance.data.toList.drop 190 = dktX1_chance_8 := dk_seg dksX1_chance_7 23 rfl rfl
theorem dksX1_chance_9 : cX1_chance.data.toList.drop 214 = dktX1_chance_9 := dk_seg dksX1_chance_8 24 rfl rfl
theorem dksX1_chance_10 : cX1_chance.data.toList.drop 236 = dktX1_chance_10 := dk_seg dksX1_chance_9 22 rfl rfl
theorem dX1_chance_0 : decode cX1_chance 0 = .ok (.iload_n 1, 1) := dk_27 (dk_at dksX1_chance_0 0 rfl rfl)
theorem dX1_chance_1 : decode cX1_chance 1 = .ok (.iconst (-1), 1) := dk_2 (dk_at dksX1_chance_0 1 rfl rfl)
theorem dX1_chance_2 : decode cX1_chance 2 = .ok (.if_icmp .lt 22, 3) := dk_161 0 22 (dk_at dksX1_chance_0 2 rfl rfl)
theorem dX1_chance_5 : decode cX1_chance 5 = .ok (.iload_n 2, 1) := dk_28 (dk_at dksX1_chance_0 5 rfl rfl)
theorem dX1_chance_6 : decode cX1_chance 6 = .ok (.iconst 1, 1) := dk_4 (dk_at dksX1_chance_0 6 rfl rfl)
theorem dX1_chance_7 : decode cX1_chance 7 = .ok (.bipush 20, 2) := dk_16 20 (dk_at dksX1_chance_0 7 rfl rfl)
theorem dX1_chance_9 : decode cX1_chance 9 = .ok (.invokestatic 75, 3) := dk_184 0 75 (dk_at dksX1_chance_0 9 rfl rfl)
theorem dX1_chance_12 : decode cX1_chance 12 = .ok (.ifCond .eq 12, 3) := dk_153 0 12 (dk_at dksX1_chance_0 12 rfl rfl)
theorem dX1_chance_15 : decode cX1_chance 15 = .ok (.iload_n 3, 1) := dk_29 (dk_at dksX1_chance_0 15 rfl rfl)
theorem dX1_chance_16 : decode cX1_chance 16 = .ok (.iconst 0, 1) := dk_3 (dk_at dksX1_chance_0 16 rfl rfl)
theorem dX1_chance_17 : decode cX1_chance 17 = .ok (.iconst 2, 1) := dk_5 (dk_at dksX1_chance_0 17 rfl rfl)
theorem dX1_chance_18 : decode cX1_chance 18 = .ok (.invokestatic 75, 3) := dk_184 0 75 (dk_at dksX1_chance_0 18 rfl rfl)
theorem dX1_chance_21 : decode cX1_chance 21 = .ok (.ifCond .ne 5, 3) := dk_154 0 5 (dk_at dksX1_chance_0 21 rfl rfl)
theorem dX1_chance_24 : decode cX1_chance 24 = .ok (.iconst (-1), 1) := dk_2 (dk_at dksX1_chance_1 0 rfl rfl)
theorem dX1_chance_25 : decode cX1_chance 25 = .ok (.ireturn, 1) := dk_172 (dk_at dksX1_chance_1 1 rfl rfl)
theorem dX1_chance_26 : decode cX1_chance 26 = .ok (.aload_n 0, 1) := dk_42 (dk_at dksX1_chance_1 2 rfl rfl)
theorem dX1_chance_27 : decode cX1_chance 27 = .ok (.iload_n 1, 1) := dk_27 (dk_at dksX1_chance_1 3 rfl rfl)
theorem dX1_chance_28 : decode cX1_chance 28 = .ok (.ifCond .ge 14, 3) := dk_156 0 14 (dk_at dksX1_chance_1 4 rfl rfl)
theorem dX1_chance_31 : decode cX1_chance 31 = .ok (.aload_n 0, 1) := dk_42 (dk_at dksX1_chance_1 7 rfl rfl)
theorem dX1_chance_32 : decode cX1_chance 32 = .ok (.getfield 33, 3) := dk_180 0 33 (dk_at dksX1_chance_1 8 rfl rfl)
theorem dX1_chance_35 : decode cX1_chance 35 = .ok (.getfield 332, 3) := dk_180 1 76 (dk_at dksX1_chance_1 11 rfl rfl)
theorem dX1_chance_38 : decode cX1_chance 38 = .ok (.i2l, 1) := dk_133 (dk_at dksX1_chance_1 14 rfl rfl)
theorem dX1_chance_39 : decode cX1_chance 39 = .ok (.goto 5, 3) := dk_167 0 5 (dk_at dksX1_chance_1 15 rfl rfl)
theorem dX1_chance_42 : decode cX1_chance 42 = .ok (.iload_n 1, 1) := dk_27 (dk_at dksX1_chance_1 18 rfl rfl)
theorem dX1_chance_43 : decode cX1_chance 43 = .ok (.i2l, 1) := dk_133 (dk_at dksX1_chance_1 19 rfl rfl)
theorem dX1_chance_44 : decode cX1_chance 44 = .ok (.putfield 320, 3) := dk_181 1 64 (dk_at dksX1_chance_1 20 rfl rfl)
theorem dX1_chance_47 : decode cX1_chance 47 = .ok (.aload_n 0, 1) := dk_42 (dk_at dksX1_chance_1 23 rfl rfl)
theorem dX1_chance_48 : decode cX1_chance 48 = .ok (.getfield 66, 3) := dk_180 0 66 (dk_at dksX1_chance_2 0 rfl rfl)
theorem dX1_chance_51 : decode cX1_chance 51 = .ok (.aload_n 0, 1) := dk_42 (dk_at dksX1_chance_2 3 rfl rfl)
theorem dX1_chance_52 : decode cX1_chance 52 = .ok (.getfield 40, 3) := dk_180 0 40 (dk_at dksX1_chance_2 4 rfl rfl)
theorem dX1_chance_55 : decode cX1_chance 55 = .ok (.invokevirtual 115, 3) := dk_182 0 115 (dk_at dksX1_chance_2 7 rfl rfl)
theorem dX1_chance_58 : decode cX1_chance 58 = .ok (.pop, 1) := dk_87 (dk_at dksX1_chance_2 10 rfl rfl)
theorem dX1_chance_59 : decode cX1_chance 59 = .ok (.iconst 0, 1) := dk_3 (dk_at dksX1_chance_2 11 rfl rfl)
theorem dX1_chance_60 : decode cX1_chance 60 = .ok (.istore 4, 2) := dk_54 4 (dk_at dksX1_chance_2 12 rfl rfl)
theorem dX1_chance_62 : decode cX1_chance 62 = .ok (.iconst 0, 1) := dk_3 (dk_at dksX1_chance_2 14 rfl rfl)
theorem dX1_chance_63 : decode cX1_chance 63 = .ok (.istore 5, 2) := dk_54 5 (dk_at dksX1_chance_2 15 rfl rfl)
theorem dX1_chance_65 : decode cX1_chance 65 = .ok (.iload 5, 2) := dk_21 5 (dk_at dksX1_chance_2 17 rfl rfl)
theorem dX1_chance_67 : decode cX1_chance 67 = .ok (.iload_n 2, 1) := dk_28 (dk_at dksX1_chance_2 19 rfl rfl)
theorem dX1_chance_68 : decode cX1_chance 68 = .ok (.if_icmp .ge 141, 3) := dk_162 0 141 (dk_at dksX1_chance_2 20 rfl rfl)
theorem dX1_chance_71 : decode cX1_chance 71 = .ok (.aload_n 0, 1) := dk_42 (dk_at dksX1_chance_2 23 rfl rfl)
theorem dX1_chance_72 : decode cX1_chance 72 = .ok (.aload_n 0, 1) := dk_42 (dk_at dksX1_chance_3 0 rfl rfl)
theorem dX1_chance_73 : decode cX1_chance 73 = .ok (.getfield 33, 3) := dk_180 0 33 (dk_at dksX1_chance_3 1 rfl rfl)
theorem dX1_chance_76 : decode cX1_chance 76 = .ok (.getfield 129, 3) := dk_180 0 129 (dk_at dksX1_chance_3 4 rfl rfl)
theorem dX1_chance_79 : decode cX1_chance 79 = .ok (.invokevirtual 335, 3) := dk_182 1 79 (dk_at dksX1_chance_3 7 rfl rfl)
theorem dX1_chance_82 : decode cX1_chance 82 = .ok (.iconst 1, 1) := dk_4 (dk_at dksX1_chance_3 10 rfl rfl)
theorem dX1_chance_83 : decode cX1_chance 83 = .ok (.iadd, 1) := dk_96 (dk_at dksX1_chance_3 11 rfl rfl)
theorem dX1_chance_84 : decode cX1_chance 84 = .ok (.istore 6, 2) := dk_54 6 (dk_at dksX1_chance_3 12 rfl rfl)
theorem dX1_chance_86 : decode cX1_chance 86 = .ok (.aload_n 0, 1) := dk_42 (dk_at dksX1_chance_3 14 rfl rfl)
theorem dX1_chance_87 : decode cX1_chance 87 = .ok (.getfield 66, 3) := dk_180 0 66 (dk_at dksX1_chance_3 15 rfl rfl)
theorem dX1_chance_90 : decode cX1_chance 90 = .ok (.getfield 142, 3) := dk_180 0 142 (dk_at dksX1_chance_3 18 rfl rfl)
theorem dX1_chance_93 : decode cX1_chance 93 = .ok (.iload 6, 2) := dk_21 6 (dk_at dksX1_chance_3 21 rfl rfl)
theorem dX1_chance_95 : decode cX1_chance 95 = .ok (.iconst 1, 1) := dk_4 (dk_at dksX1_chance_3 23 rfl rfl)
theorem dX1_chance_96 : decode cX1_chance 96 = .ok (.bastore, 1) := dk_84 (dk_at dksX1_chance_4 0 rfl rfl)
theorem dX1_chance_97 : decode cX1_chance 97 = .ok (.iconst 0, 1) := dk_3 (dk_at dksX1_chance_4 1 rfl rfl)
theorem dX1_chance_98 : decode cX1_chance 98 = .ok (.istore 7, 2) := dk_54 7 (dk_at dksX1_chance_4 2 rfl rfl)
theorem dX1_chance_100 : decode cX1_chance 100 = .ok (.iload 7, 2) := dk_21 7 (dk_at dksX1_chance_4 4 rfl rfl)
theorem dX1_chance_102 : decode cX1_chance 102 = .ok (.aload_n 0, 1) := dk_42 (dk_at dksX1_chance_4 6 rfl rfl)
theorem dX1_chance_103 : decode cX1_chance 103 = .ok (.getfield 33, 3) := dk_180 0 33 (dk_at dksX1_chance_4 7 rfl rfl)
theorem dX1_chance_106 : decode cX1_chance 106 = .ok (.getfield 119, 3) := dk_180 0 119 (dk_at dksX1_chance_4 10 rfl rfl)
theorem dX1_chance_109 : decode cX1_chance 109 = .ok (.if_icmp .ge 94, 3) := dk_162 0 94 (dk_at dksX1_chance_4 13 rfl rfl)
theorem dX1_chance_112 : decode cX1_chance 112 = .ok (.aload_n 0, 1) := dk_42 (dk_at dksX1_chance_4 16 rfl rfl)
theorem dX1_chance_113 : decode cX1_chance 113 = .ok (.getfield 66, 3) := dk_180 0 66 (dk_at dksX1_chance_4 17 rfl rfl)
theorem dX1_chance_116 : decode cX1_chance 116 = .ok (.getfield 122, 3) := dk_180 0 122 (dk_at dksX1_chance_4 20 rfl rfl)
theorem dX1_chance_119 : decode cX1_chance 119 = .ok (.iload 7, 2) := dk_21 7 (dk_at dksX1_chance_5 0 rfl rfl)
theorem dX1_chance_121 : decode cX1_chance 121 = .ok (.iaload, 1) := dk_46 (dk_at dksX1_chance_5 2 rfl rfl)
theorem dX1_chance_122 : decode cX1_chance 122 = .ok (.iload 6, 2) := dk_21 6 (dk_at dksX1_chance_5 3 rfl rfl)
theorem dX1_chance_124 : decode cX1_chance 124 = .ok (.if_icmp .eq 6, 3) := dk_159 0 6 (dk_at dksX1_chance_5 5 rfl rfl)
theorem dX1_chance_127 : decode cX1_chance 127 = .ok (.goto 70, 3) := dk_167 0 70 (dk_at dksX1_chance_5 8 rfl rfl)
theorem dX1_chance_130 : decode cX1_chance 130 = .ok (.iinc 4 1, 3) := dk_132 4 1 (dk_at dksX1_chance_5 11 rfl rfl)
theorem dX1_chance_133 : decode cX1_chance 133 = .ok (.aload_n 0, 1) := dk_42 (dk_at dksX1_chance_5 14 rfl rfl)
theorem dX1_chance_134 : decode cX1_chance 134 = .ok (.getfield 66, 3) := dk_180 0 66 (dk_at dksX1_chance_5 15 rfl rfl)
theorem dX1_chance_137 : decode cX1_chance 137 = .ok (.getfield 122, 3) := dk_180 0 122 (dk_at dksX1_chance_5 18 rfl rfl)
theorem dX1_chance_140 : decode cX1_chance 140 = .ok (.iload 7, 2) := dk_21 7 (dk_at dksX1_chance_5 21 rfl rfl)
theorem dX1_chance_142 : decode cX1_chance 142 = .ok (.iconst 0, 1) := dk_3 (dk_at dksX1_chance_5 23 rfl rfl)
theorem dX1_chance_143 : decode cX1_chance 143 = .ok (.iastore, 1) := dk_79 (dk_at dksX1_chance_6 0 rfl rfl)
theorem dX1_chance_144 : decode cX1_chance 144 = .ok (.new 184, 3) := dk_187 0 184 (dk_at dksX1_chance_6 1 rfl rfl)
theorem dX1_chance_147 : decode cX1_chance 147 = .ok (.dup, 1) := dk_89 (dk_at dksX1_chance_6 4 rfl rfl)
theorem dX1_chance_148 : decode cX1_chance 148 = .ok (.aload_n 0, 1) := dk_42 (dk_at dksX1_chance_6 5 rfl rfl)
theorem dX1_chance_149 : decode cX1_chance 149 = .ok (.aload_n 0, 1) := dk_42 (dk_at dksX1_chance_6 6 rfl rfl)
theorem dX1_chance_150 : decode cX1_chance 150 = .ok (.getfield 47, 3) := dk_180 0 47 (dk_at dksX1_chance_6 7 rfl rfl)
theorem dX1_chance_153 : decode cX1_chance 153 = .ok (.aload_n 0, 1) := dk_42 (dk_at dksX1_chance_6 10 rfl rfl)
theorem dX1_chance_154 : decode cX1_chance 154 = .ok (.getfield 66, 3) := dk_180 0 66 (dk_at dksX1_chance_6 11 rfl rfl)
theorem dX1_chance_157 : decode cX1_chance 157 = .ok (.invokevirtual 115, 3) := dk_182 0 115 (dk_at dksX1_chance_6 14 rfl rfl)
theorem dX1_chance_160 : decode cX1_chance 160 = .ok (.iconst 1, 1) := dk_4 (dk_at dksX1_chance_6 17 rfl rfl)
theorem dX1_chance_161 : decode cX1_chance 161 = .ok (.iload 7, 2) := dk_21 7 (dk_at dksX1_chance_6 18 rfl rfl)
theorem dX1_chance_163 : decode cX1_chance 163 = .ok (.ishl, 1) := dk_120 (dk_at dksX1_chance_6 20 rfl rfl)
theorem dX1_chance_164 : decode cX1_chance 164 = .ok (.invokespecial 189, 3) := dk_183 0 189 (dk_at dksX1_chance_6 21 rfl rfl)
theorem dX1_chance_167 : decode cX1_chance 167 = .ok (.invokevirtual 192, 3) := dk_182 0 192 (dk_at dksX1_chance_7 0 rfl rfl)
theorem dX1_chance_170 : decode cX1_chance 170 = .ok (.istore 8, 2) := dk_54 8 (dk_at dksX1_chance_7 3 rfl rfl)
theorem dX1_chance_172 : decode cX1_chance 172 = .ok (.iload 8, 2) := dk_21 8 (dk_at dksX1_chance_7 5 rfl rfl)
theorem dX1_chance_174 : decode cX1_chance 174 = .ok (.ifCond .ne 23, 3) := dk_154 0 23 (dk_at dksX1_chance_7 7 rfl rfl)
theorem dX1_chance_177 : decode cX1_chance 177 = .ok (.aload_n 0, 1) := dk_42 (dk_at dksX1_chance_7 10 rfl rfl)
theorem dX1_chance_178 : decode cX1_chance 178 = .ok (.getfield 66, 3) := dk_180 0 66 (dk_at dksX1_chance_7 11 rfl rfl)
theorem dX1_chance_181 : decode cX1_chance 181 = .ok (.getfield 122, 3) := dk_180 0 122 (dk_at dksX1_chance_7 14 rfl rfl)
theorem dX1_chance_184 : decode cX1_chance 184 = .ok (.iload 7, 2) := dk_21 7 (dk_at dksX1_chance_7 17 rfl rfl)
theorem dX1_chance_186 : decode cX1_chance 186 = .ok (.aload_n 0, 1) := dk_42 (dk_at dksX1_chance_7 19 rfl rfl)
theorem dX1_chance_187 : decode cX1_chance 187 = .ok (.getfield 47, 3) := dk_180 0 47 (dk_at dksX1_chance_7 20 rfl rfl)
theorem dX1_chance_190 : decode cX1_chance 190 = .ok (.getfield 122, 3) := dk_180 0 122 (dk_at dksX1_chance_8 0 rfl rfl)
theorem dX1_chance_193 : decode cX1_chance 193 = .ok (.iload 7, 2) := dk_21 7 (dk_at dksX1_chance_8 3 rfl rfl)
theorem dX1_chance_195 : decode cX1_chance 195 = .ok (.iaload, 1) := dk_46 (dk_at dksX1_chance_8 5 rfl rfl)
theorem dX1_chance_196 : decode cX1_chance 196 = .ok (.iastore, 1) := dk_79 (dk_at dksX1_chance_8 6 rfl rfl)
theorem dX1_chance_197 : decode cX1_chance 197 = .ok (.iinc 7 1, 3) := dk_132 7 1 (dk_at dksX1_chance_8 7 rfl rfl)
theorem dX1_chance_200 : decode cX1_chance 200 = .ok (.goto (-100), 3) := dk_167 255 156 (dk_at dksX1_chance_8 10 rfl rfl)
theorem dX1_chance_203 : decode cX1_chance 203 = .ok (.iinc 5 1, 3) := dk_132 5 1 (dk_at dksX1_chance_8 13 rfl rfl)
theorem dX1_chance_206 : decode cX1_chance 206 = .ok (.goto (-141), 3) := dk_167 255 115 (dk_at dksX1_chance_8 16 rfl rfl)
theorem dX1_chance_209 : decode cX1_chance 209 = .ok (.iload_n 3, 1) := dk_29 (dk_at dksX1_chance_8 19 rfl rfl)
theorem dX1_chance_210 : decode cX1_chance 210 = .ok (.ifCond .ne 14, 3) := dk_154 0 14 (dk_at dksX1_chance_8 20 rfl rfl)
theorem dX1_chance_213 : decode cX1_chance 213 = .ok (.aload_n 0, 1) := dk_42 (dk_at dksX1_chance_8 23 rfl rfl)
theorem dX1_chance_214 : decode cX1_chance 214 = .ok (.aload_n 0, 1) := dk_42 (dk_at dksX1_chance_9 0 rfl rfl)
theorem dX1_chance_215 : decode cX1_chance 215 = .ok (.getfield 66, 3) := dk_180 0 66 (dk_at dksX1_chance_9 1 rfl rfl)
theorem dX1_chance_218 : decode cX1_chance 218 = .ok (.invokevirtual 125, 3) := dk_182 0 125 (dk_at dksX1_chance_9 4 rfl rfl)
theorem dX1_chance_221 : decode cX1_chance 221 = .ok (.goto 29, 3) := dk_167 0 29 (dk_at dksX1_chance_9 7 rfl rfl)
theorem dX1_chance_224 : decode cX1_chance 224 = .ok (.iload_n 3, 1) := dk_29 (dk_at dksX1_chance_9 10 rfl rfl)
theorem dX1_chance_225 : decode cX1_chance 225 = .ok (.iconst 1, 1) := dk_4 (dk_at dksX1_chance_9 11 rfl rfl)
theorem dX1_chance_226 : decode cX1_chance 226 = .ok (.if_icmp .ne 8, 3) := dk_160 0 8 (dk_at dksX1_chance_9 12 rfl rfl)
theorem dX1_chance_229 : decode cX1_chance 229 = .ok (.iload 4, 2) := dk_21 4 (dk_at dksX1_chance_9 15 rfl rfl)
theorem dX1_chance_231 : decode cX1_chance 231 = .ok (.goto 19, 3) := dk_167 0 19 (dk_at dksX1_chance_9 17 rfl rfl)
theorem dX1_chance_234 : decode cX1_chance 234 = .ok (.aload_n 0, 1) := dk_42 (dk_at dksX1_chance_9 20 rfl rfl)
theorem dX1_chance_235 : decode cX1_chance 235 = .ok (.aload_n 0, 1) := dk_42 (dk_at dksX1_chance_9 21 rfl rfl)
theorem dX1_chance_236 : decode cX1_chance 236 = .ok (.getfield 66, 3) := dk_180 0 66 (dk_at dksX1_chance_10 0 rfl rfl)
theorem dX1_chance_239 : decode cX1_chance 239 = .ok (.invokevirtual 262, 3) := dk_182 1 6 (dk_at dksX1_chance_10 3 rfl rfl)
theorem dX1_chance_242 : decode cX1_chance 242 = .ok (.ifCond .eq 7, 3) := dk_153 0 7 (dk_at dksX1_chance_10 6 rfl rfl)
theorem dX1_chance_245 : decode cX1_chance 245 = .ok (.iconst 1, 1) := dk_4 (dk_at dksX1_chance_10 9 rfl rfl)
theorem dX1_chance_246 : decode cX1_chance 246 = .ok (.goto 4, 3) := dk_167 0 4 (dk_at dksX1_chance_10 10 rfl rfl)
theorem dX1_chance_249 : decode cX1_chance 249 = .ok (.iconst 0, 1) := dk_3 (dk_at dksX1_chance_10 13 rfl rfl)
theorem dX1_chance_250 : decode cX1_chance 250 = .ok (.ireturn, 1) := dk_172 (dk_at dksX1_chance_10 14 rfl rfl)
abbrev cX1_draw : ByteArray := prog_1_method_66_code
def yX1_draw : MethodName := ⟨RX1, "draw", "(I)I"⟩
def dkwX1_draw_1 : List UInt8 := [20, 1, 74, 109, 27, 133, 113, 136, 172]
abbrev dktX1_draw_1 : List UInt8 := dkwX1_draw_1 ++ []
def dkwX1_draw_0 : List UInt8 := [42, 42, 180, 1, 64, 20, 1, 68, 105, 20, 1, 70, 97, 20, 1, 72, 127, 181, 1, 64, 42, 180, 1, 64]
abbrev dktX1_draw_0 : List UInt8 := dkwX1_draw_0 ++ dktX1_draw_1
theorem dksX1_draw_0 : cX1_draw.data.toList.drop 0 = dktX1_draw_0 := by decide +kernel
theorem dksX1_draw_1 : cX1_draw.data.toList.drop 24 = dktX1_draw_1 := dk_seg dksX1_draw_0 24 rfl rfl
theorem dX1_draw_0 : decode cX1_draw 0 = .ok (.aload_n 0, 1) := dk_42 (dk_at dksX1_draw_0 0 rfl rfl)
theorem dX1_draw_1 : decode cX1_draw 1 = .ok (.aload_n 0, 1) := dk_42 (dk_at dksX1_draw_0 1 rfl rfl)
theorem dX1_draw_2 : decode cX1_draw 2 = .ok (.getfield 320, 3) := dk_180 1 64 (dk_at dksX1_draw_0 2 rfl rfl)
theorem dX1_draw_5 : decode cX1_draw 5 = .ok (.ldc2_w 324, 3) := dk_20 1 68 (dk_at dksX1_draw_0 5 rfl rfl)
theorem dX1_draw_8 : decode cX1_draw 8 = .ok (.lmul, 1) := dk_105 (dk_at dksX1_draw_0 8 rfl rfl)
theorem dX1_draw_9 : decode cX1_draw 9 = .ok (.ldc2_w 326, 3) := dk_20 1 70 (dk_at dksX1_draw_0 9 rfl rfl)
theorem dX1_draw_12 : decode cX1_draw 12 = .ok (.ladd, 1) := dk_97 (dk_at dksX1_draw_0 12 rfl rfl)
theorem dX1_draw_13 : decode cX1_draw 13 = .ok (.ldc2_w 328, 3) := dk_20 1 72 (dk_at dksX1_draw_0 13 rfl rfl)
theorem dX1_draw_16 : decode cX1_draw 16 = .ok (.land, 1) := dk_127 (dk_at dksX1_draw_0 16 rfl rfl)
theorem dX1_draw_17 : decode cX1_draw 17 = .ok (.putfield 320, 3) := dk_181 1 64 (dk_at dksX1_draw_0 17 rfl rfl)
theorem dX1_draw_20 : decode cX1_draw 20 = .ok (.aload_n 0, 1) := dk_42 (dk_at dksX1_draw_0 20 rfl rfl)
theorem dX1_draw_21 : decode cX1_draw 21 = .ok (.getfield 320, 3) := dk_180 1 64 (dk_at dksX1_draw_0 21 rfl rfl)
theorem dX1_draw_24 : decode cX1_draw 24 = .ok (.ldc2_w 330, 3) := dk_20 1 74 (dk_at dksX1_draw_1 0 rfl rfl)
theorem dX1_draw_27 : decode cX1_draw 27 = .ok (.ldiv, 1) := dk_109 (dk_at dksX1_draw_1 3 rfl rfl)
theorem dX1_draw_28 : decode cX1_draw 28 = .ok (.iload_n 1, 1) := dk_27 (dk_at dksX1_draw_1 4 rfl rfl)
theorem dX1_draw_29 : decode cX1_draw 29 = .ok (.i2l, 1) := dk_133 (dk_at dksX1_draw_1 5 rfl rfl)
theorem dX1_draw_30 : decode cX1_draw 30 = .ok (.lrem, 1) := dk_113 (dk_at dksX1_draw_1 6 rfl rfl)
theorem dX1_draw_31 : decode cX1_draw 31 = .ok (.l2i, 1) := dk_136 (dk_at dksX1_draw_1 7 rfl rfl)
theorem dX1_draw_32 : decode cX1_draw 32 = .ok (.ireturn, 1) := dk_172 (dk_at dksX1_draw_1 8 rfl rfl)
abbrev cX1_count : ByteArray := prog_1_method_68_code
def yX1_count : MethodName := ⟨RX1, "count", "(I)I"⟩
def dkwX1_count_6 : List UInt8 := [180, 0, 40, 182, 0, 125, 172, 42, 180, 0, 108, 172, 42, 180, 0, 72, 172, 2, 172]
abbrev dktX1_count_6 : List UInt8 := dkwX1_count_6 ++ []
def dkwX1_count_5 : List UInt8 := [28, 21, 6, 153, 0, 7, 4, 167, 0, 4, 3, 96, 61, 132, 5, 1, 167, 255, 227, 28, 172, 42, 42]
abbrev dktX1_count_5 : List UInt8 := dkwX1_count_5 ++ dktX1_count_6
def dkwX1_count_4 : List UInt8 := [180, 0, 142, 78, 45, 190, 54, 4, 3, 54, 5, 21, 5, 21, 4, 162, 0, 28, 45, 21, 5, 51, 54, 6]
abbrev dktX1_count_4 : List UInt8 := dkwX1_count_4 ++ dktX1_count_5
def dkwX1_count_3 : List UInt8 := [42, 180, 0, 33, 180, 1, 83, 172, 42, 180, 0, 33, 180, 1, 84, 172, 3, 61, 42, 180, 0, 40]
abbrev dktX1_count_3 : List UInt8 := dkwX1_count_3 ++ dktX1_count_4
def dkwX1_count_2 : List UInt8 := [42, 180, 0, 33, 180, 0, 119, 172, 42, 180, 0, 33, 180, 0, 129, 172, 42, 180, 0, 33, 180, 1, 82, 172]
abbrev dktX1_count_2 : List UInt8 := dkwX1_count_2 ++ dktX1_count_3
def dkwX1_count_1 : List UInt8 := [170, 0, 0, 0, 0, 0, 161, 0, 0, 0, 0, 0, 0, 0, 8, 0, 0, 0, 51, 0, 0, 0, 59, 0, 0, 0, 67, 0, 0, 0, 75, 0, 0, 0, 83, 0, 0, 0, 91, 0, 0, 0, 142, 0, 0, 0, 151, 0, 0, 0, 156]
abbrev dktX1_count_1 : List UInt8 := dkwX1_count_1 ++ dktX1_count_2
def dkwX1_count_0 : List UInt8 := [27]
abbrev dktX1_count_0 : List UInt8 := dkwX1_count_0 ++ dktX1_count_1
theorem dksX1_count_0 : cX1_count.data.toList.drop 0 = dktX1_count_0 := by decide +kernel
theorem dksX1_count_1 : cX1_count.data.toList.drop 1 = dktX1_count_1 := dk_seg dksX1_count_0 1 rfl rfl
theorem dksX1_count_2 : cX1_count.data.toList.drop 52 = dktX1_count_2 := dk_seg dksX1_count_1 51 rfl rfl
theorem dksX1_count_3 : cX1_count.data.toList.drop 76 = dktX1_count_3 := dk_seg dksX1_count_2 24 rfl rfl
theorem dksX1_count_4 : cX1_count.data.toList.drop 98 = dktX1_count_4 := dk_seg dksX1_count_3 22 rfl rfl
theorem dksX1_count_5 : cX1_count.data.toList.drop 122 = dktX1_count_5 := dk_seg dksX1_count_4 24 rfl rfl
theorem dksX1_count_6 : cX1_count.data.toList.drop 145 = dktX1_count_6 := dk_seg dksX1_count_5 23 rfl rfl
theorem dX1_count_0 : decode cX1_count 0 = .ok (.iload_n 1, 1) := dk_27 (dk_at dksX1_count_0 0 rfl rfl)
theorem dX1_count_1 : decode cX1_count 1 = .ok (.tableswitch 161 0 8 #[51, 59, 67, 75, 83, 91, 142, 151, 156], 51) := by decide +kernel
theorem dX1_count_52 : decode cX1_count 52 = .ok (.aload_n 0, 1) := dk_42 (dk_at dksX1_count_2 0 rfl rfl)
theorem dX1_count_53 : decode cX1_count 53 = .ok (.getfield 33, 3) := dk_180 0 33 (dk_at dksX1_count_2 1 rfl rfl)
theorem dX1_count_56 : decode cX1_count 56 = .ok (.getfield 119, 3) := dk_180 0 119 (dk_at dksX1_count_2 4 rfl rfl)
theorem dX1_count_59 : decode cX1_count 59 = .ok (.ireturn, 1) := dk_172 (dk_at dksX1_count_2 7 rfl rfl)
theorem dX1_count_60 : decode cX1_count 60 = .ok (.aload_n 0, 1) := dk_42 (dk_at dksX1_count_2 8 rfl rfl)
theorem dX1_count_61 : decode cX1_count 61 = .ok (.getfield 33, 3) := dk_180 0 33 (dk_at dksX1_count_2 9 rfl rfl)
theorem dX1_count_64 : decode cX1_count 64 = .ok (.getfield 129, 3) := dk_180 0 129 (dk_at dksX1_count_2 12 rfl rfl)
theorem dX1_count_67 : decode cX1_count 67 = .ok (.ireturn, 1) := dk_172 (dk_at dksX1_count_2 15 rfl rfl)
theorem dX1_count_68 : decode cX1_count 68 = .ok (.aload_n 0, 1) := dk_42 (dk_at dksX1_count_2 16 rfl rfl)
theorem dX1_count_69 : decode cX1_count 69 = .ok (.getfield 33, 3) := dk_180 0 33 (dk_at dksX1_count_2 17 rfl rfl)
theorem dX1_count_72 : decode cX1_count 72 = .ok (.getfield 338, 3) := dk_180 1 82 (dk_at dksX1_count_2 20 rfl rfl)
theorem dX1_count_75 : decode cX1_count 75 = .ok (.ireturn, 1) := dk_172 (dk_at dksX1_count_2 23 rfl rfl)
theorem dX1_count_76 : decode cX1_count 76 = .ok (.aload_n 0, 1) := dk_42 (dk_at dksX1_count_3 0 rfl rfl)
theorem dX1_count_77 : decode cX1_count 77 = .ok (.getfield 33, 3) := dk_180 0 33 (dk_at dksX1_count_3 1 rfl rfl)
theorem dX1_count_80 : decode cX1_count 80 = .ok (.getfield 339, 3) := dk_180 1 83 (dk_at dksX1_count_3 4 rfl rfl)
theorem dX1_count_83 : decode cX1_count 83 = .ok (.ireturn, 1) := dk_172 (dk_at dksX1_count_3 7 rfl rfl)
theorem dX1_count_84 : decode cX1_count 84 = .ok (.aload_n 0, 1) := dk_42 (dk_at dksX1_count_3 8 rfl rfl)
theorem dX1_count_85 : decode cX1_count 85 = .ok (.getfield 33, 3) := dk_180 0 33 (dk_at dksX1_count_3 9 rfl rfl)
theorem dX1_count_88 : decode cX1_count 88 = .ok (.getfield 340, 3) := dk_180 1 84 (dk_at dksX1_count_3 12 rfl rfl)
theorem dX1_count_91 : decode cX1_count 91 = .ok (.ireturn, 1) := dk_172 (dk_at dksX1_count_3 15 rfl rfl)
theorem dX1_count_92 : decode cX1_count 92 = .ok (.iconst 0, 1) := dk_3 (dk_at dksX1_count_3 16 rfl rfl)
theorem dX1_count_93 : decode cX1_count 93 = .ok (.istore_n 2, 1) := dk_61 (dk_at dksX1_count_3 17 rfl rfl)
theorem dX1_count_94 : decode cX1_count 94 = .ok (.aload_n 0, 1) := dk_42 (dk_at dksX1_count_3 18 rfl rfl)
theorem dX1_count_95 : decode cX1_count 95 = .ok (.getfield 40, 3) := dk_180 0 40 (dk_at dksX1_count_3 19 rfl rfl)
theorem dX1_count_98 : decode cX1_count 98 = .ok (.getfield 142, 3) := dk_180 0 142 (dk_at dksX1_count_4 0 rfl rfl)
theorem dX1_count_101 : decode cX1_count 101 = .ok (.astore_n 3, 1) := dk_78 (dk_at dksX1_count_4 3 rfl rfl)
theorem dX1_count_102 : decode cX1_count 102 = .ok (.aload_n 3, 1) := dk_45 (dk_at dksX1_count_4 4 rfl rfl)
theorem dX1_count_103 : decode cX1_count 103 = .ok (.arraylength, 1) := dk_190 (dk_at dksX1_count_4 5 rfl rfl)
theorem dX1_count_104 : decode cX1_count 104 = .ok (.istore 4, 2) := dk_54 4 (dk_at dksX1_count_4 6 rfl rfl)
theorem dX1_count_106 : decode cX1_count 106 = .ok (.iconst 0, 1) := dk_3 (dk_at dksX1_count_4 8 rfl rfl)
theorem dX1_count_107 : decode cX1_count 107 = .ok (.istore 5, 2) := dk_54 5 (dk_at dksX1_count_4 9 rfl rfl)
theorem dX1_count_109 : decode cX1_count 109 = .ok (.iload 5, 2) := dk_21 5 (dk_at dksX1_count_4 11 rfl rfl)
theorem dX1_count_111 : decode cX1_count 111 = .ok (.iload 4, 2) := dk_21 4 (dk_at dksX1_count_4 13 rfl rfl)
theorem dX1_count_113 : decode cX1_count 113 = .ok (.if_icmp .ge 28, 3) := dk_162 0 28 (dk_at dksX1_count_4 15 rfl rfl)
theorem dX1_count_116 : decode cX1_count 116 = .ok (.aload_n 3, 1) := dk_45 (dk_at dksX1_count_4 18 rfl rfl)
theorem dX1_count_117 : decode cX1_count 117 = .ok (.iload 5, 2) := dk_21 5 (dk_at dksX1_count_4 19 rfl rfl)
theorem dX1_count_119 : decode cX1_count 119 = .ok (.baload, 1) := dk_51 (dk_at dksX1_count_4 21 rfl rfl)
theorem dX1_count_120 : decode cX1_count 120 = .ok (.istore 6, 2) := dk_54 6 (dk_at dksX1_count_4 22 rfl rfl)
theorem dX1_count_122 : decode cX1_count 122 = .ok (.iload_n 2, 1) := dk_28 (dk_at dksX1_count_5 0 rfl rfl)
theorem dX1_count_123 : decode cX1_count 123 = .ok (.iload 6, 2) := dk_21 6 (dk_at dksX1_count_5 1 rfl rfl)
theorem dX1_count_125 : decode cX1_count 125 = .ok (.ifCond .eq 7, 3) := dk_153 0 7 (dk_at dksX1_count_5 3 rfl rfl)
theorem dX1_count_128 : decode cX1_count 128 = .ok (.iconst 1, 1) := dk_4 (dk_at dksX1_count_5 6 rfl rfl)
theorem dX1_count_129 : decode cX1_count 129 = .ok (.goto 4, 3) := dk_167 0 4 (dk_at dksX1_count_5 7 rfl rfl)
theorem dX1_count_132 : decode cX1_count 132 = .ok (.iconst 0, 1) := dk_3 (dk_at dksX1_count_5 10 rfl rfl)
theorem dX1_count_133 : decode cX1_count 133 = .ok (.iadd, 1) := dk_96 (dk_at dksX1_count_5 11 rfl rfl)
theorem dX1_count_134 : decode cX1_count 134 = .ok (.istore_n 2, 1) := dk_61 (dk_at dksX1_count_5 12 rfl rfl)
theorem dX1_count_135 : decode cX1_count 135 = .ok (.iinc 5 1, 3) := dk_132 5 1 (dk_at dksX1_count_5 13 rfl rfl)
theorem dX1_count_138 : decode cX1_count 138 = .ok (.goto (-29), 3) := dk_167 255 227 (dk_at dksX1_count_5 16 rfl rfl)
theorem dX1_count_141 : decode cX1_count 141 = .ok (.iload_n 2, 1) := dk_28 (dk_at dksX1_count_5 19 rfl rfl)
theorem dX1_count_142 : decode cX1_count 142 = .ok (.ireturn, 1) := dk_172 (dk_at dksX1_count_5 20 rfl rfl)
theorem dX1_count_143 : decode cX1_count 143 = .ok (.aload_n 0, 1) := dk_42 (dk_at dksX1_count_5 21 rfl rfl)
theorem dX1_count_144 : decode cX1_count 144 = .ok (.aload_n 0, 1) := dk_42 (dk_at dksX1_count_5 22 rfl rfl)
theorem dX1_count_145 : decode cX1_count 145 = .ok (.getfield 40, 3) := dk_180 0 40 (dk_at dksX1_count_6 0 rfl rfl)
theorem dX1_count_148 : decode cX1_count 148 = .ok (.invokevirtual 125, 3) := dk_182 0 125 (dk_at dksX1_count_6 3 rfl rfl)
theorem dX1_count_151 : decode cX1_count 151 = .ok (.ireturn, 1) := dk_172 (dk_at dksX1_count_6 6 rfl rfl)
theorem dX1_count_152 : decode cX1_count 152 = .ok (.aload_n 0, 1) := dk_42 (dk_at dksX1_count_6 7 rfl rfl)
theorem dX1_count_153 : decode cX1_count 153 = .ok (.getfield 108, 3) := dk_180 0 108 (dk_at dksX1_count_6 8 rfl rfl)
theorem dX1_count_156 : decode cX1_count 156 = .ok (.ireturn, 1) := dk_172 (dk_at dksX1_count_6 11 rfl rfl)
theorem dX1_count_157 : decode cX1_count 157 = .ok (.aload_n 0, 1) := dk_42 (dk_at dksX1_count_6 12 rfl rfl)
theorem dX1_count_158 : decode cX1_count 158 = .ok (.getfield 72, 3) := dk_180 0 72 (dk_at dksX1_count_6 13 rfl rfl)
theorem dX1_count_161 : decode cX1_count 161 = .ok (.ireturn, 1) := dk_172 (dk_at dksX1_count_6 16 rfl rfl)
theorem dX1_count_162 : decode cX1_count 162 = .ok (.iconst (-1), 1) := dk_2 (dk_at dksX1_count_6 17 rfl rfl)
theorem dX1_count_163 : decode cX1_count 163 = .ok (.ireturn, 1) := dk_172 (dk_at dksX1_count_6 18 rfl rfl)
abbrev cX1_user : ByteArray := prog_1_method_32_code
def yX1_user : MethodName := ⟨RX1, "user", "(II)I"⟩
def dkwX1_user_5 : List UInt8 := [167, 0, 4, 3, 172, 42, 180, 0, 40, 180, 0, 149, 27, 46, 172, 187, 0, 215, 89, 183, 0, 217, 191]
abbrev dktX1_user_5 : List UInt8 := dkwX1_user_5 ++ []
def dkwX1_user_4 : List UInt8 := [172, 42, 180, 0, 40, 180, 0, 122, 27, 46, 172, 42, 42, 180, 0, 40, 27, 182, 0, 172, 153, 0, 7, 4]
abbrev dktX1_user_4 : List UInt8 := dkwX1_user_4 ++ dktX1_user_5
def dkwX1_user_3 : List UInt8 := [45, 180, 0, 212, 172, 42, 180, 0, 40, 180, 0, 146, 27, 46, 172, 45, 180, 0, 164, 172, 45, 180, 0, 169]
abbrev dktX1_user_3 : List UInt8 := dkwX1_user_3 ++ dktX1_user_4
def dkwX1_user_2 : List UInt8 := [170, 0, 0, 0, 104, 0, 0, 0, 0, 0, 0, 0, 6, 0, 0, 0, 41, 0, 0, 0, 46, 0, 0, 0, 56, 0, 0, 0, 61, 0, 0, 0, 66, 0, 0, 0, 76, 0, 0, 0, 94]
abbrev dktX1_user_2 : List UInt8 := dkwX1_user_2 ++ dktX1_user_3
def dkwX1_user_1 : List UInt8 := [50, 78, 28]
abbrev dktX1_user_1 : List UInt8 := dkwX1_user_1 ++ dktX1_user_2
def dkwX1_user_0 : List UInt8 := [42, 27, 182, 0, 132, 154, 0, 11, 187, 0, 209, 89, 183, 0, 211, 191, 42, 180, 0, 33, 180, 0, 160, 27]
abbrev dktX1_user_0 : List UInt8 := dkwX1_user_0 ++ dktX1_user_1
theorem dksX1_user_0 : cX1_user.data.toList.drop 0 = dktX1_user_0 := by decide +kernel
theorem dksX1_user_1 : cX1_user.data.toList.drop 24 = dktX1_user_1 := dk_seg dksX1_user_0 24 rfl rfl
theorem dksX1_user_2 : cX1_user.data.toList.drop 27 = dktX1_user_2 := dk_seg dksX1_user_1 3 rfl rfl
theorem dksX1_user_3 : cX1_user.data.toList.drop 68 = dktX1_user_3 := dk_seg dksX1_user_2 41 rfl rfl
theorem dksX1_user_4 : cX1_user.data.toList.drop 92 = dktX1_user_4 := dk_seg dksX1_user_3 24 rfl rfl
theorem dksX1_user_5 : cX1_user.data.toList.drop 116 = dktX1_user_5 := dk_seg dksX1_user_4 24 rfl rfl
theorem dX1_user_0 : decode cX1_user 0 = .ok (.aload_n 0, 1) := dk_42 (dk_at dksX1_user_0 0 rfl rfl)
theorem dX1_user_1 : decode cX1_user 1 = .ok (.iload_n 1, 1) := dk_27 (dk_at dksX1_user_0 1 rfl rfl)
theorem dX1_user_2 : decode cX1_user 2 = .ok (.invokevirtual 132, 3) := dk_182 0 132 (dk_at dksX1_user_0 2 rfl rfl)
theorem dX1_user_5 : decode cX1_user 5 = .ok (.ifCond .ne 11, 3) := dk_154 0 11 (dk_at dksX1_user_0 5 rfl rfl)
theorem dX1_user_8 : decode cX1_user 8 = .ok (.new 209, 3) := dk_187 0 209 (dk_at dksX1_user_0 8 rfl rfl)
theorem dX1_user_11 : decode cX1_user 11 = .ok (.dup, 1) := dk_89 (dk_at dksX1_user_0 11 rfl rfl)
theorem dX1_user_12 : decode cX1_user 12 = .ok (.invokespecial 211, 3) := dk_183 0 211 (dk_at dksX1_user_0 12 rfl rfl)
theorem dX1_user_15 : decode cX1_user 15 = .ok (.athrow, 1) := dk_191 (dk_at dksX1_user_0 15 rfl rfl)
theorem dX1_user_16 : decode cX1_user 16 = .ok (.aload_n 0, 1) := dk_42 (dk_at dksX1_user_0 16 rfl rfl)
theorem dX1_user_17 : decode cX1_user 17 = .ok (.getfield 33, 3) := dk_180 0 33 (dk_at dksX1_user_0 17 rfl rfl)
theorem dX1_user_20 : decode cX1_user 20 = .ok (.getfield 160, 3) := dk_180 0 160 (dk_at dksX1_user_0 20 rfl rfl)
theorem dX1_user_23 : decode cX1_user 23 = .ok (.iload_n 1, 1) := dk_27 (dk_at dksX1_user_0 23 rfl rfl)
theorem dX1_user_24 : decode cX1_user 24 = .ok (.aaload, 1) := dk_50 (dk_at dksX1_user_1 0 rfl rfl)
theorem dX1_user_25 : decode cX1_user 25 = .ok (.astore_n 3, 1) := dk_78 (dk_at dksX1_user_1 1 rfl rfl)
theorem dX1_user_26 : decode cX1_user 26 = .ok (.iload_n 2, 1) := dk_28 (dk_at dksX1_user_1 2 rfl rfl)
theorem dX1_user_27 : decode cX1_user 27 = .ok (.tableswitch 104 0 6 #[41, 46, 56, 61, 66, 76, 94], 41) := by decide +kernel
theorem dX1_user_68 : decode cX1_user 68 = .ok (.aload_n 3, 1) := dk_45 (dk_at dksX1_user_3 0 rfl rfl)
theorem dX1_user_69 : decode cX1_user 69 = .ok (.getfield 212, 3) := dk_180 0 212 (dk_at dksX1_user_3 1 rfl rfl)
theorem dX1_user_72 : decode cX1_user 72 = .ok (.ireturn, 1) := dk_172 (dk_at dksX1_user_3 4 rfl rfl)
theorem dX1_user_73 : decode cX1_user 73 = .ok (.aload_n 0, 1) := dk_42 (dk_at dksX1_user_3 5 rfl rfl)
theorem dX1_user_74 : decode cX1_user 74 = .ok (.getfield 40, 3) := dk_180 0 40 (dk_at dksX1_user_3 6 rfl rfl)
theorem dX1_user_77 : decode cX1_user 77 = .ok (.getfield 146, 3) := dk_180 0 146 (dk_at dksX1_user_3 9 rfl rfl)
theorem dX1_user_80 : decode cX1_user 80 = .ok (.iload_n 1, 1) := dk_27 (dk_at dksX1_user_3 12 rfl rfl)
theorem dX1_user_81 : decode cX1_user 81 = .ok (.iaload, 1) := dk_46 (dk_at dksX1_user_3 13 rfl rfl)
theorem dX1_user_82 : decode cX1_user 82 = .ok (.ireturn, 1) := dk_172 (dk_at dksX1_user_3 14 rfl rfl)
theorem dX1_user_83 : decode cX1_user 83 = .ok (.aload_n 3, 1) := dk_45 (dk_at dksX1_user_3 15 rfl rfl)
theorem dX1_user_84 : decode cX1_user 84 = .ok (.getfield 164, 3) := dk_180 0 164 (dk_at dksX1_user_3 16 rfl rfl)
theorem dX1_user_87 : decode cX1_user 87 = .ok (.ireturn, 1) := dk_172 (dk_at dksX1_user_3 19 rfl rfl)
theorem dX1_user_88 : decode cX1_user 88 = .ok (.aload_n 3, 1) := dk_45 (dk_at dksX1_user_3 20 rfl rfl)
theorem dX1_user_89 : decode cX1_user 89 = .ok (.getfield 169, 3) := dk_180 0 169 (dk_at dksX1_user_3 21 rfl rfl)
theorem dX1_user_92 : decode cX1_user 92 = .ok (.ireturn, 1) := dk_172 (dk_at dksX1_user_4 0 rfl rfl)
theorem dX1_user_93 : decode cX1_user 93 = .ok (.aload_n 0, 1) := dk_42 (dk_at dksX1_user_4 1 rfl rfl)
theorem dX1_user_94 : decode cX1_user 94 = .ok (.getfield 40, 3) := dk_180 0 40 (dk_at dksX1_user_4 2 rfl rfl)
theorem dX1_user_97 : decode cX1_user 97 = .ok (.getfield 122, 3) := dk_180 0 122 (dk_at dksX1_user_4 5 rfl rfl)
theorem dX1_user_100 : decode cX1_user 100 = .ok (.iload_n 1, 1) := dk_27 (dk_at dksX1_user_4 8 rfl rfl)
theorem dX1_user_101 : decode cX1_user 101 = .ok (.iaload, 1) := dk_46 (dk_at dksX1_user_4 9 rfl rfl)
theorem dX1_user_102 : decode cX1_user 102 = .ok (.ireturn, 1) := dk_172 (dk_at dksX1_user_4 10 rfl rfl)
theorem dX1_user_103 : decode cX1_user 103 = .ok (.aload_n 0, 1) := dk_42 (dk_at dksX1_user_4 11 rfl rfl)
theorem dX1_user_104 : decode cX1_user 104 = .ok (.aload_n 0, 1) := dk_42 (dk_at dksX1_user_4 12 rfl rfl)
theorem dX1_user_105 : decode cX1_user 105 = .ok (.getfield 40, 3) := dk_180 0 40 (dk_at dksX1_user_4 13 rfl rfl)
theorem dX1_user_108 : decode cX1_user 108 = .ok (.iload_n 1, 1) := dk_27 (dk_at dksX1_user_4 16 rfl rfl)
theorem dX1_user_109 : decode cX1_user 109 = .ok (.invokevirtual 172, 3) := dk_182 0 172 (dk_at dksX1_user_4 17 rfl rfl)
theorem dX1_user_112 : decode cX1_user 112 = .ok (.ifCond .eq 7, 3) := dk_153 0 7 (dk_at dksX1_user_4 20 rfl rfl)
theorem dX1_user_115 : decode cX1_user 115 = .ok (.iconst 1, 1) := dk_4 (dk_at dksX1_user_4 23 rfl rfl)
theorem dX1_user_116 : decode cX1_user 116 = .ok (.goto 4, 3) := dk_167 0 4 (dk_at dksX1_user_5 0 rfl rfl)
theorem dX1_user_119 : decode cX1_user 119 = .ok (.iconst 0, 1) := dk_3 (dk_at dksX1_user_5 3 rfl rfl)
theorem dX1_user_120 : decode cX1_user 120 = .ok (.ireturn, 1) := dk_172 (dk_at dksX1_user_5 4 rfl rfl)
theorem dX1_user_121 : decode cX1_user 121 = .ok (.aload_n 0, 1) := dk_42 (dk_at dksX1_user_5 5 rfl rfl)
theorem dX1_user_122 : decode cX1_user 122 = .ok (.getfield 40, 3) := dk_180 0 40 (dk_at dksX1_user_5 6 rfl rfl)
theorem dX1_user_125 : decode cX1_user 125 = .ok (.getfield 149, 3) := dk_180 0 149 (dk_at dksX1_user_5 9 rfl rfl)
theorem dX1_user_128 : decode cX1_user 128 = .ok (.iload_n 1, 1) := dk_27 (dk_at dksX1_user_5 12 rfl rfl)
theorem dX1_user_129 : decode cX1_user 129 = .ok (.iaload, 1) := dk_46 (dk_at dksX1_user_5 13 rfl rfl)
theorem dX1_user_130 : decode cX1_user 130 = .ok (.ireturn, 1) := dk_172 (dk_at dksX1_user_5 14 rfl rfl)
theorem dX1_user_131 : decode cX1_user 131 = .ok (.new 215, 3) := dk_187 0 215 (dk_at dksX1_user_5 15 rfl rfl)
theorem dX1_user_134 : decode cX1_user 134 = .ok (.dup, 1) := dk_89 (dk_at dksX1_user_5 18 rfl rfl)
theorem dX1_user_135 : decode cX1_user 135 = .ok (.invokespecial 217, 3) := dk_183 0 217 (dk_at dksX1_user_5 19 rfl rfl)
theorem dX1_user_138 : decode cX1_user 138 = .ok (.athrow, 1) := dk_191 (dk_at dksX1_user_5 22 rfl rfl)
theorem q113 : (Jvm.Cond.initialized "QuietChannels") ∈ lw_all := lw_g (lw_at lw_m1 1 rfl) rfl
theorem q137 : (Jvm.Cond.instantiable "QuietChannels" (15 : Nat)) ∈ lw_all := lw_g (lw_at lw_m1 25 rfl) rfl
theorem q139 : (Jvm.Cond.instanceMethod ({ cls := "QuietChannels", name := "<init>", desc := "()V" } : Jvm.MethodName)) ∈ lw_all := lw_g (lw_at lw_m1 27 rfl) rfl
theorem q140 : (Jvm.Cond.code ({ cls := "QuietChannels", name := "<init>", desc := "()V" } : Jvm.MethodName) prog_1_method_2_code (1 : Nat) (Option.none : Option Jvm.ClassFile.FieldType)) ∈ lw_all := lw_g (lw_at lw_m1 28 rfl) rfl
theorem q141 : (Jvm.Cond.methodLink "QuietChannels" (16 : Nat) ({ cls := "java/lang/Object", name := "<init>", desc := "()V" } : Jvm.MethodName)) ∈ lw_all := lw_g (lw_at lw_m1 29 rfl) rfl
theorem q144 : (Jvm.Cond.classLink "QuietChannels" (30 : Nat) "QuietChannels$Told") ∈ lw_all := lw_g (lw_at lw_m1 32 rfl) rfl
theorem q146 : (Jvm.Cond.methodLinkNest "QuietChannels" (32 : Nat) ({ cls := "QuietChannels$Told", name := "<init>", desc := "()V" } : Jvm.MethodName) "QuietChannels") ∈ lw_tbl := lw_at lw_m1 34 rfl
theorem q157 : (Jvm.Cond.fieldLinkNest "QuietChannels" (160 : Nat) "QuietChannels$Told" "users" "[LQuietChannels$User;" "QuietChannels") ∈ lw_tbl := lw_at lw_m1 45 rfl
theorem q167 : (Jvm.Cond.fieldLinkNest "QuietChannels" (302 : Nat) "QuietChannels$Told" "links" "[I" "QuietChannels") ∈ lw_tbl := lw_at lw_m1 55 rfl
theorem q172 : (Jvm.Cond.fieldLinkNest "QuietChannels" (119 : Nat) "QuietChannels$Told" "many" "I" "QuietChannels") ∈ lw_tbl := lw_at lw_m1 60 rfl
theorem q180 : (Jvm.Cond.fieldLinkNest "QuietChannels" (129 : Nat) "QuietChannels$Told" "band" "I" "QuietChannels") ∈ lw_tbl := lw_at lw_m1 68 rfl
theorem q183 : (Jvm.Cond.fieldLinkNest "QuietChannels" (338 : Nat) "QuietChannels$Told" "guard" "I" "QuietChannels") ∈ lw_tbl := lw_at lw_m1 71 rfl
theorem q187 : (Jvm.Cond.fieldLinkNest "QuietChannels" (339 : Nat) "QuietChannels$Told" "space" "I" "QuietChannels") ∈ lw_tbl := lw_at lw_m1 75 rfl
theorem q191 : (Jvm.Cond.fieldLinkNest "QuietChannels" (340 : Nat) "QuietChannels$Told" "orders" "I" "QuietChannels") ∈ lw_tbl := lw_at lw_m1 79 rfl
theorem q193 : (Jvm.Cond.fieldLinkNest "QuietChannels" (332 : Nat) "QuietChannels$Told" "seed" "I" "QuietChannels") ∈ lw_tbl := lw_at lw_m1 81 rfl
theorem q194 : (Jvm.Cond.fieldLinkNest "QuietChannels" (97 : Nat) "QuietChannels$Told" "lines" "I" "QuietChannels") ∈ lw_tbl := lw_at lw_m1 82 rfl
theorem q226 : (Jvm.Cond.classLink "QuietChannels" (37 : Nat) "QuietChannels$Plan") ∈ lw_all := lw_g (lw_at lw_m1 114 rfl) rfl
theorem q228 : (Jvm.Cond.methodLinkNest "QuietChannels" (39 : Nat) ({ cls := "QuietChannels$Plan", name := "<init>", desc := "()V" } : Jvm.MethodName) "QuietChannels") ∈ lw_tbl := lw_at lw_m1 116 rfl
theorem q235 : (Jvm.Cond.fieldLinkNest "QuietChannels" (122 : Nat) "QuietChannels$Plan" "channel" "[I" "QuietChannels") ∈ lw_tbl := lw_at lw_m1 123 rfl
theorem q238 : (Jvm.Cond.fieldLinkNest "QuietChannels" (146 : Nat) "QuietChannels$Plan" "power" "[I" "QuietChannels") ∈ lw_tbl := lw_at lw_m1 126 rfl
theorem q241 : (Jvm.Cond.fieldLinkNest "QuietChannels" (149 : Nat) "QuietChannels$Plan" "slots" "[I" "QuietChannels") ∈ lw_tbl := lw_at lw_m1 129 rfl
theorem q243 : (Jvm.Cond.fieldLinkNest "QuietChannels" (142 : Nat) "QuietChannels$Plan" "isBlocked" "[Z" "QuietChannels") ∈ lw_tbl := lw_at lw_m1 131 rfl
theorem q255 : (Jvm.Cond.classLink "QuietChannels" (54 : Nat) "QuietChannels$Air") ∈ lw_all := lw_g (lw_at lw_m1 143 rfl) rfl
theorem q257 : (Jvm.Cond.methodLink "QuietChannels" (56 : Nat) ({ cls := "QuietChannels$Air", name := "<init>", desc := "(LQuietChannels;I)V" } : Jvm.MethodName)) ∈ lw_all := lw_g (lw_at lw_m1 145 rfl) rfl
theorem q267 : (Jvm.Cond.fieldLinkNest "QuietChannels" (315 : Nat) "QuietChannels$Air" "site" "[I" "QuietChannels") ∈ lw_tbl := lw_at lw_m1 155 rfl
theorem q269 : (Jvm.Cond.fieldLinkNest "QuietChannels" (317 : Nat) "QuietChannels$Air" "power" "[I" "QuietChannels") ∈ lw_tbl := lw_at lw_m1 157 rfl
theorem q271 : (Jvm.Cond.fieldLinkNest "QuietChannels" (319 : Nat) "QuietChannels$Air" "channel" "[I" "QuietChannels") ∈ lw_tbl := lw_at lw_m1 159 rfl
theorem q273 : (Jvm.Cond.fieldLinkNest "QuietChannels" (255 : Nat) "QuietChannels$Air" "hit" "[I" "QuietChannels") ∈ lw_tbl := lw_at lw_m1 161 rfl
theorem q275 : (Jvm.Cond.fieldLinkNest "QuietChannels" (299 : Nat) "QuietChannels$Air" "made" "[I" "QuietChannels") ∈ lw_tbl := lw_at lw_m1 163 rfl
theorem q277 : (Jvm.Cond.fieldLinkNest "QuietChannels" (318 : Nat) "QuietChannels$Air" "slots" "[I" "QuietChannels") ∈ lw_tbl := lw_at lw_m1 165 rfl
theorem q279 : (Jvm.Cond.fieldLinkNest "QuietChannels" (282 : Nat) "QuietChannels$Air" "when" "[I" "QuietChannels") ∈ lw_tbl := lw_at lw_m1 167 rfl
theorem q281 : (Jvm.Cond.fieldLinkNest "QuietChannels" (285 : Nat) "QuietChannels$Air" "near" "[I" "QuietChannels") ∈ lw_tbl := lw_at lw_m1 169 rfl
theorem q283 : (Jvm.Cond.fieldLinkNest "QuietChannels" (276 : Nat) "QuietChannels$Air" "sorts" "[I" "QuietChannels") ∈ lw_tbl := lw_at lw_m1 171 rfl
theorem q285 : (Jvm.Cond.fieldLinkNest "QuietChannels" (314 : Nat) "QuietChannels$Air" "many" "I" "QuietChannels") ∈ lw_tbl := lw_at lw_m1 173 rfl
theorem q287 : (Jvm.Cond.fieldLinkNest "QuietChannels" (176 : Nat) "QuietChannels$Air" "band" "I" "QuietChannels") ∈ lw_tbl := lw_at lw_m1 175 rfl
theorem q289 : (Jvm.Cond.fieldLinkNest "QuietChannels" (308 : Nat) "QuietChannels$Air" "guard" "I" "QuietChannels") ∈ lw_tbl := lw_at lw_m1 177 rfl
theorem q291 : (Jvm.Cond.fieldLinkNest "QuietChannels" (296 : Nat) "QuietChannels$Air" "space" "I" "QuietChannels") ∈ lw_tbl := lw_at lw_m1 179 rfl
theorem q293 : (Jvm.Cond.fieldLinkNest "QuietChannels" (311 : Nat) "QuietChannels$Air" "orders" "I" "QuietChannels") ∈ lw_tbl := lw_at lw_m1 181 rfl
theorem q295 : (Jvm.Cond.fieldLinkNest "QuietChannels" (221 : Nat) "QuietChannels$Air" "products" "I" "QuietChannels") ∈ lw_tbl := lw_at lw_m1 183 rfl
theorem q297 : (Jvm.Cond.fieldLinkNest "QuietChannels" (224 : Nat) "QuietChannels$Air" "heard" "I" "QuietChannels") ∈ lw_tbl := lw_at lw_m1 185 rfl
theorem q299 : (Jvm.Cond.fieldLinkNest "QuietChannels" (227 : Nat) "QuietChannels$Air" "hits" "I" "QuietChannels") ∈ lw_tbl := lw_at lw_m1 187 rfl
theorem q301 : (Jvm.Cond.fieldLinkNest "QuietChannels" (230 : Nat) "QuietChannels$Air" "crowds" "I" "QuietChannels") ∈ lw_tbl := lw_at lw_m1 189 rfl
theorem q304 : (Jvm.Cond.fieldLinkNest "QuietChannels" (236 : Nat) "QuietChannels$Air" "sort" "I" "QuietChannels") ∈ lw_tbl := lw_at lw_m1 192 rfl
theorem q306 : (Jvm.Cond.fieldLinkNest "QuietChannels" (237 : Nat) "QuietChannels$Air" "a" "I" "QuietChannels") ∈ lw_tbl := lw_at lw_m1 194 rfl
theorem q308 : (Jvm.Cond.fieldLinkNest "QuietChannels" (240 : Nat) "QuietChannels$Air" "b" "I" "QuietChannels") ∈ lw_tbl := lw_at lw_m1 196 rfl
theorem q310 : (Jvm.Cond.fieldLinkNest "QuietChannels" (243 : Nat) "QuietChannels$Air" "c" "I" "QuietChannels") ∈ lw_tbl := lw_at lw_m1 198 rfl
theorem q312 : (Jvm.Cond.fieldLinkNest "QuietChannels" (246 : Nat) "QuietChannels$Air" "at" "I" "QuietChannels") ∈ lw_tbl := lw_at lw_m1 200 rfl
theorem q314 : (Jvm.Cond.fieldLinkNest "QuietChannels" (249 : Nat) "QuietChannels$Air" "level" "I" "QuietChannels") ∈ lw_tbl := lw_at lw_m1 202 rfl
theorem q316 : (Jvm.Cond.fieldLinkNest "QuietChannels" (252 : Nat) "QuietChannels$Air" "whom" "I" "QuietChannels") ∈ lw_tbl := lw_at lw_m1 204 rfl
theorem q318 : (Jvm.Cond.fieldLinkNest "QuietChannels" (279 : Nat) "QuietChannels$Air" "loudest" "I" "QuietChannels") ∈ lw_tbl := lw_at lw_m1 206 rfl
theorem q380 : (Jvm.Cond.methodLink "QuietChannels" (69 : Nat) ({ cls := "QuietChannels", name := "begin", desc := "()V" } : Jvm.MethodName)) ∈ lw_all := lw_g (lw_at lw_m2 28 rfl) rfl
theorem q381 : (Jvm.Cond.privateMethod ({ cls := "QuietChannels", name := "begin", desc := "()V" } : Jvm.MethodName)) ∈ lw_tbl := lw_at lw_m2 29 rfl
theorem q382 : (Jvm.Cond.instanceMethod ({ cls := "QuietChannels", name := "begin", desc := "()V" } : Jvm.MethodName)) ∈ lw_all := lw_g (lw_at lw_m2 30 rfl) rfl
theorem q383 : (Jvm.Cond.code ({ cls := "QuietChannels", name := "begin", desc := "()V" } : Jvm.MethodName) prog_1_method_9_code (1 : Nat) (Option.none : Option Jvm.ClassFile.FieldType)) ∈ lw_all := lw_g (lw_at lw_m2 31 rfl) rfl
theorem q384 : (Jvm.Cond.methodLink "QuietChannels" (104 : Nat) ({ cls := "QuietChannels$Plan", name := "fresh", desc := "(LQuietChannels$Told;)V" } : Jvm.MethodName)) ∈ lw_all := lw_g (lw_at lw_m2 32 rfl) rfl
theorem q388 : (Jvm.Cond.fieldLink "QuietChannels" (22 : Nat) "QuietChannels" "tape" "[B") ∈ lw_all := lw_g (lw_at lw_m2 36 rfl) rfl
theorem q390 : (Jvm.Cond.fieldLink "QuietChannels" (72 : Nat) "QuietChannels" "taped" "I") ∈ lw_all := lw_g (lw_at lw_m2 38 rfl) rfl
theorem q391 : (Jvm.Cond.fieldLink "QuietChannels" (79 : Nat) "QuietChannels" "fault" "I") ∈ lw_all := lw_g (lw_at lw_m2 39 rfl) rfl
theorem q392 : (Jvm.Cond.fieldLink "QuietChannels" (26 : Nat) "QuietChannels" "faultPlace" "I") ∈ lw_all := lw_g (lw_at lw_m2 40 rfl) rfl
theorem q394 : (Jvm.Cond.fieldLink "QuietChannels" (33 : Nat) "QuietChannels" "told" "LQuietChannels$Told;") ∈ lw_all := lw_g (lw_at lw_m2 42 rfl) rfl
theorem q396 : (Jvm.Cond.fieldLink "QuietChannels" (40 : Nat) "QuietChannels" "now" "LQuietChannels$Plan;") ∈ lw_all := lw_g (lw_at lw_m2 44 rfl) rfl
theorem q397 : (Jvm.Cond.fieldLink "QuietChannels" (44 : Nat) "QuietChannels" "image" "LQuietChannels$Plan;") ∈ lw_all := lw_g (lw_at lw_m2 45 rfl) rfl
theorem q398 : (Jvm.Cond.fieldLink "QuietChannels" (47 : Nat) "QuietChannels" "trial" "LQuietChannels$Plan;") ∈ lw_all := lw_g (lw_at lw_m2 46 rfl) rfl
theorem q399 : (Jvm.Cond.fieldLink "QuietChannels" (50 : Nat) "QuietChannels" "kept" "[LQuietChannels$Plan;") ∈ lw_all := lw_g (lw_at lw_m2 47 rfl) rfl
theorem q400 : (Jvm.Cond.fieldLink "QuietChannels" (108 : Nat) "QuietChannels" "acts" "I") ∈ lw_all := lw_g (lw_at lw_m2 48 rfl) rfl
theorem q401 : (Jvm.Cond.fieldLink "QuietChannels" (111 : Nat) "QuietChannels" "hasImage" "Z") ∈ lw_all := lw_g (lw_at lw_m2 49 rfl) rfl
theorem q402 : (Jvm.Cond.fieldLink "QuietChannels" (59 : Nat) "QuietChannels" "air" "LQuietChannels$Air;") ∈ lw_all := lw_g (lw_at lw_m2 50 rfl) rfl
theorem q403 : (Jvm.Cond.fieldLink "QuietChannels" (63 : Nat) "QuietChannels" "row" "LQuietChannels$Air;") ∈ lw_all := lw_g (lw_at lw_m2 51 rfl) rfl
theorem q404 : (Jvm.Cond.fieldLink "QuietChannels" (320 : Nat) "QuietChannels" "drawn" "J") ∈ lw_all := lw_g (lw_at lw_m2 52 rfl) rfl
theorem q405 : (Jvm.Cond.fieldLink "QuietChannels" (66 : Nat) "QuietChannels" "other" "LQuietChannels$Plan;") ∈ lw_all := lw_g (lw_at lw_m2 53 rfl) rfl
theorem q406 : (Jvm.Cond.laysFinal "QuietChannels" "QuietChannels" "tape" "[B") ∈ lw_all := lw_g (lw_at lw_m2 54 rfl) rfl
theorem q407 : (Jvm.Cond.soleField "QuietChannels" "tape") ∈ lw_all := lw_g (lw_at lw_m2 55 rfl) rfl
theorem q408 : (Jvm.Cond.lays "QuietChannels" "QuietChannels" "taped" "I") ∈ lw_all := lw_g (lw_at lw_m2 56 rfl) rfl
theorem q409 : (Jvm.Cond.soleField "QuietChannels" "taped") ∈ lw_all := lw_g (lw_at lw_m2 57 rfl) rfl
theorem q410 : (Jvm.Cond.lays "QuietChannels" "QuietChannels" "fault" "I") ∈ lw_all := lw_g (lw_at lw_m2 58 rfl) rfl
theorem q411 : (Jvm.Cond.soleField "QuietChannels" "fault") ∈ lw_all := lw_g (lw_at lw_m2 59 rfl) rfl
theorem q412 : (Jvm.Cond.lays "QuietChannels" "QuietChannels" "faultPlace" "I") ∈ lw_all := lw_g (lw_at lw_m2 60 rfl) rfl
theorem q413 : (Jvm.Cond.soleField "QuietChannels" "faultPlace") ∈ lw_all := lw_g (lw_at lw_m2 61 rfl) rfl
theorem q414 : (Jvm.Cond.lays "QuietChannels" "QuietChannels" "told" "LQuietChannels$Told;") ∈ lw_all := lw_g (lw_at lw_m2 62 rfl) rfl
theorem q415 : (Jvm.Cond.soleField "QuietChannels" "told") ∈ lw_all := lw_g (lw_at lw_m2 63 rfl) rfl
theorem q416 : (Jvm.Cond.laysFinal "QuietChannels" "QuietChannels" "now" "LQuietChannels$Plan;") ∈ lw_all := lw_g (lw_at lw_m2 64 rfl) rfl
theorem q417 : (Jvm.Cond.soleField "QuietChannels" "now") ∈ lw_all := lw_g (lw_at lw_m2 65 rfl) rfl
theorem q418 : (Jvm.Cond.laysFinal "QuietChannels" "QuietChannels" "image" "LQuietChannels$Plan;") ∈ lw_all := lw_g (lw_at lw_m2 66 rfl) rfl
theorem q419 : (Jvm.Cond.soleField "QuietChannels" "image") ∈ lw_all := lw_g (lw_at lw_m2 67 rfl) rfl
theorem q420 : (Jvm.Cond.laysFinal "QuietChannels" "QuietChannels" "trial" "LQuietChannels$Plan;") ∈ lw_all := lw_g (lw_at lw_m2 68 rfl) rfl
theorem q421 : (Jvm.Cond.soleField "QuietChannels" "trial") ∈ lw_all := lw_g (lw_at lw_m2 69 rfl) rfl
theorem q422 : (Jvm.Cond.laysFinal "QuietChannels" "QuietChannels" "kept" "[LQuietChannels$Plan;") ∈ lw_all := lw_g (lw_at lw_m2 70 rfl) rfl
theorem q423 : (Jvm.Cond.soleField "QuietChannels" "kept") ∈ lw_all := lw_g (lw_at lw_m2 71 rfl) rfl
theorem q424 : (Jvm.Cond.lays "QuietChannels" "QuietChannels" "acts" "I") ∈ lw_all := lw_g (lw_at lw_m2 72 rfl) rfl
theorem q425 : (Jvm.Cond.soleField "QuietChannels" "acts") ∈ lw_all := lw_g (lw_at lw_m2 73 rfl) rfl
theorem q426 : (Jvm.Cond.lays "QuietChannels" "QuietChannels" "hasImage" "Z") ∈ lw_all := lw_g (lw_at lw_m2 74 rfl) rfl
theorem q427 : (Jvm.Cond.soleField "QuietChannels" "hasImage") ∈ lw_all := lw_g (lw_at lw_m2 75 rfl) rfl
theorem q428 : (Jvm.Cond.laysFinal "QuietChannels" "QuietChannels" "air" "LQuietChannels$Air;") ∈ lw_all := lw_g (lw_at lw_m2 76 rfl) rfl
theorem q429 : (Jvm.Cond.soleField "QuietChannels" "air") ∈ lw_all := lw_g (lw_at lw_m2 77 rfl) rfl
theorem q430 : (Jvm.Cond.laysFinal "QuietChannels" "QuietChannels" "row" "LQuietChannels$Air;") ∈ lw_all := lw_g (lw_at lw_m2 78 rfl) rfl
theorem q431 : (Jvm.Cond.soleField "QuietChannels" "row") ∈ lw_all := lw_g (lw_at lw_m2 79 rfl) rfl
theorem q432 : (Jvm.Cond.lays "QuietChannels" "QuietChannels" "drawn" "J") ∈ lw_all := lw_g (lw_at lw_m2 80 rfl) rfl
theorem q433 : (Jvm.Cond.soleField "QuietChannels" "drawn") ∈ lw_all := lw_g (lw_at lw_m2 81 rfl) rfl
theorem q434 : (Jvm.Cond.laysFinal "QuietChannels" "QuietChannels" "other" "LQuietChannels$Plan;") ∈ lw_all := lw_g (lw_at lw_m2 82 rfl) rfl
theorem q435 : (Jvm.Cond.soleField "QuietChannels" "other") ∈ lw_all := lw_g (lw_at lw_m2 83 rfl) rfl
theorem q436 : (Jvm.Cond.superclass "QuietChannels" "java/lang/Object") ∈ lw_all := lw_g (lw_at lw_m2 84 rfl) rfl
theorem q438 : (Jvm.Cond.instanceMethod ({ cls := "QuietChannels", name := "feed", desc := "(IIIII)I" } : Jvm.MethodName)) ∈ lw_all := lw_g (lw_at lw_m2 86 rfl) rfl
theorem q439 : (Jvm.Cond.selects "QuietChannels" ({ cls := "QuietChannels", name := "feed", desc := "(IIIII)I" } : Jvm.MethodName) ({ cls := "QuietChannels", name := "feed", desc := "(IIIII)I" } : Jvm.MethodName)) ∈ lw_all := lw_g (lw_at lw_m2 87 rfl) rfl
theorem q440 : (Jvm.Cond.code ({ cls := "QuietChannels", name := "feed", desc := "(IIIII)I" } : Jvm.MethodName) prog_1_method_5_code (8 : Nat) (Option.some Jvm.ClassFile.FieldType.int)) ∈ lw_all := lw_g (lw_at lw_m2 88 rfl) rfl
theorem q442 : (Jvm.Cond.instanceMethod ({ cls := "QuietChannels", name := "text", desc := "(I)I" } : Jvm.MethodName)) ∈ lw_all := lw_g (lw_at lw_m2 90 rfl) rfl
theorem q443 : (Jvm.Cond.selects "QuietChannels" ({ cls := "QuietChannels", name := "text", desc := "(I)I" } : Jvm.MethodName) ({ cls := "QuietChannels", name := "text", desc := "(I)I" } : Jvm.MethodName)) ∈ lw_all := lw_g (lw_at lw_m2 91 rfl) rfl
theorem q444 : (Jvm.Cond.codeWith ({ cls := "QuietChannels", name := "text", desc := "(I)I" } : Jvm.MethodName) prog_1_method_6_code (3 : Nat) (Option.some Jvm.ClassFile.FieldType.int) [((30 : Nat), (46 : Nat), (49 : Nat), (89 : Nat))]) ∈ lw_all := lw_g (lw_at lw_m2 92 rfl) rfl
theorem q445 : (Jvm.Cond.classLink "QuietChannels" (89 : Nat) "QuietChannels$Fault") ∈ lw_all := lw_g (lw_at lw_m2 93 rfl) rfl
theorem q446 : (Jvm.Cond.methodLink "QuietChannels" (75 : Nat) ({ cls := "QuietChannels", name := "isIn", desc := "(III)Z" } : Jvm.MethodName)) ∈ lw_all := lw_g (lw_at lw_m2 94 rfl) rfl
theorem q447 : (Jvm.Cond.static ({ cls := "QuietChannels", name := "isIn", desc := "(III)Z" } : Jvm.MethodName)) ∈ lw_all := lw_g (lw_at lw_m2 95 rfl) rfl
theorem q448 : (Jvm.Cond.code ({ cls := "QuietChannels", name := "isIn", desc := "(III)Z" } : Jvm.MethodName) prog_1_method_3_code (3 : Nat) (Option.some Jvm.ClassFile.FieldType.boolean)) ∈ lw_all := lw_g (lw_at lw_m2 96 rfl) rfl
theorem q449 : (Jvm.Cond.classLink "QuietChannels" (82 : Nat) "QuietChannels$Reader") ∈ lw_all := lw_g (lw_at lw_m2 97 rfl) rfl
theorem q451 : (Jvm.Cond.methodLink "QuietChannels" (84 : Nat) ({ cls := "QuietChannels$Reader", name := "<init>", desc := "(LQuietChannels;I)V" } : Jvm.MethodName)) ∈ lw_all := lw_g (lw_at lw_m2 99 rfl) rfl
theorem q616 : (Jvm.Cond.methodLink "QuietChannels" (85 : Nat) ({ cls := "QuietChannels$Reader", name := "text", desc := "()LQuietChannels$Told;" } : Jvm.MethodName)) ∈ lw_all := lw_g (lw_at lw_m3 24 rfl) rfl
theorem q674 : (Jvm.Cond.fieldLinkNest "QuietChannels" (91 : Nat) "QuietChannels$Fault" "sort" "I" "QuietChannels") ∈ lw_tbl := lw_at lw_m3 82 rfl
theorem q676 : (Jvm.Cond.fieldLinkNest "QuietChannels" (94 : Nat) "QuietChannels$Fault" "place" "I" "QuietChannels") ∈ lw_tbl := lw_at lw_m3 84 rfl
theorem q720 : (Jvm.Cond.fieldLinkNest "QuietChannels" (212 : Nat) "QuietChannels$User" "site" "I" "QuietChannels") ∈ lw_tbl := lw_at lw_m3 128 rfl
theorem q725 : (Jvm.Cond.fieldLinkNest "QuietChannels" (164 : Nat) "QuietChannels$User" "low" "I" "QuietChannels") ∈ lw_tbl := lw_at lw_m3 133 rfl
theorem q728 : (Jvm.Cond.fieldLinkNest "QuietChannels" (169 : Nat) "QuietChannels$User" "high" "I" "QuietChannels") ∈ lw_tbl := lw_at lw_m3 136 rfl
theorem q770 : (Jvm.Cond.instanceMethod ({ cls := "QuietChannels", name := "fault", desc := "(I)I" } : Jvm.MethodName)) ∈ lw_all := lw_g (lw_at lw_m3 178 rfl) rfl
theorem q771 : (Jvm.Cond.selects "QuietChannels" ({ cls := "QuietChannels", name := "fault", desc := "(I)I" } : Jvm.MethodName) ({ cls := "QuietChannels", name := "fault", desc := "(I)I" } : Jvm.MethodName)) ∈ lw_all := lw_g (lw_at lw_m3 179 rfl) rfl
theorem q772 : (Jvm.Cond.code ({ cls := "QuietChannels", name := "fault", desc := "(I)I" } : Jvm.MethodName) prog_1_method_7_code (2 : Nat) (Option.some Jvm.ClassFile.FieldType.int)) ∈ lw_all := lw_g (lw_at lw_m3 180 rfl) rfl
theorem q774 : (Jvm.Cond.instanceMethod ({ cls := "QuietChannels", name := "named", desc := "(I)I" } : Jvm.MethodName)) ∈ lw_all := lw_g (lw_at lw_m3 182 rfl) rfl
theorem q775 : (Jvm.Cond.selects "QuietChannels" ({ cls := "QuietChannels", name := "named", desc := "(I)I" } : Jvm.MethodName) ({ cls := "QuietChannels", name := "named", desc := "(I)I" } : Jvm.MethodName)) ∈ lw_all := lw_g (lw_at lw_m3 183 rfl) rfl
theorem q776 : (Jvm.Cond.code ({ cls := "QuietChannels", name := "named", desc := "(I)I" } : Jvm.MethodName) prog_1_method_8_code (2 : Nat) (Option.some Jvm.ClassFile.FieldType.int)) ∈ lw_all := lw_g (lw_at lw_m3 184 rfl) rfl
theorem q777 : (Jvm.Cond.methodLink "QuietChannels" (100 : Nat) ({ cls := "QuietChannels$Told", name := "user", desc := "(I)I" } : Jvm.MethodName)) ∈ lw_all := lw_g (lw_at lw_m3 185 rfl) rfl
theorem q779 : (Jvm.Cond.instanceMethod ({ cls := "QuietChannels", name := "undo", desc := "()I" } : Jvm.MethodName)) ∈ lw_all := lw_g (lw_at lw_m3 187 rfl) rfl
theorem q780 : (Jvm.Cond.selects "QuietChannels" ({ cls := "QuietChannels", name := "undo", desc := "()I" } : Jvm.MethodName) ({ cls := "QuietChannels", name := "undo", desc := "()I" } : Jvm.MethodName)) ∈ lw_all := lw_g (lw_at lw_m3 188 rfl) rfl
theorem q781 : (Jvm.Cond.code ({ cls := "QuietChannels", name := "undo", desc := "()I" } : Jvm.MethodName) prog_1_method_11_code (1 : Nat) (Option.some Jvm.ClassFile.FieldType.int)) ∈ lw_all := lw_g (lw_at lw_m3 189 rfl) rfl
theorem q782 : (Jvm.Cond.methodLink "QuietChannels" (115 : Nat) ({ cls := "QuietChannels$Plan", name := "like", desc := "(LQuietChannels$Plan;)LQuietChannels$Plan;" } : Jvm.MethodName)) ∈ lw_all := lw_g (lw_at lw_m3 190 rfl) rfl
theorem q790 : (Jvm.Cond.instanceMethod ({ cls := "QuietChannels", name := "keep", desc := "()I" } : Jvm.MethodName)) ∈ lw_all := lw_g (lw_at lw_m3 198 rfl) rfl
theorem q791 : (Jvm.Cond.selects "QuietChannels" ({ cls := "QuietChannels", name := "keep", desc := "()I" } : Jvm.MethodName) ({ cls := "QuietChannels", name := "keep", desc := "()I" } : Jvm.MethodName)) ∈ lw_all := lw_g (lw_at lw_m3 199 rfl) rfl
theorem q792 : (Jvm.Cond.code ({ cls := "QuietChannels", name := "keep", desc := "()I" } : Jvm.MethodName) prog_1_method_13_code (1 : Nat) (Option.some Jvm.ClassFile.FieldType.int)) ∈ lw_all := lw_g (lw_at lw_m3 200 rfl) rfl
theorem q793 : (Jvm.Cond.methodLink "QuietChannels" (125 : Nat) ({ cls := "QuietChannels", name := "tuned", desc := "(LQuietChannels$Plan;)I" } : Jvm.MethodName)) ∈ lw_all := lw_g (lw_at lw_m3 201 rfl) rfl
theorem q794 : (Jvm.Cond.privateMethod ({ cls := "QuietChannels", name := "tuned", desc := "(LQuietChannels$Plan;)I" } : Jvm.MethodName)) ∈ lw_tbl := lw_at lw_m3 202 rfl
theorem q795 : (Jvm.Cond.instanceMethod ({ cls := "QuietChannels", name := "tuned", desc := "(LQuietChannels$Plan;)I" } : Jvm.MethodName)) ∈ lw_all := lw_g (lw_at lw_m3 203 rfl) rfl
theorem q796 : (Jvm.Cond.code ({ cls := "QuietChannels", name := "tuned", desc := "(LQuietChannels$Plan;)I" } : Jvm.MethodName) prog_1_method_12_code (4 : Nat) (Option.some Jvm.ClassFile.FieldType.int)) ∈ lw_all := lw_g (lw_at lw_m3 204 rfl) rfl
theorem q798 : (Jvm.Cond.instanceMethod ({ cls := "QuietChannels", name := "back", desc := "()I" } : Jvm.MethodName)) ∈ lw_all := lw_g (lw_at lw_m3 206 rfl) rfl
theorem q799 : (Jvm.Cond.selects "QuietChannels" ({ cls := "QuietChannels", name := "back", desc := "()I" } : Jvm.MethodName) ({ cls := "QuietChannels", name := "back", desc := "()I" } : Jvm.MethodName)) ∈ lw_all := lw_g (lw_at lw_m3 207 rfl) rfl
theorem q800 : (Jvm.Cond.code ({ cls := "QuietChannels", name := "back", desc := "()I" } : Jvm.MethodName) prog_1_method_14_code (1 : Nat) (Option.some Jvm.ClassFile.FieldType.int)) ∈ lw_all := lw_g (lw_at lw_m3 208 rfl) rfl
theorem q802 : (Jvm.Cond.instanceMethod ({ cls := "QuietChannels", name := "tune", desc := "(II)I" } : Jvm.MethodName)) ∈ lw_all := lw_g (lw_at lw_m3 210 rfl) rfl
theorem q803 : (Jvm.Cond.selects "QuietChannels" ({ cls := "QuietChannels", name := "tune", desc := "(II)I" } : Jvm.MethodName) ({ cls := "QuietChannels", name := "tune", desc := "(II)I" } : Jvm.MethodName)) ∈ lw_all := lw_g (lw_at lw_m3 211 rfl) rfl
theorem q804 : (Jvm.Cond.code ({ cls := "QuietChannels", name := "tune", desc := "(II)I" } : Jvm.MethodName) prog_1_method_17_code (4 : Nat) (Option.some Jvm.ClassFile.FieldType.int)) ∈ lw_all := lw_g (lw_at lw_m3 212 rfl) rfl
theorem q805 : (Jvm.Cond.methodLink "QuietChannels" (132 : Nat) ({ cls := "QuietChannels", name := "isUser", desc := "(I)Z" } : Jvm.MethodName)) ∈ lw_all := lw_g (lw_at lw_m3 213 rfl) rfl
theorem q806 : (Jvm.Cond.privateMethod ({ cls := "QuietChannels", name := "isUser", desc := "(I)Z" } : Jvm.MethodName)) ∈ lw_tbl := lw_at lw_m3 214 rfl
theorem q807 : (Jvm.Cond.instanceMethod ({ cls := "QuietChannels", name := "isUser", desc := "(I)Z" } : Jvm.MethodName)) ∈ lw_all := lw_g (lw_at lw_m3 215 rfl) rfl
theorem q808 : (Jvm.Cond.code ({ cls := "QuietChannels", name := "isUser", desc := "(I)Z" } : Jvm.MethodName) prog_1_method_15_code (2 : Nat) (Option.some Jvm.ClassFile.FieldType.boolean)) ∈ lw_all := lw_g (lw_at lw_m3 216 rfl) rfl
theorem q809 : (Jvm.Cond.methodLink "QuietChannels" (136 : Nat) ({ cls := "QuietChannels", name := "canUndo", desc := "()V" } : Jvm.MethodName)) ∈ lw_all := lw_g (lw_at lw_m3 217 rfl) rfl
theorem q810 : (Jvm.Cond.privateMethod ({ cls := "QuietChannels", name := "canUndo", desc := "()V" } : Jvm.MethodName)) ∈ lw_tbl := lw_at lw_m3 218 rfl
theorem q811 : (Jvm.Cond.instanceMethod ({ cls := "QuietChannels", name := "canUndo", desc := "()V" } : Jvm.MethodName)) ∈ lw_all := lw_g (lw_at lw_m3 219 rfl) rfl
theorem q812 : (Jvm.Cond.code ({ cls := "QuietChannels", name := "canUndo", desc := "()V" } : Jvm.MethodName) prog_1_method_10_code (2 : Nat) (Option.none : Option Jvm.ClassFile.FieldType)) ∈ lw_all := lw_g (lw_at lw_m3 220 rfl) rfl
theorem q813 : (Jvm.Cond.methodLink "QuietChannels" (7 : Nat) ({ cls := "java/lang/System", name := "arraycopy", desc := "(Ljava/lang/Object;ILjava/lang/Object;II)V" } : Jvm.MethodName)) ∈ lw_all := lw_g (lw_at lw_m3 221 rfl) rfl
theorem q815 : (Jvm.Cond.instanceMethod ({ cls := "QuietChannels", name := "block", desc := "(I)I" } : Jvm.MethodName)) ∈ lw_all := lw_g (lw_at lw_m3 223 rfl) rfl
theorem q816 : (Jvm.Cond.selects "QuietChannels" ({ cls := "QuietChannels", name := "block", desc := "(I)I" } : Jvm.MethodName) ({ cls := "QuietChannels", name := "block", desc := "(I)I" } : Jvm.MethodName)) ∈ lw_all := lw_g (lw_at lw_m3 224 rfl) rfl
theorem q817 : (Jvm.Cond.code ({ cls := "QuietChannels", name := "block", desc := "(I)I" } : Jvm.MethodName) prog_1_method_18_code (2 : Nat) (Option.some Jvm.ClassFile.FieldType.int)) ∈ lw_all := lw_g (lw_at lw_m3 225 rfl) rfl
theorem q818 : (Jvm.Cond.methodLink "QuietChannels" (139 : Nat) ({ cls := "QuietChannels", name := "isChannel", desc := "(I)Z" } : Jvm.MethodName)) ∈ lw_all := lw_g (lw_at lw_m3 226 rfl) rfl
theorem q819 : (Jvm.Cond.privateMethod ({ cls := "QuietChannels", name := "isChannel", desc := "(I)Z" } : Jvm.MethodName)) ∈ lw_tbl := lw_at lw_m3 227 rfl
theorem q820 : (Jvm.Cond.instanceMethod ({ cls := "QuietChannels", name := "isChannel", desc := "(I)Z" } : Jvm.MethodName)) ∈ lw_all := lw_g (lw_at lw_m3 228 rfl) rfl
theorem q821 : (Jvm.Cond.code ({ cls := "QuietChannels", name := "isChannel", desc := "(I)Z" } : Jvm.MethodName) prog_1_method_16_code (2 : Nat) (Option.some Jvm.ClassFile.FieldType.boolean)) ∈ lw_all := lw_g (lw_at lw_m3 229 rfl) rfl
theorem q823 : (Jvm.Cond.instanceMethod ({ cls := "QuietChannels", name := "power", desc := "(II)I" } : Jvm.MethodName)) ∈ lw_all := lw_g (lw_at lw_m3 231 rfl) rfl
theorem q824 : (Jvm.Cond.selects "QuietChannels" ({ cls := "QuietChannels", name := "power", desc := "(II)I" } : Jvm.MethodName) ({ cls := "QuietChannels", name := "power", desc := "(II)I" } : Jvm.MethodName)) ∈ lw_all := lw_g (lw_at lw_m3 232 rfl) rfl
theorem q825 : (Jvm.Cond.code ({ cls := "QuietChannels", name := "power", desc := "(II)I" } : Jvm.MethodName) prog_1_method_19_code (4 : Nat) (Option.some Jvm.ClassFile.FieldType.int)) ∈ lw_all := lw_g (lw_at lw_m3 233 rfl) rfl
theorem q827 : (Jvm.Cond.instanceMethod ({ cls := "QuietChannels", name := "slots", desc := "(II)I" } : Jvm.MethodName)) ∈ lw_all := lw_g (lw_at lw_m3 235 rfl) rfl
theorem q828 : (Jvm.Cond.selects "QuietChannels" ({ cls := "QuietChannels", name := "slots", desc := "(II)I" } : Jvm.MethodName) ({ cls := "QuietChannels", name := "slots", desc := "(II)I" } : Jvm.MethodName)) ∈ lw_all := lw_g (lw_at lw_m3 236 rfl) rfl
theorem q829 : (Jvm.Cond.code ({ cls := "QuietChannels", name := "slots", desc := "(II)I" } : Jvm.MethodName) prog_1_method_20_code (4 : Nat) (Option.some Jvm.ClassFile.FieldType.int)) ∈ lw_all := lw_g (lw_at lw_m3 237 rfl) rfl
theorem q831 : (Jvm.Cond.instanceMethod ({ cls := "QuietChannels", name := "complete", desc := "()I" } : Jvm.MethodName)) ∈ lw_all := lw_g (lw_at lw_m3 239 rfl) rfl
theorem q832 : (Jvm.Cond.selects "QuietChannels" ({ cls := "QuietChannels", name := "complete", desc := "()I" } : Jvm.MethodName) ({ cls := "QuietChannels", name := "complete", desc := "()I" } : Jvm.MethodName)) ∈ lw_all := lw_g (lw_at lw_m4 0 rfl) rfl
theorem q833 : (Jvm.Cond.code ({ cls := "QuietChannels", name := "complete", desc := "()I" } : Jvm.MethodName) prog_1_method_26_code (3 : Nat) (Option.some Jvm.ClassFile.FieldType.int)) ∈ lw_all := lw_g (lw_at lw_m4 1 rfl) rfl
theorem q834 : (Jvm.Cond.classLink "QuietChannels" (184 : Nat) "QuietChannels$Search") ∈ lw_all := lw_g (lw_at lw_m4 2 rfl) rfl
theorem q836 : (Jvm.Cond.methodLink "QuietChannels" (186 : Nat) ({ cls := "QuietChannels", name := "untuned", desc := "(LQuietChannels$Plan;)I" } : Jvm.MethodName)) ∈ lw_all := lw_g (lw_at lw_m4 4 rfl) rfl
theorem q837 : (Jvm.Cond.privateMethod ({ cls := "QuietChannels", name := "untuned", desc := "(LQuietChannels$Plan;)I" } : Jvm.MethodName)) ∈ lw_tbl := lw_at lw_m4 5 rfl
theorem q838 : (Jvm.Cond.instanceMethod ({ cls := "QuietChannels", name := "untuned", desc := "(LQuietChannels$Plan;)I" } : Jvm.MethodName)) ∈ lw_all := lw_g (lw_at lw_m4 6 rfl) rfl
theorem q839 : (Jvm.Cond.code ({ cls := "QuietChannels", name := "untuned", desc := "(LQuietChannels$Plan;)I" } : Jvm.MethodName) prog_1_method_25_code (4 : Nat) (Option.some Jvm.ClassFile.FieldType.int)) ∈ lw_all := lw_g (lw_at lw_m4 7 rfl) rfl
theorem q840 : (Jvm.Cond.methodLink "QuietChannels" (189 : Nat) ({ cls := "QuietChannels$Search", name := "<init>", desc := "(LQuietChannels;LQuietChannels$Plan;I)V" } : Jvm.MethodName)) ∈ lw_all := lw_g (lw_at lw_m4 8 rfl) rfl
theorem q852 : (Jvm.Cond.fieldLinkNest "QuietChannels" (195 : Nat) "QuietChannels$Search" "looks" "I" "QuietChannels") ∈ lw_tbl := lw_at lw_m4 20 rfl
theorem q867 : (Jvm.Cond.methodLink "QuietChannels" (192 : Nat) ({ cls := "QuietChannels$Search", name := "goes", desc := "()I" } : Jvm.MethodName)) ∈ lw_all := lw_g (lw_at lw_m4 35 rfl) rfl
theorem q872 : (Jvm.Cond.privateMethod ({ cls := "QuietChannels", name := "isClean", desc := "(LQuietChannels$Plan;I)Z" } : Jvm.MethodName)) ∈ lw_tbl := lw_at lw_m4 40 rfl
theorem q873 : (Jvm.Cond.instanceMethod ({ cls := "QuietChannels", name := "isClean", desc := "(LQuietChannels$Plan;I)Z" } : Jvm.MethodName)) ∈ lw_all := lw_g (lw_at lw_m4 41 rfl) rfl
theorem q874 : (Jvm.Cond.code ({ cls := "QuietChannels", name := "isClean", desc := "(LQuietChannels$Plan;I)Z" } : Jvm.MethodName) prog_1_method_23_code (4 : Nat) (Option.some Jvm.ClassFile.FieldType.boolean)) ∈ lw_all := lw_g (lw_at lw_m4 42 rfl) rfl
theorem q875 : (Jvm.Cond.methodLink "QuietChannels" (172 : Nat) ({ cls := "QuietChannels", name := "isRight", desc := "(LQuietChannels$Plan;I)Z" } : Jvm.MethodName)) ∈ lw_all := lw_g (lw_at lw_m4 43 rfl) rfl
theorem q876 : (Jvm.Cond.privateMethod ({ cls := "QuietChannels", name := "isRight", desc := "(LQuietChannels$Plan;I)Z" } : Jvm.MethodName)) ∈ lw_tbl := lw_at lw_m4 44 rfl
theorem q877 : (Jvm.Cond.instanceMethod ({ cls := "QuietChannels", name := "isRight", desc := "(LQuietChannels$Plan;I)Z" } : Jvm.MethodName)) ∈ lw_all := lw_g (lw_at lw_m4 45 rfl) rfl
theorem q878 : (Jvm.Cond.code ({ cls := "QuietChannels", name := "isRight", desc := "(LQuietChannels$Plan;I)Z" } : Jvm.MethodName) prog_1_method_22_code (3 : Nat) (Option.some Jvm.ClassFile.FieldType.boolean)) ∈ lw_all := lw_g (lw_at lw_m4 46 rfl) rfl
theorem q879 : (Jvm.Cond.methodLink "QuietChannels" (152 : Nat) ({ cls := "QuietChannels$Air", name := "of", desc := "(LQuietChannels$Plan;)LQuietChannels$Air;" } : Jvm.MethodName)) ∈ lw_all := lw_g (lw_at lw_m4 47 rfl) rfl
theorem q883 : (Jvm.Cond.methodLink "QuietChannels" (156 : Nat) ({ cls := "QuietChannels$Air", name := "counted", desc := "()LQuietChannels$Air;" } : Jvm.MethodName)) ∈ lw_all := lw_g (lw_at lw_m4 51 rfl) rfl
theorem q892 : (Jvm.Cond.laysStatic "QuietChannels" "ORDER" "[I") ∈ lw_tbl := lw_at lw_m4 60 rfl
theorem q898 : (Jvm.Cond.laysStatic "QuietChannels" "TIMES" "[I") ∈ lw_tbl := lw_at lw_m4 66 rfl
theorem q920 : (Jvm.Cond.static ({ cls := "QuietChannels", name := "lesser", desc := "(II)I" } : Jvm.MethodName)) ∈ lw_all := lw_g (lw_at lw_m4 88 rfl) rfl
theorem q921 : (Jvm.Cond.code ({ cls := "QuietChannels", name := "lesser", desc := "(II)I" } : Jvm.MethodName) prog_1_method_4_code (2 : Nat) (Option.some Jvm.ClassFile.FieldType.int)) ∈ lw_all := lw_g (lw_at lw_m4 89 rfl) rfl
theorem q936 : (Jvm.Cond.methodLink "QuietChannels" (177 : Nat) ({ cls := "QuietChannels$Air", name := "trouble", desc := "()I" } : Jvm.MethodName)) ∈ lw_all := lw_g (lw_at lw_m4 104 rfl) rfl
theorem q947 : (Jvm.Cond.instanceMethod ({ cls := "QuietChannels", name := "planned", desc := "(I)I" } : Jvm.MethodName)) ∈ lw_all := lw_g (lw_at lw_m4 115 rfl) rfl
theorem q948 : (Jvm.Cond.selects "QuietChannels" ({ cls := "QuietChannels", name := "planned", desc := "(I)I" } : Jvm.MethodName) ({ cls := "QuietChannels", name := "planned", desc := "(I)I" } : Jvm.MethodName)) ∈ lw_all := lw_g (lw_at lw_m4 116 rfl) rfl
theorem q949 : (Jvm.Cond.code ({ cls := "QuietChannels", name := "planned", desc := "(I)I" } : Jvm.MethodName) prog_1_method_27_code (3 : Nat) (Option.some Jvm.ClassFile.FieldType.int)) ∈ lw_all := lw_g (lw_at lw_m4 117 rfl) rfl
theorem q951 : (Jvm.Cond.instanceMethod ({ cls := "QuietChannels", name := "mended", desc := "()I" } : Jvm.MethodName)) ∈ lw_all := lw_g (lw_at lw_m4 119 rfl) rfl
theorem q952 : (Jvm.Cond.selects "QuietChannels" ({ cls := "QuietChannels", name := "mended", desc := "()I" } : Jvm.MethodName) ({ cls := "QuietChannels", name := "mended", desc := "()I" } : Jvm.MethodName)) ∈ lw_all := lw_g (lw_at lw_m4 120 rfl) rfl
theorem q953 : (Jvm.Cond.code ({ cls := "QuietChannels", name := "mended", desc := "()I" } : Jvm.MethodName) prog_1_method_29_code (1 : Nat) (Option.some Jvm.ClassFile.FieldType.int)) ∈ lw_all := lw_g (lw_at lw_m4 121 rfl) rfl
theorem q954 : (Jvm.Cond.methodLink "QuietChannels" (203 : Nat) ({ cls := "QuietChannels", name := "mendedSet", desc := "()I" } : Jvm.MethodName)) ∈ lw_all := lw_g (lw_at lw_m4 122 rfl) rfl
theorem q955 : (Jvm.Cond.privateMethod ({ cls := "QuietChannels", name := "mendedSet", desc := "()I" } : Jvm.MethodName)) ∈ lw_tbl := lw_at lw_m4 123 rfl
theorem q956 : (Jvm.Cond.instanceMethod ({ cls := "QuietChannels", name := "mendedSet", desc := "()I" } : Jvm.MethodName)) ∈ lw_all := lw_g (lw_at lw_m4 124 rfl) rfl
theorem q957 : (Jvm.Cond.code ({ cls := "QuietChannels", name := "mendedSet", desc := "()I" } : Jvm.MethodName) prog_1_method_28_code (4 : Nat) (Option.some Jvm.ClassFile.FieldType.int)) ∈ lw_all := lw_g (lw_at lw_m4 125 rfl) rfl
theorem q958 : (Jvm.Cond.methodLink "QuietChannels" (198 : Nat) ({ cls := "java/lang/Integer", name := "bitCount", desc := "(I)I" } : Jvm.MethodName)) ∈ lw_all := lw_g (lw_at lw_m4 126 rfl) rfl
theorem q960 : (Jvm.Cond.instanceMethod ({ cls := "QuietChannels", name := "mend", desc := "()I" } : Jvm.MethodName)) ∈ lw_all := lw_g (lw_at lw_m4 128 rfl) rfl
theorem q961 : (Jvm.Cond.selects "QuietChannels" ({ cls := "QuietChannels", name := "mend", desc := "()I" } : Jvm.MethodName) ({ cls := "QuietChannels", name := "mend", desc := "()I" } : Jvm.MethodName)) ∈ lw_all := lw_g (lw_at lw_m4 129 rfl) rfl
theorem q962 : (Jvm.Cond.code ({ cls := "QuietChannels", name := "mend", desc := "()I" } : Jvm.MethodName) prog_1_method_30_code (2 : Nat) (Option.some Jvm.ClassFile.FieldType.int)) ∈ lw_all := lw_g (lw_at lw_m4 130 rfl) rfl
theorem q964 : (Jvm.Cond.instanceMethod ({ cls := "QuietChannels", name := "leastBand", desc := "()I" } : Jvm.MethodName)) ∈ lw_all := lw_g (lw_at lw_m4 132 rfl) rfl
theorem q965 : (Jvm.Cond.selects "QuietChannels" ({ cls := "QuietChannels", name := "leastBand", desc := "()I" } : Jvm.MethodName) ({ cls := "QuietChannels", name := "leastBand", desc := "()I" } : Jvm.MethodName)) ∈ lw_all := lw_g (lw_at lw_m4 133 rfl) rfl
theorem q966 : (Jvm.Cond.code ({ cls := "QuietChannels", name := "leastBand", desc := "()I" } : Jvm.MethodName) prog_1_method_31_code (2 : Nat) (Option.some Jvm.ClassFile.FieldType.int)) ∈ lw_all := lw_g (lw_at lw_m4 134 rfl) rfl
theorem q967 : (Jvm.Cond.methodLink "QuietChannels" (206 : Nat) ({ cls := "QuietChannels$Search", name := "<init>", desc := "(LQuietChannels;LQuietChannels$Plan;II)V" } : Jvm.MethodName)) ∈ lw_all := lw_g (lw_at lw_m4 135 rfl) rfl
theorem q969 : (Jvm.Cond.instanceMethod ({ cls := "QuietChannels", name := "blocked", desc := "(I)I" } : Jvm.MethodName)) ∈ lw_all := lw_g (lw_at lw_m4 137 rfl) rfl
theorem q970 : (Jvm.Cond.selects "QuietChannels" ({ cls := "QuietChannels", name := "blocked", desc := "(I)I" } : Jvm.MethodName) ({ cls := "QuietChannels", name := "blocked", desc := "(I)I" } : Jvm.MethodName)) ∈ lw_all := lw_g (lw_at lw_m4 138 rfl) rfl
theorem q971 : (Jvm.Cond.code ({ cls := "QuietChannels", name := "blocked", desc := "(I)I" } : Jvm.MethodName) prog_1_method_33_code (2 : Nat) (Option.some Jvm.ClassFile.FieldType.int)) ∈ lw_all := lw_g (lw_at lw_m4 139 rfl) rfl
theorem q973 : (Jvm.Cond.instanceMethod ({ cls := "QuietChannels", name := "products", desc := "(I)I" } : Jvm.MethodName)) ∈ lw_all := lw_g (lw_at lw_m4 141 rfl) rfl
theorem q974 : (Jvm.Cond.selects "QuietChannels" ({ cls := "QuietChannels", name := "products", desc := "(I)I" } : Jvm.MethodName) ({ cls := "QuietChannels", name := "products", desc := "(I)I" } : Jvm.MethodName)) ∈ lw_all := lw_g (lw_at lw_m4 142 rfl) rfl
theorem q975 : (Jvm.Cond.code ({ cls := "QuietChannels", name := "products", desc := "(I)I" } : Jvm.MethodName) prog_1_method_34_code (3 : Nat) (Option.some Jvm.ClassFile.FieldType.int)) ∈ lw_all := lw_g (lw_at lw_m4 143 rfl) rfl
theorem q976 : (Jvm.Cond.methodLink "QuietChannels" (218 : Nat) ({ cls := "QuietChannels", name := "nowAir", desc := "()LQuietChannels$Air;" } : Jvm.MethodName)) ∈ lw_all := lw_g (lw_at lw_m4 144 rfl) rfl
theorem q977 : (Jvm.Cond.privateMethod ({ cls := "QuietChannels", name := "nowAir", desc := "()LQuietChannels$Air;" } : Jvm.MethodName)) ∈ lw_tbl := lw_at lw_m4 145 rfl
theorem q978 : (Jvm.Cond.instanceMethod ({ cls := "QuietChannels", name := "nowAir", desc := "()LQuietChannels$Air;" } : Jvm.MethodName)) ∈ lw_all := lw_g (lw_at lw_m4 146 rfl) rfl
theorem q979 : (Jvm.Cond.code ({ cls := "QuietChannels", name := "nowAir", desc := "()LQuietChannels$Air;" } : Jvm.MethodName) prog_1_method_21_code (1 : Nat) (Option.some (Jvm.ClassFile.FieldType.object "QuietChannels$Air"))) ∈ lw_all := lw_g (lw_at lw_m4 147 rfl) rfl
theorem q981 : (Jvm.Cond.instanceMethod ({ cls := "QuietChannels", name := "product", desc := "(II)I" } : Jvm.MethodName)) ∈ lw_all := lw_g (lw_at lw_m4 149 rfl) rfl
theorem q982 : (Jvm.Cond.selects "QuietChannels" ({ cls := "QuietChannels", name := "product", desc := "(II)I" } : Jvm.MethodName) ({ cls := "QuietChannels", name := "product", desc := "(II)I" } : Jvm.MethodName)) ∈ lw_all := lw_g (lw_at lw_m4 150 rfl) rfl
theorem q983 : (Jvm.Cond.code ({ cls := "QuietChannels", name := "product", desc := "(II)I" } : Jvm.MethodName) prog_1_method_35_code (4 : Nat) (Option.some Jvm.ClassFile.FieldType.int)) ∈ lw_all := lw_g (lw_at lw_m4 151 rfl) rfl
theorem q984 : (Jvm.Cond.methodLink "QuietChannels" (233 : Nat) ({ cls := "QuietChannels$Air", name := "counted", desc := "(I)LQuietChannels$Air;" } : Jvm.MethodName)) ∈ lw_all := lw_g (lw_at lw_m4 152 rfl) rfl
theorem q986 : (Jvm.Cond.instanceMethod ({ cls := "QuietChannels", name := "hits", desc := "(I)I" } : Jvm.MethodName)) ∈ lw_all := lw_g (lw_at lw_m4 154 rfl) rfl
theorem q987 : (Jvm.Cond.selects "QuietChannels" ({ cls := "QuietChannels", name := "hits", desc := "(I)I" } : Jvm.MethodName) ({ cls := "QuietChannels", name := "hits", desc := "(I)I" } : Jvm.MethodName)) ∈ lw_all := lw_g (lw_at lw_m4 155 rfl) rfl
theorem q988 : (Jvm.Cond.code ({ cls := "QuietChannels", name := "hits", desc := "(I)I" } : Jvm.MethodName) prog_1_method_36_code (2 : Nat) (Option.some Jvm.ClassFile.FieldType.int)) ∈ lw_all := lw_g (lw_at lw_m4 156 rfl) rfl
theorem q990 : (Jvm.Cond.instanceMethod ({ cls := "QuietChannels", name := "hitBy", desc := "(II)I" } : Jvm.MethodName)) ∈ lw_all := lw_g (lw_at lw_m4 158 rfl) rfl
theorem q991 : (Jvm.Cond.selects "QuietChannels" ({ cls := "QuietChannels", name := "hitBy", desc := "(II)I" } : Jvm.MethodName) ({ cls := "QuietChannels", name := "hitBy", desc := "(II)I" } : Jvm.MethodName)) ∈ lw_all := lw_g (lw_at lw_m4 159 rfl) rfl
theorem q992 : (Jvm.Cond.code ({ cls := "QuietChannels", name := "hitBy", desc := "(II)I" } : Jvm.MethodName) prog_1_method_37_code (6 : Nat) (Option.some Jvm.ClassFile.FieldType.int)) ∈ lw_all := lw_g (lw_at lw_m4 160 rfl) rfl
theorem q994 : (Jvm.Cond.instanceMethod ({ cls := "QuietChannels", name := "crowds", desc := "(I)I" } : Jvm.MethodName)) ∈ lw_all := lw_g (lw_at lw_m4 162 rfl) rfl
theorem q995 : (Jvm.Cond.selects "QuietChannels" ({ cls := "QuietChannels", name := "crowds", desc := "(I)I" } : Jvm.MethodName) ({ cls := "QuietChannels", name := "crowds", desc := "(I)I" } : Jvm.MethodName)) ∈ lw_all := lw_g (lw_at lw_m4 163 rfl) rfl
theorem q996 : (Jvm.Cond.code ({ cls := "QuietChannels", name := "crowds", desc := "(I)I" } : Jvm.MethodName) prog_1_method_38_code (5 : Nat) (Option.some Jvm.ClassFile.FieldType.int)) ∈ lw_all := lw_g (lw_at lw_m4 164 rfl) rfl
theorem q997 : (Jvm.Cond.methodLink "QuietChannels" (258 : Nat) ({ cls := "QuietChannels$Air", name := "areCrowded", desc := "(II)Z" } : Jvm.MethodName)) ∈ lw_all := lw_g (lw_at lw_m4 165 rfl) rfl
theorem q999 : (Jvm.Cond.instanceMethod ({ cls := "QuietChannels", name := "clean", desc := "()I" } : Jvm.MethodName)) ∈ lw_all := lw_g (lw_at lw_m4 167 rfl) rfl
theorem q1000 : (Jvm.Cond.selects "QuietChannels" ({ cls := "QuietChannels", name := "clean", desc := "()I" } : Jvm.MethodName) ({ cls := "QuietChannels", name := "clean", desc := "()I" } : Jvm.MethodName)) ∈ lw_all := lw_g (lw_at lw_m4 168 rfl) rfl
theorem q1001 : (Jvm.Cond.code ({ cls := "QuietChannels", name := "clean", desc := "()I" } : Jvm.MethodName) prog_1_method_39_code (1 : Nat) (Option.some Jvm.ClassFile.FieldType.int)) ∈ lw_all := lw_g (lw_at lw_m4 169 rfl) rfl
theorem q1002 : (Jvm.Cond.methodLink "QuietChannels" (262 : Nat) ({ cls := "QuietChannels", name := "isClean", desc := "(LQuietChannels$Plan;)Z" } : Jvm.MethodName)) ∈ lw_all := lw_g (lw_at lw_m4 170 rfl) rfl
theorem q1003 : (Jvm.Cond.privateMethod ({ cls := "QuietChannels", name := "isClean", desc := "(LQuietChannels$Plan;)Z" } : Jvm.MethodName)) ∈ lw_tbl := lw_at lw_m4 171 rfl
theorem q1004 : (Jvm.Cond.instanceMethod ({ cls := "QuietChannels", name := "isClean", desc := "(LQuietChannels$Plan;)Z" } : Jvm.MethodName)) ∈ lw_all := lw_g (lw_at lw_m4 172 rfl) rfl
theorem q1005 : (Jvm.Cond.code ({ cls := "QuietChannels", name := "isClean", desc := "(LQuietChannels$Plan;)Z" } : Jvm.MethodName) prog_1_method_24_code (2 : Nat) (Option.some Jvm.ClassFile.FieldType.boolean)) ∈ lw_all := lw_g (lw_at lw_m4 173 rfl) rfl
theorem q1006 : (Jvm.Cond.methodLink "QuietChannels" (181 : Nat) ({ cls := "QuietChannels", name := "isClean", desc := "(LQuietChannels$Plan;I)Z" } : Jvm.MethodName)) ∈ lw_all := lw_g (lw_at lw_m4 174 rfl) rfl
theorem q1008 : (Jvm.Cond.instanceMethod ({ cls := "QuietChannels", name := "fits", desc := "(II)I" } : Jvm.MethodName)) ∈ lw_all := lw_g (lw_at lw_m4 176 rfl) rfl
theorem q1009 : (Jvm.Cond.selects "QuietChannels" ({ cls := "QuietChannels", name := "fits", desc := "(II)I" } : Jvm.MethodName) ({ cls := "QuietChannels", name := "fits", desc := "(II)I" } : Jvm.MethodName)) ∈ lw_all := lw_g (lw_at lw_m4 177 rfl) rfl
theorem q1010 : (Jvm.Cond.code ({ cls := "QuietChannels", name := "fits", desc := "(II)I" } : Jvm.MethodName) prog_1_method_41_code (3 : Nat) (Option.some Jvm.ClassFile.FieldType.int)) ∈ lw_all := lw_g (lw_at lw_m4 178 rfl) rfl
theorem q1011 : (Jvm.Cond.methodLink "QuietChannels" (265 : Nat) ({ cls := "QuietChannels", name := "fitsNow", desc := "(II)Z" } : Jvm.MethodName)) ∈ lw_all := lw_g (lw_at lw_m4 179 rfl) rfl
theorem q1012 : (Jvm.Cond.privateMethod ({ cls := "QuietChannels", name := "fitsNow", desc := "(II)Z" } : Jvm.MethodName)) ∈ lw_tbl := lw_at lw_m4 180 rfl
theorem q1013 : (Jvm.Cond.instanceMethod ({ cls := "QuietChannels", name := "fitsNow", desc := "(II)Z" } : Jvm.MethodName)) ∈ lw_all := lw_g (lw_at lw_m4 181 rfl) rfl
theorem q1014 : (Jvm.Cond.code ({ cls := "QuietChannels", name := "fitsNow", desc := "(II)Z" } : Jvm.MethodName) prog_1_method_40_code (3 : Nat) (Option.some Jvm.ClassFile.FieldType.boolean)) ∈ lw_all := lw_g (lw_at lw_m4 182 rfl) rfl
theorem q1016 : (Jvm.Cond.instanceMethod ({ cls := "QuietChannels", name := "free", desc := "(I)I" } : Jvm.MethodName)) ∈ lw_all := lw_g (lw_at lw_m4 184 rfl) rfl
theorem q1017 : (Jvm.Cond.selects "QuietChannels" ({ cls := "QuietChannels", name := "free", desc := "(I)I" } : Jvm.MethodName) ({ cls := "QuietChannels", name := "free", desc := "(I)I" } : Jvm.MethodName)) ∈ lw_all := lw_g (lw_at lw_m4 185 rfl) rfl
theorem q1018 : (Jvm.Cond.code ({ cls := "QuietChannels", name := "free", desc := "(I)I" } : Jvm.MethodName) prog_1_method_42_code (4 : Nat) (Option.some Jvm.ClassFile.FieldType.int)) ∈ lw_all := lw_g (lw_at lw_m4 186 rfl) rfl
theorem q1020 : (Jvm.Cond.instanceMethod ({ cls := "QuietChannels", name := "freeAt", desc := "(II)I" } : Jvm.MethodName)) ∈ lw_all := lw_g (lw_at lw_m4 188 rfl) rfl
theorem q1021 : (Jvm.Cond.selects "QuietChannels" ({ cls := "QuietChannels", name := "freeAt", desc := "(II)I" } : Jvm.MethodName) ({ cls := "QuietChannels", name := "freeAt", desc := "(II)I" } : Jvm.MethodName)) ∈ lw_all := lw_g (lw_at lw_m4 189 rfl) rfl
theorem q1022 : (Jvm.Cond.code ({ cls := "QuietChannels", name := "freeAt", desc := "(II)I" } : Jvm.MethodName) prog_1_method_43_code (5 : Nat) (Option.some Jvm.ClassFile.FieldType.int)) ∈ lw_all := lw_g (lw_at lw_m4 190 rfl) rfl
theorem q1024 : (Jvm.Cond.instanceMethod ({ cls := "QuietChannels", name := "ifTuned", desc := "(II)I" } : Jvm.MethodName)) ∈ lw_all := lw_g (lw_at lw_m4 192 rfl) rfl
theorem q1025 : (Jvm.Cond.selects "QuietChannels" ({ cls := "QuietChannels", name := "ifTuned", desc := "(II)I" } : Jvm.MethodName) ({ cls := "QuietChannels", name := "ifTuned", desc := "(II)I" } : Jvm.MethodName)) ∈ lw_all := lw_g (lw_at lw_m4 193 rfl) rfl
theorem q1026 : (Jvm.Cond.code ({ cls := "QuietChannels", name := "ifTuned", desc := "(II)I" } : Jvm.MethodName) prog_1_method_45_code (3 : Nat) (Option.some Jvm.ClassFile.FieldType.int)) ∈ lw_all := lw_g (lw_at lw_m4 194 rfl) rfl
theorem q1027 : (Jvm.Cond.methodLink "QuietChannels" (268 : Nat) ({ cls := "QuietChannels", name := "troubleBy", desc := "(II)I" } : Jvm.MethodName)) ∈ lw_all := lw_g (lw_at lw_m4 195 rfl) rfl
theorem q1028 : (Jvm.Cond.privateMethod ({ cls := "QuietChannels", name := "troubleBy", desc := "(II)I" } : Jvm.MethodName)) ∈ lw_tbl := lw_at lw_m4 196 rfl
theorem q1029 : (Jvm.Cond.instanceMethod ({ cls := "QuietChannels", name := "troubleBy", desc := "(II)I" } : Jvm.MethodName)) ∈ lw_all := lw_g (lw_at lw_m4 197 rfl) rfl
theorem q1030 : (Jvm.Cond.code ({ cls := "QuietChannels", name := "troubleBy", desc := "(II)I" } : Jvm.MethodName) prog_1_method_44_code (3 : Nat) (Option.some Jvm.ClassFile.FieldType.int)) ∈ lw_all := lw_g (lw_at lw_m4 198 rfl) rfl
theorem q1032 : (Jvm.Cond.instanceMethod ({ cls := "QuietChannels", name := "quietest", desc := "(I)I" } : Jvm.MethodName)) ∈ lw_all := lw_g (lw_at lw_m4 200 rfl) rfl
theorem q1033 : (Jvm.Cond.selects "QuietChannels" ({ cls := "QuietChannels", name := "quietest", desc := "(I)I" } : Jvm.MethodName) ({ cls := "QuietChannels", name := "quietest", desc := "(I)I" } : Jvm.MethodName)) ∈ lw_all := lw_g (lw_at lw_m4 201 rfl) rfl
theorem q1034 : (Jvm.Cond.code ({ cls := "QuietChannels", name := "quietest", desc := "(I)I" } : Jvm.MethodName) prog_1_method_46_code (6 : Nat) (Option.some Jvm.ClassFile.FieldType.int)) ∈ lw_all := lw_g (lw_at lw_m4 202 rfl) rfl
theorem q1036 : (Jvm.Cond.instanceMethod ({ cls := "QuietChannels", name := "worst", desc := "()I" } : Jvm.MethodName)) ∈ lw_all := lw_g (lw_at lw_m4 204 rfl) rfl
theorem q1037 : (Jvm.Cond.selects "QuietChannels" ({ cls := "QuietChannels", name := "worst", desc := "()I" } : Jvm.MethodName) ({ cls := "QuietChannels", name := "worst", desc := "()I" } : Jvm.MethodName)) ∈ lw_all := lw_g (lw_at lw_m4 205 rfl) rfl
theorem q1038 : (Jvm.Cond.code ({ cls := "QuietChannels", name := "worst", desc := "()I" } : Jvm.MethodName) prog_1_method_47_code (1 : Nat) (Option.some Jvm.ClassFile.FieldType.int)) ∈ lw_all := lw_g (lw_at lw_m4 206 rfl) rfl
theorem q1039 : (Jvm.Cond.methodLink "QuietChannels" (272 : Nat) ({ cls := "QuietChannels", name := "loudOne", desc := "(LQuietChannels$Air;)I" } : Jvm.MethodName)) ∈ lw_all := lw_g (lw_at lw_m4 207 rfl) rfl
theorem q1040 : (Jvm.Cond.privateMethod ({ cls := "QuietChannels", name := "loudOne", desc := "(LQuietChannels$Air;)I" } : Jvm.MethodName)) ∈ lw_tbl := lw_at lw_m4 208 rfl
theorem q1041 : (Jvm.Cond.instanceMethod ({ cls := "QuietChannels", name := "loudOne", desc := "(LQuietChannels$Air;)I" } : Jvm.MethodName)) ∈ lw_all := lw_g (lw_at lw_m4 209 rfl) rfl
theorem q1042 : (Jvm.Cond.code ({ cls := "QuietChannels", name := "loudOne", desc := "(LQuietChannels$Air;)I" } : Jvm.MethodName) prog_1_method_58_code (4 : Nat) (Option.some Jvm.ClassFile.FieldType.int)) ∈ lw_all := lw_g (lw_at lw_m4 210 rfl) rfl
theorem q1044 : (Jvm.Cond.instanceMethod ({ cls := "QuietChannels", name := "bySort", desc := "(II)I" } : Jvm.MethodName)) ∈ lw_all := lw_g (lw_at lw_m4 212 rfl) rfl
theorem q1045 : (Jvm.Cond.selects "QuietChannels" ({ cls := "QuietChannels", name := "bySort", desc := "(II)I" } : Jvm.MethodName) ({ cls := "QuietChannels", name := "bySort", desc := "(II)I" } : Jvm.MethodName)) ∈ lw_all := lw_g (lw_at lw_m4 213 rfl) rfl
theorem q1046 : (Jvm.Cond.code ({ cls := "QuietChannels", name := "bySort", desc := "(II)I" } : Jvm.MethodName) prog_1_method_48_code (3 : Nat) (Option.some Jvm.ClassFile.FieldType.int)) ∈ lw_all := lw_g (lw_at lw_m4 214 rfl) rfl
theorem q1048 : (Jvm.Cond.instanceMethod ({ cls := "QuietChannels", name := "loudest", desc := "()I" } : Jvm.MethodName)) ∈ lw_all := lw_g (lw_at lw_m4 216 rfl) rfl
theorem q1049 : (Jvm.Cond.selects "QuietChannels" ({ cls := "QuietChannels", name := "loudest", desc := "()I" } : Jvm.MethodName) ({ cls := "QuietChannels", name := "loudest", desc := "()I" } : Jvm.MethodName)) ∈ lw_all := lw_g (lw_at lw_m4 217 rfl) rfl
theorem q1050 : (Jvm.Cond.code ({ cls := "QuietChannels", name := "loudest", desc := "()I" } : Jvm.MethodName) prog_1_method_49_code (1 : Nat) (Option.some Jvm.ClassFile.FieldType.int)) ∈ lw_all := lw_g (lw_at lw_m4 218 rfl) rfl
theorem q1052 : (Jvm.Cond.instanceMethod ({ cls := "QuietChannels", name := "when", desc := "(I)I" } : Jvm.MethodName)) ∈ lw_all := lw_g (lw_at lw_m4 220 rfl) rfl
theorem q1053 : (Jvm.Cond.selects "QuietChannels" ({ cls := "QuietChannels", name := "when", desc := "(I)I" } : Jvm.MethodName) ({ cls := "QuietChannels", name := "when", desc := "(I)I" } : Jvm.MethodName)) ∈ lw_all := lw_g (lw_at lw_m4 221 rfl) rfl
theorem q1054 : (Jvm.Cond.code ({ cls := "QuietChannels", name := "when", desc := "(I)I" } : Jvm.MethodName) prog_1_method_50_code (2 : Nat) (Option.some Jvm.ClassFile.FieldType.int)) ∈ lw_all := lw_g (lw_at lw_m4 222 rfl) rfl
theorem q1056 : (Jvm.Cond.instanceMethod ({ cls := "QuietChannels", name := "clearance", desc := "(I)I" } : Jvm.MethodName)) ∈ lw_all := lw_g (lw_at lw_m4 224 rfl) rfl
theorem q1057 : (Jvm.Cond.selects "QuietChannels" ({ cls := "QuietChannels", name := "clearance", desc := "(I)I" } : Jvm.MethodName) ({ cls := "QuietChannels", name := "clearance", desc := "(I)I" } : Jvm.MethodName)) ∈ lw_all := lw_g (lw_at lw_m4 225 rfl) rfl
theorem q1058 : (Jvm.Cond.code ({ cls := "QuietChannels", name := "clearance", desc := "(I)I" } : Jvm.MethodName) prog_1_method_51_code (2 : Nat) (Option.some Jvm.ClassFile.FieldType.int)) ∈ lw_all := lw_g (lw_at lw_m4 226 rfl) rfl
theorem q1060 : (Jvm.Cond.instanceMethod ({ cls := "QuietChannels", name := "nearest", desc := "(I)I" } : Jvm.MethodName)) ∈ lw_all := lw_g (lw_at lw_m4 228 rfl) rfl
theorem q1061 : (Jvm.Cond.selects "QuietChannels" ({ cls := "QuietChannels", name := "nearest", desc := "(I)I" } : Jvm.MethodName) ({ cls := "QuietChannels", name := "nearest", desc := "(I)I" } : Jvm.MethodName)) ∈ lw_all := lw_g (lw_at lw_m4 229 rfl) rfl
theorem q1062 : (Jvm.Cond.code ({ cls := "QuietChannels", name := "nearest", desc := "(I)I" } : Jvm.MethodName) prog_1_method_52_code (4 : Nat) (Option.some Jvm.ClassFile.FieldType.int)) ∈ lw_all := lw_g (lw_at lw_m4 230 rfl) rfl
theorem q1063 : (Jvm.Cond.methodLink "QuietChannels" (288 : Nat) ({ cls := "QuietChannels", name := "apart", desc := "(II)I" } : Jvm.MethodName)) ∈ lw_all := lw_g (lw_at lw_m4 231 rfl) rfl
theorem q1064 : (Jvm.Cond.privateMethod ({ cls := "QuietChannels", name := "apart", desc := "(II)I" } : Jvm.MethodName)) ∈ lw_tbl := lw_at lw_m4 232 rfl
theorem q1065 : (Jvm.Cond.instanceMethod ({ cls := "QuietChannels", name := "apart", desc := "(II)I" } : Jvm.MethodName)) ∈ lw_all := lw_g (lw_at lw_m4 233 rfl) rfl
theorem q1066 : (Jvm.Cond.code ({ cls := "QuietChannels", name := "apart", desc := "(II)I" } : Jvm.MethodName) prog_1_method_53_code (3 : Nat) (Option.some Jvm.ClassFile.FieldType.int)) ∈ lw_all := lw_g (lw_at lw_m4 234 rfl) rfl
theorem q1067 : (Jvm.Cond.methodLink "QuietChannels" (291 : Nat) ({ cls := "java/lang/Math", name := "abs", desc := "(I)I" } : Jvm.MethodName)) ∈ lw_all := lw_g (lw_at lw_m4 235 rfl) rfl
theorem q1069 : (Jvm.Cond.instanceMethod ({ cls := "QuietChannels", name := "mostSpace", desc := "()I" } : Jvm.MethodName)) ∈ lw_all := lw_g (lw_at lw_m4 237 rfl) rfl
theorem q1070 : (Jvm.Cond.selects "QuietChannels" ({ cls := "QuietChannels", name := "mostSpace", desc := "()I" } : Jvm.MethodName) ({ cls := "QuietChannels", name := "mostSpace", desc := "()I" } : Jvm.MethodName)) ∈ lw_all := lw_g (lw_at lw_m4 238 rfl) rfl
theorem q1071 : (Jvm.Cond.code ({ cls := "QuietChannels", name := "mostSpace", desc := "()I" } : Jvm.MethodName) prog_1_method_54_code (2 : Nat) (Option.some Jvm.ClassFile.FieldType.int)) ∈ lw_all := lw_g (lw_at lw_m4 239 rfl) rfl
theorem q1073 : (Jvm.Cond.instanceMethod ({ cls := "QuietChannels", name := "spare", desc := "(I)I" } : Jvm.MethodName)) ∈ lw_all := lw_g (lw_at lw_m5 1 rfl) rfl
theorem q1074 : (Jvm.Cond.selects "QuietChannels" ({ cls := "QuietChannels", name := "spare", desc := "(I)I" } : Jvm.MethodName) ({ cls := "QuietChannels", name := "spare", desc := "(I)I" } : Jvm.MethodName)) ∈ lw_all := lw_g (lw_at lw_m5 2 rfl) rfl
theorem q1075 : (Jvm.Cond.code ({ cls := "QuietChannels", name := "spare", desc := "(I)I" } : Jvm.MethodName) prog_1_method_55_code (4 : Nat) (Option.some Jvm.ClassFile.FieldType.int)) ∈ lw_all := lw_g (lw_at lw_m5 3 rfl) rfl
theorem q1077 : (Jvm.Cond.instanceMethod ({ cls := "QuietChannels", name := "rank", desc := "(I)I" } : Jvm.MethodName)) ∈ lw_all := lw_g (lw_at lw_m5 5 rfl) rfl
theorem q1078 : (Jvm.Cond.selects "QuietChannels" ({ cls := "QuietChannels", name := "rank", desc := "(I)I" } : Jvm.MethodName) ({ cls := "QuietChannels", name := "rank", desc := "(I)I" } : Jvm.MethodName)) ∈ lw_all := lw_g (lw_at lw_m5 6 rfl) rfl
theorem q1079 : (Jvm.Cond.code ({ cls := "QuietChannels", name := "rank", desc := "(I)I" } : Jvm.MethodName) prog_1_method_56_code (6 : Nat) (Option.some Jvm.ClassFile.FieldType.int)) ∈ lw_all := lw_g (lw_at lw_m5 7 rfl) rfl
theorem q1081 : (Jvm.Cond.instanceMethod ({ cls := "QuietChannels", name := "linked", desc := "(II)I" } : Jvm.MethodName)) ∈ lw_all := lw_g (lw_at lw_m5 9 rfl) rfl
theorem q1082 : (Jvm.Cond.selects "QuietChannels" ({ cls := "QuietChannels", name := "linked", desc := "(II)I" } : Jvm.MethodName) ({ cls := "QuietChannels", name := "linked", desc := "(II)I" } : Jvm.MethodName)) ∈ lw_all := lw_g (lw_at lw_m5 10 rfl) rfl
theorem q1083 : (Jvm.Cond.code ({ cls := "QuietChannels", name := "linked", desc := "(II)I" } : Jvm.MethodName) prog_1_method_57_code (3 : Nat) (Option.some Jvm.ClassFile.FieldType.int)) ∈ lw_all := lw_g (lw_at lw_m5 11 rfl) rfl
theorem q1085 : (Jvm.Cond.instanceMethod ({ cls := "QuietChannels", name := "turned", desc := "(I)I" } : Jvm.MethodName)) ∈ lw_all := lw_g (lw_at lw_m5 13 rfl) rfl
theorem q1086 : (Jvm.Cond.selects "QuietChannels" ({ cls := "QuietChannels", name := "turned", desc := "(I)I" } : Jvm.MethodName) ({ cls := "QuietChannels", name := "turned", desc := "(I)I" } : Jvm.MethodName)) ∈ lw_all := lw_g (lw_at lw_m5 14 rfl) rfl
theorem q1087 : (Jvm.Cond.code ({ cls := "QuietChannels", name := "turned", desc := "(I)I" } : Jvm.MethodName) prog_1_method_60_code (3 : Nat) (Option.some Jvm.ClassFile.FieldType.int)) ∈ lw_all := lw_g (lw_at lw_m5 15 rfl) rfl
theorem q1088 : (Jvm.Cond.methodLink "QuietChannels" (305 : Nat) ({ cls := "QuietChannels", name := "turnsDown", desc := "()I" } : Jvm.MethodName)) ∈ lw_all := lw_g (lw_at lw_m5 16 rfl) rfl
theorem q1089 : (Jvm.Cond.privateMethod ({ cls := "QuietChannels", name := "turnsDown", desc := "()I" } : Jvm.MethodName)) ∈ lw_tbl := lw_at lw_m5 17 rfl
theorem q1090 : (Jvm.Cond.instanceMethod ({ cls := "QuietChannels", name := "turnsDown", desc := "()I" } : Jvm.MethodName)) ∈ lw_all := lw_g (lw_at lw_m5 18 rfl) rfl
theorem q1091 : (Jvm.Cond.code ({ cls := "QuietChannels", name := "turnsDown", desc := "()I" } : Jvm.MethodName) prog_1_method_59_code (3 : Nat) (Option.some Jvm.ClassFile.FieldType.int)) ∈ lw_all := lw_g (lw_at lw_m5 19 rfl) rfl
theorem q1093 : (Jvm.Cond.instanceMethod ({ cls := "QuietChannels", name := "left", desc := "()I" } : Jvm.MethodName)) ∈ lw_all := lw_g (lw_at lw_m5 21 rfl) rfl
theorem q1094 : (Jvm.Cond.selects "QuietChannels" ({ cls := "QuietChannels", name := "left", desc := "()I" } : Jvm.MethodName) ({ cls := "QuietChannels", name := "left", desc := "()I" } : Jvm.MethodName)) ∈ lw_all := lw_g (lw_at lw_m5 22 rfl) rfl
theorem q1095 : (Jvm.Cond.code ({ cls := "QuietChannels", name := "left", desc := "()I" } : Jvm.MethodName) prog_1_method_61_code (1 : Nat) (Option.some Jvm.ClassFile.FieldType.int)) ∈ lw_all := lw_g (lw_at lw_m5 23 rfl) rfl
theorem q1097 : (Jvm.Cond.instanceMethod ({ cls := "QuietChannels", name := "bestSwap", desc := "()I" } : Jvm.MethodName)) ∈ lw_all := lw_g (lw_at lw_m5 25 rfl) rfl
theorem q1098 : (Jvm.Cond.selects "QuietChannels" ({ cls := "QuietChannels", name := "bestSwap", desc := "()I" } : Jvm.MethodName) ({ cls := "QuietChannels", name := "bestSwap", desc := "()I" } : Jvm.MethodName)) ∈ lw_all := lw_g (lw_at lw_m5 26 rfl) rfl
theorem q1099 : (Jvm.Cond.code ({ cls := "QuietChannels", name := "bestSwap", desc := "()I" } : Jvm.MethodName) prog_1_method_62_code (6 : Nat) (Option.some Jvm.ClassFile.FieldType.int)) ∈ lw_all := lw_g (lw_at lw_m5 27 rfl) rfl
theorem q1101 : (Jvm.Cond.instanceMethod ({ cls := "QuietChannels", name := "mostPower", desc := "(I)I" } : Jvm.MethodName)) ∈ lw_all := lw_g (lw_at lw_m5 29 rfl) rfl
theorem q1102 : (Jvm.Cond.selects "QuietChannels" ({ cls := "QuietChannels", name := "mostPower", desc := "(I)I" } : Jvm.MethodName) ({ cls := "QuietChannels", name := "mostPower", desc := "(I)I" } : Jvm.MethodName)) ∈ lw_all := lw_g (lw_at lw_m5 30 rfl) rfl
theorem q1103 : (Jvm.Cond.code ({ cls := "QuietChannels", name := "mostPower", desc := "(I)I" } : Jvm.MethodName) prog_1_method_63_code (3 : Nat) (Option.some Jvm.ClassFile.FieldType.int)) ∈ lw_all := lw_g (lw_at lw_m5 31 rfl) rfl
theorem q1105 : (Jvm.Cond.instanceMethod ({ cls := "QuietChannels", name := "mostGuard", desc := "()I" } : Jvm.MethodName)) ∈ lw_all := lw_g (lw_at lw_m5 33 rfl) rfl
theorem q1106 : (Jvm.Cond.selects "QuietChannels" ({ cls := "QuietChannels", name := "mostGuard", desc := "()I" } : Jvm.MethodName) ({ cls := "QuietChannels", name := "mostGuard", desc := "()I" } : Jvm.MethodName)) ∈ lw_all := lw_g (lw_at lw_m5 34 rfl) rfl
theorem q1107 : (Jvm.Cond.code ({ cls := "QuietChannels", name := "mostGuard", desc := "()I" } : Jvm.MethodName) prog_1_method_64_code (2 : Nat) (Option.some Jvm.ClassFile.FieldType.int)) ∈ lw_all := lw_g (lw_at lw_m5 35 rfl) rfl
theorem q1109 : (Jvm.Cond.instanceMethod ({ cls := "QuietChannels", name := "grown", desc := "(IIII)I" } : Jvm.MethodName)) ∈ lw_all := lw_g (lw_at lw_m5 37 rfl) rfl
theorem q1110 : (Jvm.Cond.selects "QuietChannels" ({ cls := "QuietChannels", name := "grown", desc := "(IIII)I" } : Jvm.MethodName) ({ cls := "QuietChannels", name := "grown", desc := "(IIII)I" } : Jvm.MethodName)) ∈ lw_all := lw_g (lw_at lw_m5 38 rfl) rfl
theorem q1111 : (Jvm.Cond.code ({ cls := "QuietChannels", name := "grown", desc := "(IIII)I" } : Jvm.MethodName) prog_1_method_65_code (6 : Nat) (Option.some Jvm.ClassFile.FieldType.int)) ∈ lw_all := lw_g (lw_at lw_m5 39 rfl) rfl
theorem q1113 : (Jvm.Cond.instanceMethod ({ cls := "QuietChannels", name := "chance", desc := "(III)I" } : Jvm.MethodName)) ∈ lw_all := lw_g (lw_at lw_m5 41 rfl) rfl
theorem q1114 : (Jvm.Cond.selects "QuietChannels" ({ cls := "QuietChannels", name := "chance", desc := "(III)I" } : Jvm.MethodName) ({ cls := "QuietChannels", name := "chance", desc := "(III)I" } : Jvm.MethodName)) ∈ lw_all := lw_g (lw_at lw_m5 42 rfl) rfl
theorem q1115 : (Jvm.Cond.code ({ cls := "QuietChannels", name := "chance", desc := "(III)I" } : Jvm.MethodName) prog_1_method_67_code (9 : Nat) (Option.some Jvm.ClassFile.FieldType.int)) ∈ lw_all := lw_g (lw_at lw_m5 43 rfl) rfl
theorem q1116 : (Jvm.Cond.methodLink "QuietChannels" (335 : Nat) ({ cls := "QuietChannels", name := "draw", desc := "(I)I" } : Jvm.MethodName)) ∈ lw_all := lw_g (lw_at lw_m5 44 rfl) rfl
theorem q1117 : (Jvm.Cond.privateMethod ({ cls := "QuietChannels", name := "draw", desc := "(I)I" } : Jvm.MethodName)) ∈ lw_tbl := lw_at lw_m5 45 rfl
theorem q1118 : (Jvm.Cond.instanceMethod ({ cls := "QuietChannels", name := "draw", desc := "(I)I" } : Jvm.MethodName)) ∈ lw_all := lw_g (lw_at lw_m5 46 rfl) rfl
theorem q1119 : (Jvm.Cond.code ({ cls := "QuietChannels", name := "draw", desc := "(I)I" } : Jvm.MethodName) prog_1_method_66_code (2 : Nat) (Option.some Jvm.ClassFile.FieldType.int)) ∈ lw_all := lw_g (lw_at lw_m5 47 rfl) rfl
theorem q1120 : (Jvm.Cond.constantLong "QuietChannels" (324 : Nat) (1103515245 : Int64)) ∈ lw_all := lw_g (lw_at lw_m5 48 rfl) rfl
theorem q1121 : (Jvm.Cond.constantLong "QuietChannels" (326 : Nat) (12345 : Int64)) ∈ lw_all := lw_g (lw_at lw_m5 49 rfl) rfl
theorem q1122 : (Jvm.Cond.constantLong "QuietChannels" (328 : Nat) (2147483647 : Int64)) ∈ lw_all := lw_g (lw_at lw_m5 50 rfl) rfl
theorem q1123 : (Jvm.Cond.constantLong "QuietChannels" (330 : Nat) (65536 : Int64)) ∈ lw_all := lw_g (lw_at lw_m5 51 rfl) rfl
theorem q1125 : (Jvm.Cond.instanceMethod ({ cls := "QuietChannels", name := "count", desc := "(I)I" } : Jvm.MethodName)) ∈ lw_all := lw_g (lw_at lw_m5 53 rfl) rfl
theorem q1126 : (Jvm.Cond.selects "QuietChannels" ({ cls := "QuietChannels", name := "count", desc := "(I)I" } : Jvm.MethodName) ({ cls := "QuietChannels", name := "count", desc := "(I)I" } : Jvm.MethodName)) ∈ lw_all := lw_g (lw_at lw_m5 54 rfl) rfl
theorem q1127 : (Jvm.Cond.code ({ cls := "QuietChannels", name := "count", desc := "(I)I" } : Jvm.MethodName) prog_1_method_68_code (7 : Nat) (Option.some Jvm.ClassFile.FieldType.int)) ∈ lw_all := lw_g (lw_at lw_m5 55 rfl) rfl
theorem q1167 : (Jvm.Cond.instanceMethod ({ cls := "QuietChannels", name := "user", desc := "(II)I" } : Jvm.MethodName)) ∈ lw_all := lw_g (lw_at lw_m5 95 rfl) rfl
theorem q1168 : (Jvm.Cond.selects "QuietChannels" ({ cls := "QuietChannels", name := "user", desc := "(II)I" } : Jvm.MethodName) ({ cls := "QuietChannels", name := "user", desc := "(II)I" } : Jvm.MethodName)) ∈ lw_all := lw_g (lw_at lw_m5 96 rfl) rfl
theorem q1169 : (Jvm.Cond.code ({ cls := "QuietChannels", name := "user", desc := "(II)I" } : Jvm.MethodName) prog_1_method_32_code (4 : Nat) (Option.some Jvm.ClassFile.FieldType.int)) ∈ lw_all := lw_g (lw_at lw_m5 97 rfl) rfl
theorem q1170 : (Jvm.Cond.classLink "QuietChannels" (209 : Nat) "java/lang/IndexOutOfBoundsException") ∈ lw_all := lw_g (lw_at lw_m5 98 rfl) rfl
theorem q1179 : (Jvm.Cond.methodLink "QuietChannels" (211 : Nat) ({ cls := "java/lang/IndexOutOfBoundsException", name := "<init>", desc := "()V" } : Jvm.MethodName)) ∈ lw_all := lw_g (lw_at lw_m5 107 rfl) rfl
theorem q1191 : (Jvm.Cond.classLink "QuietChannels" (215 : Nat) "java/util/NoSuchElementException") ∈ lw_all := lw_g (lw_at lw_m5 119 rfl) rfl
theorem q1200 : (Jvm.Cond.methodLink "QuietChannels" (217 : Nat) ({ cls := "java/util/NoSuchElementException", name := "<init>", desc := "()V" } : Jvm.MethodName)) ∈ lw_all := lw_g (lw_at lw_m5 128 rfl) rfl
theorem q1864 : (Jvm.Cond.castable "QuietChannels" "java/lang/Object") ∈ lw_tbl := lw_at lw_m8 72 rfl
theorem in_X1 : ∀ w ∈ wsX10, w ∈ lw_all := lw_in wsX10 [406, 408, 410, 412, 414, 416, 418, 420, 422, 424, 426, 428, 430, 432, 434] (by decide +kernel) (by decide +kernel)
