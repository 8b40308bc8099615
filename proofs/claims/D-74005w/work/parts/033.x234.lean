/-! QuietChannels$Told -/
set_option maxRecDepth 100000
def RX2 : String := "QuietChannels$Told"
def TX2 : u_T := fun k => match k with
  | 0 => ("QuietChannels$Told", "users", "[LQuietChannels$User;", true)
  | 1 => ("QuietChannels$Told", "block", "[I", true)
  | 2 => ("QuietChannels$Told", "loss", "[I", true)
  | 3 => ("QuietChannels$Told", "links", "[I", true)
  | 4 => ("QuietChannels$Told", "many", "I", false)
  | 5 => ("QuietChannels$Told", "blocks", "I", false)
  | 6 => ("QuietChannels$Told", "band", "I", false)
  | 7 => ("QuietChannels$Told", "guard", "I", false)
  | 8 => ("QuietChannels$Told", "space", "I", false)
  | 9 => ("QuietChannels$Told", "orders", "I", false)
  | 10 => ("QuietChannels$Told", "seed", "I", false)
  | 11 => ("QuietChannels$Told", "lines", "I", false)
  | _ => ("QuietChannels$Told", "told", "I", false)
def tyX2 : Nat → FieldType := fun k => match k with
  | 0 => .array (.object "QuietChannels$User")
  | 1 => .array .int
  | 2 => .array .int
  | 3 => .array .int
  | 4 => .int
  | 5 => .int
  | 6 => .int
  | 7 => .int
  | 8 => .int
  | 9 => .int
  | 10 => .int
  | 11 => .int
  | _ => .int
abbrev wsX20 : List Cond := u_ws RX2 TX2 13
set_option maxRecDepth 100000 in
theorem nmX2 : ∀ a, a < 13 → ∀ b, b < 13 → a ≠ b → (TX2 a).2.1 ≠ (TX2 b).2.1 := by decide +kernel
set_option maxRecDepth 100000 in
theorem tyX2_ok : ∀ k, k < 13 → parseFieldDescriptor (TX2 k).2.2.1 = some (tyX2 k) := by decide +kernel
abbrev cX2_init : ByteArray := prog_7_method_1_code
def yX2_init : MethodName := ⟨RX2, "<init>", "()V"⟩
def dkwX2_init_4 : List UInt8 := [167, 0, 5, 16, 254, 79, 132, 1, 1, 167, 255, 229, 177]
abbrev dktX2_init_4 : List UInt8 := dkwX2_init_4 ++ []
def dkwX2_init_3 : List UInt8 := [167, 255, 239, 3, 60, 27, 16, 9, 162, 0, 27, 42, 180, 0, 24, 27, 27, 7, 112, 154, 0, 7, 3]
abbrev dktX2_init_3 : List UInt8 := dkwX2_init_3 ++ dktX2_init_4
def dkwX2_init_2 : List UInt8 := [42, 5, 181, 0, 34, 3, 60, 27, 6, 162, 0, 18, 42, 180, 0, 21, 27, 8, 27, 120, 79, 132, 1, 1]
abbrev dktX2_init_2 : List UInt8 := dkwX2_init_2 ++ dktX2_init_3
def dkwX2_init_1 : List UInt8 := [188, 10, 181, 0, 21, 42, 16, 9, 188, 10, 181, 0, 24, 42, 16, 30, 181, 0, 27, 42, 4, 181, 0, 31]
abbrev dktX2_init_1 : List UInt8 := dkwX2_init_1 ++ dktX2_init_2
def dkwX2_init_0 : List UInt8 := [42, 183, 0, 3, 42, 16, 6, 189, 0, 9, 181, 0, 11, 42, 16, 12, 188, 10, 181, 0, 17, 42, 6]
abbrev dktX2_init_0 : List UInt8 := dkwX2_init_0 ++ dktX2_init_1
theorem dksX2_init_0 : cX2_init.data.toList.drop 0 = dktX2_init_0 := by decide +kernel
theorem dksX2_init_1 : cX2_init.data.toList.drop 23 = dktX2_init_1 := dk_seg dksX2_init_0 23 rfl rfl
theorem dksX2_init_2 : cX2_init.data.toList.drop 47 = dktX2_init_2 := dk_seg dksX2_init_1 24 rfl rfl
theorem dksX2_init_3 : cX2_init.data.toList.drop 71 = dktX2_init_3 := dk_seg dksX2_init_2 24 rfl rfl
theorem dksX2_init_4 : cX2_init.data.toList.drop 94 = dktX2_init_4 := dk_seg dksX2_init_3 23 rfl rfl
theorem dX2_init_0 : decode cX2_init 0 = .ok (.aload_n 0, 1) := dk_42 (dk_at dksX2_init_0 0 rfl rfl)
theorem dX2_init_1 : decode cX2_init 1 = .ok (.invokespecial 3, 3) := dk_183 0 3 (dk_at dksX2_init_0 1 rfl rfl)
theorem dX2_init_4 : decode cX2_init 4 = .ok (.aload_n 0, 1) := dk_42 (dk_at dksX2_init_0 4 rfl rfl)
theorem dX2_init_5 : decode cX2_init 5 = .ok (.bipush 6, 2) := dk_16 6 (dk_at dksX2_init_0 5 rfl rfl)
theorem dX2_init_7 : decode cX2_init 7 = .ok (.anewarray 9, 3) := dk_189 0 9 (dk_at dksX2_init_0 7 rfl rfl)
theorem dX2_init_10 : decode cX2_init 10 = .ok (.putfield 11, 3) := dk_181 0 11 (dk_at dksX2_init_0 10 rfl rfl)
theorem dX2_init_13 : decode cX2_init 13 = .ok (.aload_n 0, 1) := dk_42 (dk_at dksX2_init_0 13 rfl rfl)
theorem dX2_init_14 : decode cX2_init 14 = .ok (.bipush 12, 2) := dk_16 12 (dk_at dksX2_init_0 14 rfl rfl)
theorem dX2_init_16 : decode cX2_init 16 = .ok (.newarray .int, 2) := dk_188_10 (dk_at dksX2_init_0 16 rfl rfl)
theorem dX2_init_18 : decode cX2_init 18 = .ok (.putfield 17, 3) := dk_181 0 17 (dk_at dksX2_init_0 18 rfl rfl)
theorem dX2_init_21 : decode cX2_init 21 = .ok (.aload_n 0, 1) := dk_42 (dk_at dksX2_init_0 21 rfl rfl)
theorem dX2_init_22 : decode cX2_init 22 = .ok (.iconst 3, 1) := dk_6 (dk_at dksX2_init_0 22 rfl rfl)
theorem dX2_init_23 : decode cX2_init 23 = .ok (.newarray .int, 2) := dk_188_10 (dk_at dksX2_init_1 0 rfl rfl)
theorem dX2_init_25 : decode cX2_init 25 = .ok (.putfield 21, 3) := dk_181 0 21 (dk_at dksX2_init_1 2 rfl rfl)
theorem dX2_init_28 : decode cX2_init 28 = .ok (.aload_n 0, 1) := dk_42 (dk_at dksX2_init_1 5 rfl rfl)
theorem dX2_init_29 : decode cX2_init 29 = .ok (.bipush 9, 2) := dk_16 9 (dk_at dksX2_init_1 6 rfl rfl)
theorem dX2_init_31 : decode cX2_init 31 = .ok (.newarray .int, 2) := dk_188_10 (dk_at dksX2_init_1 8 rfl rfl)
theorem dX2_init_33 : decode cX2_init 33 = .ok (.putfield 24, 3) := dk_181 0 24 (dk_at dksX2_init_1 10 rfl rfl)
theorem dX2_init_36 : decode cX2_init 36 = .ok (.aload_n 0, 1) := dk_42 (dk_at dksX2_init_1 13 rfl rfl)
theorem dX2_init_37 : decode cX2_init 37 = .ok (.bipush 30, 2) := dk_16 30 (dk_at dksX2_init_1 14 rfl rfl)
theorem dX2_init_39 : decode cX2_init 39 = .ok (.putfield 27, 3) := dk_181 0 27 (dk_at dksX2_init_1 16 rfl rfl)
theorem dX2_init_42 : decode cX2_init 42 = .ok (.aload_n 0, 1) := dk_42 (dk_at dksX2_init_1 19 rfl rfl)
theorem dX2_init_43 : decode cX2_init 43 = .ok (.iconst 1, 1) := dk_4 (dk_at dksX2_init_1 20 rfl rfl)
theorem dX2_init_44 : decode cX2_init 44 = .ok (.putfield 31, 3) := dk_181 0 31 (dk_at dksX2_init_1 21 rfl rfl)
theorem dX2_init_47 : decode cX2_init 47 = .ok (.aload_n 0, 1) := dk_42 (dk_at dksX2_init_2 0 rfl rfl)
theorem dX2_init_48 : decode cX2_init 48 = .ok (.iconst 2, 1) := dk_5 (dk_at dksX2_init_2 1 rfl rfl)
theorem dX2_init_49 : decode cX2_init 49 = .ok (.putfield 34, 3) := dk_181 0 34 (dk_at dksX2_init_2 2 rfl rfl)
theorem dX2_init_52 : decode cX2_init 52 = .ok (.iconst 0, 1) := dk_3 (dk_at dksX2_init_2 5 rfl rfl)
theorem dX2_init_53 : decode cX2_init 53 = .ok (.istore_n 1, 1) := dk_60 (dk_at dksX2_init_2 6 rfl rfl)
theorem dX2_init_54 : decode cX2_init 54 = .ok (.iload_n 1, 1) := dk_27 (dk_at dksX2_init_2 7 rfl rfl)
theorem dX2_init_55 : decode cX2_init 55 = .ok (.iconst 3, 1) := dk_6 (dk_at dksX2_init_2 8 rfl rfl)
theorem dX2_init_56 : decode cX2_init 56 = .ok (.if_icmp .ge 18, 3) := dk_162 0 18 (dk_at dksX2_init_2 9 rfl rfl)
theorem dX2_init_59 : decode cX2_init 59 = .ok (.aload_n 0, 1) := dk_42 (dk_at dksX2_init_2 12 rfl rfl)
theorem dX2_init_60 : decode cX2_init 60 = .ok (.getfield 21, 3) := dk_180 0 21 (dk_at dksX2_init_2 13 rfl rfl)
theorem dX2_init_63 : decode cX2_init 63 = .ok (.iload_n 1, 1) := dk_27 (dk_at dksX2_init_2 16 rfl rfl)
theorem dX2_init_64 : decode cX2_init 64 = .ok (.iconst 5, 1) := dk_8 (dk_at dksX2_init_2 17 rfl rfl)
theorem dX2_init_65 : decode cX2_init 65 = .ok (.iload_n 1, 1) := dk_27 (dk_at dksX2_init_2 18 rfl rfl)
theorem dX2_init_66 : decode cX2_init 66 = .ok (.ishl, 1) := dk_120 (dk_at dksX2_init_2 19 rfl rfl)
theorem dX2_init_67 : decode cX2_init 67 = .ok (.iastore, 1) := dk_79 (dk_at dksX2_init_2 20 rfl rfl)
theorem dX2_init_68 : decode cX2_init 68 = .ok (.iinc 1 1, 3) := dk_132 1 1 (dk_at dksX2_init_2 21 rfl rfl)
theorem dX2_init_71 : decode cX2_init 71 = .ok (.goto (-17), 3) := dk_167 255 239 (dk_at dksX2_init_3 0 rfl rfl)
theorem dX2_init_74 : decode cX2_init 74 = .ok (.iconst 0, 1) := dk_3 (dk_at dksX2_init_3 3 rfl rfl)
theorem dX2_init_75 : decode cX2_init 75 = .ok (.istore_n 1, 1) := dk_60 (dk_at dksX2_init_3 4 rfl rfl)
theorem dX2_init_76 : decode cX2_init 76 = .ok (.iload_n 1, 1) := dk_27 (dk_at dksX2_init_3 5 rfl rfl)
theorem dX2_init_77 : decode cX2_init 77 = .ok (.bipush 9, 2) := dk_16 9 (dk_at dksX2_init_3 6 rfl rfl)
theorem dX2_init_79 : decode cX2_init 79 = .ok (.if_icmp .ge 27, 3) := dk_162 0 27 (dk_at dksX2_init_3 8 rfl rfl)
theorem dX2_init_82 : decode cX2_init 82 = .ok (.aload_n 0, 1) := dk_42 (dk_at dksX2_init_3 11 rfl rfl)
theorem dX2_init_83 : decode cX2_init 83 = .ok (.getfield 24, 3) := dk_180 0 24 (dk_at dksX2_init_3 12 rfl rfl)
theorem dX2_init_86 : decode cX2_init 86 = .ok (.iload_n 1, 1) := dk_27 (dk_at dksX2_init_3 15 rfl rfl)
theorem dX2_init_87 : decode cX2_init 87 = .ok (.iload_n 1, 1) := dk_27 (dk_at dksX2_init_3 16 rfl rfl)
theorem dX2_init_88 : decode cX2_init 88 = .ok (.iconst 4, 1) := dk_7 (dk_at dksX2_init_3 17 rfl rfl)
theorem dX2_init_89 : decode cX2_init 89 = .ok (.irem, 1) := dk_112 (dk_at dksX2_init_3 18 rfl rfl)
theorem dX2_init_90 : decode cX2_init 90 = .ok (.ifCond .ne 7, 3) := dk_154 0 7 (dk_at dksX2_init_3 19 rfl rfl)
theorem dX2_init_93 : decode cX2_init 93 = .ok (.iconst 0, 1) := dk_3 (dk_at dksX2_init_3 22 rfl rfl)
theorem dX2_init_94 : decode cX2_init 94 = .ok (.goto 5, 3) := dk_167 0 5 (dk_at dksX2_init_4 0 rfl rfl)
theorem dX2_init_97 : decode cX2_init 97 = .ok (.bipush (-2), 2) := dk_16 254 (dk_at dksX2_init_4 3 rfl rfl)
theorem dX2_init_99 : decode cX2_init 99 = .ok (.iastore, 1) := dk_79 (dk_at dksX2_init_4 5 rfl rfl)
theorem dX2_init_100 : decode cX2_init 100 = .ok (.iinc 1 1, 3) := dk_132 1 1 (dk_at dksX2_init_4 6 rfl rfl)
theorem dX2_init_103 : decode cX2_init 103 = .ok (.goto (-27), 3) := dk_167 255 229 (dk_at dksX2_init_4 9 rfl rfl)
theorem dX2_init_106 : decode cX2_init 106 = .ok (.return_, 1) := dk_177 (dk_at dksX2_init_4 12 rfl rfl)
abbrev cX2_user : ByteArray := prog_7_method_2_code
def yX2_user : MethodName := ⟨RX2, "user", "(I)I"⟩
def dkwX2_user_1 : List UInt8 := [172, 132, 2, 1, 167, 255, 230, 2, 172]
abbrev dktX2_user_1 : List UInt8 := dkwX2_user_1 ++ []
def dkwX2_user_0 : List UInt8 := [3, 61, 28, 42, 180, 0, 37, 162, 0, 24, 42, 180, 0, 11, 28, 50, 180, 0, 40, 27, 160, 0, 5, 28]
abbrev dktX2_user_0 : List UInt8 := dkwX2_user_0 ++ dktX2_user_1
theorem dksX2_user_0 : cX2_user.data.toList.drop 0 = dktX2_user_0 := by decide +kernel
theorem dksX2_user_1 : cX2_user.data.toList.drop 24 = dktX2_user_1 := dk_seg dksX2_user_0 24 rfl rfl
theorem dX2_user_0 : decode cX2_user 0 = .ok (.iconst 0, 1) := dk_3 (dk_at dksX2_user_0 0 rfl rfl)
theorem dX2_user_1 : decode cX2_user 1 = .ok (.istore_n 2, 1) := dk_61 (dk_at dksX2_user_0 1 rfl rfl)
theorem dX2_user_2 : decode cX2_user 2 = .ok (.iload_n 2, 1) := dk_28 (dk_at dksX2_user_0 2 rfl rfl)
theorem dX2_user_3 : decode cX2_user 3 = .ok (.aload_n 0, 1) := dk_42 (dk_at dksX2_user_0 3 rfl rfl)
theorem dX2_user_4 : decode cX2_user 4 = .ok (.getfield 37, 3) := dk_180 0 37 (dk_at dksX2_user_0 4 rfl rfl)
theorem dX2_user_7 : decode cX2_user 7 = .ok (.if_icmp .ge 24, 3) := dk_162 0 24 (dk_at dksX2_user_0 7 rfl rfl)
theorem dX2_user_10 : decode cX2_user 10 = .ok (.aload_n 0, 1) := dk_42 (dk_at dksX2_user_0 10 rfl rfl)
theorem dX2_user_11 : decode cX2_user 11 = .ok (.getfield 11, 3) := dk_180 0 11 (dk_at dksX2_user_0 11 rfl rfl)
theorem dX2_user_14 : decode cX2_user 14 = .ok (.iload_n 2, 1) := dk_28 (dk_at dksX2_user_0 14 rfl rfl)
theorem dX2_user_15 : decode cX2_user 15 = .ok (.aaload, 1) := dk_50 (dk_at dksX2_user_0 15 rfl rfl)
theorem dX2_user_16 : decode cX2_user 16 = .ok (.getfield 40, 3) := dk_180 0 40 (dk_at dksX2_user_0 16 rfl rfl)
theorem dX2_user_19 : decode cX2_user 19 = .ok (.iload_n 1, 1) := dk_27 (dk_at dksX2_user_0 19 rfl rfl)
theorem dX2_user_20 : decode cX2_user 20 = .ok (.if_icmp .ne 5, 3) := dk_160 0 5 (dk_at dksX2_user_0 20 rfl rfl)
theorem dX2_user_23 : decode cX2_user 23 = .ok (.iload_n 2, 1) := dk_28 (dk_at dksX2_user_0 23 rfl rfl)
theorem dX2_user_24 : decode cX2_user 24 = .ok (.ireturn, 1) := dk_172 (dk_at dksX2_user_1 0 rfl rfl)
theorem dX2_user_25 : decode cX2_user 25 = .ok (.iinc 2 1, 3) := dk_132 2 1 (dk_at dksX2_user_1 1 rfl rfl)
theorem dX2_user_28 : decode cX2_user 28 = .ok (.goto (-26), 3) := dk_167 255 230 (dk_at dksX2_user_1 4 rfl rfl)
theorem dX2_user_31 : decode cX2_user 31 = .ok (.iconst (-1), 1) := dk_2 (dk_at dksX2_user_1 7 rfl rfl)
theorem dX2_user_32 : decode cX2_user 32 = .ok (.ireturn, 1) := dk_172 (dk_at dksX2_user_1 8 rfl rfl)
theorem q114 : (Jvm.Cond.initialized "QuietChannels$Told") ∈ lw_all := lw_g (lw_at lw_m1 2 rfl) rfl
theorem q145 : (Jvm.Cond.instantiable "QuietChannels$Told" (13 : Nat)) ∈ lw_all := lw_g (lw_at lw_m1 33 rfl) rfl
theorem q147 : (Jvm.Cond.instanceMethod ({ cls := "QuietChannels$Told", name := "<init>", desc := "()V" } : Jvm.MethodName)) ∈ lw_all := lw_g (lw_at lw_m1 35 rfl) rfl
theorem q148 : (Jvm.Cond.code ({ cls := "QuietChannels$Told", name := "<init>", desc := "()V" } : Jvm.MethodName) prog_7_method_1_code (2 : Nat) (Option.none : Option Jvm.ClassFile.FieldType)) ∈ lw_all := lw_g (lw_at lw_m1 36 rfl) rfl
theorem q149 : (Jvm.Cond.methodLink "QuietChannels$Told" (3 : Nat) ({ cls := "java/lang/Object", name := "<init>", desc := "()V" } : Jvm.MethodName)) ∈ lw_all := lw_g (lw_at lw_m1 37 rfl) rfl
theorem q150 : (Jvm.Cond.classLink "QuietChannels$Told" (9 : Nat) "QuietChannels$User") ∈ lw_all := lw_g (lw_at lw_m1 38 rfl) rfl
theorem q152 : (Jvm.Cond.fieldLink "QuietChannels$Told" (11 : Nat) "QuietChannels$Told" "users" "[LQuietChannels$User;") ∈ lw_all := lw_g (lw_at lw_m1 40 rfl) rfl
theorem q158 : (Jvm.Cond.fieldLink "QuietChannels$Told" (17 : Nat) "QuietChannels$Told" "block" "[I") ∈ lw_all := lw_g (lw_at lw_m1 46 rfl) rfl
theorem q161 : (Jvm.Cond.fieldLink "QuietChannels$Told" (21 : Nat) "QuietChannels$Told" "loss" "[I") ∈ lw_all := lw_g (lw_at lw_m1 49 rfl) rfl
theorem q164 : (Jvm.Cond.fieldLink "QuietChannels$Told" (24 : Nat) "QuietChannels$Told" "links" "[I") ∈ lw_all := lw_g (lw_at lw_m1 52 rfl) rfl
theorem q169 : (Jvm.Cond.fieldLink "QuietChannels$Told" (37 : Nat) "QuietChannels$Told" "many" "I") ∈ lw_all := lw_g (lw_at lw_m1 57 rfl) rfl
theorem q177 : (Jvm.Cond.fieldLink "QuietChannels$Told" (27 : Nat) "QuietChannels$Told" "band" "I") ∈ lw_all := lw_g (lw_at lw_m1 65 rfl) rfl
theorem q184 : (Jvm.Cond.fieldLink "QuietChannels$Told" (31 : Nat) "QuietChannels$Told" "space" "I") ∈ lw_all := lw_g (lw_at lw_m1 72 rfl) rfl
theorem q188 : (Jvm.Cond.fieldLink "QuietChannels$Told" (34 : Nat) "QuietChannels$Told" "orders" "I") ∈ lw_all := lw_g (lw_at lw_m1 76 rfl) rfl
theorem q197 : (Jvm.Cond.laysFinal "QuietChannels$Told" "QuietChannels$Told" "users" "[LQuietChannels$User;") ∈ lw_all := lw_g (lw_at lw_m1 85 rfl) rfl
theorem q198 : (Jvm.Cond.soleField "QuietChannels$Told" "users") ∈ lw_all := lw_g (lw_at lw_m1 86 rfl) rfl
theorem q199 : (Jvm.Cond.laysFinal "QuietChannels$Told" "QuietChannels$Told" "block" "[I") ∈ lw_all := lw_g (lw_at lw_m1 87 rfl) rfl
theorem q200 : (Jvm.Cond.soleField "QuietChannels$Told" "block") ∈ lw_all := lw_g (lw_at lw_m1 88 rfl) rfl
theorem q201 : (Jvm.Cond.laysFinal "QuietChannels$Told" "QuietChannels$Told" "loss" "[I") ∈ lw_all := lw_g (lw_at lw_m1 89 rfl) rfl
theorem q202 : (Jvm.Cond.soleField "QuietChannels$Told" "loss") ∈ lw_all := lw_g (lw_at lw_m1 90 rfl) rfl
theorem q203 : (Jvm.Cond.laysFinal "QuietChannels$Told" "QuietChannels$Told" "links" "[I") ∈ lw_all := lw_g (lw_at lw_m1 91 rfl) rfl
theorem q204 : (Jvm.Cond.soleField "QuietChannels$Told" "links") ∈ lw_all := lw_g (lw_at lw_m1 92 rfl) rfl
theorem q205 : (Jvm.Cond.lays "QuietChannels$Told" "QuietChannels$Told" "many" "I") ∈ lw_all := lw_g (lw_at lw_m1 93 rfl) rfl
theorem q206 : (Jvm.Cond.soleField "QuietChannels$Told" "many") ∈ lw_all := lw_g (lw_at lw_m1 94 rfl) rfl
theorem q207 : (Jvm.Cond.lays "QuietChannels$Told" "QuietChannels$Told" "blocks" "I") ∈ lw_all := lw_g (lw_at lw_m1 95 rfl) rfl
theorem q208 : (Jvm.Cond.soleField "QuietChannels$Told" "blocks") ∈ lw_all := lw_g (lw_at lw_m1 96 rfl) rfl
theorem q209 : (Jvm.Cond.lays "QuietChannels$Told" "QuietChannels$Told" "band" "I") ∈ lw_all := lw_g (lw_at lw_m1 97 rfl) rfl
theorem q210 : (Jvm.Cond.soleField "QuietChannels$Told" "band") ∈ lw_all := lw_g (lw_at lw_m1 98 rfl) rfl
theorem q211 : (Jvm.Cond.lays "QuietChannels$Told" "QuietChannels$Told" "guard" "I") ∈ lw_all := lw_g (lw_at lw_m1 99 rfl) rfl
theorem q212 : (Jvm.Cond.soleField "QuietChannels$Told" "guard") ∈ lw_all := lw_g (lw_at lw_m1 100 rfl) rfl
theorem q213 : (Jvm.Cond.lays "QuietChannels$Told" "QuietChannels$Told" "space" "I") ∈ lw_all := lw_g (lw_at lw_m1 101 rfl) rfl
theorem q214 : (Jvm.Cond.soleField "QuietChannels$Told" "space") ∈ lw_all := lw_g (lw_at lw_m1 102 rfl) rfl
theorem q215 : (Jvm.Cond.lays "QuietChannels$Told" "QuietChannels$Told" "orders" "I") ∈ lw_all := lw_g (lw_at lw_m1 103 rfl) rfl
theorem q216 : (Jvm.Cond.soleField "QuietChannels$Told" "orders") ∈ lw_all := lw_g (lw_at lw_m1 104 rfl) rfl
theorem q217 : (Jvm.Cond.lays "QuietChannels$Told" "QuietChannels$Told" "seed" "I") ∈ lw_all := lw_g (lw_at lw_m1 105 rfl) rfl
theorem q218 : (Jvm.Cond.soleField "QuietChannels$Told" "seed") ∈ lw_all := lw_g (lw_at lw_m1 106 rfl) rfl
theorem q219 : (Jvm.Cond.lays "QuietChannels$Told" "QuietChannels$Told" "lines" "I") ∈ lw_all := lw_g (lw_at lw_m1 107 rfl) rfl
theorem q220 : (Jvm.Cond.soleField "QuietChannels$Told" "lines") ∈ lw_all := lw_g (lw_at lw_m1 108 rfl) rfl
theorem q221 : (Jvm.Cond.lays "QuietChannels$Told" "QuietChannels$Told" "told" "I") ∈ lw_all := lw_g (lw_at lw_m1 109 rfl) rfl
theorem q222 : (Jvm.Cond.soleField "QuietChannels$Told" "told") ∈ lw_all := lw_g (lw_at lw_m1 110 rfl) rfl
theorem q223 : (Jvm.Cond.superclass "QuietChannels$Told" "java/lang/Object") ∈ lw_all := lw_g (lw_at lw_m1 111 rfl) rfl
theorem q703 : (Jvm.Cond.instanceMethod ({ cls := "QuietChannels$Told", name := "user", desc := "(I)I" } : Jvm.MethodName)) ∈ lw_all := lw_g (lw_at lw_m3 111 rfl) rfl
theorem q704 : (Jvm.Cond.selects "QuietChannels$Told" ({ cls := "QuietChannels$Told", name := "user", desc := "(I)I" } : Jvm.MethodName) ({ cls := "QuietChannels$Told", name := "user", desc := "(I)I" } : Jvm.MethodName)) ∈ lw_all := lw_g (lw_at lw_m3 112 rfl) rfl
theorem q705 : (Jvm.Cond.code ({ cls := "QuietChannels$Told", name := "user", desc := "(I)I" } : Jvm.MethodName) prog_7_method_2_code (3 : Nat) (Option.some Jvm.ClassFile.FieldType.int)) ∈ lw_all := lw_g (lw_at lw_m3 113 rfl) rfl
theorem q717 : (Jvm.Cond.fieldLinkNest "QuietChannels$Told" (40 : Nat) "QuietChannels$User" "name" "I" "QuietChannels") ∈ lw_tbl := lw_at lw_m3 125 rfl
theorem q1865 : (Jvm.Cond.castable "QuietChannels$Told" "java/lang/Object") ∈ lw_tbl := lw_at lw_m8 73 rfl
theorem in_X2 : ∀ w ∈ wsX20, w ∈ lw_all := lw_in wsX20 [197, 199, 201, 203, 205, 207, 209, 211, 213, 215, 217, 219, 221] (by decide +kernel) (by decide +kernel)
/-! QuietChannels$Plan -/
set_option maxRecDepth 100000
def RX3 : String := "QuietChannels$Plan"
def TX3 : u_T := fun k => match k with
  | 0 => ("QuietChannels$Plan", "channel", "[I", true)
  | 1 => ("QuietChannels$Plan", "power", "[I", true)
  | 2 => ("QuietChannels$Plan", "slots", "[I", true)
  | _ => ("QuietChannels$Plan", "isBlocked", "[Z", true)
def tyX3 : Nat → FieldType := fun k => match k with
  | 0 => .array .int
  | 1 => .array .int
  | 2 => .array .int
  | _ => .array .boolean
abbrev wsX30 : List Cond := u_ws RX3 TX3 4
theorem nmX3 : ∀ a, a < 4 → ∀ b, b < 4 → a ≠ b → (TX3 a).2.1 ≠ (TX3 b).2.1 := by decide +kernel
theorem tyX3_ok : ∀ k, k < 4 → parseFieldDescriptor (TX3 k).2.2.1 = some (tyX3 k) := by decide +kernel
abbrev cX3_init : ByteArray := prog_4_method_1_code
def yX3_init : MethodName := ⟨RX3, "<init>", "()V"⟩
def dkwX3_init_1 : List UInt8 := [188, 10, 181, 0, 18, 42, 16, 61, 188, 4, 181, 0, 21, 177]
abbrev dktX3_init_1 : List UInt8 := dkwX3_init_1 ++ []
def dkwX3_init_0 : List UInt8 := [42, 183, 0, 3, 42, 16, 6, 188, 10, 181, 0, 9, 42, 16, 6, 188, 10, 181, 0, 15, 42, 16, 6]
abbrev dktX3_init_0 : List UInt8 := dkwX3_init_0 ++ dktX3_init_1
theorem dksX3_init_0 : cX3_init.data.toList.drop 0 = dktX3_init_0 := by decide +kernel
theorem dksX3_init_1 : cX3_init.data.toList.drop 23 = dktX3_init_1 := dk_seg dksX3_init_0 23 rfl rfl
theorem dX3_init_0 : decode cX3_init 0 = .ok (.aload_n 0, 1) := dk_42 (dk_at dksX3_init_0 0 rfl rfl)
theorem dX3_init_1 : decode cX3_init 1 = .ok (.invokespecial 3, 3) := dk_183 0 3 (dk_at dksX3_init_0 1 rfl rfl)
theorem dX3_init_4 : decode cX3_init 4 = .ok (.aload_n 0, 1) := dk_42 (dk_at dksX3_init_0 4 rfl rfl)
theorem dX3_init_5 : decode cX3_init 5 = .ok (.bipush 6, 2) := dk_16 6 (dk_at dksX3_init_0 5 rfl rfl)
theorem dX3_init_7 : decode cX3_init 7 = .ok (.newarray .int, 2) := dk_188_10 (dk_at dksX3_init_0 7 rfl rfl)
theorem dX3_init_9 : decode cX3_init 9 = .ok (.putfield 9, 3) := dk_181 0 9 (dk_at dksX3_init_0 9 rfl rfl)
theorem dX3_init_12 : decode cX3_init 12 = .ok (.aload_n 0, 1) := dk_42 (dk_at dksX3_init_0 12 rfl rfl)
theorem dX3_init_13 : decode cX3_init 13 = .ok (.bipush 6, 2) := dk_16 6 (dk_at dksX3_init_0 13 rfl rfl)
theorem dX3_init_15 : decode cX3_init 15 = .ok (.newarray .int, 2) := dk_188_10 (dk_at dksX3_init_0 15 rfl rfl)
theorem dX3_init_17 : decode cX3_init 17 = .ok (.putfield 15, 3) := dk_181 0 15 (dk_at dksX3_init_0 17 rfl rfl)
theorem dX3_init_20 : decode cX3_init 20 = .ok (.aload_n 0, 1) := dk_42 (dk_at dksX3_init_0 20 rfl rfl)
theorem dX3_init_21 : decode cX3_init 21 = .ok (.bipush 6, 2) := dk_16 6 (dk_at dksX3_init_0 21 rfl rfl)
theorem dX3_init_23 : decode cX3_init 23 = .ok (.newarray .int, 2) := dk_188_10 (dk_at dksX3_init_1 0 rfl rfl)
theorem dX3_init_25 : decode cX3_init 25 = .ok (.putfield 18, 3) := dk_181 0 18 (dk_at dksX3_init_1 2 rfl rfl)
theorem dX3_init_28 : decode cX3_init 28 = .ok (.aload_n 0, 1) := dk_42 (dk_at dksX3_init_1 5 rfl rfl)
theorem dX3_init_29 : decode cX3_init 29 = .ok (.bipush 61, 2) := dk_16 61 (dk_at dksX3_init_1 6 rfl rfl)
theorem dX3_init_31 : decode cX3_init 31 = .ok (.newarray .boolean, 2) := dk_188_4 (dk_at dksX3_init_1 8 rfl rfl)
theorem dX3_init_33 : decode cX3_init 33 = .ok (.putfield 21, 3) := dk_181 0 21 (dk_at dksX3_init_1 10 rfl rfl)
theorem dX3_init_36 : decode cX3_init 36 = .ok (.return_, 1) := dk_177 (dk_at dksX3_init_1 13 rfl rfl)
abbrev cX3_fresh : ByteArray := prog_4_method_2_code
def yX3_fresh : MethodName := ⟨RX3, "fresh", "(LQuietChannels$Told;)V"⟩
def dkwX3_fresh_6 : List UInt8 := [132, 3, 1, 167, 255, 232, 132, 2, 1, 167, 255, 209, 177]
abbrev dktX3_fresh_6 : List UInt8 := dkwX3_fresh_6 ++ []
def dkwX3_fresh_5 : List UInt8 := [46, 62, 29, 43, 180, 0, 47, 5, 28, 104, 4, 96, 46, 163, 0, 16, 42, 180, 0, 21, 29, 4, 84]
abbrev dktX3_fresh_5 : List UInt8 := dkwX3_fresh_5 ++ dktX3_fresh_6
def dkwX3_fresh_4 : List UInt8 := [84, 132, 2, 1, 167, 255, 240, 3, 61, 28, 43, 180, 0, 44, 162, 0, 45, 43, 180, 0, 47, 5, 28, 104]
abbrev dktX3_fresh_4 : List UInt8 := dkwX3_fresh_4 ++ dktX3_fresh_5
def dkwX3_fresh_3 : List UInt8 := [180, 0, 42, 79, 132, 2, 1, 167, 255, 182, 3, 61, 28, 16, 60, 163, 0, 16, 42, 180, 0, 21, 28, 3]
abbrev dktX3_fresh_3 : List UInt8 := dkwX3_fresh_3 ++ dktX3_fresh_4
def dkwX3_fresh_2 : List UInt8 := [180, 0, 31, 28, 50, 180, 0, 42, 154, 0, 9, 17, 0, 255, 167, 0, 12, 43, 180, 0, 31, 28, 50]
abbrev dktX3_fresh_2 : List UInt8 := dkwX3_fresh_2 ++ dktX3_fresh_3
def dkwX3_fresh_1 : List UInt8 := [79, 42, 180, 0, 15, 28, 43, 180, 0, 31, 28, 50, 180, 0, 40, 79, 42, 180, 0, 18, 28, 43]
abbrev dktX3_fresh_1 : List UInt8 := dkwX3_fresh_1 ++ dktX3_fresh_2
def dkwX3_fresh_0 : List UInt8 := [3, 61, 28, 43, 180, 0, 25, 162, 0, 72, 42, 180, 0, 9, 28, 43, 180, 0, 31, 28, 50, 180, 0, 35]
abbrev dktX3_fresh_0 : List UInt8 := dkwX3_fresh_0 ++ dktX3_fresh_1
theorem dksX3_fresh_0 : cX3_fresh.data.toList.drop 0 = dktX3_fresh_0 := by decide +kernel
theorem dksX3_fresh_1 : cX3_fresh.data.toList.drop 24 = dktX3_fresh_1 := dk_seg dksX3_fresh_0 24 rfl rfl
theorem dksX3_fresh_2 : cX3_fresh.data.toList.drop 46 = dktX3_fresh_2 := dk_seg dksX3_fresh_1 22 rfl rfl
theorem dksX3_fresh_3 : cX3_fresh.data.toList.drop 69 = dktX3_fresh_3 := dk_seg dksX3_fresh_2 23 rfl rfl
theorem dksX3_fresh_4 : cX3_fresh.data.toList.drop 93 = dktX3_fresh_4 := dk_seg dksX3_fresh_3 24 rfl rfl
theorem dksX3_fresh_5 : cX3_fresh.data.toList.drop 117 = dktX3_fresh_5 := dk_seg dksX3_fresh_4 24 rfl rfl
theorem dksX3_fresh_6 : cX3_fresh.data.toList.drop 140 = dktX3_fresh_6 := dk_seg dksX3_fresh_5 23 rfl rfl
theorem dX3_fresh_0 : decode cX3_fresh 0 = .ok (.iconst 0, 1) := dk_3 (dk_at dksX3_fresh_0 0 rfl rfl)
theorem dX3_fresh_1 : decode cX3_fresh 1 = .ok (.istore_n 2, 1) := dk_61 (dk_at dksX3_fresh_0 1 rfl rfl)
theorem dX3_fresh_2 : decode cX3_fresh 2 = .ok (.iload_n 2, 1) := dk_28 (dk_at dksX3_fresh_0 2 rfl rfl)
theorem dX3_fresh_3 : decode cX3_fresh 3 = .ok (.aload_n 1, 1) := dk_43 (dk_at dksX3_fresh_0 3 rfl rfl)
theorem dX3_fresh_4 : decode cX3_fresh 4 = .ok (.getfield 25, 3) := dk_180 0 25 (dk_at dksX3_fresh_0 4 rfl rfl)
theorem dX3_fresh_7 : decode cX3_fresh 7 = .ok (.if_icmp .ge 72, 3) := dk_162 0 72 (dk_at dksX3_fresh_0 7 rfl rfl)
theorem dX3_fresh_10 : decode cX3_fresh 10 = .ok (.aload_n 0, 1) := dk_42 (dk_at dksX3_fresh_0 10 rfl rfl)
theorem dX3_fresh_11 : decode cX3_fresh 11 = .ok (.getfield 9, 3) := dk_180 0 9 (dk_at dksX3_fresh_0 11 rfl rfl)
theorem dX3_fresh_14 : decode cX3_fresh 14 = .ok (.iload_n 2, 1) := dk_28 (dk_at dksX3_fresh_0 14 rfl rfl)
theorem dX3_fresh_15 : decode cX3_fresh 15 = .ok (.aload_n 1, 1) := dk_43 (dk_at dksX3_fresh_0 15 rfl rfl)
theorem dX3_fresh_16 : decode cX3_fresh 16 = .ok (.getfield 31, 3) := dk_180 0 31 (dk_at dksX3_fresh_0 16 rfl rfl)
theorem dX3_fresh_19 : decode cX3_fresh 19 = .ok (.iload_n 2, 1) := dk_28 (dk_at dksX3_fresh_0 19 rfl rfl)
theorem dX3_fresh_20 : decode cX3_fresh 20 = .ok (.aaload, 1) := dk_50 (dk_at dksX3_fresh_0 20 rfl rfl)
theorem dX3_fresh_21 : decode cX3_fresh 21 = .ok (.getfield 35, 3) := dk_180 0 35 (dk_at dksX3_fresh_0 21 rfl rfl)
theorem dX3_fresh_24 : decode cX3_fresh 24 = .ok (.iastore, 1) := dk_79 (dk_at dksX3_fresh_1 0 rfl rfl)
theorem dX3_fresh_25 : decode cX3_fresh 25 = .ok (.aload_n 0, 1) := dk_42 (dk_at dksX3_fresh_1 1 rfl rfl)
theorem dX3_fresh_26 : decode cX3_fresh 26 = .ok (.getfield 15, 3) := dk_180 0 15 (dk_at dksX3_fresh_1 2 rfl rfl)
theorem dX3_fresh_29 : decode cX3_fresh 29 = .ok (.iload_n 2, 1) := dk_28 (dk_at dksX3_fresh_1 5 rfl rfl)
theorem dX3_fresh_30 : decode cX3_fresh 30 = .ok (.aload_n 1, 1) := dk_43 (dk_at dksX3_fresh_1 6 rfl rfl)
theorem dX3_fresh_31 : decode cX3_fresh 31 = .ok (.getfield 31, 3) := dk_180 0 31 (dk_at dksX3_fresh_1 7 rfl rfl)
theorem dX3_fresh_34 : decode cX3_fresh 34 = .ok (.iload_n 2, 1) := dk_28 (dk_at dksX3_fresh_1 10 rfl rfl)
theorem dX3_fresh_35 : decode cX3_fresh 35 = .ok (.aaload, 1) := dk_50 (dk_at dksX3_fresh_1 11 rfl rfl)
theorem dX3_fresh_36 : decode cX3_fresh 36 = .ok (.getfield 40, 3) := dk_180 0 40 (dk_at dksX3_fresh_1 12 rfl rfl)
theorem dX3_fresh_39 : decode cX3_fresh 39 = .ok (.iastore, 1) := dk_79 (dk_at dksX3_fresh_1 15 rfl rfl)
theorem dX3_fresh_40 : decode cX3_fresh 40 = .ok (.aload_n 0, 1) := dk_42 (dk_at dksX3_fresh_1 16 rfl rfl)
theorem dX3_fresh_41 : decode cX3_fresh 41 = .ok (.getfield 18, 3) := dk_180 0 18 (dk_at dksX3_fresh_1 17 rfl rfl)
theorem dX3_fresh_44 : decode cX3_fresh 44 = .ok (.iload_n 2, 1) := dk_28 (dk_at dksX3_fresh_1 20 rfl rfl)
theorem dX3_fresh_45 : decode cX3_fresh 45 = .ok (.aload_n 1, 1) := dk_43 (dk_at dksX3_fresh_1 21 rfl rfl)
theorem dX3_fresh_46 : decode cX3_fresh 46 = .ok (.getfield 31, 3) := dk_180 0 31 (dk_at dksX3_fresh_2 0 rfl rfl)
theorem dX3_fresh_49 : decode cX3_fresh 49 = .ok (.iload_n 2, 1) := dk_28 (dk_at dksX3_fresh_2 3 rfl rfl)
theorem dX3_fresh_50 : decode cX3_fresh 50 = .ok (.aaload, 1) := dk_50 (dk_at dksX3_fresh_2 4 rfl rfl)
theorem dX3_fresh_51 : decode cX3_fresh 51 = .ok (.getfield 42, 3) := dk_180 0 42 (dk_at dksX3_fresh_2 5 rfl rfl)
theorem dX3_fresh_54 : decode cX3_fresh 54 = .ok (.ifCond .ne 9, 3) := dk_154 0 9 (dk_at dksX3_fresh_2 8 rfl rfl)
theorem dX3_fresh_57 : decode cX3_fresh 57 = .ok (.sipush 255, 3) := dk_17 0 255 (dk_at dksX3_fresh_2 11 rfl rfl)
theorem dX3_fresh_60 : decode cX3_fresh 60 = .ok (.goto 12, 3) := dk_167 0 12 (dk_at dksX3_fresh_2 14 rfl rfl)
theorem dX3_fresh_63 : decode cX3_fresh 63 = .ok (.aload_n 1, 1) := dk_43 (dk_at dksX3_fresh_2 17 rfl rfl)
theorem dX3_fresh_64 : decode cX3_fresh 64 = .ok (.getfield 31, 3) := dk_180 0 31 (dk_at dksX3_fresh_2 18 rfl rfl)
theorem dX3_fresh_67 : decode cX3_fresh 67 = .ok (.iload_n 2, 1) := dk_28 (dk_at dksX3_fresh_2 21 rfl rfl)
theorem dX3_fresh_68 : decode cX3_fresh 68 = .ok (.aaload, 1) := dk_50 (dk_at dksX3_fresh_2 22 rfl rfl)
theorem dX3_fresh_69 : decode cX3_fresh 69 = .ok (.getfield 42, 3) := dk_180 0 42 (dk_at dksX3_fresh_3 0 rfl rfl)
theorem dX3_fresh_72 : decode cX3_fresh 72 = .ok (.iastore, 1) := dk_79 (dk_at dksX3_fresh_3 3 rfl rfl)
theorem dX3_fresh_73 : decode cX3_fresh 73 = .ok (.iinc 2 1, 3) := dk_132 2 1 (dk_at dksX3_fresh_3 4 rfl rfl)
theorem dX3_fresh_76 : decode cX3_fresh 76 = .ok (.goto (-74), 3) := dk_167 255 182 (dk_at dksX3_fresh_3 7 rfl rfl)
theorem dX3_fresh_79 : decode cX3_fresh 79 = .ok (.iconst 0, 1) := dk_3 (dk_at dksX3_fresh_3 10 rfl rfl)
theorem dX3_fresh_80 : decode cX3_fresh 80 = .ok (.istore_n 2, 1) := dk_61 (dk_at dksX3_fresh_3 11 rfl rfl)
theorem dX3_fresh_81 : decode cX3_fresh 81 = .ok (.iload_n 2, 1) := dk_28 (dk_at dksX3_fresh_3 12 rfl rfl)
theorem dX3_fresh_82 : decode cX3_fresh 82 = .ok (.bipush 60, 2) := dk_16 60 (dk_at dksX3_fresh_3 13 rfl rfl)
theorem dX3_fresh_84 : decode cX3_fresh 84 = .ok (.if_icmp .gt 16, 3) := dk_163 0 16 (dk_at dksX3_fresh_3 15 rfl rfl)
theorem dX3_fresh_87 : decode cX3_fresh 87 = .ok (.aload_n 0, 1) := dk_42 (dk_at dksX3_fresh_3 18 rfl rfl)
theorem dX3_fresh_88 : decode cX3_fresh 88 = .ok (.getfield 21, 3) := dk_180 0 21 (dk_at dksX3_fresh_3 19 rfl rfl)
theorem dX3_fresh_91 : decode cX3_fresh 91 = .ok (.iload_n 2, 1) := dk_28 (dk_at dksX3_fresh_3 22 rfl rfl)
theorem dX3_fresh_92 : decode cX3_fresh 92 = .ok (.iconst 0, 1) := dk_3 (dk_at dksX3_fresh_3 23 rfl rfl)
theorem dX3_fresh_93 : decode cX3_fresh 93 = .ok (.bastore, 1) := dk_84 (dk_at dksX3_fresh_4 0 rfl rfl)
theorem dX3_fresh_94 : decode cX3_fresh 94 = .ok (.iinc 2 1, 3) := dk_132 2 1 (dk_at dksX3_fresh_4 1 rfl rfl)
theorem dX3_fresh_97 : decode cX3_fresh 97 = .ok (.goto (-16), 3) := dk_167 255 240 (dk_at dksX3_fresh_4 4 rfl rfl)
theorem dX3_fresh_100 : decode cX3_fresh 100 = .ok (.iconst 0, 1) := dk_3 (dk_at dksX3_fresh_4 7 rfl rfl)
theorem dX3_fresh_101 : decode cX3_fresh 101 = .ok (.istore_n 2, 1) := dk_61 (dk_at dksX3_fresh_4 8 rfl rfl)
theorem dX3_fresh_102 : decode cX3_fresh 102 = .ok (.iload_n 2, 1) := dk_28 (dk_at dksX3_fresh_4 9 rfl rfl)
theorem dX3_fresh_103 : decode cX3_fresh 103 = .ok (.aload_n 1, 1) := dk_43 (dk_at dksX3_fresh_4 10 rfl rfl)
theorem dX3_fresh_104 : decode cX3_fresh 104 = .ok (.getfield 44, 3) := dk_180 0 44 (dk_at dksX3_fresh_4 11 rfl rfl)
theorem dX3_fresh_107 : decode cX3_fresh 107 = .ok (.if_icmp .ge 45, 3) := dk_162 0 45 (dk_at dksX3_fresh_4 14 rfl rfl)
theorem dX3_fresh_110 : decode cX3_fresh 110 = .ok (.aload_n 1, 1) := dk_43 (dk_at dksX3_fresh_4 17 rfl rfl)
theorem dX3_fresh_111 : decode cX3_fresh 111 = .ok (.getfield 47, 3) := dk_180 0 47 (dk_at dksX3_fresh_4 18 rfl rfl)
theorem dX3_fresh_114 : decode cX3_fresh 114 = .ok (.iconst 2, 1) := dk_5 (dk_at dksX3_fresh_4 21 rfl rfl)
theorem dX3_fresh_115 : decode cX3_fresh 115 = .ok (.iload_n 2, 1) := dk_28 (dk_at dksX3_fresh_4 22 rfl rfl)
theorem dX3_fresh_116 : decode cX3_fresh 116 = .ok (.imul, 1) := dk_104 (dk_at dksX3_fresh_4 23 rfl rfl)
theorem dX3_fresh_117 : decode cX3_fresh 117 = .ok (.iaload, 1) := dk_46 (dk_at dksX3_fresh_5 0 rfl rfl)
theorem dX3_fresh_118 : decode cX3_fresh 118 = .ok (.istore_n 3, 1) := dk_62 (dk_at dksX3_fresh_5 1 rfl rfl)
theorem dX3_fresh_119 : decode cX3_fresh 119 = .ok (.iload_n 3, 1) := dk_29 (dk_at dksX3_fresh_5 2 rfl rfl)
theorem dX3_fresh_120 : decode cX3_fresh 120 = .ok (.aload_n 1, 1) := dk_43 (dk_at dksX3_fresh_5 3 rfl rfl)
theorem dX3_fresh_121 : decode cX3_fresh 121 = .ok (.getfield 47, 3) := dk_180 0 47 (dk_at dksX3_fresh_5 4 rfl rfl)
theorem dX3_fresh_124 : decode cX3_fresh 124 = .ok (.iconst 2, 1) := dk_5 (dk_at dksX3_fresh_5 7 rfl rfl)
theorem dX3_fresh_125 : decode cX3_fresh 125 = .ok (.iload_n 2, 1) := dk_28 (dk_at dksX3_fresh_5 8 rfl rfl)
theorem dX3_fresh_126 : decode cX3_fresh 126 = .ok (.imul, 1) := dk_104 (dk_at dksX3_fresh_5 9 rfl rfl)
theorem dX3_fresh_127 : decode cX3_fresh 127 = .ok (.iconst 1, 1) := dk_4 (dk_at dksX3_fresh_5 10 rfl rfl)
theorem dX3_fresh_128 : decode cX3_fresh 128 = .ok (.iadd, 1) := dk_96 (dk_at dksX3_fresh_5 11 rfl rfl)
theorem dX3_fresh_129 : decode cX3_fresh 129 = .ok (.iaload, 1) := dk_46 (dk_at dksX3_fresh_5 12 rfl rfl)
theorem dX3_fresh_130 : decode cX3_fresh 130 = .ok (.if_icmp .gt 16, 3) := dk_163 0 16 (dk_at dksX3_fresh_5 13 rfl rfl)
theorem dX3_fresh_133 : decode cX3_fresh 133 = .ok (.aload_n 0, 1) := dk_42 (dk_at dksX3_fresh_5 16 rfl rfl)
theorem dX3_fresh_134 : decode cX3_fresh 134 = .ok (.getfield 21, 3) := dk_180 0 21 (dk_at dksX3_fresh_5 17 rfl rfl)
theorem dX3_fresh_137 : decode cX3_fresh 137 = .ok (.iload_n 3, 1) := dk_29 (dk_at dksX3_fresh_5 20 rfl rfl)
theorem dX3_fresh_138 : decode cX3_fresh 138 = .ok (.iconst 1, 1) := dk_4 (dk_at dksX3_fresh_5 21 rfl rfl)
theorem dX3_fresh_139 : decode cX3_fresh 139 = .ok (.bastore, 1) := dk_84 (dk_at dksX3_fresh_5 22 rfl rfl)
theorem dX3_fresh_140 : decode cX3_fresh 140 = .ok (.iinc 3 1, 3) := dk_132 3 1 (dk_at dksX3_fresh_6 0 rfl rfl)
theorem dX3_fresh_143 : decode cX3_fresh 143 = .ok (.goto (-24), 3) := dk_167 255 232 (dk_at dksX3_fresh_6 3 rfl rfl)
theorem dX3_fresh_146 : decode cX3_fresh 146 = .ok (.iinc 2 1, 3) := dk_132 2 1 (dk_at dksX3_fresh_6 6 rfl rfl)
theorem dX3_fresh_149 : decode cX3_fresh 149 = .ok (.goto (-47), 3) := dk_167 255 209 (dk_at dksX3_fresh_6 9 rfl rfl)
theorem dX3_fresh_152 : decode cX3_fresh 152 = .ok (.return_, 1) := dk_177 (dk_at dksX3_fresh_6 12 rfl rfl)
abbrev cX3_like : ByteArray := prog_4_method_3_code
def yX3_like : MethodName := ⟨RX3, "like", "(LQuietChannels$Plan;)LQuietChannels$Plan;"⟩
def dkwX3_like_2 : List UInt8 := [180, 0, 21, 3, 42, 180, 0, 21, 3, 16, 61, 184, 0, 50, 42, 176]
abbrev dktX3_like_2 : List UInt8 := dkwX3_like_2 ++ []
def dkwX3_like_1 : List UInt8 := [3, 16, 6, 184, 0, 50, 43, 180, 0, 18, 3, 42, 180, 0, 18, 3, 16, 6, 184, 0, 50, 43]
abbrev dktX3_like_1 : List UInt8 := dkwX3_like_1 ++ dktX3_like_2
def dkwX3_like_0 : List UInt8 := [43, 180, 0, 9, 3, 42, 180, 0, 9, 3, 16, 6, 184, 0, 50, 43, 180, 0, 15, 3, 42, 180, 0, 15]
abbrev dktX3_like_0 : List UInt8 := dkwX3_like_0 ++ dktX3_like_1
theorem dksX3_like_0 : cX3_like.data.toList.drop 0 = dktX3_like_0 := by decide +kernel
theorem dksX3_like_1 : cX3_like.data.toList.drop 24 = dktX3_like_1 := dk_seg dksX3_like_0 24 rfl rfl
theorem dksX3_like_2 : cX3_like.data.toList.drop 46 = dktX3_like_2 := dk_seg dksX3_like_1 22 rfl rfl
theorem dX3_like_0 : decode cX3_like 0 = .ok (.aload_n 1, 1) := dk_43 (dk_at dksX3_like_0 0 rfl rfl)
theorem dX3_like_1 : decode cX3_like 1 = .ok (.getfield 9, 3) := dk_180 0 9 (dk_at dksX3_like_0 1 rfl rfl)
theorem dX3_like_4 : decode cX3_like 4 = .ok (.iconst 0, 1) := dk_3 (dk_at dksX3_like_0 4 rfl rfl)
theorem dX3_like_5 : decode cX3_like 5 = .ok (.aload_n 0, 1) := dk_42 (dk_at dksX3_like_0 5 rfl rfl)
theorem dX3_like_6 : decode cX3_like 6 = .ok (.getfield 9, 3) := dk_180 0 9 (dk_at dksX3_like_0 6 rfl rfl)
theorem dX3_like_9 : decode cX3_like 9 = .ok (.iconst 0, 1) := dk_3 (dk_at dksX3_like_0 9 rfl rfl)
theorem dX3_like_10 : decode cX3_like 10 = .ok (.bipush 6, 2) := dk_16 6 (dk_at dksX3_like_0 10 rfl rfl)
theorem dX3_like_12 : decode cX3_like 12 = .ok (.invokestatic 50, 3) := dk_184 0 50 (dk_at dksX3_like_0 12 rfl rfl)
theorem dX3_like_15 : decode cX3_like 15 = .ok (.aload_n 1, 1) := dk_43 (dk_at dksX3_like_0 15 rfl rfl)
theorem dX3_like_16 : decode cX3_like 16 = .ok (.getfield 15, 3) := dk_180 0 15 (dk_at dksX3_like_0 16 rfl rfl)
theorem dX3_like_19 : decode cX3_like 19 = .ok (.iconst 0, 1) := dk_3 (dk_at dksX3_like_0 19 rfl rfl)
theorem dX3_like_20 : decode cX3_like 20 = .ok (.aload_n 0, 1) := dk_42 (dk_at dksX3_like_0 20 rfl rfl)
theorem dX3_like_21 : decode cX3_like 21 = .ok (.getfield 15, 3) := dk_180 0 15 (dk_at dksX3_like_0 21 rfl rfl)
theorem dX3_like_24 : decode cX3_like 24 = .ok (.iconst 0, 1) := dk_3 (dk_at dksX3_like_1 0 rfl rfl)
theorem dX3_like_25 : decode cX3_like 25 = .ok (.bipush 6, 2) := dk_16 6 (dk_at dksX3_like_1 1 rfl rfl)
theorem dX3_like_27 : decode cX3_like 27 = .ok (.invokestatic 50, 3) := dk_184 0 50 (dk_at dksX3_like_1 3 rfl rfl)
theorem dX3_like_30 : decode cX3_like 30 = .ok (.aload_n 1, 1) := dk_43 (dk_at dksX3_like_1 6 rfl rfl)
theorem dX3_like_31 : decode cX3_like 31 = .ok (.getfield 18, 3) := dk_180 0 18 (dk_at dksX3_like_1 7 rfl rfl)
theorem dX3_like_34 : decode cX3_like 34 = .ok (.iconst 0, 1) := dk_3 (dk_at dksX3_like_1 10 rfl rfl)
theorem dX3_like_35 : decode cX3_like 35 = .ok (.aload_n 0, 1) := dk_42 (dk_at dksX3_like_1 11 rfl rfl)
theorem dX3_like_36 : decode cX3_like 36 = .ok (.getfield 18, 3) := dk_180 0 18 (dk_at dksX3_like_1 12 rfl rfl)
theorem dX3_like_39 : decode cX3_like 39 = .ok (.iconst 0, 1) := dk_3 (dk_at dksX3_like_1 15 rfl rfl)
theorem dX3_like_40 : decode cX3_like 40 = .ok (.bipush 6, 2) := dk_16 6 (dk_at dksX3_like_1 16 rfl rfl)
theorem dX3_like_42 : decode cX3_like 42 = .ok (.invokestatic 50, 3) := dk_184 0 50 (dk_at dksX3_like_1 18 rfl rfl)
theorem dX3_like_45 : decode cX3_like 45 = .ok (.aload_n 1, 1) := dk_43 (dk_at dksX3_like_1 21 rfl rfl)
theorem dX3_like_46 : decode cX3_like 46 = .ok (.getfield 21, 3) := dk_180 0 21 (dk_at dksX3_like_2 0 rfl rfl)
theorem dX3_like_49 : decode cX3_like 49 = .ok (.iconst 0, 1) := dk_3 (dk_at dksX3_like_2 3 rfl rfl)
theorem dX3_like_50 : decode cX3_like 50 = .ok (.aload_n 0, 1) := dk_42 (dk_at dksX3_like_2 4 rfl rfl)
theorem dX3_like_51 : decode cX3_like 51 = .ok (.getfield 21, 3) := dk_180 0 21 (dk_at dksX3_like_2 5 rfl rfl)
theorem dX3_like_54 : decode cX3_like 54 = .ok (.iconst 0, 1) := dk_3 (dk_at dksX3_like_2 8 rfl rfl)
theorem dX3_like_55 : decode cX3_like 55 = .ok (.bipush 61, 2) := dk_16 61 (dk_at dksX3_like_2 9 rfl rfl)
theorem dX3_like_57 : decode cX3_like 57 = .ok (.invokestatic 50, 3) := dk_184 0 50 (dk_at dksX3_like_2 11 rfl rfl)
theorem dX3_like_60 : decode cX3_like 60 = .ok (.aload_n 0, 1) := dk_42 (dk_at dksX3_like_2 14 rfl rfl)
theorem dX3_like_61 : decode cX3_like 61 = .ok (.areturn, 1) := dk_176 (dk_at dksX3_like_2 15 rfl rfl)
theorem q115 : (Jvm.Cond.initialized "QuietChannels$Plan") ∈ lw_all := lw_g (lw_at lw_m1 3 rfl) rfl
theorem q153 : (Jvm.Cond.fieldLinkNest "QuietChannels$Plan" (31 : Nat) "QuietChannels$Told" "users" "[LQuietChannels$User;" "QuietChannels") ∈ lw_tbl := lw_at lw_m1 41 rfl
theorem q159 : (Jvm.Cond.fieldLinkNest "QuietChannels$Plan" (47 : Nat) "QuietChannels$Told" "block" "[I" "QuietChannels") ∈ lw_tbl := lw_at lw_m1 47 rfl
theorem q168 : (Jvm.Cond.fieldLinkNest "QuietChannels$Plan" (25 : Nat) "QuietChannels$Told" "many" "I" "QuietChannels") ∈ lw_tbl := lw_at lw_m1 56 rfl
theorem q174 : (Jvm.Cond.fieldLinkNest "QuietChannels$Plan" (44 : Nat) "QuietChannels$Told" "blocks" "I" "QuietChannels") ∈ lw_tbl := lw_at lw_m1 62 rfl
theorem q227 : (Jvm.Cond.instantiable "QuietChannels$Plan" (4 : Nat)) ∈ lw_all := lw_g (lw_at lw_m1 115 rfl) rfl
theorem q229 : (Jvm.Cond.instanceMethod ({ cls := "QuietChannels$Plan", name := "<init>", desc := "()V" } : Jvm.MethodName)) ∈ lw_all := lw_g (lw_at lw_m1 117 rfl) rfl
theorem q230 : (Jvm.Cond.code ({ cls := "QuietChannels$Plan", name := "<init>", desc := "()V" } : Jvm.MethodName) prog_4_method_1_code (1 : Nat) (Option.none : Option Jvm.ClassFile.FieldType)) ∈ lw_all := lw_g (lw_at lw_m1 118 rfl) rfl
theorem q231 : (Jvm.Cond.methodLink "QuietChannels$Plan" (3 : Nat) ({ cls := "java/lang/Object", name := "<init>", desc := "()V" } : Jvm.MethodName)) ∈ lw_all := lw_g (lw_at lw_m1 119 rfl) rfl
theorem q232 : (Jvm.Cond.fieldLink "QuietChannels$Plan" (9 : Nat) "QuietChannels$Plan" "channel" "[I") ∈ lw_all := lw_g (lw_at lw_m1 120 rfl) rfl
theorem q236 : (Jvm.Cond.fieldLink "QuietChannels$Plan" (15 : Nat) "QuietChannels$Plan" "power" "[I") ∈ lw_all := lw_g (lw_at lw_m1 124 rfl) rfl
theorem q239 : (Jvm.Cond.fieldLink "QuietChannels$Plan" (18 : Nat) "QuietChannels$Plan" "slots" "[I") ∈ lw_all := lw_g (lw_at lw_m1 127 rfl) rfl
theorem q242 : (Jvm.Cond.fieldLink "QuietChannels$Plan" (21 : Nat) "QuietChannels$Plan" "isBlocked" "[Z") ∈ lw_all := lw_g (lw_at lw_m1 130 rfl) rfl
theorem q244 : (Jvm.Cond.laysFinal "QuietChannels$Plan" "QuietChannels$Plan" "channel" "[I") ∈ lw_all := lw_g (lw_at lw_m1 132 rfl) rfl
theorem q245 : (Jvm.Cond.soleField "QuietChannels$Plan" "channel") ∈ lw_all := lw_g (lw_at lw_m1 133 rfl) rfl
theorem q246 : (Jvm.Cond.laysFinal "QuietChannels$Plan" "QuietChannels$Plan" "power" "[I") ∈ lw_all := lw_g (lw_at lw_m1 134 rfl) rfl
theorem q247 : (Jvm.Cond.soleField "QuietChannels$Plan" "power") ∈ lw_all := lw_g (lw_at lw_m1 135 rfl) rfl
theorem q248 : (Jvm.Cond.laysFinal "QuietChannels$Plan" "QuietChannels$Plan" "slots" "[I") ∈ lw_all := lw_g (lw_at lw_m1 136 rfl) rfl
theorem q249 : (Jvm.Cond.soleField "QuietChannels$Plan" "slots") ∈ lw_all := lw_g (lw_at lw_m1 137 rfl) rfl
theorem q250 : (Jvm.Cond.laysFinal "QuietChannels$Plan" "QuietChannels$Plan" "isBlocked" "[Z") ∈ lw_all := lw_g (lw_at lw_m1 138 rfl) rfl
theorem q251 : (Jvm.Cond.soleField "QuietChannels$Plan" "isBlocked") ∈ lw_all := lw_g (lw_at lw_m1 139 rfl) rfl
theorem q252 : (Jvm.Cond.superclass "QuietChannels$Plan" "java/lang/Object") ∈ lw_all := lw_g (lw_at lw_m1 140 rfl) rfl
theorem q385 : (Jvm.Cond.instanceMethod ({ cls := "QuietChannels$Plan", name := "fresh", desc := "(LQuietChannels$Told;)V" } : Jvm.MethodName)) ∈ lw_all := lw_g (lw_at lw_m2 33 rfl) rfl
theorem q386 : (Jvm.Cond.selects "QuietChannels$Plan" ({ cls := "QuietChannels$Plan", name := "fresh", desc := "(LQuietChannels$Told;)V" } : Jvm.MethodName) ({ cls := "QuietChannels$Plan", name := "fresh", desc := "(LQuietChannels$Told;)V" } : Jvm.MethodName)) ∈ lw_all := lw_g (lw_at lw_m2 34 rfl) rfl
theorem q387 : (Jvm.Cond.code ({ cls := "QuietChannels$Plan", name := "fresh", desc := "(LQuietChannels$Told;)V" } : Jvm.MethodName) prog_4_method_2_code (4 : Nat) (Option.none : Option Jvm.ClassFile.FieldType)) ∈ lw_all := lw_g (lw_at lw_m2 35 rfl) rfl
theorem q722 : (Jvm.Cond.fieldLinkNest "QuietChannels$Plan" (40 : Nat) "QuietChannels$User" "power" "I" "QuietChannels") ∈ lw_tbl := lw_at lw_m3 130 rfl
theorem q729 : (Jvm.Cond.fieldLinkNest "QuietChannels$Plan" (35 : Nat) "QuietChannels$User" "fixed" "I" "QuietChannels") ∈ lw_tbl := lw_at lw_m3 137 rfl
theorem q731 : (Jvm.Cond.fieldLinkNest "QuietChannels$Plan" (42 : Nat) "QuietChannels$User" "slots" "I" "QuietChannels") ∈ lw_tbl := lw_at lw_m3 139 rfl
theorem q783 : (Jvm.Cond.instanceMethod ({ cls := "QuietChannels$Plan", name := "like", desc := "(LQuietChannels$Plan;)LQuietChannels$Plan;" } : Jvm.MethodName)) ∈ lw_all := lw_g (lw_at lw_m3 191 rfl) rfl
theorem q784 : (Jvm.Cond.selects "QuietChannels$Plan" ({ cls := "QuietChannels$Plan", name := "like", desc := "(LQuietChannels$Plan;)LQuietChannels$Plan;" } : Jvm.MethodName) ({ cls := "QuietChannels$Plan", name := "like", desc := "(LQuietChannels$Plan;)LQuietChannels$Plan;" } : Jvm.MethodName)) ∈ lw_all := lw_g (lw_at lw_m3 192 rfl) rfl
theorem q785 : (Jvm.Cond.code ({ cls := "QuietChannels$Plan", name := "like", desc := "(LQuietChannels$Plan;)LQuietChannels$Plan;" } : Jvm.MethodName) prog_4_method_3_code (2 : Nat) (Option.some (Jvm.ClassFile.FieldType.object "QuietChannels$Plan"))) ∈ lw_all := lw_g (lw_at lw_m3 193 rfl) rfl
theorem q786 : (Jvm.Cond.methodLink "QuietChannels$Plan" (50 : Nat) ({ cls := "java/lang/System", name := "arraycopy", desc := "(Ljava/lang/Object;ILjava/lang/Object;II)V" } : Jvm.MethodName)) ∈ lw_all := lw_g (lw_at lw_m3 194 rfl) rfl
theorem q1866 : (Jvm.Cond.castable "QuietChannels$Plan" "java/lang/Object") ∈ lw_tbl := lw_at lw_m8 74 rfl
theorem in_X3 : ∀ w ∈ wsX30, w ∈ lw_all := lw_in wsX30 [244, 246, 248, 250] (by decide +kernel) (by decide +kernel)
/-! QuietChannels$Air -/
set_option maxRecDepth 100000
def RX4 : String := "QuietChannels$Air"
def TX4 : u_T := fun k => match k with
  | 0 => ("QuietChannels$Air", "site", "[I", true)
  | 1 => ("QuietChannels$Air", "power", "[I", true)
  | 2 => ("QuietChannels$Air", "channel", "[I", true)
  | 3 => ("QuietChannels$Air", "hit", "[I", true)
  | 4 => ("QuietChannels$Air", "made", "[I", true)
  | 5 => ("QuietChannels$Air", "slots", "[I", true)
  | 6 => ("QuietChannels$Air", "when", "[I", true)
  | 7 => ("QuietChannels$Air", "near", "[I", true)
  | 8 => ("QuietChannels$Air", "sorts", "[I", true)
  | 9 => ("QuietChannels$Air", "many", "I", false)
  | 10 => ("QuietChannels$Air", "band", "I", false)
  | 11 => ("QuietChannels$Air", "guard", "I", false)
  | 12 => ("QuietChannels$Air", "space", "I", false)
  | 13 => ("QuietChannels$Air", "orders", "I", false)
  | 14 => ("QuietChannels$Air", "products", "I", false)
  | 15 => ("QuietChannels$Air", "heard", "I", false)
  | 16 => ("QuietChannels$Air", "hits", "I", false)
  | 17 => ("QuietChannels$Air", "crowds", "I", false)
  | 18 => ("QuietChannels$Air", "sought", "I", false)
  | 19 => ("QuietChannels$Air", "sort", "I", false)
  | 20 => ("QuietChannels$Air", "a", "I", false)
  | 21 => ("QuietChannels$Air", "b", "I", false)
  | 22 => ("QuietChannels$Air", "c", "I", false)
  | 23 => ("QuietChannels$Air", "at", "I", false)
  | 24 => ("QuietChannels$Air", "level", "I", false)
  | 25 => ("QuietChannels$Air", "whom", "I", false)
  | 26 => ("QuietChannels$Air", "loudest", "I", false)
  | 27 => ("QuietChannels$Air", "loud", "I", false)
  | _ => ("QuietChannels$Air", "this$0", "LQuietChannels;", true)
def tyX4 : Nat → FieldType := fun k => match k with
  | 0 => .array .int
  | 1 => .array .int
  | 2 => .array .int
  | 3 => .array .int
  | 4 => .array .int
  | 5 => .array .int
  | 6 => .array .int
  | 7 => .array .int
  | 8 => .array .int
  | 9 => .int
  | 10 => .int
  | 11 => .int
  | 12 => .int
  | 13 => .int
  | 14 => .int
  | 15 => .int
  | 16 => .int
  | 17 => .int
  | 18 => .int
  | 19 => .int
  | 20 => .int
  | 21 => .int
  | 22 => .int
  | 23 => .int
  | 24 => .int
  | 25 => .int
  | 26 => .int
  | 27 => .int
  | _ => .object "QuietChannels"
abbrev wsX40 : List Cond := u_ws RX4 TX4 29
set_option maxRecDepth 100000 in
theorem nmX4 : ∀ a, a < 29 → ∀ b, b < 29 → a ≠ b → (TX4 a).2.1 ≠ (TX4 b).2.1 := by decide +kernel
set_option maxRecDepth 100000 in
theorem tyX4_ok : ∀ k, k < 29 → parseFieldDescriptor (TX4 k).2.2.1 = some (tyX4 k) := by decide +kernel
abbrev cX4_init : ByteArray := prog_2_method_1_code
def yX4_init : MethodName := ⟨RX4, "<init>", "(LQuietChannels;I)V"⟩
def dkwX4_init_0 : List UInt8 := [42, 43, 28, 16, 8, 28, 197, 0, 3, 2, 183, 0, 5, 177]
abbrev dktX4_init_0 : List UInt8 := dkwX4_init_0 ++ []
theorem dksX4_init_0 : cX4_init.data.toList.drop 0 = dktX4_init_0 := by decide +kernel
theorem dX4_init_0 : decode cX4_init 0 = .ok (.aload_n 0, 1) := dk_42 (dk_at dksX4_init_0 0 rfl rfl)
theorem dX4_init_1 : decode cX4_init 1 = .ok (.aload_n 1, 1) := dk_43 (dk_at dksX4_init_0 1 rfl rfl)
theorem dX4_init_2 : decode cX4_init 2 = .ok (.iload_n 2, 1) := dk_28 (dk_at dksX4_init_0 2 rfl rfl)
theorem dX4_init_3 : decode cX4_init 3 = .ok (.bipush 8, 2) := dk_16 8 (dk_at dksX4_init_0 3 rfl rfl)
theorem dX4_init_5 : decode cX4_init 5 = .ok (.iload_n 2, 1) := dk_28 (dk_at dksX4_init_0 5 rfl rfl)
theorem dX4_init_6 : decode cX4_init 6 = .ok (.multianewarray 3 2, 4) := by decide +kernel
theorem dX4_init_10 : decode cX4_init 10 = .ok (.invokespecial 5, 3) := dk_183 0 5 (dk_at dksX4_init_0 10 rfl rfl)
theorem dX4_init_13 : decode cX4_init 13 = .ok (.return_, 1) := dk_177 (dk_at dksX4_init_0 13 rfl rfl)
abbrev cX4_init_2 : ByteArray := prog_2_method_2_code
def yX4_init_2 : MethodName := ⟨RX4, "<init>", "(LQuietChannels;I[[I)V"⟩
def dkwX4_init_2_3 : List UInt8 := [181, 0, 46, 42, 45, 16, 7, 50, 181, 0, 49, 177]
abbrev dktX4_init_2_3 : List UInt8 := dkwX4_init_2_3 ++ []
def dkwX4_init_2_2 : List UInt8 := [181, 0, 37, 42, 45, 7, 50, 181, 0, 40, 42, 45, 8, 50, 181, 0, 43, 42, 45, 16, 6, 50]
abbrev dktX4_init_2_2 : List UInt8 := dkwX4_init_2_2 ++ dktX4_init_2_3
def dkwX4_init_2_1 : List UInt8 := [3, 50, 181, 0, 28, 42, 45, 4, 50, 181, 0, 31, 42, 45, 5, 50, 181, 0, 34, 42, 45, 6, 50]
abbrev dktX4_init_2_1 : List UInt8 := dkwX4_init_2_1 ++ dktX4_init_2_2
def dkwX4_init_2_0 : List UInt8 := [42, 43, 181, 0, 11, 42, 183, 0, 15, 42, 16, 18, 188, 10, 181, 0, 20, 42, 2, 181, 0, 24, 42, 45]
abbrev dktX4_init_2_0 : List UInt8 := dkwX4_init_2_0 ++ dktX4_init_2_1
theorem dksX4_init_2_0 : cX4_init_2.data.toList.drop 0 = dktX4_init_2_0 := by decide +kernel
theorem dksX4_init_2_1 : cX4_init_2.data.toList.drop 24 = dktX4_init_2_1 := dk_seg dksX4_init_2_0 24 rfl rfl
theorem dksX4_init_2_2 : cX4_init_2.data.toList.drop 47 = dktX4_init_2_2 := dk_seg dksX4_init_2_1 23 rfl rfl
theorem dksX4_init_2_3 : cX4_init_2.data.toList.drop 69 = dktX4_init_2_3 := dk_seg dksX4_init_2_2 22 rfl rfl
theorem dX4_init_2_0 : decode cX4_init_2 0 = .ok (.aload_n 0, 1) := dk_42 (dk_at dksX4_init_2_0 0 rfl rfl)
theorem dX4_init_2_1 : decode cX4_init_2 1 = .ok (.aload_n 1, 1) := dk_43 (dk_at dksX4_init_2_0 1 rfl rfl)
theorem dX4_init_2_2 : decode cX4_init_2 2 = .ok (.putfield 11, 3) := dk_181 0 11 (dk_at dksX4_init_2_0 2 rfl rfl)
theorem dX4_init_2_5 : decode cX4_init_2 5 = .ok (.aload_n 0, 1) := dk_42 (dk_at dksX4_init_2_0 5 rfl rfl)
theorem dX4_init_2_6 : decode cX4_init_2 6 = .ok (.invokespecial 15, 3) := dk_183 0 15 (dk_at dksX4_init_2_0 6 rfl rfl)
theorem dX4_init_2_9 : decode cX4_init_2 9 = .ok (.aload_n 0, 1) := dk_42 (dk_at dksX4_init_2_0 9 rfl rfl)
theorem dX4_init_2_10 : decode cX4_init_2 10 = .ok (.bipush 18, 2) := dk_16 18 (dk_at dksX4_init_2_0 10 rfl rfl)
theorem dX4_init_2_12 : decode cX4_init_2 12 = .ok (.newarray .int, 2) := dk_188_10 (dk_at dksX4_init_2_0 12 rfl rfl)
theorem dX4_init_2_14 : decode cX4_init_2 14 = .ok (.putfield 20, 3) := dk_181 0 20 (dk_at dksX4_init_2_0 14 rfl rfl)
theorem dX4_init_2_17 : decode cX4_init_2 17 = .ok (.aload_n 0, 1) := dk_42 (dk_at dksX4_init_2_0 17 rfl rfl)
theorem dX4_init_2_18 : decode cX4_init_2 18 = .ok (.iconst (-1), 1) := dk_2 (dk_at dksX4_init_2_0 18 rfl rfl)
theorem dX4_init_2_19 : decode cX4_init_2 19 = .ok (.putfield 24, 3) := dk_181 0 24 (dk_at dksX4_init_2_0 19 rfl rfl)
theorem dX4_init_2_22 : decode cX4_init_2 22 = .ok (.aload_n 0, 1) := dk_42 (dk_at dksX4_init_2_0 22 rfl rfl)
theorem dX4_init_2_23 : decode cX4_init_2 23 = .ok (.aload_n 3, 1) := dk_45 (dk_at dksX4_init_2_0 23 rfl rfl)
theorem dX4_init_2_24 : decode cX4_init_2 24 = .ok (.iconst 0, 1) := dk_3 (dk_at dksX4_init_2_1 0 rfl rfl)
theorem dX4_init_2_25 : decode cX4_init_2 25 = .ok (.aaload, 1) := dk_50 (dk_at dksX4_init_2_1 1 rfl rfl)
theorem dX4_init_2_26 : decode cX4_init_2 26 = .ok (.putfield 28, 3) := dk_181 0 28 (dk_at dksX4_init_2_1 2 rfl rfl)
theorem dX4_init_2_29 : decode cX4_init_2 29 = .ok (.aload_n 0, 1) := dk_42 (dk_at dksX4_init_2_1 5 rfl rfl)
theorem dX4_init_2_30 : decode cX4_init_2 30 = .ok (.aload_n 3, 1) := dk_45 (dk_at dksX4_init_2_1 6 rfl rfl)
theorem dX4_init_2_31 : decode cX4_init_2 31 = .ok (.iconst 1, 1) := dk_4 (dk_at dksX4_init_2_1 7 rfl rfl)
theorem dX4_init_2_32 : decode cX4_init_2 32 = .ok (.aaload, 1) := dk_50 (dk_at dksX4_init_2_1 8 rfl rfl)
theorem dX4_init_2_33 : decode cX4_init_2 33 = .ok (.putfield 31, 3) := dk_181 0 31 (dk_at dksX4_init_2_1 9 rfl rfl)
theorem dX4_init_2_36 : decode cX4_init_2 36 = .ok (.aload_n 0, 1) := dk_42 (dk_at dksX4_init_2_1 12 rfl rfl)
theorem dX4_init_2_37 : decode cX4_init_2 37 = .ok (.aload_n 3, 1) := dk_45 (dk_at dksX4_init_2_1 13 rfl rfl)
theorem dX4_init_2_38 : decode cX4_init_2 38 = .ok (.iconst 2, 1) := dk_5 (dk_at dksX4_init_2_1 14 rfl rfl)
theorem dX4_init_2_39 : decode cX4_init_2 39 = .ok (.aaload, 1) := dk_50 (dk_at dksX4_init_2_1 15 rfl rfl)
theorem dX4_init_2_40 : decode cX4_init_2 40 = .ok (.putfield 34, 3) := dk_181 0 34 (dk_at dksX4_init_2_1 16 rfl rfl)
theorem dX4_init_2_43 : decode cX4_init_2 43 = .ok (.aload_n 0, 1) := dk_42 (dk_at dksX4_init_2_1 19 rfl rfl)
theorem dX4_init_2_44 : decode cX4_init_2 44 = .ok (.aload_n 3, 1) := dk_45 (dk_at dksX4_init_2_1 20 rfl rfl)
theorem dX4_init_2_45 : decode cX4_init_2 45 = .ok (.iconst 3, 1) := dk_6 (dk_at dksX4_init_2_1 21 rfl rfl)
theorem dX4_init_2_46 : decode cX4_init_2 46 = .ok (.aaload, 1) := dk_50 (dk_at dksX4_init_2_1 22 rfl rfl)
theorem dX4_init_2_47 : decode cX4_init_2 47 = .ok (.putfield 37, 3) := dk_181 0 37 (dk_at dksX4_init_2_2 0 rfl rfl)
theorem dX4_init_2_50 : decode cX4_init_2 50 = .ok (.aload_n 0, 1) := dk_42 (dk_at dksX4_init_2_2 3 rfl rfl)
theorem dX4_init_2_51 : decode cX4_init_2 51 = .ok (.aload_n 3, 1) := dk_45 (dk_at dksX4_init_2_2 4 rfl rfl)
theorem dX4_init_2_52 : decode cX4_init_2 52 = .ok (.iconst 4, 1) := dk_7 (dk_at dksX4_init_2_2 5 rfl rfl)
theorem dX4_init_2_53 : decode cX4_init_2 53 = .ok (.aaload, 1) := dk_50 (dk_at dksX4_init_2_2 6 rfl rfl)
theorem dX4_init_2_54 : decode cX4_init_2 54 = .ok (.putfield 40, 3) := dk_181 0 40 (dk_at dksX4_init_2_2 7 rfl rfl)
theorem dX4_init_2_57 : decode cX4_init_2 57 = .ok (.aload_n 0, 1) := dk_42 (dk_at dksX4_init_2_2 10 rfl rfl)
theorem dX4_init_2_58 : decode cX4_init_2 58 = .ok (.aload_n 3, 1) := dk_45 (dk_at dksX4_init_2_2 11 rfl rfl)
theorem dX4_init_2_59 : decode cX4_init_2 59 = .ok (.iconst 5, 1) := dk_8 (dk_at dksX4_init_2_2 12 rfl rfl)
theorem dX4_init_2_60 : decode cX4_init_2 60 = .ok (.aaload, 1) := dk_50 (dk_at dksX4_init_2_2 13 rfl rfl)
theorem dX4_init_2_61 : decode cX4_init_2 61 = .ok (.putfield 43, 3) := dk_181 0 43 (dk_at dksX4_init_2_2 14 rfl rfl)
theorem dX4_init_2_64 : decode cX4_init_2 64 = .ok (.aload_n 0, 1) := dk_42 (dk_at dksX4_init_2_2 17 rfl rfl)
theorem dX4_init_2_65 : decode cX4_init_2 65 = .ok (.aload_n 3, 1) := dk_45 (dk_at dksX4_init_2_2 18 rfl rfl)
theorem dX4_init_2_66 : decode cX4_init_2 66 = .ok (.bipush 6, 2) := dk_16 6 (dk_at dksX4_init_2_2 19 rfl rfl)
theorem dX4_init_2_68 : decode cX4_init_2 68 = .ok (.aaload, 1) := dk_50 (dk_at dksX4_init_2_2 21 rfl rfl)
theorem dX4_init_2_69 : decode cX4_init_2 69 = .ok (.putfield 46, 3) := dk_181 0 46 (dk_at dksX4_init_2_3 0 rfl rfl)
theorem dX4_init_2_72 : decode cX4_init_2 72 = .ok (.aload_n 0, 1) := dk_42 (dk_at dksX4_init_2_3 3 rfl rfl)
theorem dX4_init_2_73 : decode cX4_init_2 73 = .ok (.aload_n 3, 1) := dk_45 (dk_at dksX4_init_2_3 4 rfl rfl)
theorem dX4_init_2_74 : decode cX4_init_2 74 = .ok (.bipush 7, 2) := dk_16 7 (dk_at dksX4_init_2_3 5 rfl rfl)
theorem dX4_init_2_76 : decode cX4_init_2 76 = .ok (.aaload, 1) := dk_50 (dk_at dksX4_init_2_3 7 rfl rfl)
theorem dX4_init_2_77 : decode cX4_init_2 77 = .ok (.putfield 49, 3) := dk_181 0 49 (dk_at dksX4_init_2_3 8 rfl rfl)
theorem dX4_init_2_80 : decode cX4_init_2 80 = .ok (.return_, 1) := dk_177 (dk_at dksX4_init_2_3 11 rfl rfl)
abbrev cX4_of : ByteArray := prog_2_method_3_code
def yX4_of : MethodName := ⟨RX4, "of", "(LQuietChannels$Plan;)LQuietChannels$Air;"⟩
def dkwX4_of_6 : List UInt8 := [132, 2, 1, 167, 255, 188, 42, 176]
abbrev dktX4_of_6 : List UInt8 := dkwX4_of_6 ++ []
def dkwX4_of_5 : List UInt8 := [42, 180, 0, 34, 28, 43, 180, 0, 89, 28, 46, 79, 42, 180, 0, 43, 28, 43, 180, 0, 90, 28, 46, 79]
abbrev dktX4_of_5 : List UInt8 := dkwX4_of_5 ++ dktX4_of_6
def dkwX4_of_4 : List UInt8 := [180, 0, 52, 180, 0, 78, 28, 50, 180, 0, 82, 79, 42, 180, 0, 31, 28, 43, 180, 0, 86, 28, 46, 79]
abbrev dktX4_of_4 : List UInt8 := dkwX4_of_4 ++ dktX4_of_5
def dkwX4_of_3 : List UInt8 := [181, 0, 77, 3, 61, 28, 42, 180, 0, 61, 162, 0, 66, 42, 180, 0, 28, 28, 42, 180, 0, 11]
abbrev dktX4_of_3 : List UInt8 := dkwX4_of_3 ++ dktX4_of_4
def dkwX4_of_2 : List UInt8 := [180, 0, 11, 180, 0, 52, 180, 0, 70, 181, 0, 73, 42, 42, 180, 0, 11, 180, 0, 52, 180, 0, 74]
abbrev dktX4_of_2 : List UInt8 := dkwX4_of_2 ++ dktX4_of_3
def dkwX4_of_1 : List UInt8 := [180, 0, 62, 181, 0, 65, 42, 42, 180, 0, 11, 180, 0, 52, 180, 0, 66, 181, 0, 69, 42, 42]
abbrev dktX4_of_1 : List UInt8 := dkwX4_of_1 ++ dktX4_of_2
def dkwX4_of_0 : List UInt8 := [42, 42, 180, 0, 11, 180, 0, 52, 180, 0, 56, 181, 0, 61, 42, 42, 180, 0, 11, 180, 0, 52]
abbrev dktX4_of_0 : List UInt8 := dkwX4_of_0 ++ dktX4_of_1
theorem dksX4_of_0 : cX4_of.data.toList.drop 0 = dktX4_of_0 := by decide +kernel
theorem dksX4_of_1 : cX4_of.data.toList.drop 22 = dktX4_of_1 := dk_seg dksX4_of_0 22 rfl rfl
theorem dksX4_of_2 : cX4_of.data.toList.drop 44 = dktX4_of_2 := dk_seg dksX4_of_1 22 rfl rfl
theorem dksX4_of_3 : cX4_of.data.toList.drop 67 = dktX4_of_3 := dk_seg dksX4_of_2 23 rfl rfl
theorem dksX4_of_4 : cX4_of.data.toList.drop 89 = dktX4_of_4 := dk_seg dksX4_of_3 22 rfl rfl
theorem dksX4_of_5 : cX4_of.data.toList.drop 113 = dktX4_of_5 := dk_seg dksX4_of_4 24 rfl rfl
theorem dksX4_of_6 : cX4_of.data.toList.drop 137 = dktX4_of_6 := dk_seg dksX4_of_5 24 rfl rfl
theorem dX4_of_0 : decode cX4_of 0 = .ok (.aload_n 0, 1) := dk_42 (dk_at dksX4_of_0 0 rfl rfl)
theorem dX4_of_1 : decode cX4_of 1 = .ok (.aload_n 0, 1) := dk_42 (dk_at dksX4_of_0 1 rfl rfl)
theorem dX4_of_2 : decode cX4_of 2 = .ok (.getfield 11, 3) := dk_180 0 11 (dk_at dksX4_of_0 2 rfl rfl)
theorem dX4_of_5 : decode cX4_of 5 = .ok (.getfield 52, 3) := dk_180 0 52 (dk_at dksX4_of_0 5 rfl rfl)
theorem dX4_of_8 : decode cX4_of 8 = .ok (.getfield 56, 3) := dk_180 0 56 (dk_at dksX4_of_0 8 rfl rfl)
theorem dX4_of_11 : decode cX4_of 11 = .ok (.putfield 61, 3) := dk_181 0 61 (dk_at dksX4_of_0 11 rfl rfl)
theorem dX4_of_14 : decode cX4_of 14 = .ok (.aload_n 0, 1) := dk_42 (dk_at dksX4_of_0 14 rfl rfl)
theorem dX4_of_15 : decode cX4_of 15 = .ok (.aload_n 0, 1) := dk_42 (dk_at dksX4_of_0 15 rfl rfl)
theorem dX4_of_16 : decode cX4_of 16 = .ok (.getfield 11, 3) := dk_180 0 11 (dk_at dksX4_of_0 16 rfl rfl)
theorem dX4_of_19 : decode cX4_of 19 = .ok (.getfield 52, 3) := dk_180 0 52 (dk_at dksX4_of_0 19 rfl rfl)
theorem dX4_of_22 : decode cX4_of 22 = .ok (.getfield 62, 3) := dk_180 0 62 (dk_at dksX4_of_1 0 rfl rfl)
theorem dX4_of_25 : decode cX4_of 25 = .ok (.putfield 65, 3) := dk_181 0 65 (dk_at dksX4_of_1 3 rfl rfl)
theorem dX4_of_28 : decode cX4_of 28 = .ok (.aload_n 0, 1) := dk_42 (dk_at dksX4_of_1 6 rfl rfl)
theorem dX4_of_29 : decode cX4_of 29 = .ok (.aload_n 0, 1) := dk_42 (dk_at dksX4_of_1 7 rfl rfl)
theorem dX4_of_30 : decode cX4_of 30 = .ok (.getfield 11, 3) := dk_180 0 11 (dk_at dksX4_of_1 8 rfl rfl)
theorem dX4_of_33 : decode cX4_of 33 = .ok (.getfield 52, 3) := dk_180 0 52 (dk_at dksX4_of_1 11 rfl rfl)
theorem dX4_of_36 : decode cX4_of 36 = .ok (.getfield 66, 3) := dk_180 0 66 (dk_at dksX4_of_1 14 rfl rfl)
theorem dX4_of_39 : decode cX4_of 39 = .ok (.putfield 69, 3) := dk_181 0 69 (dk_at dksX4_of_1 17 rfl rfl)
theorem dX4_of_42 : decode cX4_of 42 = .ok (.aload_n 0, 1) := dk_42 (dk_at dksX4_of_1 20 rfl rfl)
theorem dX4_of_43 : decode cX4_of 43 = .ok (.aload_n 0, 1) := dk_42 (dk_at dksX4_of_1 21 rfl rfl)
theorem dX4_of_44 : decode cX4_of 44 = .ok (.getfield 11, 3) := dk_180 0 11 (dk_at dksX4_of_2 0 rfl rfl)
theorem dX4_of_47 : decode cX4_of 47 = .ok (.getfield 52, 3) := dk_180 0 52 (dk_at dksX4_of_2 3 rfl rfl)
theorem dX4_of_50 : decode cX4_of 50 = .ok (.getfield 70, 3) := dk_180 0 70 (dk_at dksX4_of_2 6 rfl rfl)
theorem dX4_of_53 : decode cX4_of 53 = .ok (.putfield 73, 3) := dk_181 0 73 (dk_at dksX4_of_2 9 rfl rfl)
theorem dX4_of_56 : decode cX4_of 56 = .ok (.aload_n 0, 1) := dk_42 (dk_at dksX4_of_2 12 rfl rfl)
theorem dX4_of_57 : decode cX4_of 57 = .ok (.aload_n 0, 1) := dk_42 (dk_at dksX4_of_2 13 rfl rfl)
theorem dX4_of_58 : decode cX4_of 58 = .ok (.getfield 11, 3) := dk_180 0 11 (dk_at dksX4_of_2 14 rfl rfl)
theorem dX4_of_61 : decode cX4_of 61 = .ok (.getfield 52, 3) := dk_180 0 52 (dk_at dksX4_of_2 17 rfl rfl)
theorem dX4_of_64 : decode cX4_of 64 = .ok (.getfield 74, 3) := dk_180 0 74 (dk_at dksX4_of_2 20 rfl rfl)
theorem dX4_of_67 : decode cX4_of 67 = .ok (.putfield 77, 3) := dk_181 0 77 (dk_at dksX4_of_3 0 rfl rfl)
theorem dX4_of_70 : decode cX4_of 70 = .ok (.iconst 0, 1) := dk_3 (dk_at dksX4_of_3 3 rfl rfl)
theorem dX4_of_71 : decode cX4_of 71 = .ok (.istore_n 2, 1) := dk_61 (dk_at dksX4_of_3 4 rfl rfl)
theorem dX4_of_72 : decode cX4_of 72 = .ok (.iload_n 2, 1) := dk_28 (dk_at dksX4_of_3 5 rfl rfl)
theorem dX4_of_73 : decode cX4_of 73 = .ok (.aload_n 0, 1) := dk_42 (dk_at dksX4_of_3 6 rfl rfl)
theorem dX4_of_74 : decode cX4_of 74 = .ok (.getfield 61, 3) := dk_180 0 61 (dk_at dksX4_of_3 7 rfl rfl)
theorem dX4_of_77 : decode cX4_of 77 = .ok (.if_icmp .ge 66, 3) := dk_162 0 66 (dk_at dksX4_of_3 10 rfl rfl)
theorem dX4_of_80 : decode cX4_of 80 = .ok (.aload_n 0, 1) := dk_42 (dk_at dksX4_of_3 13 rfl rfl)
theorem dX4_of_81 : decode cX4_of 81 = .ok (.getfield 28, 3) := dk_180 0 28 (dk_at dksX4_of_3 14 rfl rfl)
theorem dX4_of_84 : decode cX4_of 84 = .ok (.iload_n 2, 1) := dk_28 (dk_at dksX4_of_3 17 rfl rfl)
theorem dX4_of_85 : decode cX4_of 85 = .ok (.aload_n 0, 1) := dk_42 (dk_at dksX4_of_3 18 rfl rfl)
theorem dX4_of_86 : decode cX4_of 86 = .ok (.getfield 11, 3) := dk_180 0 11 (dk_at dksX4_of_3 19 rfl rfl)
theorem dX4_of_89 : decode cX4_of 89 = .ok (.getfield 52, 3) := dk_180 0 52 (dk_at dksX4_of_4 0 rfl rfl)
theorem dX4_of_92 : decode cX4_of 92 = .ok (.getfield 78, 3) := dk_180 0 78 (dk_at dksX4_of_4 3 rfl rfl)
theorem dX4_of_95 : decode cX4_of 95 = .ok (.iload_n 2, 1) := dk_28 (dk_at dksX4_of_4 6 rfl rfl)
theorem dX4_of_96 : decode cX4_of 96 = .ok (.aaload, 1) := dk_50 (dk_at dksX4_of_4 7 rfl rfl)
theorem dX4_of_97 : decode cX4_of 97 = .ok (.getfield 82, 3) := dk_180 0 82 (dk_at dksX4_of_4 8 rfl rfl)
theorem dX4_of_100 : decode cX4_of 100 = .ok (.iastore, 1) := dk_79 (dk_at dksX4_of_4 11 rfl rfl)
theorem dX4_of_101 : decode cX4_of 101 = .ok (.aload_n 0, 1) := dk_42 (dk_at dksX4_of_4 12 rfl rfl)
theorem dX4_of_102 : decode cX4_of 102 = .ok (.getfield 31, 3) := dk_180 0 31 (dk_at dksX4_of_4 13 rfl rfl)
theorem dX4_of_105 : decode cX4_of 105 = .ok (.iload_n 2, 1) := dk_28 (dk_at dksX4_of_4 16 rfl rfl)
theorem dX4_of_106 : decode cX4_of 106 = .ok (.aload_n 1, 1) := dk_43 (dk_at dksX4_of_4 17 rfl rfl)
theorem dX4_of_107 : decode cX4_of 107 = .ok (.getfield 86, 3) := dk_180 0 86 (dk_at dksX4_of_4 18 rfl rfl)
theorem dX4_of_110 : decode cX4_of 110 = .ok (.iload_n 2, 1) := dk_28 (dk_at dksX4_of_4 21 rfl rfl)
theorem dX4_of_111 : decode cX4_of 111 = .ok (.iaload, 1) := dk_46 (dk_at dksX4_of_4 22 rfl rfl)
theorem dX4_of_112 : decode cX4_of 112 = .ok (.iastore, 1) := dk_79 (dk_at dksX4_of_4 23 rfl rfl)
theorem dX4_of_113 : decode cX4_of 113 = .ok (.aload_n 0, 1) := dk_42 (dk_at dksX4_of_5 0 rfl rfl)
theorem dX4_of_114 : decode cX4_of 114 = .ok (.getfield 34, 3) := dk_180 0 34 (dk_at dksX4_of_5 1 rfl rfl)
theorem dX4_of_117 : decode cX4_of 117 = .ok (.iload_n 2, 1) := dk_28 (dk_at dksX4_of_5 4 rfl rfl)
theorem dX4_of_118 : decode cX4_of 118 = .ok (.aload_n 1, 1) := dk_43 (dk_at dksX4_of_5 5 rfl rfl)
theorem dX4_of_119 : decode cX4_of 119 = .ok (.getfield 89, 3) := dk_180 0 89 (dk_at dksX4_of_5 6 rfl rfl)
theorem dX4_of_122 : decode cX4_of 122 = .ok (.iload_n 2, 1) := dk_28 (dk_at dksX4_of_5 9 rfl rfl)
theorem dX4_of_123 : decode cX4_of 123 = .ok (.iaload, 1) := dk_46 (dk_at dksX4_of_5 10 rfl rfl)
theorem dX4_of_124 : decode cX4_of 124 = .ok (.iastore, 1) := dk_79 (dk_at dksX4_of_5 11 rfl rfl)
theorem dX4_of_125 : decode cX4_of 125 = .ok (.aload_n 0, 1) := dk_42 (dk_at dksX4_of_5 12 rfl rfl)
theorem dX4_of_126 : decode cX4_of 126 = .ok (.getfield 43, 3) := dk_180 0 43 (dk_at dksX4_of_5 13 rfl rfl)
theorem dX4_of_129 : decode cX4_of 129 = .ok (.iload_n 2, 1) := dk_28 (dk_at dksX4_of_5 16 rfl rfl)
theorem dX4_of_130 : decode cX4_of 130 = .ok (.aload_n 1, 1) := dk_43 (dk_at dksX4_of_5 17 rfl rfl)
theorem dX4_of_131 : decode cX4_of 131 = .ok (.getfield 90, 3) := dk_180 0 90 (dk_at dksX4_of_5 18 rfl rfl)
theorem dX4_of_134 : decode cX4_of 134 = .ok (.iload_n 2, 1) := dk_28 (dk_at dksX4_of_5 21 rfl rfl)
theorem dX4_of_135 : decode cX4_of 135 = .ok (.iaload, 1) := dk_46 (dk_at dksX4_of_5 22 rfl rfl)
theorem dX4_of_136 : decode cX4_of 136 = .ok (.iastore, 1) := dk_79 (dk_at dksX4_of_5 23 rfl rfl)
theorem dX4_of_137 : decode cX4_of 137 = .ok (.iinc 2 1, 3) := dk_132 2 1 (dk_at dksX4_of_6 0 rfl rfl)
theorem dX4_of_140 : decode cX4_of 140 = .ok (.goto (-68), 3) := dk_167 255 188 (dk_at dksX4_of_6 3 rfl rfl)
theorem dX4_of_143 : decode cX4_of 143 = .ok (.aload_n 0, 1) := dk_42 (dk_at dksX4_of_6 6 rfl rfl)
theorem dX4_of_144 : decode cX4_of 144 = .ok (.areturn, 1) := dk_176 (dk_at dksX4_of_6 7 rfl rfl)
abbrev cX4_counted : ByteArray := prog_2_method_4_code
def yX4_counted : MethodName := ⟨RX4, "counted", "()LQuietChannels$Air;"⟩
def dkwX4_counted_0 : List UInt8 := [42, 2, 182, 0, 91, 176]
abbrev dktX4_counted_0 : List UInt8 := dkwX4_counted_0 ++ []
theorem dksX4_counted_0 : cX4_counted.data.toList.drop 0 = dktX4_counted_0 := by decide +kernel
theorem dX4_counted_0 : decode cX4_counted 0 = .ok (.aload_n 0, 1) := dk_42 (dk_at dksX4_counted_0 0 rfl rfl)
theorem dX4_counted_1 : decode cX4_counted 1 = .ok (.iconst (-1), 1) := dk_2 (dk_at dksX4_counted_0 1 rfl rfl)
theorem dX4_counted_2 : decode cX4_counted 2 = .ok (.invokevirtual 91, 3) := dk_182 0 91 (dk_at dksX4_counted_0 2 rfl rfl)
theorem dX4_counted_5 : decode cX4_counted 5 = .ok (.areturn, 1) := dk_176 (dk_at dksX4_counted_0 5 rfl rfl)
abbrev cX4_counted_2 : ByteArray := prog_2_method_5_code
def yX4_counted_2 : MethodName := ⟨RX4, "counted", "(I)LQuietChannels$Air;"⟩
def dkwX4_counted_2_8 : List UInt8 := [167, 255, 225, 132, 2, 1, 167, 255, 209, 42, 176]
abbrev dktX4_counted_2_8 : List UInt8 := dkwX4_counted_2_8 ++ []
def dkwX4_counted_2_7 : List UInt8 := [180, 0, 114, 42, 28, 29, 182, 0, 117, 153, 0, 7, 4, 167, 0, 4, 3, 96, 181, 0, 114, 132, 3, 1]
abbrev dktX4_counted_2_7 : List UInt8 := dkwX4_counted_2_7 ++ dktX4_counted_2_8
def dkwX4_counted_2_6 : List UInt8 := [181, 0, 114, 3, 61, 28, 42, 180, 0, 61, 162, 0, 45, 3, 62, 29, 28, 162, 0, 32, 42, 89]
abbrev dktX4_counted_2_6 : List UInt8 := dkwX4_counted_2_6 ++ dktX4_counted_2_7
def dkwX4_counted_2_5 : List UInt8 := [4, 160, 0, 9, 42, 28, 29, 182, 0, 110, 132, 3, 1, 167, 255, 225, 132, 2, 1, 167, 255, 212, 42, 3]
abbrev dktX4_counted_2_5 : List UInt8 := dkwX4_counted_2_5 ++ dktX4_counted_2_6
def dkwX4_counted_2_4 : List UInt8 := [6, 162, 0, 45, 3, 62, 29, 16, 6, 162, 0, 31, 42, 180, 0, 77, 178, 0, 107, 29, 46, 122, 4, 126]
abbrev dktX4_counted_2_4 : List UInt8 := dkwX4_counted_2_4 ++ dktX4_counted_2_5
def dkwX4_counted_2_3 : List UInt8 := [42, 180, 0, 46, 28, 3, 79, 42, 180, 0, 49, 28, 16, 254, 79, 132, 2, 1, 167, 255, 216, 3, 61, 28]
abbrev dktX4_counted_2_3 : List UInt8 := dkwX4_counted_2_3 ++ dktX4_counted_2_4
def dkwX4_counted_2_2 : List UInt8 := [3, 61, 28, 42, 180, 0, 61, 162, 0, 38, 42, 180, 0, 37, 28, 3, 79, 42, 180, 0, 40, 28, 3, 79]
abbrev dktX4_counted_2_2 : List UInt8 := dkwX4_counted_2_2 ++ dktX4_counted_2_3
def dkwX4_counted_2_1 : List UInt8 := [181, 0, 104, 3, 61, 28, 16, 18, 162, 0, 16, 42, 180, 0, 20, 28, 3, 79, 132, 2, 1, 167, 255, 240]
abbrev dktX4_counted_2_1 : List UInt8 := dkwX4_counted_2_1 ++ dktX4_counted_2_2
def dkwX4_counted_2_0 : List UInt8 := [42, 27, 181, 0, 24, 42, 3, 181, 0, 95, 42, 3, 181, 0, 98, 42, 3, 181, 0, 101, 42, 16, 254]
abbrev dktX4_counted_2_0 : List UInt8 := dkwX4_counted_2_0 ++ dktX4_counted_2_1
theorem dksX4_counted_2_0 : cX4_counted_2.data.toList.drop 0 = dktX4_counted_2_0 := by decide +kernel
theorem dksX4_counted_2_1 : cX4_counted_2.data.toList.drop 23 = dktX4_counted_2_1 := dk_seg dksX4_counted_2_0 23 rfl rfl
theorem dksX4_counted_2_2 : cX4_counted_2.data.toList.drop 47 = dktX4_counted_2_2 := dk_seg dksX4_counted_2_1 24 rfl rfl
theorem dksX4_counted_2_3 : cX4_counted_2.data.toList.drop 71 = dktX4_counted_2_3 := dk_seg dksX4_counted_2_2 24 rfl rfl
theorem dksX4_counted_2_4 : cX4_counted_2.data.toList.drop 95 = dktX4_counted_2_4 := dk_seg dksX4_counted_2_3 24 rfl rfl
theorem dksX4_counted_2_5 : cX4_counted_2.data.toList.drop 119 = dktX4_counted_2_5 := dk_seg dksX4_counted_2_4 24 rfl rfl
theorem dksX4_counted_2_6 : cX4_counted_2.data.toList.drop 143 = dktX4_counted_2_6 := dk_seg dksX4_counted_2_5 24 rfl rfl
theorem dksX4_counted_2_7 : cX4_counted_2.data.toList.drop 165 = dktX4_counted_2_7 := dk_seg dksX4_counted_2_6 22 rfl rfl
theorem dksX4_counted_2_8 : cX4_counted_2.data.toList.drop 189 = dktX4_counted_2_8 := dk_seg dksX4_counted_2_7 24 rfl rfl
theorem dX4_counted_2_0 : decode cX4_counted_2 0 = .ok (.aload_n 0, 1) := dk_42 (dk_at dksX4_counted_2_0 0 rfl rfl)
theorem dX4_counted_2_1 : decode cX4_counted_2 1 = .ok (.iload_n 1, 1) := dk_27 (dk_at dksX4_counted_2_0 1 rfl rfl)
theorem dX4_counted_2_2 : decode cX4_counted_2 2 = .ok (.putfield 24, 3) := dk_181 0 24 (dk_at dksX4_counted_2_0 2 rfl rfl)
theorem dX4_counted_2_5 : decode cX4_counted_2 5 = .ok (.aload_n 0, 1) := dk_42 (dk_at dksX4_counted_2_0 5 rfl rfl)
theorem dX4_counted_2_6 : decode cX4_counted_2 6 = .ok (.iconst 0, 1) := dk_3 (dk_at dksX4_counted_2_0 6 rfl rfl)
theorem dX4_counted_2_7 : decode cX4_counted_2 7 = .ok (.putfield 95, 3) := dk_181 0 95 (dk_at dksX4_counted_2_0 7 rfl rfl)
theorem dX4_counted_2_10 : decode cX4_counted_2 10 = .ok (.aload_n 0, 1) := dk_42 (dk_at dksX4_counted_2_0 10 rfl rfl)
theorem dX4_counted_2_11 : decode cX4_counted_2 11 = .ok (.iconst 0, 1) := dk_3 (dk_at dksX4_counted_2_0 11 rfl rfl)
theorem dX4_counted_2_12 : decode cX4_counted_2 12 = .ok (.putfield 98, 3) := dk_181 0 98 (dk_at dksX4_counted_2_0 12 rfl rfl)
theorem dX4_counted_2_15 : decode cX4_counted_2 15 = .ok (.aload_n 0, 1) := dk_42 (dk_at dksX4_counted_2_0 15 rfl rfl)
theorem dX4_counted_2_16 : decode cX4_counted_2 16 = .ok (.iconst 0, 1) := dk_3 (dk_at dksX4_counted_2_0 16 rfl rfl)
theorem dX4_counted_2_17 : decode cX4_counted_2 17 = .ok (.putfield 101, 3) := dk_181 0 101 (dk_at dksX4_counted_2_0 17 rfl rfl)
theorem dX4_counted_2_20 : decode cX4_counted_2 20 = .ok (.aload_n 0, 1) := dk_42 (dk_at dksX4_counted_2_0 20 rfl rfl)
theorem dX4_counted_2_21 : decode cX4_counted_2 21 = .ok (.bipush (-2), 2) := dk_16 254 (dk_at dksX4_counted_2_0 21 rfl rfl)
theorem dX4_counted_2_23 : decode cX4_counted_2 23 = .ok (.putfield 104, 3) := dk_181 0 104 (dk_at dksX4_counted_2_1 0 rfl rfl)
theorem dX4_counted_2_26 : decode cX4_counted_2 26 = .ok (.iconst 0, 1) := dk_3 (dk_at dksX4_counted_2_1 3 rfl rfl)
theorem dX4_counted_2_27 : decode cX4_counted_2 27 = .ok (.istore_n 2, 1) := dk_61 (dk_at dksX4_counted_2_1 4 rfl rfl)
theorem dX4_counted_2_28 : decode cX4_counted_2 28 = .ok (.iload_n 2, 1) := dk_28 (dk_at dksX4_counted_2_1 5 rfl rfl)
theorem dX4_counted_2_29 : decode cX4_counted_2 29 = .ok (.bipush 18, 2) := dk_16 18 (dk_at dksX4_counted_2_1 6 rfl rfl)
theorem dX4_counted_2_31 : decode cX4_counted_2 31 = .ok (.if_icmp .ge 16, 3) := dk_162 0 16 (dk_at dksX4_counted_2_1 8 rfl rfl)
theorem dX4_counted_2_34 : decode cX4_counted_2 34 = .ok (.aload_n 0, 1) := dk_42 (dk_at dksX4_counted_2_1 11 rfl rfl)
theorem dX4_counted_2_35 : decode cX4_counted_2 35 = .ok (.getfield 20, 3) := dk_180 0 20 (dk_at dksX4_counted_2_1 12 rfl rfl)
theorem dX4_counted_2_38 : decode cX4_counted_2 38 = .ok (.iload_n 2, 1) := dk_28 (dk_at dksX4_counted_2_1 15 rfl rfl)
theorem dX4_counted_2_39 : decode cX4_counted_2 39 = .ok (.iconst 0, 1) := dk_3 (dk_at dksX4_counted_2_1 16 rfl rfl)
theorem dX4_counted_2_40 : decode cX4_counted_2 40 = .ok (.iastore, 1) := dk_79 (dk_at dksX4_counted_2_1 17 rfl rfl)
theorem dX4_counted_2_41 : decode cX4_counted_2 41 = .ok (.iinc 2 1, 3) := dk_132 2 1 (dk_at dksX4_counted_2_1 18 rfl rfl)
theorem dX4_counted_2_44 : decode cX4_counted_2 44 = .ok (.goto (-16), 3) := dk_167 255 240 (dk_at dksX4_counted_2_1 21 rfl rfl)
theorem dX4_counted_2_47 : decode cX4_counted_2 47 = .ok (.iconst 0, 1) := dk_3 (dk_at dksX4_counted_2_2 0 rfl rfl)
theorem dX4_counted_2_48 : decode cX4_counted_2 48 = .ok (.istore_n 2, 1) := dk_61 (dk_at dksX4_counted_2_2 1 rfl rfl)
theorem dX4_counted_2_49 : decode cX4_counted_2 49 = .ok (.iload_n 2, 1) := dk_28 (dk_at dksX4_counted_2_2 2 rfl rfl)
theorem dX4_counted_2_50 : decode cX4_counted_2 50 = .ok (.aload_n 0, 1) := dk_42 (dk_at dksX4_counted_2_2 3 rfl rfl)
theorem dX4_counted_2_51 : decode cX4_counted_2 51 = .ok (.getfield 61, 3) := dk_180 0 61 (dk_at dksX4_counted_2_2 4 rfl rfl)
theorem dX4_counted_2_54 : decode cX4_counted_2 54 = .ok (.if_icmp .ge 38, 3) := dk_162 0 38 (dk_at dksX4_counted_2_2 7 rfl rfl)
theorem dX4_counted_2_57 : decode cX4_counted_2 57 = .ok (.aload_n 0, 1) := dk_42 (dk_at dksX4_counted_2_2 10 rfl rfl)
theorem dX4_counted_2_58 : decode cX4_counted_2 58 = .ok (.getfield 37, 3) := dk_180 0 37 (dk_at dksX4_counted_2_2 11 rfl rfl)
theorem dX4_counted_2_61 : decode cX4_counted_2 61 = .ok (.iload_n 2, 1) := dk_28 (dk_at dksX4_counted_2_2 14 rfl rfl)
theorem dX4_counted_2_62 : decode cX4_counted_2 62 = .ok (.iconst 0, 1) := dk_3 (dk_at dksX4_counted_2_2 15 rfl rfl)
theorem dX4_counted_2_63 : decode cX4_counted_2 63 = .ok (.iastore, 1) := dk_79 (dk_at dksX4_counted_2_2 16 rfl rfl)
theorem dX4_counted_2_64 : decode cX4_counted_2 64 = .ok (.aload_n 0, 1) := dk_42 (dk_at dksX4_counted_2_2 17 rfl rfl)
theorem dX4_counted_2_65 : decode cX4_counted_2 65 = .ok (.getfield 40, 3) := dk_180 0 40 (dk_at dksX4_counted_2_2 18 rfl rfl)
theorem dX4_counted_2_68 : decode cX4_counted_2 68 = .ok (.iload_n 2, 1) := dk_28 (dk_at dksX4_counted_2_2 21 rfl rfl)
theorem dX4_counted_2_69 : decode cX4_counted_2 69 = .ok (.iconst 0, 1) := dk_3 (dk_at dksX4_counted_2_2 22 rfl rfl)
theorem dX4_counted_2_70 : decode cX4_counted_2 70 = .ok (.iastore, 1) := dk_79 (dk_at dksX4_counted_2_2 23 rfl rfl)
theorem dX4_counted_2_71 : decode cX4_counted_2 71 = .ok (.aload_n 0, 1) := dk_42 (dk_at dksX4_counted_2_3 0 rfl rfl)
theorem dX4_counted_2_72 : decode cX4_counted_2 72 = .ok (.getfield 46, 3) := dk_180 0 46 (dk_at dksX4_counted_2_3 1 rfl rfl)
theorem dX4_counted_2_75 : decode cX4_counted_2 75 = .ok (.iload_n 2, 1) := dk_28 (dk_at dksX4_counted_2_3 4 rfl rfl)
theorem dX4_counted_2_76 : decode cX4_counted_2 76 = .ok (.iconst 0, 1) := dk_3 (dk_at dksX4_counted_2_3 5 rfl rfl)
theorem dX4_counted_2_77 : decode cX4_counted_2 77 = .ok (.iastore, 1) := dk_79 (dk_at dksX4_counted_2_3 6 rfl rfl)
theorem dX4_counted_2_78 : decode cX4_counted_2 78 = .ok (.aload_n 0, 1) := dk_42 (dk_at dksX4_counted_2_3 7 rfl rfl)
theorem dX4_counted_2_79 : decode cX4_counted_2 79 = .ok (.getfield 49, 3) := dk_180 0 49 (dk_at dksX4_counted_2_3 8 rfl rfl)
theorem dX4_counted_2_82 : decode cX4_counted_2 82 = .ok (.iload_n 2, 1) := dk_28 (dk_at dksX4_counted_2_3 11 rfl rfl)
theorem dX4_counted_2_83 : decode cX4_counted_2 83 = .ok (.bipush (-2), 2) := dk_16 254 (dk_at dksX4_counted_2_3 12 rfl rfl)
theorem dX4_counted_2_85 : decode cX4_counted_2 85 = .ok (.iastore, 1) := dk_79 (dk_at dksX4_counted_2_3 14 rfl rfl)
theorem dX4_counted_2_86 : decode cX4_counted_2 86 = .ok (.iinc 2 1, 3) := dk_132 2 1 (dk_at dksX4_counted_2_3 15 rfl rfl)
theorem dX4_counted_2_89 : decode cX4_counted_2 89 = .ok (.goto (-40), 3) := dk_167 255 216 (dk_at dksX4_counted_2_3 18 rfl rfl)
theorem dX4_counted_2_92 : decode cX4_counted_2 92 = .ok (.iconst 0, 1) := dk_3 (dk_at dksX4_counted_2_3 21 rfl rfl)
theorem dX4_counted_2_93 : decode cX4_counted_2 93 = .ok (.istore_n 2, 1) := dk_61 (dk_at dksX4_counted_2_3 22 rfl rfl)
theorem dX4_counted_2_94 : decode cX4_counted_2 94 = .ok (.iload_n 2, 1) := dk_28 (dk_at dksX4_counted_2_3 23 rfl rfl)
theorem dX4_counted_2_95 : decode cX4_counted_2 95 = .ok (.iconst 3, 1) := dk_6 (dk_at dksX4_counted_2_4 0 rfl rfl)
theorem dX4_counted_2_96 : decode cX4_counted_2 96 = .ok (.if_icmp .ge 45, 3) := dk_162 0 45 (dk_at dksX4_counted_2_4 1 rfl rfl)
theorem dX4_counted_2_99 : decode cX4_counted_2 99 = .ok (.iconst 0, 1) := dk_3 (dk_at dksX4_counted_2_4 4 rfl rfl)
theorem dX4_counted_2_100 : decode cX4_counted_2 100 = .ok (.istore_n 3, 1) := dk_62 (dk_at dksX4_counted_2_4 5 rfl rfl)
theorem dX4_counted_2_101 : decode cX4_counted_2 101 = .ok (.iload_n 3, 1) := dk_29 (dk_at dksX4_counted_2_4 6 rfl rfl)
theorem dX4_counted_2_102 : decode cX4_counted_2 102 = .ok (.bipush 6, 2) := dk_16 6 (dk_at dksX4_counted_2_4 7 rfl rfl)
theorem dX4_counted_2_104 : decode cX4_counted_2 104 = .ok (.if_icmp .ge 31, 3) := dk_162 0 31 (dk_at dksX4_counted_2_4 9 rfl rfl)
theorem dX4_counted_2_107 : decode cX4_counted_2 107 = .ok (.aload_n 0, 1) := dk_42 (dk_at dksX4_counted_2_4 12 rfl rfl)
theorem dX4_counted_2_108 : decode cX4_counted_2 108 = .ok (.getfield 77, 3) := dk_180 0 77 (dk_at dksX4_counted_2_4 13 rfl rfl)
theorem dX4_counted_2_111 : decode cX4_counted_2 111 = .ok (.getstatic 107, 3) := dk_178 0 107 (dk_at dksX4_counted_2_4 16 rfl rfl)
theorem dX4_counted_2_114 : decode cX4_counted_2 114 = .ok (.iload_n 3, 1) := dk_29 (dk_at dksX4_counted_2_4 19 rfl rfl)
theorem dX4_counted_2_115 : decode cX4_counted_2 115 = .ok (.iaload, 1) := dk_46 (dk_at dksX4_counted_2_4 20 rfl rfl)
theorem dX4_counted_2_116 : decode cX4_counted_2 116 = .ok (.ishr, 1) := dk_122 (dk_at dksX4_counted_2_4 21 rfl rfl)
theorem dX4_counted_2_117 : decode cX4_counted_2 117 = .ok (.iconst 1, 1) := dk_4 (dk_at dksX4_counted_2_4 22 rfl rfl)
theorem dX4_counted_2_118 : decode cX4_counted_2 118 = .ok (.iand, 1) := dk_126 (dk_at dksX4_counted_2_4 23 rfl rfl)
theorem dX4_counted_2_119 : decode cX4_counted_2 119 = .ok (.iconst 1, 1) := dk_4 (dk_at dksX4_counted_2_5 0 rfl rfl)
theorem dX4_counted_2_120 : decode cX4_counted_2 120 = .ok (.if_icmp .ne 9, 3) := dk_160 0 9 (dk_at dksX4_counted_2_5 1 rfl rfl)
theorem dX4_counted_2_123 : decode cX4_counted_2 123 = .ok (.aload_n 0, 1) := dk_42 (dk_at dksX4_counted_2_5 4 rfl rfl)
theorem dX4_counted_2_124 : decode cX4_counted_2 124 = .ok (.iload_n 2, 1) := dk_28 (dk_at dksX4_counted_2_5 5 rfl rfl)
theorem dX4_counted_2_125 : decode cX4_counted_2 125 = .ok (.iload_n 3, 1) := dk_29 (dk_at dksX4_counted_2_5 6 rfl rfl)
theorem dX4_counted_2_126 : decode cX4_counted_2 126 = .ok (.invokevirtual 110, 3) := dk_182 0 110 (dk_at dksX4_counted_2_5 7 rfl rfl)
theorem dX4_counted_2_129 : decode cX4_counted_2 129 = .ok (.iinc 3 1, 3) := dk_132 3 1 (dk_at dksX4_counted_2_5 10 rfl rfl)
theorem dX4_counted_2_132 : decode cX4_counted_2 132 = .ok (.goto (-31), 3) := dk_167 255 225 (dk_at dksX4_counted_2_5 13 rfl rfl)
theorem dX4_counted_2_135 : decode cX4_counted_2 135 = .ok (.iinc 2 1, 3) := dk_132 2 1 (dk_at dksX4_counted_2_5 16 rfl rfl)
theorem dX4_counted_2_138 : decode cX4_counted_2 138 = .ok (.goto (-44), 3) := dk_167 255 212 (dk_at dksX4_counted_2_5 19 rfl rfl)
theorem dX4_counted_2_141 : decode cX4_counted_2 141 = .ok (.aload_n 0, 1) := dk_42 (dk_at dksX4_counted_2_5 22 rfl rfl)
theorem dX4_counted_2_142 : decode cX4_counted_2 142 = .ok (.iconst 0, 1) := dk_3 (dk_at dksX4_counted_2_5 23 rfl rfl)
theorem dX4_counted_2_143 : decode cX4_counted_2 143 = .ok (.putfield 114, 3) := dk_181 0 114 (dk_at dksX4_counted_2_6 0 rfl rfl)
theorem dX4_counted_2_146 : decode cX4_counted_2 146 = .ok (.iconst 0, 1) := dk_3 (dk_at dksX4_counted_2_6 3 rfl rfl)
theorem dX4_counted_2_147 : decode cX4_counted_2 147 = .ok (.istore_n 2, 1) := dk_61 (dk_at dksX4_counted_2_6 4 rfl rfl)
theorem dX4_counted_2_148 : decode cX4_counted_2 148 = .ok (.iload_n 2, 1) := dk_28 (dk_at dksX4_counted_2_6 5 rfl rfl)
theorem dX4_counted_2_149 : decode cX4_counted_2 149 = .ok (.aload_n 0, 1) := dk_42 (dk_at dksX4_counted_2_6 6 rfl rfl)
theorem dX4_counted_2_150 : decode cX4_counted_2 150 = .ok (.getfield 61, 3) := dk_180 0 61 (dk_at dksX4_counted_2_6 7 rfl rfl)
theorem dX4_counted_2_153 : decode cX4_counted_2 153 = .ok (.if_icmp .ge 45, 3) := dk_162 0 45 (dk_at dksX4_counted_2_6 10 rfl rfl)
theorem dX4_counted_2_156 : decode cX4_counted_2 156 = .ok (.iconst 0, 1) := dk_3 (dk_at dksX4_counted_2_6 13 rfl rfl)
theorem dX4_counted_2_157 : decode cX4_counted_2 157 = .ok (.istore_n 3, 1) := dk_62 (dk_at dksX4_counted_2_6 14 rfl rfl)
theorem dX4_counted_2_158 : decode cX4_counted_2 158 = .ok (.iload_n 3, 1) := dk_29 (dk_at dksX4_counted_2_6 15 rfl rfl)
theorem dX4_counted_2_159 : decode cX4_counted_2 159 = .ok (.iload_n 2, 1) := dk_28 (dk_at dksX4_counted_2_6 16 rfl rfl)
theorem dX4_counted_2_160 : decode cX4_counted_2 160 = .ok (.if_icmp .ge 32, 3) := dk_162 0 32 (dk_at dksX4_counted_2_6 17 rfl rfl)
theorem dX4_counted_2_163 : decode cX4_counted_2 163 = .ok (.aload_n 0, 1) := dk_42 (dk_at dksX4_counted_2_6 20 rfl rfl)
theorem dX4_counted_2_164 : decode cX4_counted_2 164 = .ok (.dup, 1) := dk_89 (dk_at dksX4_counted_2_6 21 rfl rfl)
theorem dX4_counted_2_165 : decode cX4_counted_2 165 = .ok (.getfield 114, 3) := dk_180 0 114 (dk_at dksX4_counted_2_7 0 rfl rfl)
theorem dX4_counted_2_168 : decode cX4_counted_2 168 = .ok (.aload_n 0, 1) := dk_42 (dk_at dksX4_counted_2_7 3 rfl rfl)
theorem dX4_counted_2_169 : decode cX4_counted_2 169 = .ok (.iload_n 2, 1) := dk_28 (dk_at dksX4_counted_2_7 4 rfl rfl)
theorem dX4_counted_2_170 : decode cX4_counted_2 170 = .ok (.iload_n 3, 1) := dk_29 (dk_at dksX4_counted_2_7 5 rfl rfl)
theorem dX4_counted_2_171 : decode cX4_counted_2 171 = .ok (.invokevirtual 117, 3) := dk_182 0 117 (dk_at dksX4_counted_2_7 6 rfl rfl)
theorem dX4_counted_2_174 : decode cX4_counted_2 174 = .ok (.ifCond .eq 7, 3) := dk_153 0 7 (dk_at dksX4_counted_2_7 9 rfl rfl)
theorem dX4_counted_2_177 : decode cX4_counted_2 177 = .ok (.iconst 1, 1) := dk_4 (dk_at dksX4_counted_2_7 12 rfl rfl)
theorem dX4_counted_2_178 : decode cX4_counted_2 178 = .ok (.goto 4, 3) := dk_167 0 4 (dk_at dksX4_counted_2_7 13 rfl rfl)
theorem dX4_counted_2_181 : decode cX4_counted_2 181 = .ok (.iconst 0, 1) := dk_3 (dk_at dksX4_counted_2_7 16 rfl rfl)
theorem dX4_counted_2_182 : decode cX4_counted_2 182 = .ok (.iadd, 1) := dk_96 (dk_at dksX4_counted_2_7 17 rfl rfl)
theorem dX4_counted_2_183 : decode cX4_counted_2 183 = .ok (.putfield 114, 3) := dk_181 0 114 (dk_at dksX4_counted_2_7 18 rfl rfl)
theorem dX4_counted_2_186 : decode cX4_counted_2 186 = .ok (.iinc 3 1, 3) := dk_132 3 1 (dk_at dksX4_counted_2_7 21 rfl rfl)
theorem dX4_counted_2_189 : decode cX4_counted_2 189 = .ok (.goto (-31), 3) := dk_167 255 225 (dk_at dksX4_counted_2_8 0 rfl rfl)
theorem dX4_counted_2_192 : decode cX4_counted_2 192 = .ok (.iinc 2 1, 3) := dk_132 2 1 (dk_at dksX4_counted_2_8 3 rfl rfl)
theorem dX4_counted_2_195 : decode cX4_counted_2 195 = .ok (.goto (-47), 3) := dk_167 255 209 (dk_at dksX4_counted_2_8 6 rfl rfl)
theorem dX4_counted_2_198 : decode cX4_counted_2 198 = .ok (.aload_n 0, 1) := dk_42 (dk_at dksX4_counted_2_8 9 rfl rfl)
theorem dX4_counted_2_199 : decode cX4_counted_2 199 = .ok (.areturn, 1) := dk_176 (dk_at dksX4_counted_2_8 10 rfl rfl)
abbrev cX4_goes : ByteArray := prog_2_method_7_code
def yX4_goes : MethodName := ⟨RX4, "goes", "(II)V"⟩
def dkwX4_goes_8 : List UInt8 := [132, 5, 1, 167, 255, 110, 177]
abbrev dktX4_goes_8 : List UInt8 := dkwX4_goes_8 ++ []
def dkwX4_goes_7 : List UInt8 := [42, 28, 21, 5, 21, 6, 21, 7, 182, 0, 127, 132, 7, 1, 167, 255, 205, 132, 6, 1, 167, 255, 153]
abbrev dktX4_goes_7 : List UInt8 := dkwX4_goes_7 ++ dktX4_goes_8
def dkwX4_goes_6 : List UInt8 := [21, 7, 21, 5, 159, 0, 31, 21, 7, 21, 6, 159, 0, 24, 42, 21, 7, 27, 182, 0, 124, 153, 0, 14]
abbrev dktX4_goes_6 : List UInt8 := dkwX4_goes_6 ++ dktX4_goes_7
def dkwX4_goes_5 : List UInt8 := [21, 5, 21, 6, 2, 182, 0, 127, 3, 54, 7, 29, 153, 0, 53, 21, 7, 42, 180, 0, 61, 162, 0, 44]
abbrev dktX4_goes_5 : List UInt8 := dkwX4_goes_5 ++ dktX4_goes_6
def dkwX4_goes_4 : List UInt8 := [21, 5, 159, 0, 87, 42, 21, 6, 27, 182, 0, 124, 154, 0, 6, 167, 0, 74, 29, 154, 0, 13, 42, 28]
abbrev dktX4_goes_4 : List UInt8 := dkwX4_goes_4 ++ dktX4_goes_5
def dkwX4_goes_3 : List UInt8 := [153, 0, 10, 21, 5, 4, 96, 167, 0, 4, 3, 54, 6, 21, 6, 42, 180, 0, 61, 162, 0, 100, 21, 6]
abbrev dktX4_goes_3 : List UInt8 := dkwX4_goes_3 ++ dktX4_goes_4
def dkwX4_goes_2 : List UInt8 := [21, 5, 42, 180, 0, 61, 162, 0, 143, 42, 21, 5, 27, 182, 0, 124, 154, 0, 6, 167, 0, 124, 21, 4]
abbrev dktX4_goes_2 : List UInt8 := dkwX4_goes_2 ++ dktX4_goes_3
def dkwX4_goes_1 : List UInt8 := [46, 178, 0, 121, 6, 28, 104, 4, 96, 46, 160, 0, 7, 4, 167, 0, 4, 3, 54, 4, 3, 54, 5]
abbrev dktX4_goes_1 : List UInt8 := dkwX4_goes_1 ++ dktX4_goes_2
def dkwX4_goes_0 : List UInt8 := [178, 0, 121, 6, 28, 104, 5, 96, 46, 153, 0, 7, 4, 167, 0, 4, 3, 62, 178, 0, 121, 6, 28, 104]
abbrev dktX4_goes_0 : List UInt8 := dkwX4_goes_0 ++ dktX4_goes_1
theorem dksX4_goes_0 : cX4_goes.data.toList.drop 0 = dktX4_goes_0 := by decide +kernel
theorem dksX4_goes_1 : cX4_goes.data.toList.drop 24 = dktX4_goes_1 := dk_seg dksX4_goes_0 24 rfl rfl
theorem dksX4_goes_2 : cX4_goes.data.toList.drop 47 = dktX4_goes_2 := dk_seg dksX4_goes_1 23 rfl rfl
theorem dksX4_goes_3 : cX4_goes.data.toList.drop 71 = dktX4_goes_3 := dk_seg dksX4_goes_2 24 rfl rfl
theorem dksX4_goes_4 : cX4_goes.data.toList.drop 95 = dktX4_goes_4 := dk_seg dksX4_goes_3 24 rfl rfl
theorem dksX4_goes_5 : cX4_goes.data.toList.drop 119 = dktX4_goes_5 := dk_seg dksX4_goes_4 24 rfl rfl
theorem dksX4_goes_6 : cX4_goes.data.toList.drop 143 = dktX4_goes_6 := dk_seg dksX4_goes_5 24 rfl rfl
theorem dksX4_goes_7 : cX4_goes.data.toList.drop 167 = dktX4_goes_7 := dk_seg dksX4_goes_6 24 rfl rfl
theorem dksX4_goes_8 : cX4_goes.data.toList.drop 190 = dktX4_goes_8 := dk_seg dksX4_goes_7 23 rfl rfl
theorem dX4_goes_0 : decode cX4_goes 0 = .ok (.getstatic 121, 3) := dk_178 0 121 (dk_at dksX4_goes_0 0 rfl rfl)
theorem dX4_goes_3 : decode cX4_goes 3 = .ok (.iconst 3, 1) := dk_6 (dk_at dksX4_goes_0 3 rfl rfl)
theorem dX4_goes_4 : decode cX4_goes 4 = .ok (.iload_n 2, 1) := dk_28 (dk_at dksX4_goes_0 4 rfl rfl)
theorem dX4_goes_5 : decode cX4_goes 5 = .ok (.imul, 1) := dk_104 (dk_at dksX4_goes_0 5 rfl rfl)
theorem dX4_goes_6 : decode cX4_goes 6 = .ok (.iconst 2, 1) := dk_5 (dk_at dksX4_goes_0 6 rfl rfl)
theorem dX4_goes_7 : decode cX4_goes 7 = .ok (.iadd, 1) := dk_96 (dk_at dksX4_goes_0 7 rfl rfl)
theorem dX4_goes_8 : decode cX4_goes 8 = .ok (.iaload, 1) := dk_46 (dk_at dksX4_goes_0 8 rfl rfl)
theorem dX4_goes_9 : decode cX4_goes 9 = .ok (.ifCond .eq 7, 3) := dk_153 0 7 (dk_at dksX4_goes_0 9 rfl rfl)
theorem dX4_goes_12 : decode cX4_goes 12 = .ok (.iconst 1, 1) := dk_4 (dk_at dksX4_goes_0 12 rfl rfl)
theorem dX4_goes_13 : decode cX4_goes 13 = .ok (.goto 4, 3) := dk_167 0 4 (dk_at dksX4_goes_0 13 rfl rfl)
theorem dX4_goes_16 : decode cX4_goes 16 = .ok (.iconst 0, 1) := dk_3 (dk_at dksX4_goes_0 16 rfl rfl)
theorem dX4_goes_17 : decode cX4_goes 17 = .ok (.istore_n 3, 1) := dk_62 (dk_at dksX4_goes_0 17 rfl rfl)
theorem dX4_goes_18 : decode cX4_goes 18 = .ok (.getstatic 121, 3) := dk_178 0 121 (dk_at dksX4_goes_0 18 rfl rfl)
theorem dX4_goes_21 : decode cX4_goes 21 = .ok (.iconst 3, 1) := dk_6 (dk_at dksX4_goes_0 21 rfl rfl)
theorem dX4_goes_22 : decode cX4_goes 22 = .ok (.iload_n 2, 1) := dk_28 (dk_at dksX4_goes_0 22 rfl rfl)
theorem dX4_goes_23 : decode cX4_goes 23 = .ok (.imul, 1) := dk_104 (dk_at dksX4_goes_0 23 rfl rfl)
theorem dX4_goes_24 : decode cX4_goes 24 = .ok (.iaload, 1) := dk_46 (dk_at dksX4_goes_1 0 rfl rfl)
theorem dX4_goes_25 : decode cX4_goes 25 = .ok (.getstatic 121, 3) := dk_178 0 121 (dk_at dksX4_goes_1 1 rfl rfl)
theorem dX4_goes_28 : decode cX4_goes 28 = .ok (.iconst 3, 1) := dk_6 (dk_at dksX4_goes_1 4 rfl rfl)
theorem dX4_goes_29 : decode cX4_goes 29 = .ok (.iload_n 2, 1) := dk_28 (dk_at dksX4_goes_1 5 rfl rfl)
theorem dX4_goes_30 : decode cX4_goes 30 = .ok (.imul, 1) := dk_104 (dk_at dksX4_goes_1 6 rfl rfl)
theorem dX4_goes_31 : decode cX4_goes 31 = .ok (.iconst 1, 1) := dk_4 (dk_at dksX4_goes_1 7 rfl rfl)
theorem dX4_goes_32 : decode cX4_goes 32 = .ok (.iadd, 1) := dk_96 (dk_at dksX4_goes_1 8 rfl rfl)
theorem dX4_goes_33 : decode cX4_goes 33 = .ok (.iaload, 1) := dk_46 (dk_at dksX4_goes_1 9 rfl rfl)
theorem dX4_goes_34 : decode cX4_goes 34 = .ok (.if_icmp .ne 7, 3) := dk_160 0 7 (dk_at dksX4_goes_1 10 rfl rfl)
theorem dX4_goes_37 : decode cX4_goes 37 = .ok (.iconst 1, 1) := dk_4 (dk_at dksX4_goes_1 13 rfl rfl)
theorem dX4_goes_38 : decode cX4_goes 38 = .ok (.goto 4, 3) := dk_167 0 4 (dk_at dksX4_goes_1 14 rfl rfl)
theorem dX4_goes_41 : decode cX4_goes 41 = .ok (.iconst 0, 1) := dk_3 (dk_at dksX4_goes_1 17 rfl rfl)
theorem dX4_goes_42 : decode cX4_goes 42 = .ok (.istore 4, 2) := dk_54 4 (dk_at dksX4_goes_1 18 rfl rfl)
theorem dX4_goes_44 : decode cX4_goes 44 = .ok (.iconst 0, 1) := dk_3 (dk_at dksX4_goes_1 20 rfl rfl)
theorem dX4_goes_45 : decode cX4_goes 45 = .ok (.istore 5, 2) := dk_54 5 (dk_at dksX4_goes_1 21 rfl rfl)
theorem dX4_goes_47 : decode cX4_goes 47 = .ok (.iload 5, 2) := dk_21 5 (dk_at dksX4_goes_2 0 rfl rfl)
theorem dX4_goes_49 : decode cX4_goes 49 = .ok (.aload_n 0, 1) := dk_42 (dk_at dksX4_goes_2 2 rfl rfl)
theorem dX4_goes_50 : decode cX4_goes 50 = .ok (.getfield 61, 3) := dk_180 0 61 (dk_at dksX4_goes_2 3 rfl rfl)
theorem dX4_goes_53 : decode cX4_goes 53 = .ok (.if_icmp .ge 143, 3) := dk_162 0 143 (dk_at dksX4_goes_2 6 rfl rfl)
theorem dX4_goes_56 : decode cX4_goes 56 = .ok (.aload_n 0, 1) := dk_42 (dk_at dksX4_goes_2 9 rfl rfl)
theorem dX4_goes_57 : decode cX4_goes 57 = .ok (.iload 5, 2) := dk_21 5 (dk_at dksX4_goes_2 10 rfl rfl)
theorem dX4_goes_59 : decode cX4_goes 59 = .ok (.iload_n 1, 1) := dk_27 (dk_at dksX4_goes_2 12 rfl rfl)
theorem dX4_goes_60 : decode cX4_goes 60 = .ok (.invokevirtual 124, 3) := dk_182 0 124 (dk_at dksX4_goes_2 13 rfl rfl)
theorem dX4_goes_63 : decode cX4_goes 63 = .ok (.ifCond .ne 6, 3) := dk_154 0 6 (dk_at dksX4_goes_2 16 rfl rfl)
theorem dX4_goes_66 : decode cX4_goes 66 = .ok (.goto 124, 3) := dk_167 0 124 (dk_at dksX4_goes_2 19 rfl rfl)
theorem dX4_goes_69 : decode cX4_goes 69 = .ok (.iload 4, 2) := dk_21 4 (dk_at dksX4_goes_2 22 rfl rfl)
theorem dX4_goes_71 : decode cX4_goes 71 = .ok (.ifCond .eq 10, 3) := dk_153 0 10 (dk_at dksX4_goes_3 0 rfl rfl)
theorem dX4_goes_74 : decode cX4_goes 74 = .ok (.iload 5, 2) := dk_21 5 (dk_at dksX4_goes_3 3 rfl rfl)
theorem dX4_goes_76 : decode cX4_goes 76 = .ok (.iconst 1, 1) := dk_4 (dk_at dksX4_goes_3 5 rfl rfl)
theorem dX4_goes_77 : decode cX4_goes 77 = .ok (.iadd, 1) := dk_96 (dk_at dksX4_goes_3 6 rfl rfl)
theorem dX4_goes_78 : decode cX4_goes 78 = .ok (.goto 4, 3) := dk_167 0 4 (dk_at dksX4_goes_3 7 rfl rfl)
theorem dX4_goes_81 : decode cX4_goes 81 = .ok (.iconst 0, 1) := dk_3 (dk_at dksX4_goes_3 10 rfl rfl)
theorem dX4_goes_82 : decode cX4_goes 82 = .ok (.istore 6, 2) := dk_54 6 (dk_at dksX4_goes_3 11 rfl rfl)
theorem dX4_goes_84 : decode cX4_goes 84 = .ok (.iload 6, 2) := dk_21 6 (dk_at dksX4_goes_3 13 rfl rfl)
theorem dX4_goes_86 : decode cX4_goes 86 = .ok (.aload_n 0, 1) := dk_42 (dk_at dksX4_goes_3 15 rfl rfl)
theorem dX4_goes_87 : decode cX4_goes 87 = .ok (.getfield 61, 3) := dk_180 0 61 (dk_at dksX4_goes_3 16 rfl rfl)
theorem dX4_goes_90 : decode cX4_goes 90 = .ok (.if_icmp .ge 100, 3) := dk_162 0 100 (dk_at dksX4_goes_3 19 rfl rfl)
theorem dX4_goes_93 : decode cX4_goes 93 = .ok (.iload 6, 2) := dk_21 6 (dk_at dksX4_goes_3 22 rfl rfl)
theorem dX4_goes_95 : decode cX4_goes 95 = .ok (.iload 5, 2) := dk_21 5 (dk_at dksX4_goes_4 0 rfl rfl)
theorem dX4_goes_97 : decode cX4_goes 97 = .ok (.if_icmp .eq 87, 3) := dk_159 0 87 (dk_at dksX4_goes_4 2 rfl rfl)
theorem dX4_goes_100 : decode cX4_goes 100 = .ok (.aload_n 0, 1) := dk_42 (dk_at dksX4_goes_4 5 rfl rfl)
theorem dX4_goes_101 : decode cX4_goes 101 = .ok (.iload 6, 2) := dk_21 6 (dk_at dksX4_goes_4 6 rfl rfl)
theorem dX4_goes_103 : decode cX4_goes 103 = .ok (.iload_n 1, 1) := dk_27 (dk_at dksX4_goes_4 8 rfl rfl)
theorem dX4_goes_104 : decode cX4_goes 104 = .ok (.invokevirtual 124, 3) := dk_182 0 124 (dk_at dksX4_goes_4 9 rfl rfl)
theorem dX4_goes_107 : decode cX4_goes 107 = .ok (.ifCond .ne 6, 3) := dk_154 0 6 (dk_at dksX4_goes_4 12 rfl rfl)
theorem dX4_goes_110 : decode cX4_goes 110 = .ok (.goto 74, 3) := dk_167 0 74 (dk_at dksX4_goes_4 15 rfl rfl)
theorem dX4_goes_113 : decode cX4_goes 113 = .ok (.iload_n 3, 1) := dk_29 (dk_at dksX4_goes_4 18 rfl rfl)
theorem dX4_goes_114 : decode cX4_goes 114 = .ok (.ifCond .ne 13, 3) := dk_154 0 13 (dk_at dksX4_goes_4 19 rfl rfl)
theorem dX4_goes_117 : decode cX4_goes 117 = .ok (.aload_n 0, 1) := dk_42 (dk_at dksX4_goes_4 22 rfl rfl)
theorem dX4_goes_118 : decode cX4_goes 118 = .ok (.iload_n 2, 1) := dk_28 (dk_at dksX4_goes_4 23 rfl rfl)
theorem dX4_goes_119 : decode cX4_goes 119 = .ok (.iload 5, 2) := dk_21 5 (dk_at dksX4_goes_5 0 rfl rfl)
theorem dX4_goes_121 : decode cX4_goes 121 = .ok (.iload 6, 2) := dk_21 6 (dk_at dksX4_goes_5 2 rfl rfl)
theorem dX4_goes_123 : decode cX4_goes 123 = .ok (.iconst (-1), 1) := dk_2 (dk_at dksX4_goes_5 4 rfl rfl)
theorem dX4_goes_124 : decode cX4_goes 124 = .ok (.invokevirtual 127, 3) := dk_182 0 127 (dk_at dksX4_goes_5 5 rfl rfl)
theorem dX4_goes_127 : decode cX4_goes 127 = .ok (.iconst 0, 1) := dk_3 (dk_at dksX4_goes_5 8 rfl rfl)
theorem dX4_goes_128 : decode cX4_goes 128 = .ok (.istore 7, 2) := dk_54 7 (dk_at dksX4_goes_5 9 rfl rfl)
theorem dX4_goes_130 : decode cX4_goes 130 = .ok (.iload_n 3, 1) := dk_29 (dk_at dksX4_goes_5 11 rfl rfl)
theorem dX4_goes_131 : decode cX4_goes 131 = .ok (.ifCond .eq 53, 3) := dk_153 0 53 (dk_at dksX4_goes_5 12 rfl rfl)
theorem dX4_goes_134 : decode cX4_goes 134 = .ok (.iload 7, 2) := dk_21 7 (dk_at dksX4_goes_5 15 rfl rfl)
theorem dX4_goes_136 : decode cX4_goes 136 = .ok (.aload_n 0, 1) := dk_42 (dk_at dksX4_goes_5 17 rfl rfl)
theorem dX4_goes_137 : decode cX4_goes 137 = .ok (.getfield 61, 3) := dk_180 0 61 (dk_at dksX4_goes_5 18 rfl rfl)
theorem dX4_goes_140 : decode cX4_goes 140 = .ok (.if_icmp .ge 44, 3) := dk_162 0 44 (dk_at dksX4_goes_5 21 rfl rfl)
theorem dX4_goes_143 : decode cX4_goes 143 = .ok (.iload 7, 2) := dk_21 7 (dk_at dksX4_goes_6 0 rfl rfl)
theorem dX4_goes_145 : decode cX4_goes 145 = .ok (.iload 5, 2) := dk_21 5 (dk_at dksX4_goes_6 2 rfl rfl)
theorem dX4_goes_147 : decode cX4_goes 147 = .ok (.if_icmp .eq 31, 3) := dk_159 0 31 (dk_at dksX4_goes_6 4 rfl rfl)
theorem dX4_goes_150 : decode cX4_goes 150 = .ok (.iload 7, 2) := dk_21 7 (dk_at dksX4_goes_6 7 rfl rfl)
theorem dX4_goes_152 : decode cX4_goes 152 = .ok (.iload 6, 2) := dk_21 6 (dk_at dksX4_goes_6 9 rfl rfl)
theorem dX4_goes_154 : decode cX4_goes 154 = .ok (.if_icmp .eq 24, 3) := dk_159 0 24 (dk_at dksX4_goes_6 11 rfl rfl)
theorem dX4_goes_157 : decode cX4_goes 157 = .ok (.aload_n 0, 1) := dk_42 (dk_at dksX4_goes_6 14 rfl rfl)
theorem dX4_goes_158 : decode cX4_goes 158 = .ok (.iload 7, 2) := dk_21 7 (dk_at dksX4_goes_6 15 rfl rfl)
theorem dX4_goes_160 : decode cX4_goes 160 = .ok (.iload_n 1, 1) := dk_27 (dk_at dksX4_goes_6 17 rfl rfl)
theorem dX4_goes_161 : decode cX4_goes 161 = .ok (.invokevirtual 124, 3) := dk_182 0 124 (dk_at dksX4_goes_6 18 rfl rfl)
theorem dX4_goes_164 : decode cX4_goes 164 = .ok (.ifCond .eq 14, 3) := dk_153 0 14 (dk_at dksX4_goes_6 21 rfl rfl)
theorem dX4_goes_167 : decode cX4_goes 167 = .ok (.aload_n 0, 1) := dk_42 (dk_at dksX4_goes_7 0 rfl rfl)
theorem dX4_goes_168 : decode cX4_goes 168 = .ok (.iload_n 2, 1) := dk_28 (dk_at dksX4_goes_7 1 rfl rfl)
theorem dX4_goes_169 : decode cX4_goes 169 = .ok (.iload 5, 2) := dk_21 5 (dk_at dksX4_goes_7 2 rfl rfl)
theorem dX4_goes_171 : decode cX4_goes 171 = .ok (.iload 6, 2) := dk_21 6 (dk_at dksX4_goes_7 4 rfl rfl)
theorem dX4_goes_173 : decode cX4_goes 173 = .ok (.iload 7, 2) := dk_21 7 (dk_at dksX4_goes_7 6 rfl rfl)
theorem dX4_goes_175 : decode cX4_goes 175 = .ok (.invokevirtual 127, 3) := dk_182 0 127 (dk_at dksX4_goes_7 8 rfl rfl)
theorem dX4_goes_178 : decode cX4_goes 178 = .ok (.iinc 7 1, 3) := dk_132 7 1 (dk_at dksX4_goes_7 11 rfl rfl)
theorem dX4_goes_181 : decode cX4_goes 181 = .ok (.goto (-51), 3) := dk_167 255 205 (dk_at dksX4_goes_7 14 rfl rfl)
theorem dX4_goes_184 : decode cX4_goes 184 = .ok (.iinc 6 1, 3) := dk_132 6 1 (dk_at dksX4_goes_7 17 rfl rfl)
theorem dX4_goes_187 : decode cX4_goes 187 = .ok (.goto (-103), 3) := dk_167 255 153 (dk_at dksX4_goes_7 20 rfl rfl)
theorem dX4_goes_190 : decode cX4_goes 190 = .ok (.iinc 5 1, 3) := dk_132 5 1 (dk_at dksX4_goes_8 0 rfl rfl)
theorem dX4_goes_193 : decode cX4_goes 193 = .ok (.goto (-146), 3) := dk_167 255 110 (dk_at dksX4_goes_8 3 rfl rfl)
theorem dX4_goes_196 : decode cX4_goes 196 = .ok (.return_, 1) := dk_177 (dk_at dksX4_goes_8 6 rfl rfl)
abbrev cX4_isAt : ByteArray := prog_2_method_6_code
def yX4_isAt : MethodName := ⟨RX4, "isAt", "(II)Z"⟩
def dkwX4_isAt_1 : List UInt8 := [172]
abbrev dktX4_isAt_1 : List UInt8 := dkwX4_isAt_1 ++ []
def dkwX4_isAt_0 : List UInt8 := [42, 180, 0, 28, 27, 46, 28, 160, 0, 16, 42, 180, 0, 34, 27, 46, 158, 0, 7, 4, 167, 0, 4, 3]
abbrev dktX4_isAt_0 : List UInt8 := dkwX4_isAt_0 ++ dktX4_isAt_1
theorem dksX4_isAt_0 : cX4_isAt.data.toList.drop 0 = dktX4_isAt_0 := by decide +kernel
theorem dksX4_isAt_1 : cX4_isAt.data.toList.drop 24 = dktX4_isAt_1 := dk_seg dksX4_isAt_0 24 rfl rfl
theorem dX4_isAt_0 : decode cX4_isAt 0 = .ok (.aload_n 0, 1) := dk_42 (dk_at dksX4_isAt_0 0 rfl rfl)
theorem dX4_isAt_1 : decode cX4_isAt 1 = .ok (.getfield 28, 3) := dk_180 0 28 (dk_at dksX4_isAt_0 1 rfl rfl)
theorem dX4_isAt_4 : decode cX4_isAt 4 = .ok (.iload_n 1, 1) := dk_27 (dk_at dksX4_isAt_0 4 rfl rfl)
theorem dX4_isAt_5 : decode cX4_isAt 5 = .ok (.iaload, 1) := dk_46 (dk_at dksX4_isAt_0 5 rfl rfl)
theorem dX4_isAt_6 : decode cX4_isAt 6 = .ok (.iload_n 2, 1) := dk_28 (dk_at dksX4_isAt_0 6 rfl rfl)
theorem dX4_isAt_7 : decode cX4_isAt 7 = .ok (.if_icmp .ne 16, 3) := dk_160 0 16 (dk_at dksX4_isAt_0 7 rfl rfl)
theorem dX4_isAt_10 : decode cX4_isAt 10 = .ok (.aload_n 0, 1) := dk_42 (dk_at dksX4_isAt_0 10 rfl rfl)
theorem dX4_isAt_11 : decode cX4_isAt 11 = .ok (.getfield 34, 3) := dk_180 0 34 (dk_at dksX4_isAt_0 11 rfl rfl)
theorem dX4_isAt_14 : decode cX4_isAt 14 = .ok (.iload_n 1, 1) := dk_27 (dk_at dksX4_isAt_0 14 rfl rfl)
theorem dX4_isAt_15 : decode cX4_isAt 15 = .ok (.iaload, 1) := dk_46 (dk_at dksX4_isAt_0 15 rfl rfl)
theorem dX4_isAt_16 : decode cX4_isAt 16 = .ok (.ifCond .le 7, 3) := dk_158 0 7 (dk_at dksX4_isAt_0 16 rfl rfl)
theorem dX4_isAt_19 : decode cX4_isAt 19 = .ok (.iconst 1, 1) := dk_4 (dk_at dksX4_isAt_0 19 rfl rfl)
theorem dX4_isAt_20 : decode cX4_isAt 20 = .ok (.goto 4, 3) := dk_167 0 4 (dk_at dksX4_isAt_0 20 rfl rfl)
theorem dX4_isAt_23 : decode cX4_isAt 23 = .ok (.iconst 0, 1) := dk_3 (dk_at dksX4_isAt_0 23 rfl rfl)
theorem dX4_isAt_24 : decode cX4_isAt 24 = .ok (.ireturn, 1) := dk_172 (dk_at dksX4_isAt_1 0 rfl rfl)
abbrev cX4_makes : ByteArray := prog_2_method_9_code
def yX4_makes : MethodName := ⟨RX4, "makes", "(IIII)V"⟩
def dkwX4_makes_16 : List UInt8 := [89, 180, 0, 101, 21, 8, 184, 0, 156, 96, 181, 0, 101, 177]
abbrev dktX4_makes_16 : List UInt8 := dkwX4_makes_16 ++ []
def dkwX4_makes_15 : List UInt8 := [96, 181, 0, 95, 42, 89, 180, 0, 98, 21, 7, 155, 0, 7, 4, 167, 0, 4, 3, 96, 181, 0, 98, 42]
abbrev dktX4_makes_15 : List UInt8 := dkwX4_makes_15 ++ dktX4_makes_16
def dkwX4_makes_14 : List UInt8 := [42, 21, 5, 181, 0, 176, 42, 21, 7, 181, 0, 179, 42, 21, 8, 181, 0, 182, 42, 89, 180, 0, 95, 4]
abbrev dktX4_makes_14 : List UInt8 := dkwX4_makes_14 ++ dktX4_makes_15
def dkwX4_makes_13 : List UInt8 := [181, 0, 167, 42, 29, 181, 0, 170, 42, 21, 4, 156, 0, 8, 16, 254, 167, 0, 5, 21, 4, 181, 0, 173]
abbrev dktX4_makes_13 : List UInt8 := dkwX4_makes_13 ++ dktX4_makes_14
def dkwX4_makes_12 : List UInt8 := [21, 7, 181, 0, 161, 42, 180, 0, 95, 42, 180, 0, 24, 160, 0, 52, 42, 27, 181, 0, 164, 42, 28]
abbrev dktX4_makes_12 : List UInt8 := dkwX4_makes_12 ++ dktX4_makes_13
def dkwX4_makes_11 : List UInt8 := [180, 0, 104, 155, 0, 12, 21, 7, 42, 180, 0, 161, 164, 0, 17, 42, 42, 180, 0, 95, 181, 0, 104, 42]
abbrev dktX4_makes_11 : List UInt8 := dkwX4_makes_11 ++ dktX4_makes_12
def dkwX4_makes_10 : List UInt8 := [180, 0, 20, 6, 27, 104, 5, 96, 92, 46, 21, 8, 184, 0, 156, 96, 79, 21, 8, 153, 0, 33, 42]
abbrev dktX4_makes_10 : List UInt8 := dkwX4_makes_10 ++ dktX4_makes_11
def dkwX4_makes_9 : List UInt8 := [180, 0, 20, 6, 27, 104, 4, 96, 92, 46, 21, 7, 155, 0, 7, 4, 167, 0, 4, 3, 96, 79, 42]
abbrev dktX4_makes_9 : List UInt8 := dkwX4_makes_9 ++ dktX4_makes_10
def dkwX4_makes_8 : List UInt8 := [21, 8, 21, 6, 28, 29, 21, 4, 182, 0, 152, 42, 180, 0, 20, 6, 27, 104, 92, 46, 4, 96, 79, 42]
abbrev dktX4_makes_8 : List UInt8 := dkwX4_makes_8 ++ dktX4_makes_9
def dkwX4_makes_7 : List UInt8 := [21, 8, 4, 21, 9, 120, 128, 54, 8, 132, 9, 1, 167, 255, 190, 42, 180, 0, 24, 156, 0, 15, 42]
abbrev dktX4_makes_7 : List UInt8 := dkwX4_makes_7 ++ dktX4_makes_8
def dkwX4_makes_6 : List UInt8 := [159, 0, 33, 42, 21, 9, 42, 180, 0, 28, 28, 46, 21, 5, 21, 7, 21, 6, 182, 0, 148, 153, 0, 12]
abbrev dktX4_makes_6 : List UInt8 := dkwX4_makes_6 ++ dktX4_makes_7
def dkwX4_makes_5 : List UInt8 := [162, 0, 63, 21, 7, 155, 0, 58, 21, 9, 28, 159, 0, 46, 21, 9, 29, 159, 0, 40, 21, 9, 21, 4]
abbrev dktX4_makes_5 : List UInt8 := dkwX4_makes_5 ++ dktX4_makes_6
def dkwX4_makes_4 : List UInt8 := [180, 0, 145, 178, 0, 107, 27, 46, 46, 100, 54, 7, 3, 54, 8, 3, 54, 9, 21, 9, 42, 180, 0, 61]
abbrev dktX4_makes_4 : List UInt8 := dkwX4_makes_4 ++ dktX4_makes_5
def dkwX4_makes_3 : List UInt8 := [177, 42, 27, 42, 180, 0, 31, 28, 29, 21, 4, 3, 182, 0, 137, 42, 180, 0, 11, 180, 0, 52]
abbrev dktX4_makes_3 : List UInt8 := dkwX4_makes_3 ++ dktX4_makes_4
def dkwX4_makes_2 : List UInt8 := [156, 0, 9, 17, 0, 255, 167, 0, 10, 42, 180, 0, 43, 21, 4, 46, 126, 54, 6, 21, 6, 154, 0, 4]
abbrev dktX4_makes_2 : List UInt8 := dkwX4_makes_2 ++ dktX4_makes_3
def dkwX4_makes_1 : List UInt8 := [184, 0, 141, 154, 0, 4, 177, 42, 180, 0, 43, 28, 46, 42, 180, 0, 43, 29, 46, 126, 21, 4]
abbrev dktX4_makes_1 : List UInt8 := dkwX4_makes_1 ++ dktX4_makes_2
def dkwX4_makes_0 : List UInt8 := [42, 27, 42, 180, 0, 34, 28, 29, 21, 4, 4, 182, 0, 137, 54, 5, 21, 5, 4, 42, 180, 0, 65]
abbrev dktX4_makes_0 : List UInt8 := dkwX4_makes_0 ++ dktX4_makes_1
theorem dksX4_makes_0 : cX4_makes.data.toList.drop 0 = dktX4_makes_0 := by decide +kernel
theorem dksX4_makes_1 : cX4_makes.data.toList.drop 23 = dktX4_makes_1 := dk_seg dksX4_makes_0 23 rfl rfl
theorem dksX4_makes_2 : cX4_makes.data.toList.drop 45 = dktX4_makes_2 := dk_seg dksX4_makes_1 22 rfl rfl
theorem dksX4_makes_3 : cX4_makes.data.toList.drop 69 = dktX4_makes_3 := dk_seg dksX4_makes_2 24 rfl rfl
theorem dksX4_makes_4 : cX4_makes.data.toList.drop 91 = dktX4_makes_4 := dk_seg dksX4_makes_3 22 rfl rfl
theorem dksX4_makes_5 : cX4_makes.data.toList.drop 115 = dktX4_makes_5 := dk_seg dksX4_makes_4 24 rfl rfl
theorem dksX4_makes_6 : cX4_makes.data.toList.drop 139 = dktX4_makes_6 := dk_seg dksX4_makes_5 24 rfl rfl
theorem dksX4_makes_7 : cX4_makes.data.toList.drop 163 = dktX4_makes_7 := dk_seg dksX4_makes_6 24 rfl rfl
theorem dksX4_makes_8 : cX4_makes.data.toList.drop 186 = dktX4_makes_8 := dk_seg dksX4_makes_7 23 rfl rfl
theorem dksX4_makes_9 : cX4_makes.data.toList.drop 210 = dktX4_makes_9 := dk_seg dksX4_makes_8 24 rfl rfl
theorem dksX4_makes_10 : cX4_makes.data.toList.drop 233 = dktX4_makes_10 := dk_seg dksX4_makes_9 23 rfl rfl
theorem dksX4_makes_11 : cX4_makes.data.toList.drop 256 = dktX4_makes_11 := dk_seg dksX4_makes_10 23 rfl rfl
theorem dksX4_makes_12 : cX4_makes.data.toList.drop 280 = dktX4_makes_12 := dk_seg dksX4_makes_11 24 rfl rfl
theorem dksX4_makes_13 : cX4_makes.data.toList.drop 303 = dktX4_makes_13 := dk_seg dksX4_makes_12 23 rfl rfl
theorem dksX4_makes_14 : cX4_makes.data.toList.drop 327 = dktX4_makes_14 := dk_seg dksX4_makes_13 24 rfl rfl
theorem dksX4_makes_15 : cX4_makes.data.toList.drop 351 = dktX4_makes_15 := dk_seg dksX4_makes_14 24 rfl rfl
theorem dksX4_makes_16 : cX4_makes.data.toList.drop 375 = dktX4_makes_16 := dk_seg dksX4_makes_15 24 rfl rfl
theorem dX4_makes_0 : decode cX4_makes 0 = .ok (.aload_n 0, 1) := dk_42 (dk_at dksX4_makes_0 0 rfl rfl)
theorem dX4_makes_1 : decode cX4_makes 1 = .ok (.iload_n 1, 1) := dk_27 (dk_at dksX4_makes_0 1 rfl rfl)
theorem dX4_makes_2 : decode cX4_makes 2 = .ok (.aload_n 0, 1) := dk_42 (dk_at dksX4_makes_0 2 rfl rfl)
theorem dX4_makes_3 : decode cX4_makes 3 = .ok (.getfield 34, 3) := dk_180 0 34 (dk_at dksX4_makes_0 3 rfl rfl)
theorem dX4_makes_6 : decode cX4_makes 6 = .ok (.iload_n 2, 1) := dk_28 (dk_at dksX4_makes_0 6 rfl rfl)
theorem dX4_makes_7 : decode cX4_makes 7 = .ok (.iload_n 3, 1) := dk_29 (dk_at dksX4_makes_0 7 rfl rfl)
theorem dX4_makes_8 : decode cX4_makes 8 = .ok (.iload 4, 2) := dk_21 4 (dk_at dksX4_makes_0 8 rfl rfl)
theorem dX4_makes_10 : decode cX4_makes 10 = .ok (.iconst 1, 1) := dk_4 (dk_at dksX4_makes_0 10 rfl rfl)
theorem dX4_makes_11 : decode cX4_makes 11 = .ok (.invokevirtual 137, 3) := dk_182 0 137 (dk_at dksX4_makes_0 11 rfl rfl)
theorem dX4_makes_14 : decode cX4_makes 14 = .ok (.istore 5, 2) := dk_54 5 (dk_at dksX4_makes_0 14 rfl rfl)
theorem dX4_makes_16 : decode cX4_makes 16 = .ok (.iload 5, 2) := dk_21 5 (dk_at dksX4_makes_0 16 rfl rfl)
theorem dX4_makes_18 : decode cX4_makes 18 = .ok (.iconst 1, 1) := dk_4 (dk_at dksX4_makes_0 18 rfl rfl)
theorem dX4_makes_19 : decode cX4_makes 19 = .ok (.aload_n 0, 1) := dk_42 (dk_at dksX4_makes_0 19 rfl rfl)
theorem dX4_makes_20 : decode cX4_makes 20 = .ok (.getfield 65, 3) := dk_180 0 65 (dk_at dksX4_makes_0 20 rfl rfl)
theorem dX4_makes_23 : decode cX4_makes 23 = .ok (.invokestatic 141, 3) := dk_184 0 141 (dk_at dksX4_makes_1 0 rfl rfl)
theorem dX4_makes_26 : decode cX4_makes 26 = .ok (.ifCond .ne 4, 3) := dk_154 0 4 (dk_at dksX4_makes_1 3 rfl rfl)
theorem dX4_makes_29 : decode cX4_makes 29 = .ok (.return_, 1) := dk_177 (dk_at dksX4_makes_1 6 rfl rfl)
theorem dX4_makes_30 : decode cX4_makes 30 = .ok (.aload_n 0, 1) := dk_42 (dk_at dksX4_makes_1 7 rfl rfl)
theorem dX4_makes_31 : decode cX4_makes 31 = .ok (.getfield 43, 3) := dk_180 0 43 (dk_at dksX4_makes_1 8 rfl rfl)
theorem dX4_makes_34 : decode cX4_makes 34 = .ok (.iload_n 2, 1) := dk_28 (dk_at dksX4_makes_1 11 rfl rfl)
theorem dX4_makes_35 : decode cX4_makes 35 = .ok (.iaload, 1) := dk_46 (dk_at dksX4_makes_1 12 rfl rfl)
theorem dX4_makes_36 : decode cX4_makes 36 = .ok (.aload_n 0, 1) := dk_42 (dk_at dksX4_makes_1 13 rfl rfl)
theorem dX4_makes_37 : decode cX4_makes 37 = .ok (.getfield 43, 3) := dk_180 0 43 (dk_at dksX4_makes_1 14 rfl rfl)
theorem dX4_makes_40 : decode cX4_makes 40 = .ok (.iload_n 3, 1) := dk_29 (dk_at dksX4_makes_1 17 rfl rfl)
theorem dX4_makes_41 : decode cX4_makes 41 = .ok (.iaload, 1) := dk_46 (dk_at dksX4_makes_1 18 rfl rfl)
theorem dX4_makes_42 : decode cX4_makes 42 = .ok (.iand, 1) := dk_126 (dk_at dksX4_makes_1 19 rfl rfl)
theorem dX4_makes_43 : decode cX4_makes 43 = .ok (.iload 4, 2) := dk_21 4 (dk_at dksX4_makes_1 20 rfl rfl)
theorem dX4_makes_45 : decode cX4_makes 45 = .ok (.ifCond .ge 9, 3) := dk_156 0 9 (dk_at dksX4_makes_2 0 rfl rfl)
theorem dX4_makes_48 : decode cX4_makes 48 = .ok (.sipush 255, 3) := dk_17 0 255 (dk_at dksX4_makes_2 3 rfl rfl)
theorem dX4_makes_51 : decode cX4_makes 51 = .ok (.goto 10, 3) := dk_167 0 10 (dk_at dksX4_makes_2 6 rfl rfl)
theorem dX4_makes_54 : decode cX4_makes 54 = .ok (.aload_n 0, 1) := dk_42 (dk_at dksX4_makes_2 9 rfl rfl)
theorem dX4_makes_55 : decode cX4_makes 55 = .ok (.getfield 43, 3) := dk_180 0 43 (dk_at dksX4_makes_2 10 rfl rfl)
theorem dX4_makes_58 : decode cX4_makes 58 = .ok (.iload 4, 2) := dk_21 4 (dk_at dksX4_makes_2 13 rfl rfl)
theorem dX4_makes_60 : decode cX4_makes 60 = .ok (.iaload, 1) := dk_46 (dk_at dksX4_makes_2 15 rfl rfl)
theorem dX4_makes_61 : decode cX4_makes 61 = .ok (.iand, 1) := dk_126 (dk_at dksX4_makes_2 16 rfl rfl)
theorem dX4_makes_62 : decode cX4_makes 62 = .ok (.istore 6, 2) := dk_54 6 (dk_at dksX4_makes_2 17 rfl rfl)
theorem dX4_makes_64 : decode cX4_makes 64 = .ok (.iload 6, 2) := dk_21 6 (dk_at dksX4_makes_2 19 rfl rfl)
theorem dX4_makes_66 : decode cX4_makes 66 = .ok (.ifCond .ne 4, 3) := dk_154 0 4 (dk_at dksX4_makes_2 21 rfl rfl)
theorem dX4_makes_69 : decode cX4_makes 69 = .ok (.return_, 1) := dk_177 (dk_at dksX4_makes_3 0 rfl rfl)
theorem dX4_makes_70 : decode cX4_makes 70 = .ok (.aload_n 0, 1) := dk_42 (dk_at dksX4_makes_3 1 rfl rfl)
theorem dX4_makes_71 : decode cX4_makes 71 = .ok (.iload_n 1, 1) := dk_27 (dk_at dksX4_makes_3 2 rfl rfl)
theorem dX4_makes_72 : decode cX4_makes 72 = .ok (.aload_n 0, 1) := dk_42 (dk_at dksX4_makes_3 3 rfl rfl)
theorem dX4_makes_73 : decode cX4_makes 73 = .ok (.getfield 31, 3) := dk_180 0 31 (dk_at dksX4_makes_3 4 rfl rfl)
theorem dX4_makes_76 : decode cX4_makes 76 = .ok (.iload_n 2, 1) := dk_28 (dk_at dksX4_makes_3 7 rfl rfl)
theorem dX4_makes_77 : decode cX4_makes 77 = .ok (.iload_n 3, 1) := dk_29 (dk_at dksX4_makes_3 8 rfl rfl)
theorem dX4_makes_78 : decode cX4_makes 78 = .ok (.iload 4, 2) := dk_21 4 (dk_at dksX4_makes_3 9 rfl rfl)
theorem dX4_makes_80 : decode cX4_makes 80 = .ok (.iconst 0, 1) := dk_3 (dk_at dksX4_makes_3 11 rfl rfl)
theorem dX4_makes_81 : decode cX4_makes 81 = .ok (.invokevirtual 137, 3) := dk_182 0 137 (dk_at dksX4_makes_3 12 rfl rfl)
theorem dX4_makes_84 : decode cX4_makes 84 = .ok (.aload_n 0, 1) := dk_42 (dk_at dksX4_makes_3 15 rfl rfl)
theorem dX4_makes_85 : decode cX4_makes 85 = .ok (.getfield 11, 3) := dk_180 0 11 (dk_at dksX4_makes_3 16 rfl rfl)
theorem dX4_makes_88 : decode cX4_makes 88 = .ok (.getfield 52, 3) := dk_180 0 52 (dk_at dksX4_makes_3 19 rfl rfl)
theorem dX4_makes_91 : decode cX4_makes 91 = .ok (.getfield 145, 3) := dk_180 0 145 (dk_at dksX4_makes_4 0 rfl rfl)
theorem dX4_makes_94 : decode cX4_makes 94 = .ok (.getstatic 107, 3) := dk_178 0 107 (dk_at dksX4_makes_4 3 rfl rfl)
theorem dX4_makes_97 : decode cX4_makes 97 = .ok (.iload_n 1, 1) := dk_27 (dk_at dksX4_makes_4 6 rfl rfl)
theorem dX4_makes_98 : decode cX4_makes 98 = .ok (.iaload, 1) := dk_46 (dk_at dksX4_makes_4 7 rfl rfl)
theorem dX4_makes_99 : decode cX4_makes 99 = .ok (.iaload, 1) := dk_46 (dk_at dksX4_makes_4 8 rfl rfl)
theorem dX4_makes_100 : decode cX4_makes 100 = .ok (.isub, 1) := dk_100 (dk_at dksX4_makes_4 9 rfl rfl)
theorem dX4_makes_101 : decode cX4_makes 101 = .ok (.istore 7, 2) := dk_54 7 (dk_at dksX4_makes_4 10 rfl rfl)
theorem dX4_makes_103 : decode cX4_makes 103 = .ok (.iconst 0, 1) := dk_3 (dk_at dksX4_makes_4 12 rfl rfl)
theorem dX4_makes_104 : decode cX4_makes 104 = .ok (.istore 8, 2) := dk_54 8 (dk_at dksX4_makes_4 13 rfl rfl)
theorem dX4_makes_106 : decode cX4_makes 106 = .ok (.iconst 0, 1) := dk_3 (dk_at dksX4_makes_4 15 rfl rfl)
theorem dX4_makes_107 : decode cX4_makes 107 = .ok (.istore 9, 2) := dk_54 9 (dk_at dksX4_makes_4 16 rfl rfl)
theorem dX4_makes_109 : decode cX4_makes 109 = .ok (.iload 9, 2) := dk_21 9 (dk_at dksX4_makes_4 18 rfl rfl)
theorem dX4_makes_111 : decode cX4_makes 111 = .ok (.aload_n 0, 1) := dk_42 (dk_at dksX4_makes_4 20 rfl rfl)
theorem dX4_makes_112 : decode cX4_makes 112 = .ok (.getfield 61, 3) := dk_180 0 61 (dk_at dksX4_makes_4 21 rfl rfl)
theorem dX4_makes_115 : decode cX4_makes 115 = .ok (.if_icmp .ge 63, 3) := dk_162 0 63 (dk_at dksX4_makes_5 0 rfl rfl)
theorem dX4_makes_118 : decode cX4_makes 118 = .ok (.iload 7, 2) := dk_21 7 (dk_at dksX4_makes_5 3 rfl rfl)
theorem dX4_makes_120 : decode cX4_makes 120 = .ok (.ifCond .lt 58, 3) := dk_155 0 58 (dk_at dksX4_makes_5 5 rfl rfl)
theorem dX4_makes_123 : decode cX4_makes 123 = .ok (.iload 9, 2) := dk_21 9 (dk_at dksX4_makes_5 8 rfl rfl)
theorem dX4_makes_125 : decode cX4_makes 125 = .ok (.iload_n 2, 1) := dk_28 (dk_at dksX4_makes_5 10 rfl rfl)
theorem dX4_makes_126 : decode cX4_makes 126 = .ok (.if_icmp .eq 46, 3) := dk_159 0 46 (dk_at dksX4_makes_5 11 rfl rfl)
theorem dX4_makes_129 : decode cX4_makes 129 = .ok (.iload 9, 2) := dk_21 9 (dk_at dksX4_makes_5 14 rfl rfl)
theorem dX4_makes_131 : decode cX4_makes 131 = .ok (.iload_n 3, 1) := dk_29 (dk_at dksX4_makes_5 16 rfl rfl)
theorem dX4_makes_132 : decode cX4_makes 132 = .ok (.if_icmp .eq 40, 3) := dk_159 0 40 (dk_at dksX4_makes_5 17 rfl rfl)
theorem dX4_makes_135 : decode cX4_makes 135 = .ok (.iload 9, 2) := dk_21 9 (dk_at dksX4_makes_5 20 rfl rfl)
theorem dX4_makes_137 : decode cX4_makes 137 = .ok (.iload 4, 2) := dk_21 4 (dk_at dksX4_makes_5 22 rfl rfl)
theorem dX4_makes_139 : decode cX4_makes 139 = .ok (.if_icmp .eq 33, 3) := dk_159 0 33 (dk_at dksX4_makes_6 0 rfl rfl)
theorem dX4_makes_142 : decode cX4_makes 142 = .ok (.aload_n 0, 1) := dk_42 (dk_at dksX4_makes_6 3 rfl rfl)
theorem dX4_makes_143 : decode cX4_makes 143 = .ok (.iload 9, 2) := dk_21 9 (dk_at dksX4_makes_6 4 rfl rfl)
theorem dX4_makes_145 : decode cX4_makes 145 = .ok (.aload_n 0, 1) := dk_42 (dk_at dksX4_makes_6 6 rfl rfl)
theorem dX4_makes_146 : decode cX4_makes 146 = .ok (.getfield 28, 3) := dk_180 0 28 (dk_at dksX4_makes_6 7 rfl rfl)
theorem dX4_makes_149 : decode cX4_makes 149 = .ok (.iload_n 2, 1) := dk_28 (dk_at dksX4_makes_6 10 rfl rfl)
theorem dX4_makes_150 : decode cX4_makes 150 = .ok (.iaload, 1) := dk_46 (dk_at dksX4_makes_6 11 rfl rfl)
theorem dX4_makes_151 : decode cX4_makes 151 = .ok (.iload 5, 2) := dk_21 5 (dk_at dksX4_makes_6 12 rfl rfl)
theorem dX4_makes_153 : decode cX4_makes 153 = .ok (.iload 7, 2) := dk_21 7 (dk_at dksX4_makes_6 14 rfl rfl)
theorem dX4_makes_155 : decode cX4_makes 155 = .ok (.iload 6, 2) := dk_21 6 (dk_at dksX4_makes_6 16 rfl rfl)
theorem dX4_makes_157 : decode cX4_makes 157 = .ok (.invokevirtual 148, 3) := dk_182 0 148 (dk_at dksX4_makes_6 18 rfl rfl)
theorem dX4_makes_160 : decode cX4_makes 160 = .ok (.ifCond .eq 12, 3) := dk_153 0 12 (dk_at dksX4_makes_6 21 rfl rfl)
theorem dX4_makes_163 : decode cX4_makes 163 = .ok (.iload 8, 2) := dk_21 8 (dk_at dksX4_makes_7 0 rfl rfl)
theorem dX4_makes_165 : decode cX4_makes 165 = .ok (.iconst 1, 1) := dk_4 (dk_at dksX4_makes_7 2 rfl rfl)
theorem dX4_makes_166 : decode cX4_makes 166 = .ok (.iload 9, 2) := dk_21 9 (dk_at dksX4_makes_7 3 rfl rfl)
theorem dX4_makes_168 : decode cX4_makes 168 = .ok (.ishl, 1) := dk_120 (dk_at dksX4_makes_7 5 rfl rfl)
theorem dX4_makes_169 : decode cX4_makes 169 = .ok (.ior, 1) := dk_128 (dk_at dksX4_makes_7 6 rfl rfl)
theorem dX4_makes_170 : decode cX4_makes 170 = .ok (.istore 8, 2) := dk_54 8 (dk_at dksX4_makes_7 7 rfl rfl)
theorem dX4_makes_172 : decode cX4_makes 172 = .ok (.iinc 9 1, 3) := dk_132 9 1 (dk_at dksX4_makes_7 9 rfl rfl)
theorem dX4_makes_175 : decode cX4_makes 175 = .ok (.goto (-66), 3) := dk_167 255 190 (dk_at dksX4_makes_7 12 rfl rfl)
theorem dX4_makes_178 : decode cX4_makes 178 = .ok (.aload_n 0, 1) := dk_42 (dk_at dksX4_makes_7 15 rfl rfl)
theorem dX4_makes_179 : decode cX4_makes 179 = .ok (.getfield 24, 3) := dk_180 0 24 (dk_at dksX4_makes_7 16 rfl rfl)
theorem dX4_makes_182 : decode cX4_makes 182 = .ok (.ifCond .ge 15, 3) := dk_156 0 15 (dk_at dksX4_makes_7 19 rfl rfl)
theorem dX4_makes_185 : decode cX4_makes 185 = .ok (.aload_n 0, 1) := dk_42 (dk_at dksX4_makes_7 22 rfl rfl)
theorem dX4_makes_186 : decode cX4_makes 186 = .ok (.iload 8, 2) := dk_21 8 (dk_at dksX4_makes_8 0 rfl rfl)
theorem dX4_makes_188 : decode cX4_makes 188 = .ok (.iload 6, 2) := dk_21 6 (dk_at dksX4_makes_8 2 rfl rfl)
theorem dX4_makes_190 : decode cX4_makes 190 = .ok (.iload_n 2, 1) := dk_28 (dk_at dksX4_makes_8 4 rfl rfl)
theorem dX4_makes_191 : decode cX4_makes 191 = .ok (.iload_n 3, 1) := dk_29 (dk_at dksX4_makes_8 5 rfl rfl)
theorem dX4_makes_192 : decode cX4_makes 192 = .ok (.iload 4, 2) := dk_21 4 (dk_at dksX4_makes_8 6 rfl rfl)
theorem dX4_makes_194 : decode cX4_makes 194 = .ok (.invokevirtual 152, 3) := dk_182 0 152 (dk_at dksX4_makes_8 8 rfl rfl)
theorem dX4_makes_197 : decode cX4_makes 197 = .ok (.aload_n 0, 1) := dk_42 (dk_at dksX4_makes_8 11 rfl rfl)
theorem dX4_makes_198 : decode cX4_makes 198 = .ok (.getfield 20, 3) := dk_180 0 20 (dk_at dksX4_makes_8 12 rfl rfl)
theorem dX4_makes_201 : decode cX4_makes 201 = .ok (.iconst 3, 1) := dk_6 (dk_at dksX4_makes_8 15 rfl rfl)
theorem dX4_makes_202 : decode cX4_makes 202 = .ok (.iload_n 1, 1) := dk_27 (dk_at dksX4_makes_8 16 rfl rfl)
theorem dX4_makes_203 : decode cX4_makes 203 = .ok (.imul, 1) := dk_104 (dk_at dksX4_makes_8 17 rfl rfl)
theorem dX4_makes_204 : decode cX4_makes 204 = .ok (.dup2, 1) := dk_92 (dk_at dksX4_makes_8 18 rfl rfl)
theorem dX4_makes_205 : decode cX4_makes 205 = .ok (.iaload, 1) := dk_46 (dk_at dksX4_makes_8 19 rfl rfl)
theorem dX4_makes_206 : decode cX4_makes 206 = .ok (.iconst 1, 1) := dk_4 (dk_at dksX4_makes_8 20 rfl rfl)
theorem dX4_makes_207 : decode cX4_makes 207 = .ok (.iadd, 1) := dk_96 (dk_at dksX4_makes_8 21 rfl rfl)
theorem dX4_makes_208 : decode cX4_makes 208 = .ok (.iastore, 1) := dk_79 (dk_at dksX4_makes_8 22 rfl rfl)
theorem dX4_makes_209 : decode cX4_makes 209 = .ok (.aload_n 0, 1) := dk_42 (dk_at dksX4_makes_8 23 rfl rfl)
theorem dX4_makes_210 : decode cX4_makes 210 = .ok (.getfield 20, 3) := dk_180 0 20 (dk_at dksX4_makes_9 0 rfl rfl)
theorem dX4_makes_213 : decode cX4_makes 213 = .ok (.iconst 3, 1) := dk_6 (dk_at dksX4_makes_9 3 rfl rfl)
theorem dX4_makes_214 : decode cX4_makes 214 = .ok (.iload_n 1, 1) := dk_27 (dk_at dksX4_makes_9 4 rfl rfl)
theorem dX4_makes_215 : decode cX4_makes 215 = .ok (.imul, 1) := dk_104 (dk_at dksX4_makes_9 5 rfl rfl)
theorem dX4_makes_216 : decode cX4_makes 216 = .ok (.iconst 1, 1) := dk_4 (dk_at dksX4_makes_9 6 rfl rfl)
theorem dX4_makes_217 : decode cX4_makes 217 = .ok (.iadd, 1) := dk_96 (dk_at dksX4_makes_9 7 rfl rfl)
theorem dX4_makes_218 : decode cX4_makes 218 = .ok (.dup2, 1) := dk_92 (dk_at dksX4_makes_9 8 rfl rfl)
theorem dX4_makes_219 : decode cX4_makes 219 = .ok (.iaload, 1) := dk_46 (dk_at dksX4_makes_9 9 rfl rfl)
theorem dX4_makes_220 : decode cX4_makes 220 = .ok (.iload 7, 2) := dk_21 7 (dk_at dksX4_makes_9 10 rfl rfl)
theorem dX4_makes_222 : decode cX4_makes 222 = .ok (.ifCond .lt 7, 3) := dk_155 0 7 (dk_at dksX4_makes_9 12 rfl rfl)
theorem dX4_makes_225 : decode cX4_makes 225 = .ok (.iconst 1, 1) := dk_4 (dk_at dksX4_makes_9 15 rfl rfl)
theorem dX4_makes_226 : decode cX4_makes 226 = .ok (.goto 4, 3) := dk_167 0 4 (dk_at dksX4_makes_9 16 rfl rfl)
theorem dX4_makes_229 : decode cX4_makes 229 = .ok (.iconst 0, 1) := dk_3 (dk_at dksX4_makes_9 19 rfl rfl)
theorem dX4_makes_230 : decode cX4_makes 230 = .ok (.iadd, 1) := dk_96 (dk_at dksX4_makes_9 20 rfl rfl)
theorem dX4_makes_231 : decode cX4_makes 231 = .ok (.iastore, 1) := dk_79 (dk_at dksX4_makes_9 21 rfl rfl)
theorem dX4_makes_232 : decode cX4_makes 232 = .ok (.aload_n 0, 1) := dk_42 (dk_at dksX4_makes_9 22 rfl rfl)
theorem dX4_makes_233 : decode cX4_makes 233 = .ok (.getfield 20, 3) := dk_180 0 20 (dk_at dksX4_makes_10 0 rfl rfl)
theorem dX4_makes_236 : decode cX4_makes 236 = .ok (.iconst 3, 1) := dk_6 (dk_at dksX4_makes_10 3 rfl rfl)
theorem dX4_makes_237 : decode cX4_makes 237 = .ok (.iload_n 1, 1) := dk_27 (dk_at dksX4_makes_10 4 rfl rfl)
theorem dX4_makes_238 : decode cX4_makes 238 = .ok (.imul, 1) := dk_104 (dk_at dksX4_makes_10 5 rfl rfl)
theorem dX4_makes_239 : decode cX4_makes 239 = .ok (.iconst 2, 1) := dk_5 (dk_at dksX4_makes_10 6 rfl rfl)
theorem dX4_makes_240 : decode cX4_makes 240 = .ok (.iadd, 1) := dk_96 (dk_at dksX4_makes_10 7 rfl rfl)
theorem dX4_makes_241 : decode cX4_makes 241 = .ok (.dup2, 1) := dk_92 (dk_at dksX4_makes_10 8 rfl rfl)
theorem dX4_makes_242 : decode cX4_makes 242 = .ok (.iaload, 1) := dk_46 (dk_at dksX4_makes_10 9 rfl rfl)
theorem dX4_makes_243 : decode cX4_makes 243 = .ok (.iload 8, 2) := dk_21 8 (dk_at dksX4_makes_10 10 rfl rfl)
theorem dX4_makes_245 : decode cX4_makes 245 = .ok (.invokestatic 156, 3) := dk_184 0 156 (dk_at dksX4_makes_10 12 rfl rfl)
theorem dX4_makes_248 : decode cX4_makes 248 = .ok (.iadd, 1) := dk_96 (dk_at dksX4_makes_10 15 rfl rfl)
theorem dX4_makes_249 : decode cX4_makes 249 = .ok (.iastore, 1) := dk_79 (dk_at dksX4_makes_10 16 rfl rfl)
theorem dX4_makes_250 : decode cX4_makes 250 = .ok (.iload 8, 2) := dk_21 8 (dk_at dksX4_makes_10 17 rfl rfl)
theorem dX4_makes_252 : decode cX4_makes 252 = .ok (.ifCond .eq 33, 3) := dk_153 0 33 (dk_at dksX4_makes_10 19 rfl rfl)
theorem dX4_makes_255 : decode cX4_makes 255 = .ok (.aload_n 0, 1) := dk_42 (dk_at dksX4_makes_10 22 rfl rfl)
theorem dX4_makes_256 : decode cX4_makes 256 = .ok (.getfield 104, 3) := dk_180 0 104 (dk_at dksX4_makes_11 0 rfl rfl)
theorem dX4_makes_259 : decode cX4_makes 259 = .ok (.ifCond .lt 12, 3) := dk_155 0 12 (dk_at dksX4_makes_11 3 rfl rfl)
theorem dX4_makes_262 : decode cX4_makes 262 = .ok (.iload 7, 2) := dk_21 7 (dk_at dksX4_makes_11 6 rfl rfl)
theorem dX4_makes_264 : decode cX4_makes 264 = .ok (.aload_n 0, 1) := dk_42 (dk_at dksX4_makes_11 8 rfl rfl)
theorem dX4_makes_265 : decode cX4_makes 265 = .ok (.getfield 161, 3) := dk_180 0 161 (dk_at dksX4_makes_11 9 rfl rfl)
theorem dX4_makes_268 : decode cX4_makes 268 = .ok (.if_icmp .le 17, 3) := dk_164 0 17 (dk_at dksX4_makes_11 12 rfl rfl)
theorem dX4_makes_271 : decode cX4_makes 271 = .ok (.aload_n 0, 1) := dk_42 (dk_at dksX4_makes_11 15 rfl rfl)
theorem dX4_makes_272 : decode cX4_makes 272 = .ok (.aload_n 0, 1) := dk_42 (dk_at dksX4_makes_11 16 rfl rfl)
theorem dX4_makes_273 : decode cX4_makes 273 = .ok (.getfield 95, 3) := dk_180 0 95 (dk_at dksX4_makes_11 17 rfl rfl)
theorem dX4_makes_276 : decode cX4_makes 276 = .ok (.putfield 104, 3) := dk_181 0 104 (dk_at dksX4_makes_11 20 rfl rfl)
theorem dX4_makes_279 : decode cX4_makes 279 = .ok (.aload_n 0, 1) := dk_42 (dk_at dksX4_makes_11 23 rfl rfl)
theorem dX4_makes_280 : decode cX4_makes 280 = .ok (.iload 7, 2) := dk_21 7 (dk_at dksX4_makes_12 0 rfl rfl)
theorem dX4_makes_282 : decode cX4_makes 282 = .ok (.putfield 161, 3) := dk_181 0 161 (dk_at dksX4_makes_12 2 rfl rfl)
theorem dX4_makes_285 : decode cX4_makes 285 = .ok (.aload_n 0, 1) := dk_42 (dk_at dksX4_makes_12 5 rfl rfl)
theorem dX4_makes_286 : decode cX4_makes 286 = .ok (.getfield 95, 3) := dk_180 0 95 (dk_at dksX4_makes_12 6 rfl rfl)
theorem dX4_makes_289 : decode cX4_makes 289 = .ok (.aload_n 0, 1) := dk_42 (dk_at dksX4_makes_12 9 rfl rfl)
theorem dX4_makes_290 : decode cX4_makes 290 = .ok (.getfield 24, 3) := dk_180 0 24 (dk_at dksX4_makes_12 10 rfl rfl)
theorem dX4_makes_293 : decode cX4_makes 293 = .ok (.if_icmp .ne 52, 3) := dk_160 0 52 (dk_at dksX4_makes_12 13 rfl rfl)
theorem dX4_makes_296 : decode cX4_makes 296 = .ok (.aload_n 0, 1) := dk_42 (dk_at dksX4_makes_12 16 rfl rfl)
theorem dX4_makes_297 : decode cX4_makes 297 = .ok (.iload_n 1, 1) := dk_27 (dk_at dksX4_makes_12 17 rfl rfl)
theorem dX4_makes_298 : decode cX4_makes 298 = .ok (.putfield 164, 3) := dk_181 0 164 (dk_at dksX4_makes_12 18 rfl rfl)
theorem dX4_makes_301 : decode cX4_makes 301 = .ok (.aload_n 0, 1) := dk_42 (dk_at dksX4_makes_12 21 rfl rfl)
theorem dX4_makes_302 : decode cX4_makes 302 = .ok (.iload_n 2, 1) := dk_28 (dk_at dksX4_makes_12 22 rfl rfl)
theorem dX4_makes_303 : decode cX4_makes 303 = .ok (.putfield 167, 3) := dk_181 0 167 (dk_at dksX4_makes_13 0 rfl rfl)
theorem dX4_makes_306 : decode cX4_makes 306 = .ok (.aload_n 0, 1) := dk_42 (dk_at dksX4_makes_13 3 rfl rfl)
theorem dX4_makes_307 : decode cX4_makes 307 = .ok (.iload_n 3, 1) := dk_29 (dk_at dksX4_makes_13 4 rfl rfl)
theorem dX4_makes_308 : decode cX4_makes 308 = .ok (.putfield 170, 3) := dk_181 0 170 (dk_at dksX4_makes_13 5 rfl rfl)
theorem dX4_makes_311 : decode cX4_makes 311 = .ok (.aload_n 0, 1) := dk_42 (dk_at dksX4_makes_13 8 rfl rfl)
theorem dX4_makes_312 : decode cX4_makes 312 = .ok (.iload 4, 2) := dk_21 4 (dk_at dksX4_makes_13 9 rfl rfl)
theorem dX4_makes_314 : decode cX4_makes 314 = .ok (.ifCond .ge 8, 3) := dk_156 0 8 (dk_at dksX4_makes_13 11 rfl rfl)
theorem dX4_makes_317 : decode cX4_makes 317 = .ok (.bipush (-2), 2) := dk_16 254 (dk_at dksX4_makes_13 14 rfl rfl)
theorem dX4_makes_319 : decode cX4_makes 319 = .ok (.goto 5, 3) := dk_167 0 5 (dk_at dksX4_makes_13 16 rfl rfl)
theorem dX4_makes_322 : decode cX4_makes 322 = .ok (.iload 4, 2) := dk_21 4 (dk_at dksX4_makes_13 19 rfl rfl)
theorem dX4_makes_324 : decode cX4_makes 324 = .ok (.putfield 173, 3) := dk_181 0 173 (dk_at dksX4_makes_13 21 rfl rfl)
theorem dX4_makes_327 : decode cX4_makes 327 = .ok (.aload_n 0, 1) := dk_42 (dk_at dksX4_makes_14 0 rfl rfl)
theorem dX4_makes_328 : decode cX4_makes 328 = .ok (.iload 5, 2) := dk_21 5 (dk_at dksX4_makes_14 1 rfl rfl)
theorem dX4_makes_330 : decode cX4_makes 330 = .ok (.putfield 176, 3) := dk_181 0 176 (dk_at dksX4_makes_14 3 rfl rfl)
theorem dX4_makes_333 : decode cX4_makes 333 = .ok (.aload_n 0, 1) := dk_42 (dk_at dksX4_makes_14 6 rfl rfl)
theorem dX4_makes_334 : decode cX4_makes 334 = .ok (.iload 7, 2) := dk_21 7 (dk_at dksX4_makes_14 7 rfl rfl)
theorem dX4_makes_336 : decode cX4_makes 336 = .ok (.putfield 179, 3) := dk_181 0 179 (dk_at dksX4_makes_14 9 rfl rfl)
theorem dX4_makes_339 : decode cX4_makes 339 = .ok (.aload_n 0, 1) := dk_42 (dk_at dksX4_makes_14 12 rfl rfl)
theorem dX4_makes_340 : decode cX4_makes 340 = .ok (.iload 8, 2) := dk_21 8 (dk_at dksX4_makes_14 13 rfl rfl)
theorem dX4_makes_342 : decode cX4_makes 342 = .ok (.putfield 182, 3) := dk_181 0 182 (dk_at dksX4_makes_14 15 rfl rfl)
theorem dX4_makes_345 : decode cX4_makes 345 = .ok (.aload_n 0, 1) := dk_42 (dk_at dksX4_makes_14 18 rfl rfl)
theorem dX4_makes_346 : decode cX4_makes 346 = .ok (.dup, 1) := dk_89 (dk_at dksX4_makes_14 19 rfl rfl)
theorem dX4_makes_347 : decode cX4_makes 347 = .ok (.getfield 95, 3) := dk_180 0 95 (dk_at dksX4_makes_14 20 rfl rfl)
theorem dX4_makes_350 : decode cX4_makes 350 = .ok (.iconst 1, 1) := dk_4 (dk_at dksX4_makes_14 23 rfl rfl)
theorem dX4_makes_351 : decode cX4_makes 351 = .ok (.iadd, 1) := dk_96 (dk_at dksX4_makes_15 0 rfl rfl)
theorem dX4_makes_352 : decode cX4_makes 352 = .ok (.putfield 95, 3) := dk_181 0 95 (dk_at dksX4_makes_15 1 rfl rfl)
theorem dX4_makes_355 : decode cX4_makes 355 = .ok (.aload_n 0, 1) := dk_42 (dk_at dksX4_makes_15 4 rfl rfl)
theorem dX4_makes_356 : decode cX4_makes 356 = .ok (.dup, 1) := dk_89 (dk_at dksX4_makes_15 5 rfl rfl)
theorem dX4_makes_357 : decode cX4_makes 357 = .ok (.getfield 98, 3) := dk_180 0 98 (dk_at dksX4_makes_15 6 rfl rfl)
theorem dX4_makes_360 : decode cX4_makes 360 = .ok (.iload 7, 2) := dk_21 7 (dk_at dksX4_makes_15 9 rfl rfl)
theorem dX4_makes_362 : decode cX4_makes 362 = .ok (.ifCond .lt 7, 3) := dk_155 0 7 (dk_at dksX4_makes_15 11 rfl rfl)
theorem dX4_makes_365 : decode cX4_makes 365 = .ok (.iconst 1, 1) := dk_4 (dk_at dksX4_makes_15 14 rfl rfl)
theorem dX4_makes_366 : decode cX4_makes 366 = .ok (.goto 4, 3) := dk_167 0 4 (dk_at dksX4_makes_15 15 rfl rfl)
theorem dX4_makes_369 : decode cX4_makes 369 = .ok (.iconst 0, 1) := dk_3 (dk_at dksX4_makes_15 18 rfl rfl)
theorem dX4_makes_370 : decode cX4_makes 370 = .ok (.iadd, 1) := dk_96 (dk_at dksX4_makes_15 19 rfl rfl)
theorem dX4_makes_371 : decode cX4_makes 371 = .ok (.putfield 98, 3) := dk_181 0 98 (dk_at dksX4_makes_15 20 rfl rfl)
theorem dX4_makes_374 : decode cX4_makes 374 = .ok (.aload_n 0, 1) := dk_42 (dk_at dksX4_makes_15 23 rfl rfl)
theorem dX4_makes_375 : decode cX4_makes 375 = .ok (.dup, 1) := dk_89 (dk_at dksX4_makes_16 0 rfl rfl)
theorem dX4_makes_376 : decode cX4_makes 376 = .ok (.getfield 101, 3) := dk_180 0 101 (dk_at dksX4_makes_16 1 rfl rfl)
theorem dX4_makes_379 : decode cX4_makes 379 = .ok (.iload 8, 2) := dk_21 8 (dk_at dksX4_makes_16 4 rfl rfl)
theorem dX4_makes_381 : decode cX4_makes 381 = .ok (.invokestatic 156, 3) := dk_184 0 156 (dk_at dksX4_makes_16 6 rfl rfl)
theorem dX4_makes_384 : decode cX4_makes 384 = .ok (.iadd, 1) := dk_96 (dk_at dksX4_makes_16 9 rfl rfl)
theorem dX4_makes_385 : decode cX4_makes 385 = .ok (.putfield 101, 3) := dk_181 0 101 (dk_at dksX4_makes_16 10 rfl rfl)
theorem dX4_makes_388 : decode cX4_makes 388 = .ok (.return_, 1) := dk_177 (dk_at dksX4_makes_16 13 rfl rfl)
abbrev cX4_sum : ByteArray := prog_2_method_8_code
def yX4_sum : MethodName := ⟨RX4, "sum", "(I[IIIIZ)I"⟩
def dkwX4_sum_3 : List UInt8 := [21, 9, 46, 104, 96, 54, 7, 132, 8, 1, 167, 255, 181, 21, 7, 172]
abbrev dktX4_sum_3 : List UInt8 := dkwX4_sum_3 ++ []
def dkwX4_sum_2 : List UInt8 := [21, 9, 155, 0, 28, 21, 7, 21, 6, 153, 0, 8, 21, 10, 167, 0, 8, 21, 10, 184, 0, 131, 44]
abbrev dktX4_sum_2 : List UInt8 := dkwX4_sum_2 ++ dktX4_sum_3
def dkwX4_sum_1 : List UInt8 := [160, 0, 8, 21, 4, 167, 0, 5, 21, 5, 54, 9, 178, 0, 121, 6, 27, 104, 21, 8, 96, 46, 54, 10]
abbrev dktX4_sum_1 : List UInt8 := dkwX4_sum_1 ++ dktX4_sum_2
def dkwX4_sum_0 : List UInt8 := [3, 54, 7, 3, 54, 8, 21, 8, 6, 162, 0, 75, 21, 8, 154, 0, 7, 29, 167, 0, 16, 21, 8, 4]
abbrev dktX4_sum_0 : List UInt8 := dkwX4_sum_0 ++ dktX4_sum_1
theorem dksX4_sum_0 : cX4_sum.data.toList.drop 0 = dktX4_sum_0 := by decide +kernel
theorem dksX4_sum_1 : cX4_sum.data.toList.drop 24 = dktX4_sum_1 := dk_seg dksX4_sum_0 24 rfl rfl
theorem dksX4_sum_2 : cX4_sum.data.toList.drop 48 = dktX4_sum_2 := dk_seg dksX4_sum_1 24 rfl rfl
theorem dksX4_sum_3 : cX4_sum.data.toList.drop 71 = dktX4_sum_3 := dk_seg dksX4_sum_2 23 rfl rfl
theorem dX4_sum_0 : decode cX4_sum 0 = .ok (.iconst 0, 1) := dk_3 (dk_at dksX4_sum_0 0 rfl rfl)
theorem dX4_sum_1 : decode cX4_sum 1 = .ok (.istore 7, 2) := dk_54 7 (dk_at dksX4_sum_0 1 rfl rfl)
theorem dX4_sum_3 : decode cX4_sum 3 = .ok (.iconst 0, 1) := dk_3 (dk_at dksX4_sum_0 3 rfl rfl)
theorem dX4_sum_4 : decode cX4_sum 4 = .ok (.istore 8, 2) := dk_54 8 (dk_at dksX4_sum_0 4 rfl rfl)
theorem dX4_sum_6 : decode cX4_sum 6 = .ok (.iload 8, 2) := dk_21 8 (dk_at dksX4_sum_0 6 rfl rfl)
theorem dX4_sum_8 : decode cX4_sum 8 = .ok (.iconst 3, 1) := dk_6 (dk_at dksX4_sum_0 8 rfl rfl)
theorem dX4_sum_9 : decode cX4_sum 9 = .ok (.if_icmp .ge 75, 3) := dk_162 0 75 (dk_at dksX4_sum_0 9 rfl rfl)
theorem dX4_sum_12 : decode cX4_sum 12 = .ok (.iload 8, 2) := dk_21 8 (dk_at dksX4_sum_0 12 rfl rfl)
theorem dX4_sum_14 : decode cX4_sum 14 = .ok (.ifCond .ne 7, 3) := dk_154 0 7 (dk_at dksX4_sum_0 14 rfl rfl)
theorem dX4_sum_17 : decode cX4_sum 17 = .ok (.iload_n 3, 1) := dk_29 (dk_at dksX4_sum_0 17 rfl rfl)
theorem dX4_sum_18 : decode cX4_sum 18 = .ok (.goto 16, 3) := dk_167 0 16 (dk_at dksX4_sum_0 18 rfl rfl)
theorem dX4_sum_21 : decode cX4_sum 21 = .ok (.iload 8, 2) := dk_21 8 (dk_at dksX4_sum_0 21 rfl rfl)
theorem dX4_sum_23 : decode cX4_sum 23 = .ok (.iconst 1, 1) := dk_4 (dk_at dksX4_sum_0 23 rfl rfl)
theorem dX4_sum_24 : decode cX4_sum 24 = .ok (.if_icmp .ne 8, 3) := dk_160 0 8 (dk_at dksX4_sum_1 0 rfl rfl)
theorem dX4_sum_27 : decode cX4_sum 27 = .ok (.iload 4, 2) := dk_21 4 (dk_at dksX4_sum_1 3 rfl rfl)
theorem dX4_sum_29 : decode cX4_sum 29 = .ok (.goto 5, 3) := dk_167 0 5 (dk_at dksX4_sum_1 5 rfl rfl)
theorem dX4_sum_32 : decode cX4_sum 32 = .ok (.iload 5, 2) := dk_21 5 (dk_at dksX4_sum_1 8 rfl rfl)
theorem dX4_sum_34 : decode cX4_sum 34 = .ok (.istore 9, 2) := dk_54 9 (dk_at dksX4_sum_1 10 rfl rfl)
theorem dX4_sum_36 : decode cX4_sum 36 = .ok (.getstatic 121, 3) := dk_178 0 121 (dk_at dksX4_sum_1 12 rfl rfl)
theorem dX4_sum_39 : decode cX4_sum 39 = .ok (.iconst 3, 1) := dk_6 (dk_at dksX4_sum_1 15 rfl rfl)
theorem dX4_sum_40 : decode cX4_sum 40 = .ok (.iload_n 1, 1) := dk_27 (dk_at dksX4_sum_1 16 rfl rfl)
theorem dX4_sum_41 : decode cX4_sum 41 = .ok (.imul, 1) := dk_104 (dk_at dksX4_sum_1 17 rfl rfl)
theorem dX4_sum_42 : decode cX4_sum 42 = .ok (.iload 8, 2) := dk_21 8 (dk_at dksX4_sum_1 18 rfl rfl)
theorem dX4_sum_44 : decode cX4_sum 44 = .ok (.iadd, 1) := dk_96 (dk_at dksX4_sum_1 20 rfl rfl)
theorem dX4_sum_45 : decode cX4_sum 45 = .ok (.iaload, 1) := dk_46 (dk_at dksX4_sum_1 21 rfl rfl)
theorem dX4_sum_46 : decode cX4_sum 46 = .ok (.istore 10, 2) := dk_54 10 (dk_at dksX4_sum_1 22 rfl rfl)
theorem dX4_sum_48 : decode cX4_sum 48 = .ok (.iload 9, 2) := dk_21 9 (dk_at dksX4_sum_2 0 rfl rfl)
theorem dX4_sum_50 : decode cX4_sum 50 = .ok (.ifCond .lt 28, 3) := dk_155 0 28 (dk_at dksX4_sum_2 2 rfl rfl)
theorem dX4_sum_53 : decode cX4_sum 53 = .ok (.iload 7, 2) := dk_21 7 (dk_at dksX4_sum_2 5 rfl rfl)
theorem dX4_sum_55 : decode cX4_sum 55 = .ok (.iload 6, 2) := dk_21 6 (dk_at dksX4_sum_2 7 rfl rfl)
theorem dX4_sum_57 : decode cX4_sum 57 = .ok (.ifCond .eq 8, 3) := dk_153 0 8 (dk_at dksX4_sum_2 9 rfl rfl)
theorem dX4_sum_60 : decode cX4_sum 60 = .ok (.iload 10, 2) := dk_21 10 (dk_at dksX4_sum_2 12 rfl rfl)
theorem dX4_sum_62 : decode cX4_sum 62 = .ok (.goto 8, 3) := dk_167 0 8 (dk_at dksX4_sum_2 14 rfl rfl)
theorem dX4_sum_65 : decode cX4_sum 65 = .ok (.iload 10, 2) := dk_21 10 (dk_at dksX4_sum_2 17 rfl rfl)
theorem dX4_sum_67 : decode cX4_sum 67 = .ok (.invokestatic 131, 3) := dk_184 0 131 (dk_at dksX4_sum_2 19 rfl rfl)
theorem dX4_sum_70 : decode cX4_sum 70 = .ok (.aload_n 2, 1) := dk_44 (dk_at dksX4_sum_2 22 rfl rfl)
theorem dX4_sum_71 : decode cX4_sum 71 = .ok (.iload 9, 2) := dk_21 9 (dk_at dksX4_sum_3 0 rfl rfl)
theorem dX4_sum_73 : decode cX4_sum 73 = .ok (.iaload, 1) := dk_46 (dk_at dksX4_sum_3 2 rfl rfl)
theorem dX4_sum_74 : decode cX4_sum 74 = .ok (.imul, 1) := dk_104 (dk_at dksX4_sum_3 3 rfl rfl)
theorem dX4_sum_75 : decode cX4_sum 75 = .ok (.iadd, 1) := dk_96 (dk_at dksX4_sum_3 4 rfl rfl)
theorem dX4_sum_76 : decode cX4_sum 76 = .ok (.istore 7, 2) := dk_54 7 (dk_at dksX4_sum_3 5 rfl rfl)
theorem dX4_sum_78 : decode cX4_sum 78 = .ok (.iinc 8 1, 3) := dk_132 8 1 (dk_at dksX4_sum_3 7 rfl rfl)
theorem dX4_sum_81 : decode cX4_sum 81 = .ok (.goto (-75), 3) := dk_167 255 181 (dk_at dksX4_sum_3 10 rfl rfl)
theorem dX4_sum_84 : decode cX4_sum 84 = .ok (.iload 7, 2) := dk_21 7 (dk_at dksX4_sum_3 13 rfl rfl)
theorem dX4_sum_86 : decode cX4_sum 86 = .ok (.ireturn, 1) := dk_172 (dk_at dksX4_sum_3 15 rfl rfl)
abbrev cX4_isHit : ByteArray := prog_2_method_10_code
def yX4_isHit : MethodName := ⟨RX4, "isHit", "(IIIII)Z"⟩
def dkwX4_isHit_5 : List UInt8 := [3, 172]
abbrev dktX4_isHit_5 : List UInt8 := dkwX4_isHit_5 ++ []
def dkwX4_isHit_4 : List UInt8 := [180, 0, 49, 27, 46, 21, 7, 184, 0, 188, 79, 21, 7, 42, 180, 0, 69, 163, 0, 7, 4, 167, 0, 4]
abbrev dktX4_isHit_4 : List UInt8 := dkwX4_isHit_4 ++ dktX4_isHit_5
def dkwX4_isHit_3 : List UInt8 := [54, 7, 42, 180, 0, 49, 27, 42, 180, 0, 49, 27, 46, 156, 0, 8, 21, 7, 167, 0, 14, 42]
abbrev dktX4_isHit_3 : List UInt8 := dkwX4_isHit_3 ++ dktX4_isHit_4
def dkwX4_isHit_2 : List UInt8 := [155, 0, 10, 21, 4, 21, 6, 162, 0, 5, 3, 172, 42, 180, 0, 34, 27, 46, 29, 100, 184, 0, 131]
abbrev dktX4_isHit_2 : List UInt8 := dkwX4_isHit_2 ++ dktX4_isHit_3
def dkwX4_isHit_1 : List UInt8 := [180, 0, 34, 27, 46, 153, 0, 27, 42, 180, 0, 43, 27, 46, 21, 5, 126, 153, 0, 15, 21, 6]
abbrev dktX4_isHit_1 : List UInt8 := dkwX4_isHit_1 ++ dktX4_isHit_2
def dkwX4_isHit_0 : List UInt8 := [42, 180, 0, 11, 180, 0, 52, 180, 0, 185, 6, 28, 104, 42, 180, 0, 28, 27, 46, 96, 46, 54, 6, 42]
abbrev dktX4_isHit_0 : List UInt8 := dkwX4_isHit_0 ++ dktX4_isHit_1
theorem dksX4_isHit_0 : cX4_isHit.data.toList.drop 0 = dktX4_isHit_0 := by decide +kernel
theorem dksX4_isHit_1 : cX4_isHit.data.toList.drop 24 = dktX4_isHit_1 := dk_seg dksX4_isHit_0 24 rfl rfl
theorem dksX4_isHit_2 : cX4_isHit.data.toList.drop 46 = dktX4_isHit_2 := dk_seg dksX4_isHit_1 22 rfl rfl
theorem dksX4_isHit_3 : cX4_isHit.data.toList.drop 69 = dktX4_isHit_3 := dk_seg dksX4_isHit_2 23 rfl rfl
theorem dksX4_isHit_4 : cX4_isHit.data.toList.drop 91 = dktX4_isHit_4 := dk_seg dksX4_isHit_3 22 rfl rfl
theorem dksX4_isHit_5 : cX4_isHit.data.toList.drop 115 = dktX4_isHit_5 := dk_seg dksX4_isHit_4 24 rfl rfl
theorem dX4_isHit_0 : decode cX4_isHit 0 = .ok (.aload_n 0, 1) := dk_42 (dk_at dksX4_isHit_0 0 rfl rfl)
theorem dX4_isHit_1 : decode cX4_isHit 1 = .ok (.getfield 11, 3) := dk_180 0 11 (dk_at dksX4_isHit_0 1 rfl rfl)
theorem dX4_isHit_4 : decode cX4_isHit 4 = .ok (.getfield 52, 3) := dk_180 0 52 (dk_at dksX4_isHit_0 4 rfl rfl)
theorem dX4_isHit_7 : decode cX4_isHit 7 = .ok (.getfield 185, 3) := dk_180 0 185 (dk_at dksX4_isHit_0 7 rfl rfl)
theorem dX4_isHit_10 : decode cX4_isHit 10 = .ok (.iconst 3, 1) := dk_6 (dk_at dksX4_isHit_0 10 rfl rfl)
theorem dX4_isHit_11 : decode cX4_isHit 11 = .ok (.iload_n 2, 1) := dk_28 (dk_at dksX4_isHit_0 11 rfl rfl)
theorem dX4_isHit_12 : decode cX4_isHit 12 = .ok (.imul, 1) := dk_104 (dk_at dksX4_isHit_0 12 rfl rfl)
theorem dX4_isHit_13 : decode cX4_isHit 13 = .ok (.aload_n 0, 1) := dk_42 (dk_at dksX4_isHit_0 13 rfl rfl)
theorem dX4_isHit_14 : decode cX4_isHit 14 = .ok (.getfield 28, 3) := dk_180 0 28 (dk_at dksX4_isHit_0 14 rfl rfl)
theorem dX4_isHit_17 : decode cX4_isHit 17 = .ok (.iload_n 1, 1) := dk_27 (dk_at dksX4_isHit_0 17 rfl rfl)
theorem dX4_isHit_18 : decode cX4_isHit 18 = .ok (.iaload, 1) := dk_46 (dk_at dksX4_isHit_0 18 rfl rfl)
theorem dX4_isHit_19 : decode cX4_isHit 19 = .ok (.iadd, 1) := dk_96 (dk_at dksX4_isHit_0 19 rfl rfl)
theorem dX4_isHit_20 : decode cX4_isHit 20 = .ok (.iaload, 1) := dk_46 (dk_at dksX4_isHit_0 20 rfl rfl)
theorem dX4_isHit_21 : decode cX4_isHit 21 = .ok (.istore 6, 2) := dk_54 6 (dk_at dksX4_isHit_0 21 rfl rfl)
theorem dX4_isHit_23 : decode cX4_isHit 23 = .ok (.aload_n 0, 1) := dk_42 (dk_at dksX4_isHit_0 23 rfl rfl)
theorem dX4_isHit_24 : decode cX4_isHit 24 = .ok (.getfield 34, 3) := dk_180 0 34 (dk_at dksX4_isHit_1 0 rfl rfl)
theorem dX4_isHit_27 : decode cX4_isHit 27 = .ok (.iload_n 1, 1) := dk_27 (dk_at dksX4_isHit_1 3 rfl rfl)
theorem dX4_isHit_28 : decode cX4_isHit 28 = .ok (.iaload, 1) := dk_46 (dk_at dksX4_isHit_1 4 rfl rfl)
theorem dX4_isHit_29 : decode cX4_isHit 29 = .ok (.ifCond .eq 27, 3) := dk_153 0 27 (dk_at dksX4_isHit_1 5 rfl rfl)
theorem dX4_isHit_32 : decode cX4_isHit 32 = .ok (.aload_n 0, 1) := dk_42 (dk_at dksX4_isHit_1 8 rfl rfl)
theorem dX4_isHit_33 : decode cX4_isHit 33 = .ok (.getfield 43, 3) := dk_180 0 43 (dk_at dksX4_isHit_1 9 rfl rfl)
theorem dX4_isHit_36 : decode cX4_isHit 36 = .ok (.iload_n 1, 1) := dk_27 (dk_at dksX4_isHit_1 12 rfl rfl)
theorem dX4_isHit_37 : decode cX4_isHit 37 = .ok (.iaload, 1) := dk_46 (dk_at dksX4_isHit_1 13 rfl rfl)
theorem dX4_isHit_38 : decode cX4_isHit 38 = .ok (.iload 5, 2) := dk_21 5 (dk_at dksX4_isHit_1 14 rfl rfl)
theorem dX4_isHit_40 : decode cX4_isHit 40 = .ok (.iand, 1) := dk_126 (dk_at dksX4_isHit_1 16 rfl rfl)
theorem dX4_isHit_41 : decode cX4_isHit 41 = .ok (.ifCond .eq 15, 3) := dk_153 0 15 (dk_at dksX4_isHit_1 17 rfl rfl)
theorem dX4_isHit_44 : decode cX4_isHit 44 = .ok (.iload 6, 2) := dk_21 6 (dk_at dksX4_isHit_1 20 rfl rfl)
theorem dX4_isHit_46 : decode cX4_isHit 46 = .ok (.ifCond .lt 10, 3) := dk_155 0 10 (dk_at dksX4_isHit_2 0 rfl rfl)
theorem dX4_isHit_49 : decode cX4_isHit 49 = .ok (.iload 4, 2) := dk_21 4 (dk_at dksX4_isHit_2 3 rfl rfl)
theorem dX4_isHit_51 : decode cX4_isHit 51 = .ok (.iload 6, 2) := dk_21 6 (dk_at dksX4_isHit_2 5 rfl rfl)
theorem dX4_isHit_53 : decode cX4_isHit 53 = .ok (.if_icmp .ge 5, 3) := dk_162 0 5 (dk_at dksX4_isHit_2 7 rfl rfl)
theorem dX4_isHit_56 : decode cX4_isHit 56 = .ok (.iconst 0, 1) := dk_3 (dk_at dksX4_isHit_2 10 rfl rfl)
theorem dX4_isHit_57 : decode cX4_isHit 57 = .ok (.ireturn, 1) := dk_172 (dk_at dksX4_isHit_2 11 rfl rfl)
theorem dX4_isHit_58 : decode cX4_isHit 58 = .ok (.aload_n 0, 1) := dk_42 (dk_at dksX4_isHit_2 12 rfl rfl)
theorem dX4_isHit_59 : decode cX4_isHit 59 = .ok (.getfield 34, 3) := dk_180 0 34 (dk_at dksX4_isHit_2 13 rfl rfl)
theorem dX4_isHit_62 : decode cX4_isHit 62 = .ok (.iload_n 1, 1) := dk_27 (dk_at dksX4_isHit_2 16 rfl rfl)
theorem dX4_isHit_63 : decode cX4_isHit 63 = .ok (.iaload, 1) := dk_46 (dk_at dksX4_isHit_2 17 rfl rfl)
theorem dX4_isHit_64 : decode cX4_isHit 64 = .ok (.iload_n 3, 1) := dk_29 (dk_at dksX4_isHit_2 18 rfl rfl)
theorem dX4_isHit_65 : decode cX4_isHit 65 = .ok (.isub, 1) := dk_100 (dk_at dksX4_isHit_2 19 rfl rfl)
theorem dX4_isHit_66 : decode cX4_isHit 66 = .ok (.invokestatic 131, 3) := dk_184 0 131 (dk_at dksX4_isHit_2 20 rfl rfl)
theorem dX4_isHit_69 : decode cX4_isHit 69 = .ok (.istore 7, 2) := dk_54 7 (dk_at dksX4_isHit_3 0 rfl rfl)
theorem dX4_isHit_71 : decode cX4_isHit 71 = .ok (.aload_n 0, 1) := dk_42 (dk_at dksX4_isHit_3 2 rfl rfl)
theorem dX4_isHit_72 : decode cX4_isHit 72 = .ok (.getfield 49, 3) := dk_180 0 49 (dk_at dksX4_isHit_3 3 rfl rfl)
theorem dX4_isHit_75 : decode cX4_isHit 75 = .ok (.iload_n 1, 1) := dk_27 (dk_at dksX4_isHit_3 6 rfl rfl)
theorem dX4_isHit_76 : decode cX4_isHit 76 = .ok (.aload_n 0, 1) := dk_42 (dk_at dksX4_isHit_3 7 rfl rfl)
theorem dX4_isHit_77 : decode cX4_isHit 77 = .ok (.getfield 49, 3) := dk_180 0 49 (dk_at dksX4_isHit_3 8 rfl rfl)
theorem dX4_isHit_80 : decode cX4_isHit 80 = .ok (.iload_n 1, 1) := dk_27 (dk_at dksX4_isHit_3 11 rfl rfl)
theorem dX4_isHit_81 : decode cX4_isHit 81 = .ok (.iaload, 1) := dk_46 (dk_at dksX4_isHit_3 12 rfl rfl)
theorem dX4_isHit_82 : decode cX4_isHit 82 = .ok (.ifCond .ge 8, 3) := dk_156 0 8 (dk_at dksX4_isHit_3 13 rfl rfl)
theorem dX4_isHit_85 : decode cX4_isHit 85 = .ok (.iload 7, 2) := dk_21 7 (dk_at dksX4_isHit_3 16 rfl rfl)
theorem dX4_isHit_87 : decode cX4_isHit 87 = .ok (.goto 14, 3) := dk_167 0 14 (dk_at dksX4_isHit_3 18 rfl rfl)
theorem dX4_isHit_90 : decode cX4_isHit 90 = .ok (.aload_n 0, 1) := dk_42 (dk_at dksX4_isHit_3 21 rfl rfl)
theorem dX4_isHit_91 : decode cX4_isHit 91 = .ok (.getfield 49, 3) := dk_180 0 49 (dk_at dksX4_isHit_4 0 rfl rfl)
theorem dX4_isHit_94 : decode cX4_isHit 94 = .ok (.iload_n 1, 1) := dk_27 (dk_at dksX4_isHit_4 3 rfl rfl)
theorem dX4_isHit_95 : decode cX4_isHit 95 = .ok (.iaload, 1) := dk_46 (dk_at dksX4_isHit_4 4 rfl rfl)
theorem dX4_isHit_96 : decode cX4_isHit 96 = .ok (.iload 7, 2) := dk_21 7 (dk_at dksX4_isHit_4 5 rfl rfl)
theorem dX4_isHit_98 : decode cX4_isHit 98 = .ok (.invokestatic 188, 3) := dk_184 0 188 (dk_at dksX4_isHit_4 7 rfl rfl)
theorem dX4_isHit_101 : decode cX4_isHit 101 = .ok (.iastore, 1) := dk_79 (dk_at dksX4_isHit_4 10 rfl rfl)
theorem dX4_isHit_102 : decode cX4_isHit 102 = .ok (.iload 7, 2) := dk_21 7 (dk_at dksX4_isHit_4 11 rfl rfl)
theorem dX4_isHit_104 : decode cX4_isHit 104 = .ok (.aload_n 0, 1) := dk_42 (dk_at dksX4_isHit_4 13 rfl rfl)
theorem dX4_isHit_105 : decode cX4_isHit 105 = .ok (.getfield 69, 3) := dk_180 0 69 (dk_at dksX4_isHit_4 14 rfl rfl)
theorem dX4_isHit_108 : decode cX4_isHit 108 = .ok (.if_icmp .gt 7, 3) := dk_163 0 7 (dk_at dksX4_isHit_4 17 rfl rfl)
theorem dX4_isHit_111 : decode cX4_isHit 111 = .ok (.iconst 1, 1) := dk_4 (dk_at dksX4_isHit_4 20 rfl rfl)
theorem dX4_isHit_112 : decode cX4_isHit 112 = .ok (.goto 4, 3) := dk_167 0 4 (dk_at dksX4_isHit_4 21 rfl rfl)
theorem dX4_isHit_115 : decode cX4_isHit 115 = .ok (.iconst 0, 1) := dk_3 (dk_at dksX4_isHit_5 0 rfl rfl)
theorem dX4_isHit_116 : decode cX4_isHit 116 = .ok (.ireturn, 1) := dk_172 (dk_at dksX4_isHit_5 1 rfl rfl)
abbrev cX4_counts : ByteArray := prog_2_method_11_code
def yX4_counts : MethodName := ⟨RX4, "counts", "(IIIII)V"⟩
def dkwX4_counts_4 : List UInt8 := [21, 7, 46, 126, 128, 79, 132, 7, 1, 167, 255, 202, 177]
abbrev dktX4_counts_4 : List UInt8 := dkwX4_counts_4 ++ []
def dkwX4_counts_3 : List UInt8 := [180, 0, 37, 21, 7, 92, 46, 4, 96, 79, 42, 180, 0, 46, 21, 7, 92, 46, 28, 42, 180, 0, 43]
abbrev dktX4_counts_3 : List UInt8 := dkwX4_counts_3 ++ dktX4_counts_4
def dkwX4_counts_2 : List UInt8 := [54, 7, 21, 7, 42, 180, 0, 61, 162, 0, 51, 27, 21, 7, 122, 4, 126, 154, 0, 6, 167, 0, 33, 42]
abbrev dktX4_counts_2 : List UInt8 := dkwX4_counts_2 ++ dktX4_counts_3
def dkwX4_counts_1 : List UInt8 := [46, 21, 6, 96, 79, 21, 5, 155, 0, 15, 42, 180, 0, 40, 21, 5, 92, 46, 21, 6, 96, 79, 3]
abbrev dktX4_counts_1 : List UInt8 := dkwX4_counts_1 ++ dktX4_counts_2
def dkwX4_counts_0 : List UInt8 := [27, 184, 0, 156, 54, 6, 42, 180, 0, 40, 29, 92, 46, 21, 6, 96, 79, 42, 180, 0, 40, 21, 4, 92]
abbrev dktX4_counts_0 : List UInt8 := dkwX4_counts_0 ++ dktX4_counts_1
theorem dksX4_counts_0 : cX4_counts.data.toList.drop 0 = dktX4_counts_0 := by decide +kernel
theorem dksX4_counts_1 : cX4_counts.data.toList.drop 24 = dktX4_counts_1 := dk_seg dksX4_counts_0 24 rfl rfl
theorem dksX4_counts_2 : cX4_counts.data.toList.drop 47 = dktX4_counts_2 := dk_seg dksX4_counts_1 23 rfl rfl
theorem dksX4_counts_3 : cX4_counts.data.toList.drop 71 = dktX4_counts_3 := dk_seg dksX4_counts_2 24 rfl rfl
theorem dksX4_counts_4 : cX4_counts.data.toList.drop 94 = dktX4_counts_4 := dk_seg dksX4_counts_3 23 rfl rfl
theorem dX4_counts_0 : decode cX4_counts 0 = .ok (.iload_n 1, 1) := dk_27 (dk_at dksX4_counts_0 0 rfl rfl)
theorem dX4_counts_1 : decode cX4_counts 1 = .ok (.invokestatic 156, 3) := dk_184 0 156 (dk_at dksX4_counts_0 1 rfl rfl)
theorem dX4_counts_4 : decode cX4_counts 4 = .ok (.istore 6, 2) := dk_54 6 (dk_at dksX4_counts_0 4 rfl rfl)
theorem dX4_counts_6 : decode cX4_counts 6 = .ok (.aload_n 0, 1) := dk_42 (dk_at dksX4_counts_0 6 rfl rfl)
theorem dX4_counts_7 : decode cX4_counts 7 = .ok (.getfield 40, 3) := dk_180 0 40 (dk_at dksX4_counts_0 7 rfl rfl)
theorem dX4_counts_10 : decode cX4_counts 10 = .ok (.iload_n 3, 1) := dk_29 (dk_at dksX4_counts_0 10 rfl rfl)
theorem dX4_counts_11 : decode cX4_counts 11 = .ok (.dup2, 1) := dk_92 (dk_at dksX4_counts_0 11 rfl rfl)
theorem dX4_counts_12 : decode cX4_counts 12 = .ok (.iaload, 1) := dk_46 (dk_at dksX4_counts_0 12 rfl rfl)
theorem dX4_counts_13 : decode cX4_counts 13 = .ok (.iload 6, 2) := dk_21 6 (dk_at dksX4_counts_0 13 rfl rfl)
theorem dX4_counts_15 : decode cX4_counts 15 = .ok (.iadd, 1) := dk_96 (dk_at dksX4_counts_0 15 rfl rfl)
theorem dX4_counts_16 : decode cX4_counts 16 = .ok (.iastore, 1) := dk_79 (dk_at dksX4_counts_0 16 rfl rfl)
theorem dX4_counts_17 : decode cX4_counts 17 = .ok (.aload_n 0, 1) := dk_42 (dk_at dksX4_counts_0 17 rfl rfl)
theorem dX4_counts_18 : decode cX4_counts 18 = .ok (.getfield 40, 3) := dk_180 0 40 (dk_at dksX4_counts_0 18 rfl rfl)
theorem dX4_counts_21 : decode cX4_counts 21 = .ok (.iload 4, 2) := dk_21 4 (dk_at dksX4_counts_0 21 rfl rfl)
theorem dX4_counts_23 : decode cX4_counts 23 = .ok (.dup2, 1) := dk_92 (dk_at dksX4_counts_0 23 rfl rfl)
theorem dX4_counts_24 : decode cX4_counts 24 = .ok (.iaload, 1) := dk_46 (dk_at dksX4_counts_1 0 rfl rfl)
theorem dX4_counts_25 : decode cX4_counts 25 = .ok (.iload 6, 2) := dk_21 6 (dk_at dksX4_counts_1 1 rfl rfl)
theorem dX4_counts_27 : decode cX4_counts 27 = .ok (.iadd, 1) := dk_96 (dk_at dksX4_counts_1 3 rfl rfl)
theorem dX4_counts_28 : decode cX4_counts 28 = .ok (.iastore, 1) := dk_79 (dk_at dksX4_counts_1 4 rfl rfl)
theorem dX4_counts_29 : decode cX4_counts 29 = .ok (.iload 5, 2) := dk_21 5 (dk_at dksX4_counts_1 5 rfl rfl)
theorem dX4_counts_31 : decode cX4_counts 31 = .ok (.ifCond .lt 15, 3) := dk_155 0 15 (dk_at dksX4_counts_1 7 rfl rfl)
theorem dX4_counts_34 : decode cX4_counts 34 = .ok (.aload_n 0, 1) := dk_42 (dk_at dksX4_counts_1 10 rfl rfl)
theorem dX4_counts_35 : decode cX4_counts 35 = .ok (.getfield 40, 3) := dk_180 0 40 (dk_at dksX4_counts_1 11 rfl rfl)
theorem dX4_counts_38 : decode cX4_counts 38 = .ok (.iload 5, 2) := dk_21 5 (dk_at dksX4_counts_1 14 rfl rfl)
theorem dX4_counts_40 : decode cX4_counts 40 = .ok (.dup2, 1) := dk_92 (dk_at dksX4_counts_1 16 rfl rfl)
theorem dX4_counts_41 : decode cX4_counts 41 = .ok (.iaload, 1) := dk_46 (dk_at dksX4_counts_1 17 rfl rfl)
theorem dX4_counts_42 : decode cX4_counts 42 = .ok (.iload 6, 2) := dk_21 6 (dk_at dksX4_counts_1 18 rfl rfl)
theorem dX4_counts_44 : decode cX4_counts 44 = .ok (.iadd, 1) := dk_96 (dk_at dksX4_counts_1 20 rfl rfl)
theorem dX4_counts_45 : decode cX4_counts 45 = .ok (.iastore, 1) := dk_79 (dk_at dksX4_counts_1 21 rfl rfl)
theorem dX4_counts_46 : decode cX4_counts 46 = .ok (.iconst 0, 1) := dk_3 (dk_at dksX4_counts_1 22 rfl rfl)
theorem dX4_counts_47 : decode cX4_counts 47 = .ok (.istore 7, 2) := dk_54 7 (dk_at dksX4_counts_2 0 rfl rfl)
theorem dX4_counts_49 : decode cX4_counts 49 = .ok (.iload 7, 2) := dk_21 7 (dk_at dksX4_counts_2 2 rfl rfl)
theorem dX4_counts_51 : decode cX4_counts 51 = .ok (.aload_n 0, 1) := dk_42 (dk_at dksX4_counts_2 4 rfl rfl)
theorem dX4_counts_52 : decode cX4_counts 52 = .ok (.getfield 61, 3) := dk_180 0 61 (dk_at dksX4_counts_2 5 rfl rfl)
theorem dX4_counts_55 : decode cX4_counts 55 = .ok (.if_icmp .ge 51, 3) := dk_162 0 51 (dk_at dksX4_counts_2 8 rfl rfl)
theorem dX4_counts_58 : decode cX4_counts 58 = .ok (.iload_n 1, 1) := dk_27 (dk_at dksX4_counts_2 11 rfl rfl)
theorem dX4_counts_59 : decode cX4_counts 59 = .ok (.iload 7, 2) := dk_21 7 (dk_at dksX4_counts_2 12 rfl rfl)
theorem dX4_counts_61 : decode cX4_counts 61 = .ok (.ishr, 1) := dk_122 (dk_at dksX4_counts_2 14 rfl rfl)
theorem dX4_counts_62 : decode cX4_counts 62 = .ok (.iconst 1, 1) := dk_4 (dk_at dksX4_counts_2 15 rfl rfl)
theorem dX4_counts_63 : decode cX4_counts 63 = .ok (.iand, 1) := dk_126 (dk_at dksX4_counts_2 16 rfl rfl)
theorem dX4_counts_64 : decode cX4_counts 64 = .ok (.ifCond .ne 6, 3) := dk_154 0 6 (dk_at dksX4_counts_2 17 rfl rfl)
theorem dX4_counts_67 : decode cX4_counts 67 = .ok (.goto 33, 3) := dk_167 0 33 (dk_at dksX4_counts_2 20 rfl rfl)
theorem dX4_counts_70 : decode cX4_counts 70 = .ok (.aload_n 0, 1) := dk_42 (dk_at dksX4_counts_2 23 rfl rfl)
theorem dX4_counts_71 : decode cX4_counts 71 = .ok (.getfield 37, 3) := dk_180 0 37 (dk_at dksX4_counts_3 0 rfl rfl)
theorem dX4_counts_74 : decode cX4_counts 74 = .ok (.iload 7, 2) := dk_21 7 (dk_at dksX4_counts_3 3 rfl rfl)
theorem dX4_counts_76 : decode cX4_counts 76 = .ok (.dup2, 1) := dk_92 (dk_at dksX4_counts_3 5 rfl rfl)
theorem dX4_counts_77 : decode cX4_counts 77 = .ok (.iaload, 1) := dk_46 (dk_at dksX4_counts_3 6 rfl rfl)
theorem dX4_counts_78 : decode cX4_counts 78 = .ok (.iconst 1, 1) := dk_4 (dk_at dksX4_counts_3 7 rfl rfl)
theorem dX4_counts_79 : decode cX4_counts 79 = .ok (.iadd, 1) := dk_96 (dk_at dksX4_counts_3 8 rfl rfl)
theorem dX4_counts_80 : decode cX4_counts 80 = .ok (.iastore, 1) := dk_79 (dk_at dksX4_counts_3 9 rfl rfl)
theorem dX4_counts_81 : decode cX4_counts 81 = .ok (.aload_n 0, 1) := dk_42 (dk_at dksX4_counts_3 10 rfl rfl)
theorem dX4_counts_82 : decode cX4_counts 82 = .ok (.getfield 46, 3) := dk_180 0 46 (dk_at dksX4_counts_3 11 rfl rfl)
theorem dX4_counts_85 : decode cX4_counts 85 = .ok (.iload 7, 2) := dk_21 7 (dk_at dksX4_counts_3 14 rfl rfl)
theorem dX4_counts_87 : decode cX4_counts 87 = .ok (.dup2, 1) := dk_92 (dk_at dksX4_counts_3 16 rfl rfl)
theorem dX4_counts_88 : decode cX4_counts 88 = .ok (.iaload, 1) := dk_46 (dk_at dksX4_counts_3 17 rfl rfl)
theorem dX4_counts_89 : decode cX4_counts 89 = .ok (.iload_n 2, 1) := dk_28 (dk_at dksX4_counts_3 18 rfl rfl)
theorem dX4_counts_90 : decode cX4_counts 90 = .ok (.aload_n 0, 1) := dk_42 (dk_at dksX4_counts_3 19 rfl rfl)
theorem dX4_counts_91 : decode cX4_counts 91 = .ok (.getfield 43, 3) := dk_180 0 43 (dk_at dksX4_counts_3 20 rfl rfl)
theorem dX4_counts_94 : decode cX4_counts 94 = .ok (.iload 7, 2) := dk_21 7 (dk_at dksX4_counts_4 0 rfl rfl)
theorem dX4_counts_96 : decode cX4_counts 96 = .ok (.iaload, 1) := dk_46 (dk_at dksX4_counts_4 2 rfl rfl)
theorem dX4_counts_97 : decode cX4_counts 97 = .ok (.iand, 1) := dk_126 (dk_at dksX4_counts_4 3 rfl rfl)
theorem dX4_counts_98 : decode cX4_counts 98 = .ok (.ior, 1) := dk_128 (dk_at dksX4_counts_4 4 rfl rfl)
theorem dX4_counts_99 : decode cX4_counts 99 = .ok (.iastore, 1) := dk_79 (dk_at dksX4_counts_4 5 rfl rfl)
theorem dX4_counts_100 : decode cX4_counts 100 = .ok (.iinc 7 1, 3) := dk_132 7 1 (dk_at dksX4_counts_4 6 rfl rfl)
theorem dX4_counts_103 : decode cX4_counts 103 = .ok (.goto (-54), 3) := dk_167 255 202 (dk_at dksX4_counts_4 9 rfl rfl)
theorem dX4_counts_106 : decode cX4_counts 106 = .ok (.return_, 1) := dk_177 (dk_at dksX4_counts_4 12 rfl rfl)
abbrev cX4_areCrowded : ByteArray := prog_2_method_12_code
def yX4_areCrowded : MethodName := ⟨RX4, "areCrowded", "(II)Z"⟩
def dkwX4_areCrowded_3 : List UInt8 := [42, 180, 0, 73, 162, 0, 7, 4, 167, 0, 4, 3, 172]
abbrev dktX4_areCrowded_3 : List UInt8 := dkwX4_areCrowded_3 ++ []
def dkwX4_areCrowded_2 : List UInt8 := [180, 0, 34, 28, 46, 158, 0, 30, 42, 180, 0, 34, 27, 46, 42, 180, 0, 34, 28, 46, 100, 184, 0, 131]
abbrev dktX4_areCrowded_2 : List UInt8 := dkwX4_areCrowded_2 ++ dktX4_areCrowded_3
def dkwX4_areCrowded_1 : List UInt8 := [27, 46, 42, 180, 0, 43, 28, 46, 126, 153, 0, 48, 42, 180, 0, 34, 27, 46, 158, 0, 39, 42]
abbrev dktX4_areCrowded_1 : List UInt8 := dkwX4_areCrowded_1 ++ dktX4_areCrowded_2
def dkwX4_areCrowded_0 : List UInt8 := [27, 28, 159, 0, 79, 42, 180, 0, 28, 27, 46, 42, 180, 0, 28, 28, 46, 160, 0, 64, 42, 180, 0, 43]
abbrev dktX4_areCrowded_0 : List UInt8 := dkwX4_areCrowded_0 ++ dktX4_areCrowded_1
theorem dksX4_areCrowded_0 : cX4_areCrowded.data.toList.drop 0 = dktX4_areCrowded_0 := by decide +kernel
theorem dksX4_areCrowded_1 : cX4_areCrowded.data.toList.drop 24 = dktX4_areCrowded_1 := dk_seg dksX4_areCrowded_0 24 rfl rfl
theorem dksX4_areCrowded_2 : cX4_areCrowded.data.toList.drop 46 = dktX4_areCrowded_2 := dk_seg dksX4_areCrowded_1 22 rfl rfl
theorem dksX4_areCrowded_3 : cX4_areCrowded.data.toList.drop 70 = dktX4_areCrowded_3 := dk_seg dksX4_areCrowded_2 24 rfl rfl
theorem dX4_areCrowded_0 : decode cX4_areCrowded 0 = .ok (.iload_n 1, 1) := dk_27 (dk_at dksX4_areCrowded_0 0 rfl rfl)
theorem dX4_areCrowded_1 : decode cX4_areCrowded 1 = .ok (.iload_n 2, 1) := dk_28 (dk_at dksX4_areCrowded_0 1 rfl rfl)
theorem dX4_areCrowded_2 : decode cX4_areCrowded 2 = .ok (.if_icmp .eq 79, 3) := dk_159 0 79 (dk_at dksX4_areCrowded_0 2 rfl rfl)
theorem dX4_areCrowded_5 : decode cX4_areCrowded 5 = .ok (.aload_n 0, 1) := dk_42 (dk_at dksX4_areCrowded_0 5 rfl rfl)
theorem dX4_areCrowded_6 : decode cX4_areCrowded 6 = .ok (.getfield 28, 3) := dk_180 0 28 (dk_at dksX4_areCrowded_0 6 rfl rfl)
theorem dX4_areCrowded_9 : decode cX4_areCrowded 9 = .ok (.iload_n 1, 1) := dk_27 (dk_at dksX4_areCrowded_0 9 rfl rfl)
theorem dX4_areCrowded_10 : decode cX4_areCrowded 10 = .ok (.iaload, 1) := dk_46 (dk_at dksX4_areCrowded_0 10 rfl rfl)
theorem dX4_areCrowded_11 : decode cX4_areCrowded 11 = .ok (.aload_n 0, 1) := dk_42 (dk_at dksX4_areCrowded_0 11 rfl rfl)
theorem dX4_areCrowded_12 : decode cX4_areCrowded 12 = .ok (.getfield 28, 3) := dk_180 0 28 (dk_at dksX4_areCrowded_0 12 rfl rfl)
theorem dX4_areCrowded_15 : decode cX4_areCrowded 15 = .ok (.iload_n 2, 1) := dk_28 (dk_at dksX4_areCrowded_0 15 rfl rfl)
theorem dX4_areCrowded_16 : decode cX4_areCrowded 16 = .ok (.iaload, 1) := dk_46 (dk_at dksX4_areCrowded_0 16 rfl rfl)
theorem dX4_areCrowded_17 : decode cX4_areCrowded 17 = .ok (.if_icmp .ne 64, 3) := dk_160 0 64 (dk_at dksX4_areCrowded_0 17 rfl rfl)
theorem dX4_areCrowded_20 : decode cX4_areCrowded 20 = .ok (.aload_n 0, 1) := dk_42 (dk_at dksX4_areCrowded_0 20 rfl rfl)
theorem dX4_areCrowded_21 : decode cX4_areCrowded 21 = .ok (.getfield 43, 3) := dk_180 0 43 (dk_at dksX4_areCrowded_0 21 rfl rfl)
theorem dX4_areCrowded_24 : decode cX4_areCrowded 24 = .ok (.iload_n 1, 1) := dk_27 (dk_at dksX4_areCrowded_1 0 rfl rfl)
theorem dX4_areCrowded_25 : decode cX4_areCrowded 25 = .ok (.iaload, 1) := dk_46 (dk_at dksX4_areCrowded_1 1 rfl rfl)
theorem dX4_areCrowded_26 : decode cX4_areCrowded 26 = .ok (.aload_n 0, 1) := dk_42 (dk_at dksX4_areCrowded_1 2 rfl rfl)
theorem dX4_areCrowded_27 : decode cX4_areCrowded 27 = .ok (.getfield 43, 3) := dk_180 0 43 (dk_at dksX4_areCrowded_1 3 rfl rfl)
theorem dX4_areCrowded_30 : decode cX4_areCrowded 30 = .ok (.iload_n 2, 1) := dk_28 (dk_at dksX4_areCrowded_1 6 rfl rfl)
theorem dX4_areCrowded_31 : decode cX4_areCrowded 31 = .ok (.iaload, 1) := dk_46 (dk_at dksX4_areCrowded_1 7 rfl rfl)
theorem dX4_areCrowded_32 : decode cX4_areCrowded 32 = .ok (.iand, 1) := dk_126 (dk_at dksX4_areCrowded_1 8 rfl rfl)
theorem dX4_areCrowded_33 : decode cX4_areCrowded 33 = .ok (.ifCond .eq 48, 3) := dk_153 0 48 (dk_at dksX4_areCrowded_1 9 rfl rfl)
theorem dX4_areCrowded_36 : decode cX4_areCrowded 36 = .ok (.aload_n 0, 1) := dk_42 (dk_at dksX4_areCrowded_1 12 rfl rfl)
theorem dX4_areCrowded_37 : decode cX4_areCrowded 37 = .ok (.getfield 34, 3) := dk_180 0 34 (dk_at dksX4_areCrowded_1 13 rfl rfl)
theorem dX4_areCrowded_40 : decode cX4_areCrowded 40 = .ok (.iload_n 1, 1) := dk_27 (dk_at dksX4_areCrowded_1 16 rfl rfl)
theorem dX4_areCrowded_41 : decode cX4_areCrowded 41 = .ok (.iaload, 1) := dk_46 (dk_at dksX4_areCrowded_1 17 rfl rfl)
theorem dX4_areCrowded_42 : decode cX4_areCrowded 42 = .ok (.ifCond .le 39, 3) := dk_158 0 39 (dk_at dksX4_areCrowded_1 18 rfl rfl)
theorem dX4_areCrowded_45 : decode cX4_areCrowded 45 = .ok (.aload_n 0, 1) := dk_42 (dk_at dksX4_areCrowded_1 21 rfl rfl)
theorem dX4_areCrowded_46 : decode cX4_areCrowded 46 = .ok (.getfield 34, 3) := dk_180 0 34 (dk_at dksX4_areCrowded_2 0 rfl rfl)
theorem dX4_areCrowded_49 : decode cX4_areCrowded 49 = .ok (.iload_n 2, 1) := dk_28 (dk_at dksX4_areCrowded_2 3 rfl rfl)
theorem dX4_areCrowded_50 : decode cX4_areCrowded 50 = .ok (.iaload, 1) := dk_46 (dk_at dksX4_areCrowded_2 4 rfl rfl)
theorem dX4_areCrowded_51 : decode cX4_areCrowded 51 = .ok (.ifCond .le 30, 3) := dk_158 0 30 (dk_at dksX4_areCrowded_2 5 rfl rfl)
theorem dX4_areCrowded_54 : decode cX4_areCrowded 54 = .ok (.aload_n 0, 1) := dk_42 (dk_at dksX4_areCrowded_2 8 rfl rfl)
theorem dX4_areCrowded_55 : decode cX4_areCrowded 55 = .ok (.getfield 34, 3) := dk_180 0 34 (dk_at dksX4_areCrowded_2 9 rfl rfl)
theorem dX4_areCrowded_58 : decode cX4_areCrowded 58 = .ok (.iload_n 1, 1) := dk_27 (dk_at dksX4_areCrowded_2 12 rfl rfl)
theorem dX4_areCrowded_59 : decode cX4_areCrowded 59 = .ok (.iaload, 1) := dk_46 (dk_at dksX4_areCrowded_2 13 rfl rfl)
theorem dX4_areCrowded_60 : decode cX4_areCrowded 60 = .ok (.aload_n 0, 1) := dk_42 (dk_at dksX4_areCrowded_2 14 rfl rfl)
theorem dX4_areCrowded_61 : decode cX4_areCrowded 61 = .ok (.getfield 34, 3) := dk_180 0 34 (dk_at dksX4_areCrowded_2 15 rfl rfl)
theorem dX4_areCrowded_64 : decode cX4_areCrowded 64 = .ok (.iload_n 2, 1) := dk_28 (dk_at dksX4_areCrowded_2 18 rfl rfl)
theorem dX4_areCrowded_65 : decode cX4_areCrowded 65 = .ok (.iaload, 1) := dk_46 (dk_at dksX4_areCrowded_2 19 rfl rfl)
theorem dX4_areCrowded_66 : decode cX4_areCrowded 66 = .ok (.isub, 1) := dk_100 (dk_at dksX4_areCrowded_2 20 rfl rfl)
theorem dX4_areCrowded_67 : decode cX4_areCrowded 67 = .ok (.invokestatic 131, 3) := dk_184 0 131 (dk_at dksX4_areCrowded_2 21 rfl rfl)
theorem dX4_areCrowded_70 : decode cX4_areCrowded 70 = .ok (.aload_n 0, 1) := dk_42 (dk_at dksX4_areCrowded_3 0 rfl rfl)
theorem dX4_areCrowded_71 : decode cX4_areCrowded 71 = .ok (.getfield 73, 3) := dk_180 0 73 (dk_at dksX4_areCrowded_3 1 rfl rfl)
theorem dX4_areCrowded_74 : decode cX4_areCrowded 74 = .ok (.if_icmp .ge 7, 3) := dk_162 0 7 (dk_at dksX4_areCrowded_3 4 rfl rfl)
theorem dX4_areCrowded_77 : decode cX4_areCrowded 77 = .ok (.iconst 1, 1) := dk_4 (dk_at dksX4_areCrowded_3 7 rfl rfl)
theorem dX4_areCrowded_78 : decode cX4_areCrowded 78 = .ok (.goto 4, 3) := dk_167 0 4 (dk_at dksX4_areCrowded_3 8 rfl rfl)
theorem dX4_areCrowded_81 : decode cX4_areCrowded 81 = .ok (.iconst 0, 1) := dk_3 (dk_at dksX4_areCrowded_3 11 rfl rfl)
theorem dX4_areCrowded_82 : decode cX4_areCrowded 82 = .ok (.ireturn, 1) := dk_172 (dk_at dksX4_areCrowded_3 12 rfl rfl)
abbrev cX4_trouble : ByteArray := prog_2_method_13_code
def yX4_trouble : MethodName := ⟨RX4, "trouble", "()I"⟩
def dkwX4_trouble_0 : List UInt8 := [42, 180, 0, 101, 42, 180, 0, 114, 96, 172]
abbrev dktX4_trouble_0 : List UInt8 := dkwX4_trouble_0 ++ []
theorem dksX4_trouble_0 : cX4_trouble.data.toList.drop 0 = dktX4_trouble_0 := by decide +kernel
theorem dX4_trouble_0 : decode cX4_trouble 0 = .ok (.aload_n 0, 1) := dk_42 (dk_at dksX4_trouble_0 0 rfl rfl)
theorem dX4_trouble_1 : decode cX4_trouble 1 = .ok (.getfield 101, 3) := dk_180 0 101 (dk_at dksX4_trouble_0 1 rfl rfl)
theorem dX4_trouble_4 : decode cX4_trouble 4 = .ok (.aload_n 0, 1) := dk_42 (dk_at dksX4_trouble_0 4 rfl rfl)
theorem dX4_trouble_5 : decode cX4_trouble 5 = .ok (.getfield 114, 3) := dk_180 0 114 (dk_at dksX4_trouble_0 5 rfl rfl)
theorem dX4_trouble_8 : decode cX4_trouble 8 = .ok (.iadd, 1) := dk_96 (dk_at dksX4_trouble_0 8 rfl rfl)
theorem dX4_trouble_9 : decode cX4_trouble 9 = .ok (.ireturn, 1) := dk_172 (dk_at dksX4_trouble_0 9 rfl rfl)
theorem q116 : (Jvm.Cond.initialized "QuietChannels$Air") ∈ lw_all := lw_g (lw_at lw_m1 4 rfl) rfl
theorem q154 : (Jvm.Cond.fieldLinkNest "QuietChannels$Air" (78 : Nat) "QuietChannels$Told" "users" "[LQuietChannels$User;" "QuietChannels") ∈ lw_tbl := lw_at lw_m1 42 rfl
theorem q162 : (Jvm.Cond.fieldLinkNest "QuietChannels$Air" (145 : Nat) "QuietChannels$Told" "loss" "[I" "QuietChannels") ∈ lw_tbl := lw_at lw_m1 50 rfl
theorem q165 : (Jvm.Cond.fieldLinkNest "QuietChannels$Air" (185 : Nat) "QuietChannels$Told" "links" "[I" "QuietChannels") ∈ lw_tbl := lw_at lw_m1 53 rfl
theorem q171 : (Jvm.Cond.fieldLinkNest "QuietChannels$Air" (56 : Nat) "QuietChannels$Told" "many" "I" "QuietChannels") ∈ lw_tbl := lw_at lw_m1 59 rfl
theorem q178 : (Jvm.Cond.fieldLinkNest "QuietChannels$Air" (62 : Nat) "QuietChannels$Told" "band" "I" "QuietChannels") ∈ lw_tbl := lw_at lw_m1 66 rfl
theorem q181 : (Jvm.Cond.fieldLinkNest "QuietChannels$Air" (66 : Nat) "QuietChannels$Told" "guard" "I" "QuietChannels") ∈ lw_tbl := lw_at lw_m1 69 rfl
theorem q185 : (Jvm.Cond.fieldLinkNest "QuietChannels$Air" (70 : Nat) "QuietChannels$Told" "space" "I" "QuietChannels") ∈ lw_tbl := lw_at lw_m1 73 rfl
theorem q189 : (Jvm.Cond.fieldLinkNest "QuietChannels$Air" (74 : Nat) "QuietChannels$Told" "orders" "I" "QuietChannels") ∈ lw_tbl := lw_at lw_m1 77 rfl
theorem q234 : (Jvm.Cond.fieldLinkNest "QuietChannels$Air" (89 : Nat) "QuietChannels$Plan" "channel" "[I" "QuietChannels") ∈ lw_tbl := lw_at lw_m1 122 rfl
theorem q237 : (Jvm.Cond.fieldLinkNest "QuietChannels$Air" (86 : Nat) "QuietChannels$Plan" "power" "[I" "QuietChannels") ∈ lw_tbl := lw_at lw_m1 125 rfl
theorem q240 : (Jvm.Cond.fieldLinkNest "QuietChannels$Air" (90 : Nat) "QuietChannels$Plan" "slots" "[I" "QuietChannels") ∈ lw_tbl := lw_at lw_m1 128 rfl
theorem q256 : (Jvm.Cond.instantiable "QuietChannels$Air" (29 : Nat)) ∈ lw_all := lw_g (lw_at lw_m1 144 rfl) rfl
theorem q258 : (Jvm.Cond.instanceMethod ({ cls := "QuietChannels$Air", name := "<init>", desc := "(LQuietChannels;I)V" } : Jvm.MethodName)) ∈ lw_all := lw_g (lw_at lw_m1 146 rfl) rfl
theorem q259 : (Jvm.Cond.code ({ cls := "QuietChannels$Air", name := "<init>", desc := "(LQuietChannels;I)V" } : Jvm.MethodName) prog_2_method_1_code (3 : Nat) (Option.none : Option Jvm.ClassFile.FieldType)) ∈ lw_all := lw_g (lw_at lw_m1 147 rfl) rfl
theorem q260 : (Jvm.Cond.classLink "QuietChannels$Air" (3 : Nat) "[[I") ∈ lw_all := lw_g (lw_at lw_m1 148 rfl) rfl
theorem q262 : (Jvm.Cond.methodLink "QuietChannels$Air" (5 : Nat) ({ cls := "QuietChannels$Air", name := "<init>", desc := "(LQuietChannels;I[[I)V" } : Jvm.MethodName)) ∈ lw_all := lw_g (lw_at lw_m1 150 rfl) rfl
theorem q263 : (Jvm.Cond.instanceMethod ({ cls := "QuietChannels$Air", name := "<init>", desc := "(LQuietChannels;I[[I)V" } : Jvm.MethodName)) ∈ lw_all := lw_g (lw_at lw_m1 151 rfl) rfl
theorem q264 : (Jvm.Cond.code ({ cls := "QuietChannels$Air", name := "<init>", desc := "(LQuietChannels;I[[I)V" } : Jvm.MethodName) prog_2_method_2_code (4 : Nat) (Option.none : Option Jvm.ClassFile.FieldType)) ∈ lw_all := lw_g (lw_at lw_m1 152 rfl) rfl
theorem q265 : (Jvm.Cond.methodLink "QuietChannels$Air" (15 : Nat) ({ cls := "java/lang/Object", name := "<init>", desc := "()V" } : Jvm.MethodName)) ∈ lw_all := lw_g (lw_at lw_m1 153 rfl) rfl
theorem q266 : (Jvm.Cond.fieldLink "QuietChannels$Air" (28 : Nat) "QuietChannels$Air" "site" "[I") ∈ lw_all := lw_g (lw_at lw_m1 154 rfl) rfl
theorem q268 : (Jvm.Cond.fieldLink "QuietChannels$Air" (31 : Nat) "QuietChannels$Air" "power" "[I") ∈ lw_all := lw_g (lw_at lw_m1 156 rfl) rfl
theorem q270 : (Jvm.Cond.fieldLink "QuietChannels$Air" (34 : Nat) "QuietChannels$Air" "channel" "[I") ∈ lw_all := lw_g (lw_at lw_m1 158 rfl) rfl
theorem q272 : (Jvm.Cond.fieldLink "QuietChannels$Air" (37 : Nat) "QuietChannels$Air" "hit" "[I") ∈ lw_all := lw_g (lw_at lw_m1 160 rfl) rfl
theorem q274 : (Jvm.Cond.fieldLink "QuietChannels$Air" (40 : Nat) "QuietChannels$Air" "made" "[I") ∈ lw_all := lw_g (lw_at lw_m1 162 rfl) rfl
theorem q276 : (Jvm.Cond.fieldLink "QuietChannels$Air" (43 : Nat) "QuietChannels$Air" "slots" "[I") ∈ lw_all := lw_g (lw_at lw_m1 164 rfl) rfl
theorem q278 : (Jvm.Cond.fieldLink "QuietChannels$Air" (46 : Nat) "QuietChannels$Air" "when" "[I") ∈ lw_all := lw_g (lw_at lw_m1 166 rfl) rfl
theorem q280 : (Jvm.Cond.fieldLink "QuietChannels$Air" (49 : Nat) "QuietChannels$Air" "near" "[I") ∈ lw_all := lw_g (lw_at lw_m1 168 rfl) rfl
theorem q282 : (Jvm.Cond.fieldLink "QuietChannels$Air" (20 : Nat) "QuietChannels$Air" "sorts" "[I") ∈ lw_all := lw_g (lw_at lw_m1 170 rfl) rfl
theorem q284 : (Jvm.Cond.fieldLink "QuietChannels$Air" (61 : Nat) "QuietChannels$Air" "many" "I") ∈ lw_all := lw_g (lw_at lw_m1 172 rfl) rfl
theorem q286 : (Jvm.Cond.fieldLink "QuietChannels$Air" (65 : Nat) "QuietChannels$Air" "band" "I") ∈ lw_all := lw_g (lw_at lw_m1 174 rfl) rfl
theorem q288 : (Jvm.Cond.fieldLink "QuietChannels$Air" (69 : Nat) "QuietChannels$Air" "guard" "I") ∈ lw_all := lw_g (lw_at lw_m1 176 rfl) rfl
theorem q290 : (Jvm.Cond.fieldLink "QuietChannels$Air" (73 : Nat) "QuietChannels$Air" "space" "I") ∈ lw_all := lw_g (lw_at lw_m1 178 rfl) rfl
theorem q292 : (Jvm.Cond.fieldLink "QuietChannels$Air" (77 : Nat) "QuietChannels$Air" "orders" "I") ∈ lw_all := lw_g (lw_at lw_m1 180 rfl) rfl
theorem q294 : (Jvm.Cond.fieldLink "QuietChannels$Air" (95 : Nat) "QuietChannels$Air" "products" "I") ∈ lw_all := lw_g (lw_at lw_m1 182 rfl) rfl
theorem q296 : (Jvm.Cond.fieldLink "QuietChannels$Air" (98 : Nat) "QuietChannels$Air" "heard" "I") ∈ lw_all := lw_g (lw_at lw_m1 184 rfl) rfl
theorem q298 : (Jvm.Cond.fieldLink "QuietChannels$Air" (101 : Nat) "QuietChannels$Air" "hits" "I") ∈ lw_all := lw_g (lw_at lw_m1 186 rfl) rfl
theorem q300 : (Jvm.Cond.fieldLink "QuietChannels$Air" (114 : Nat) "QuietChannels$Air" "crowds" "I") ∈ lw_all := lw_g (lw_at lw_m1 188 rfl) rfl
theorem q302 : (Jvm.Cond.fieldLink "QuietChannels$Air" (24 : Nat) "QuietChannels$Air" "sought" "I") ∈ lw_all := lw_g (lw_at lw_m1 190 rfl) rfl
theorem q303 : (Jvm.Cond.fieldLink "QuietChannels$Air" (164 : Nat) "QuietChannels$Air" "sort" "I") ∈ lw_all := lw_g (lw_at lw_m1 191 rfl) rfl
theorem q305 : (Jvm.Cond.fieldLink "QuietChannels$Air" (167 : Nat) "QuietChannels$Air" "a" "I") ∈ lw_all := lw_g (lw_at lw_m1 193 rfl) rfl
theorem q307 : (Jvm.Cond.fieldLink "QuietChannels$Air" (170 : Nat) "QuietChannels$Air" "b" "I") ∈ lw_all := lw_g (lw_at lw_m1 195 rfl) rfl
theorem q309 : (Jvm.Cond.fieldLink "QuietChannels$Air" (173 : Nat) "QuietChannels$Air" "c" "I") ∈ lw_all := lw_g (lw_at lw_m1 197 rfl) rfl
theorem q311 : (Jvm.Cond.fieldLink "QuietChannels$Air" (176 : Nat) "QuietChannels$Air" "at" "I") ∈ lw_all := lw_g (lw_at lw_m1 199 rfl) rfl
theorem q313 : (Jvm.Cond.fieldLink "QuietChannels$Air" (179 : Nat) "QuietChannels$Air" "level" "I") ∈ lw_all := lw_g (lw_at lw_m1 201 rfl) rfl
theorem q315 : (Jvm.Cond.fieldLink "QuietChannels$Air" (182 : Nat) "QuietChannels$Air" "whom" "I") ∈ lw_all := lw_g (lw_at lw_m1 203 rfl) rfl
theorem q317 : (Jvm.Cond.fieldLink "QuietChannels$Air" (104 : Nat) "QuietChannels$Air" "loudest" "I") ∈ lw_all := lw_g (lw_at lw_m1 205 rfl) rfl
theorem q319 : (Jvm.Cond.fieldLink "QuietChannels$Air" (161 : Nat) "QuietChannels$Air" "loud" "I") ∈ lw_all := lw_g (lw_at lw_m1 207 rfl) rfl
theorem q320 : (Jvm.Cond.fieldLink "QuietChannels$Air" (11 : Nat) "QuietChannels$Air" "this$0" "LQuietChannels;") ∈ lw_all := lw_g (lw_at lw_m1 208 rfl) rfl
theorem q321 : (Jvm.Cond.laysFinal "QuietChannels$Air" "QuietChannels$Air" "site" "[I") ∈ lw_all := lw_g (lw_at lw_m1 209 rfl) rfl
theorem q322 : (Jvm.Cond.soleField "QuietChannels$Air" "site") ∈ lw_all := lw_g (lw_at lw_m1 210 rfl) rfl
theorem q323 : (Jvm.Cond.laysFinal "QuietChannels$Air" "QuietChannels$Air" "power" "[I") ∈ lw_all := lw_g (lw_at lw_m1 211 rfl) rfl
theorem q324 : (Jvm.Cond.soleField "QuietChannels$Air" "power") ∈ lw_all := lw_g (lw_at lw_m1 212 rfl) rfl
theorem q325 : (Jvm.Cond.laysFinal "QuietChannels$Air" "QuietChannels$Air" "channel" "[I") ∈ lw_all := lw_g (lw_at lw_m1 213 rfl) rfl
theorem q326 : (Jvm.Cond.soleField "QuietChannels$Air" "channel") ∈ lw_all := lw_g (lw_at lw_m1 214 rfl) rfl
theorem q327 : (Jvm.Cond.laysFinal "QuietChannels$Air" "QuietChannels$Air" "hit" "[I") ∈ lw_all := lw_g (lw_at lw_m1 215 rfl) rfl
theorem q328 : (Jvm.Cond.soleField "QuietChannels$Air" "hit") ∈ lw_all := lw_g (lw_at lw_m1 216 rfl) rfl
theorem q329 : (Jvm.Cond.laysFinal "QuietChannels$Air" "QuietChannels$Air" "made" "[I") ∈ lw_all := lw_g (lw_at lw_m1 217 rfl) rfl
theorem q330 : (Jvm.Cond.soleField "QuietChannels$Air" "made") ∈ lw_all := lw_g (lw_at lw_m1 218 rfl) rfl
theorem q331 : (Jvm.Cond.laysFinal "QuietChannels$Air" "QuietChannels$Air" "slots" "[I") ∈ lw_all := lw_g (lw_at lw_m1 219 rfl) rfl
theorem q332 : (Jvm.Cond.soleField "QuietChannels$Air" "slots") ∈ lw_all := lw_g (lw_at lw_m1 220 rfl) rfl
theorem q333 : (Jvm.Cond.laysFinal "QuietChannels$Air" "QuietChannels$Air" "when" "[I") ∈ lw_all := lw_g (lw_at lw_m1 221 rfl) rfl
theorem q334 : (Jvm.Cond.soleField "QuietChannels$Air" "when") ∈ lw_all := lw_g (lw_at lw_m1 222 rfl) rfl
theorem q335 : (Jvm.Cond.laysFinal "QuietChannels$Air" "QuietChannels$Air" "near" "[I") ∈ lw_all := lw_g (lw_at lw_m1 223 rfl) rfl
theorem q336 : (Jvm.Cond.soleField "QuietChannels$Air" "near") ∈ lw_all := lw_g (lw_at lw_m1 224 rfl) rfl
theorem q337 : (Jvm.Cond.laysFinal "QuietChannels$Air" "QuietChannels$Air" "sorts" "[I") ∈ lw_all := lw_g (lw_at lw_m1 225 rfl) rfl
theorem q338 : (Jvm.Cond.soleField "QuietChannels$Air" "sorts") ∈ lw_all := lw_g (lw_at lw_m1 226 rfl) rfl
theorem q339 : (Jvm.Cond.lays "QuietChannels$Air" "QuietChannels$Air" "many" "I") ∈ lw_all := lw_g (lw_at lw_m1 227 rfl) rfl
theorem q340 : (Jvm.Cond.soleField "QuietChannels$Air" "many") ∈ lw_all := lw_g (lw_at lw_m1 228 rfl) rfl
theorem q341 : (Jvm.Cond.lays "QuietChannels$Air" "QuietChannels$Air" "band" "I") ∈ lw_all := lw_g (lw_at lw_m1 229 rfl) rfl
theorem q342 : (Jvm.Cond.soleField "QuietChannels$Air" "band") ∈ lw_all := lw_g (lw_at lw_m1 230 rfl) rfl
theorem q343 : (Jvm.Cond.lays "QuietChannels$Air" "QuietChannels$Air" "guard" "I") ∈ lw_all := lw_g (lw_at lw_m1 231 rfl) rfl
theorem q344 : (Jvm.Cond.soleField "QuietChannels$Air" "guard") ∈ lw_all := lw_g (lw_at lw_m1 232 rfl) rfl
theorem q345 : (Jvm.Cond.lays "QuietChannels$Air" "QuietChannels$Air" "space" "I") ∈ lw_all := lw_g (lw_at lw_m1 233 rfl) rfl
theorem q346 : (Jvm.Cond.soleField "QuietChannels$Air" "space") ∈ lw_all := lw_g (lw_at lw_m1 234 rfl) rfl
theorem q347 : (Jvm.Cond.lays "QuietChannels$Air" "QuietChannels$Air" "orders" "I") ∈ lw_all := lw_g (lw_at lw_m1 235 rfl) rfl
theorem q348 : (Jvm.Cond.soleField "QuietChannels$Air" "orders") ∈ lw_all := lw_g (lw_at lw_m1 236 rfl) rfl
theorem q349 : (Jvm.Cond.lays "QuietChannels$Air" "QuietChannels$Air" "products" "I") ∈ lw_all := lw_g (lw_at lw_m1 237 rfl) rfl
theorem q350 : (Jvm.Cond.soleField "QuietChannels$Air" "products") ∈ lw_all := lw_g (lw_at lw_m1 238 rfl) rfl
theorem q351 : (Jvm.Cond.lays "QuietChannels$Air" "QuietChannels$Air" "heard" "I") ∈ lw_all := lw_g (lw_at lw_m1 239 rfl) rfl
theorem q352 : (Jvm.Cond.soleField "QuietChannels$Air" "heard") ∈ lw_all := lw_g (lw_at lw_m2 0 rfl) rfl
theorem q353 : (Jvm.Cond.lays "QuietChannels$Air" "QuietChannels$Air" "hits" "I") ∈ lw_all := lw_g (lw_at lw_m2 1 rfl) rfl
theorem q354 : (Jvm.Cond.soleField "QuietChannels$Air" "hits") ∈ lw_all := lw_g (lw_at lw_m2 2 rfl) rfl
theorem q355 : (Jvm.Cond.lays "QuietChannels$Air" "QuietChannels$Air" "crowds" "I") ∈ lw_all := lw_g (lw_at lw_m2 3 rfl) rfl
theorem q356 : (Jvm.Cond.soleField "QuietChannels$Air" "crowds") ∈ lw_all := lw_g (lw_at lw_m2 4 rfl) rfl
theorem q357 : (Jvm.Cond.lays "QuietChannels$Air" "QuietChannels$Air" "sought" "I") ∈ lw_all := lw_g (lw_at lw_m2 5 rfl) rfl
theorem q358 : (Jvm.Cond.soleField "QuietChannels$Air" "sought") ∈ lw_all := lw_g (lw_at lw_m2 6 rfl) rfl
theorem q359 : (Jvm.Cond.lays "QuietChannels$Air" "QuietChannels$Air" "sort" "I") ∈ lw_all := lw_g (lw_at lw_m2 7 rfl) rfl
theorem q360 : (Jvm.Cond.soleField "QuietChannels$Air" "sort") ∈ lw_all := lw_g (lw_at lw_m2 8 rfl) rfl
theorem q361 : (Jvm.Cond.lays "QuietChannels$Air" "QuietChannels$Air" "a" "I") ∈ lw_all := lw_g (lw_at lw_m2 9 rfl) rfl
theorem q362 : (Jvm.Cond.soleField "QuietChannels$Air" "a") ∈ lw_all := lw_g (lw_at lw_m2 10 rfl) rfl
theorem q363 : (Jvm.Cond.lays "QuietChannels$Air" "QuietChannels$Air" "b" "I") ∈ lw_all := lw_g (lw_at lw_m2 11 rfl) rfl
theorem q364 : (Jvm.Cond.soleField "QuietChannels$Air" "b") ∈ lw_all := lw_g (lw_at lw_m2 12 rfl) rfl
theorem q365 : (Jvm.Cond.lays "QuietChannels$Air" "QuietChannels$Air" "c" "I") ∈ lw_all := lw_g (lw_at lw_m2 13 rfl) rfl
theorem q366 : (Jvm.Cond.soleField "QuietChannels$Air" "c") ∈ lw_all := lw_g (lw_at lw_m2 14 rfl) rfl
theorem q367 : (Jvm.Cond.lays "QuietChannels$Air" "QuietChannels$Air" "at" "I") ∈ lw_all := lw_g (lw_at lw_m2 15 rfl) rfl
theorem q368 : (Jvm.Cond.soleField "QuietChannels$Air" "at") ∈ lw_all := lw_g (lw_at lw_m2 16 rfl) rfl
theorem q369 : (Jvm.Cond.lays "QuietChannels$Air" "QuietChannels$Air" "level" "I") ∈ lw_all := lw_g (lw_at lw_m2 17 rfl) rfl
theorem q370 : (Jvm.Cond.soleField "QuietChannels$Air" "level") ∈ lw_all := lw_g (lw_at lw_m2 18 rfl) rfl
theorem q371 : (Jvm.Cond.lays "QuietChannels$Air" "QuietChannels$Air" "whom" "I") ∈ lw_all := lw_g (lw_at lw_m2 19 rfl) rfl
theorem q372 : (Jvm.Cond.soleField "QuietChannels$Air" "whom") ∈ lw_all := lw_g (lw_at lw_m2 20 rfl) rfl
theorem q373 : (Jvm.Cond.lays "QuietChannels$Air" "QuietChannels$Air" "loudest" "I") ∈ lw_all := lw_g (lw_at lw_m2 21 rfl) rfl
theorem q374 : (Jvm.Cond.soleField "QuietChannels$Air" "loudest") ∈ lw_all := lw_g (lw_at lw_m2 22 rfl) rfl
theorem q375 : (Jvm.Cond.lays "QuietChannels$Air" "QuietChannels$Air" "loud" "I") ∈ lw_all := lw_g (lw_at lw_m2 23 rfl) rfl
theorem q376 : (Jvm.Cond.soleField "QuietChannels$Air" "loud") ∈ lw_all := lw_g (lw_at lw_m2 24 rfl) rfl
theorem q377 : (Jvm.Cond.laysFinal "QuietChannels$Air" "QuietChannels$Air" "this$0" "LQuietChannels;") ∈ lw_all := lw_g (lw_at lw_m2 25 rfl) rfl
theorem q378 : (Jvm.Cond.soleField "QuietChannels$Air" "this$0") ∈ lw_all := lw_g (lw_at lw_m2 26 rfl) rfl
theorem q379 : (Jvm.Cond.superclass "QuietChannels$Air" "java/lang/Object") ∈ lw_all := lw_g (lw_at lw_m2 27 rfl) rfl
theorem q395 : (Jvm.Cond.fieldLinkNest "QuietChannels$Air" (52 : Nat) "QuietChannels" "told" "LQuietChannels$Told;" "QuietChannels") ∈ lw_tbl := lw_at lw_m2 43 rfl
theorem q719 : (Jvm.Cond.fieldLinkNest "QuietChannels$Air" (82 : Nat) "QuietChannels$User" "site" "I" "QuietChannels") ∈ lw_tbl := lw_at lw_m3 127 rfl
theorem q880 : (Jvm.Cond.instanceMethod ({ cls := "QuietChannels$Air", name := "of", desc := "(LQuietChannels$Plan;)LQuietChannels$Air;" } : Jvm.MethodName)) ∈ lw_all := lw_g (lw_at lw_m4 48 rfl) rfl
theorem q881 : (Jvm.Cond.selects "QuietChannels$Air" ({ cls := "QuietChannels$Air", name := "of", desc := "(LQuietChannels$Plan;)LQuietChannels$Air;" } : Jvm.MethodName) ({ cls := "QuietChannels$Air", name := "of", desc := "(LQuietChannels$Plan;)LQuietChannels$Air;" } : Jvm.MethodName)) ∈ lw_all := lw_g (lw_at lw_m4 49 rfl) rfl
theorem q882 : (Jvm.Cond.code ({ cls := "QuietChannels$Air", name := "of", desc := "(LQuietChannels$Plan;)LQuietChannels$Air;" } : Jvm.MethodName) prog_2_method_3_code (3 : Nat) (Option.some (Jvm.ClassFile.FieldType.object "QuietChannels$Air"))) ∈ lw_all := lw_g (lw_at lw_m4 50 rfl) rfl
theorem q884 : (Jvm.Cond.instanceMethod ({ cls := "QuietChannels$Air", name := "counted", desc := "()LQuietChannels$Air;" } : Jvm.MethodName)) ∈ lw_all := lw_g (lw_at lw_m4 52 rfl) rfl
theorem q885 : (Jvm.Cond.selects "QuietChannels$Air" ({ cls := "QuietChannels$Air", name := "counted", desc := "()LQuietChannels$Air;" } : Jvm.MethodName) ({ cls := "QuietChannels$Air", name := "counted", desc := "()LQuietChannels$Air;" } : Jvm.MethodName)) ∈ lw_all := lw_g (lw_at lw_m4 53 rfl) rfl
theorem q886 : (Jvm.Cond.code ({ cls := "QuietChannels$Air", name := "counted", desc := "()LQuietChannels$Air;" } : Jvm.MethodName) prog_2_method_4_code (1 : Nat) (Option.some (Jvm.ClassFile.FieldType.object "QuietChannels$Air"))) ∈ lw_all := lw_g (lw_at lw_m4 54 rfl) rfl
theorem q887 : (Jvm.Cond.methodLink "QuietChannels$Air" (91 : Nat) ({ cls := "QuietChannels$Air", name := "counted", desc := "(I)LQuietChannels$Air;" } : Jvm.MethodName)) ∈ lw_all := lw_g (lw_at lw_m4 55 rfl) rfl
theorem q888 : (Jvm.Cond.instanceMethod ({ cls := "QuietChannels$Air", name := "counted", desc := "(I)LQuietChannels$Air;" } : Jvm.MethodName)) ∈ lw_all := lw_g (lw_at lw_m4 56 rfl) rfl
theorem q889 : (Jvm.Cond.selects "QuietChannels$Air" ({ cls := "QuietChannels$Air", name := "counted", desc := "(I)LQuietChannels$Air;" } : Jvm.MethodName) ({ cls := "QuietChannels$Air", name := "counted", desc := "(I)LQuietChannels$Air;" } : Jvm.MethodName)) ∈ lw_all := lw_g (lw_at lw_m4 57 rfl) rfl
theorem q890 : (Jvm.Cond.code ({ cls := "QuietChannels$Air", name := "counted", desc := "(I)LQuietChannels$Air;" } : Jvm.MethodName) prog_2_method_5_code (4 : Nat) (Option.some (Jvm.ClassFile.FieldType.object "QuietChannels$Air"))) ∈ lw_all := lw_g (lw_at lw_m4 58 rfl) rfl
theorem q891 : (Jvm.Cond.fieldLinkNest "QuietChannels$Air" (107 : Nat) "QuietChannels" "ORDER" "[I" "QuietChannels") ∈ lw_tbl := lw_at lw_m4 59 rfl
theorem q893 : (Jvm.Cond.methodLink "QuietChannels$Air" (110 : Nat) ({ cls := "QuietChannels$Air", name := "goes", desc := "(II)V" } : Jvm.MethodName)) ∈ lw_all := lw_g (lw_at lw_m4 61 rfl) rfl
theorem q894 : (Jvm.Cond.privateMethod ({ cls := "QuietChannels$Air", name := "goes", desc := "(II)V" } : Jvm.MethodName)) ∈ lw_tbl := lw_at lw_m4 62 rfl
theorem q895 : (Jvm.Cond.instanceMethod ({ cls := "QuietChannels$Air", name := "goes", desc := "(II)V" } : Jvm.MethodName)) ∈ lw_all := lw_g (lw_at lw_m4 63 rfl) rfl
theorem q896 : (Jvm.Cond.code ({ cls := "QuietChannels$Air", name := "goes", desc := "(II)V" } : Jvm.MethodName) prog_2_method_7_code (8 : Nat) (Option.none : Option Jvm.ClassFile.FieldType)) ∈ lw_all := lw_g (lw_at lw_m4 64 rfl) rfl
theorem q897 : (Jvm.Cond.fieldLinkNest "QuietChannels$Air" (121 : Nat) "QuietChannels" "TIMES" "[I" "QuietChannels") ∈ lw_tbl := lw_at lw_m4 65 rfl
theorem q899 : (Jvm.Cond.methodLink "QuietChannels$Air" (124 : Nat) ({ cls := "QuietChannels$Air", name := "isAt", desc := "(II)Z" } : Jvm.MethodName)) ∈ lw_all := lw_g (lw_at lw_m4 67 rfl) rfl
theorem q900 : (Jvm.Cond.privateMethod ({ cls := "QuietChannels$Air", name := "isAt", desc := "(II)Z" } : Jvm.MethodName)) ∈ lw_tbl := lw_at lw_m4 68 rfl
theorem q901 : (Jvm.Cond.instanceMethod ({ cls := "QuietChannels$Air", name := "isAt", desc := "(II)Z" } : Jvm.MethodName)) ∈ lw_all := lw_g (lw_at lw_m4 69 rfl) rfl
theorem q902 : (Jvm.Cond.code ({ cls := "QuietChannels$Air", name := "isAt", desc := "(II)Z" } : Jvm.MethodName) prog_2_method_6_code (3 : Nat) (Option.some Jvm.ClassFile.FieldType.boolean)) ∈ lw_all := lw_g (lw_at lw_m4 70 rfl) rfl
theorem q903 : (Jvm.Cond.methodLink "QuietChannels$Air" (127 : Nat) ({ cls := "QuietChannels$Air", name := "makes", desc := "(IIII)V" } : Jvm.MethodName)) ∈ lw_all := lw_g (lw_at lw_m4 71 rfl) rfl
theorem q904 : (Jvm.Cond.privateMethod ({ cls := "QuietChannels$Air", name := "makes", desc := "(IIII)V" } : Jvm.MethodName)) ∈ lw_tbl := lw_at lw_m4 72 rfl
theorem q905 : (Jvm.Cond.instanceMethod ({ cls := "QuietChannels$Air", name := "makes", desc := "(IIII)V" } : Jvm.MethodName)) ∈ lw_all := lw_g (lw_at lw_m4 73 rfl) rfl
theorem q906 : (Jvm.Cond.code ({ cls := "QuietChannels$Air", name := "makes", desc := "(IIII)V" } : Jvm.MethodName) prog_2_method_9_code (10 : Nat) (Option.none : Option Jvm.ClassFile.FieldType)) ∈ lw_all := lw_g (lw_at lw_m4 74 rfl) rfl
theorem q907 : (Jvm.Cond.methodLink "QuietChannels$Air" (137 : Nat) ({ cls := "QuietChannels$Air", name := "sum", desc := "(I[IIIIZ)I" } : Jvm.MethodName)) ∈ lw_all := lw_g (lw_at lw_m4 75 rfl) rfl
theorem q908 : (Jvm.Cond.privateMethod ({ cls := "QuietChannels$Air", name := "sum", desc := "(I[IIIIZ)I" } : Jvm.MethodName)) ∈ lw_tbl := lw_at lw_m4 76 rfl
theorem q909 : (Jvm.Cond.instanceMethod ({ cls := "QuietChannels$Air", name := "sum", desc := "(I[IIIIZ)I" } : Jvm.MethodName)) ∈ lw_all := lw_g (lw_at lw_m4 77 rfl) rfl
theorem q910 : (Jvm.Cond.code ({ cls := "QuietChannels$Air", name := "sum", desc := "(I[IIIIZ)I" } : Jvm.MethodName) prog_2_method_8_code (11 : Nat) (Option.some Jvm.ClassFile.FieldType.int)) ∈ lw_all := lw_g (lw_at lw_m4 78 rfl) rfl
theorem q911 : (Jvm.Cond.methodLink "QuietChannels$Air" (131 : Nat) ({ cls := "java/lang/Math", name := "abs", desc := "(I)I" } : Jvm.MethodName)) ∈ lw_all := lw_g (lw_at lw_m4 79 rfl) rfl
theorem q914 : (Jvm.Cond.methodLinkNest "QuietChannels$Air" (141 : Nat) ({ cls := "QuietChannels", name := "isIn", desc := "(III)Z" } : Jvm.MethodName) "QuietChannels") ∈ lw_tbl := lw_at lw_m4 82 rfl
theorem q915 : (Jvm.Cond.methodLink "QuietChannels$Air" (148 : Nat) ({ cls := "QuietChannels$Air", name := "isHit", desc := "(IIIII)Z" } : Jvm.MethodName)) ∈ lw_all := lw_g (lw_at lw_m4 83 rfl) rfl
theorem q916 : (Jvm.Cond.privateMethod ({ cls := "QuietChannels$Air", name := "isHit", desc := "(IIIII)Z" } : Jvm.MethodName)) ∈ lw_tbl := lw_at lw_m4 84 rfl
theorem q917 : (Jvm.Cond.instanceMethod ({ cls := "QuietChannels$Air", name := "isHit", desc := "(IIIII)Z" } : Jvm.MethodName)) ∈ lw_all := lw_g (lw_at lw_m4 85 rfl) rfl
theorem q918 : (Jvm.Cond.code ({ cls := "QuietChannels$Air", name := "isHit", desc := "(IIIII)Z" } : Jvm.MethodName) prog_2_method_10_code (8 : Nat) (Option.some Jvm.ClassFile.FieldType.boolean)) ∈ lw_all := lw_g (lw_at lw_m4 86 rfl) rfl
theorem q919 : (Jvm.Cond.methodLinkNest "QuietChannels$Air" (188 : Nat) ({ cls := "QuietChannels", name := "lesser", desc := "(II)I" } : Jvm.MethodName) "QuietChannels") ∈ lw_tbl := lw_at lw_m4 87 rfl
theorem q922 : (Jvm.Cond.methodLink "QuietChannels$Air" (152 : Nat) ({ cls := "QuietChannels$Air", name := "counts", desc := "(IIIII)V" } : Jvm.MethodName)) ∈ lw_all := lw_g (lw_at lw_m4 90 rfl) rfl
theorem q923 : (Jvm.Cond.privateMethod ({ cls := "QuietChannels$Air", name := "counts", desc := "(IIIII)V" } : Jvm.MethodName)) ∈ lw_tbl := lw_at lw_m4 91 rfl
theorem q924 : (Jvm.Cond.instanceMethod ({ cls := "QuietChannels$Air", name := "counts", desc := "(IIIII)V" } : Jvm.MethodName)) ∈ lw_all := lw_g (lw_at lw_m4 92 rfl) rfl
theorem q925 : (Jvm.Cond.code ({ cls := "QuietChannels$Air", name := "counts", desc := "(IIIII)V" } : Jvm.MethodName) prog_2_method_11_code (8 : Nat) (Option.none : Option Jvm.ClassFile.FieldType)) ∈ lw_all := lw_g (lw_at lw_m4 93 rfl) rfl
theorem q926 : (Jvm.Cond.methodLink "QuietChannels$Air" (156 : Nat) ({ cls := "java/lang/Integer", name := "bitCount", desc := "(I)I" } : Jvm.MethodName)) ∈ lw_all := lw_g (lw_at lw_m4 94 rfl) rfl
theorem q932 : (Jvm.Cond.methodLink "QuietChannels$Air" (117 : Nat) ({ cls := "QuietChannels$Air", name := "areCrowded", desc := "(II)Z" } : Jvm.MethodName)) ∈ lw_all := lw_g (lw_at lw_m4 100 rfl) rfl
theorem q933 : (Jvm.Cond.instanceMethod ({ cls := "QuietChannels$Air", name := "areCrowded", desc := "(II)Z" } : Jvm.MethodName)) ∈ lw_all := lw_g (lw_at lw_m4 101 rfl) rfl
theorem q934 : (Jvm.Cond.selects "QuietChannels$Air" ({ cls := "QuietChannels$Air", name := "areCrowded", desc := "(II)Z" } : Jvm.MethodName) ({ cls := "QuietChannels$Air", name := "areCrowded", desc := "(II)Z" } : Jvm.MethodName)) ∈ lw_all := lw_g (lw_at lw_m4 102 rfl) rfl
theorem q935 : (Jvm.Cond.code ({ cls := "QuietChannels$Air", name := "areCrowded", desc := "(II)Z" } : Jvm.MethodName) prog_2_method_12_code (3 : Nat) (Option.some Jvm.ClassFile.FieldType.boolean)) ∈ lw_all := lw_g (lw_at lw_m4 103 rfl) rfl
theorem q937 : (Jvm.Cond.instanceMethod ({ cls := "QuietChannels$Air", name := "trouble", desc := "()I" } : Jvm.MethodName)) ∈ lw_all := lw_g (lw_at lw_m4 105 rfl) rfl
theorem q938 : (Jvm.Cond.selects "QuietChannels$Air" ({ cls := "QuietChannels$Air", name := "trouble", desc := "()I" } : Jvm.MethodName) ({ cls := "QuietChannels$Air", name := "trouble", desc := "()I" } : Jvm.MethodName)) ∈ lw_all := lw_g (lw_at lw_m4 106 rfl) rfl
theorem q939 : (Jvm.Cond.code ({ cls := "QuietChannels$Air", name := "trouble", desc := "()I" } : Jvm.MethodName) prog_2_method_13_code (1 : Nat) (Option.some Jvm.ClassFile.FieldType.int)) ∈ lw_all := lw_g (lw_at lw_m4 107 rfl) rfl
theorem q1867 : (Jvm.Cond.castable "QuietChannels$Air" "java/lang/Object") ∈ lw_tbl := lw_at lw_m8 75 rfl
theorem in_X4 : ∀ w ∈ wsX40, w ∈ lw_all := lw_in wsX40 [321, 323, 325, 327, 329, 331, 333, 335, 337, 339, 341, 343, 345, 347, 349, 351, 353, 355, 357, 359, 361, 363, 365, 367, 369, 371, 373, 375, 377] (by decide +kernel) (by decide +kernel)
