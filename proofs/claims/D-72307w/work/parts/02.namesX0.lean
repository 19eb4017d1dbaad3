/-! SecretSquares -/
set_option maxRecDepth 100000
def RX0 : String := "SecretSquares"
def TX0 : u_T := fun k => match k with
  | 0 => ("SecretSquares", "desk", "LSecretSquares$Desk;", true)
  | 1 => ("SecretSquares", "images", "Ljava/util/List;", true)
  | 2 => ("SecretSquares", "kept", "Ljava/util/BitSet;", true)
  | 3 => ("SecretSquares", "pad", "[C", true)
  | 4 => ("SecretSquares", "signs", "I", false)
  | 5 => ("SecretSquares", "from", "[I", true)
  | 6 => ("SecretSquares", "asGood", "I", false)
  | 7 => ("SecretSquares", "most", "I", false)
  | 8 => ("SecretSquares", "best", "[I", false)
  | _ => ("SecretSquares", "found", "[I", true)
def tyX0 : Nat → FieldType := fun k => match k with
  | 0 => .object "SecretSquares$Desk"
  | 1 => .object "java/util/List"
  | 2 => .object "java/util/BitSet"
  | 3 => .array .char
  | 4 => .int
  | 5 => .array .int
  | 6 => .int
  | 7 => .int
  | 8 => .array .int
  | _ => .array .int
abbrev wsX00 : List Cond := u_ws RX0 TX0 10
theorem nmX0 : ∀ a, a < 10 → ∀ b, b < 10 → a ≠ b → (TX0 a).2.1 ≠ (TX0 b).2.1 := by decide +kernel
theorem tyX0_ok : ∀ k, k < 10 → parseFieldDescriptor (TX0 k).2.2.1 = some (tyX0 k) := by decide +kernel
abbrev cX0_init : ByteArray := prog_1_method_4_code
def yX0_init : MethodName := ⟨RX0, "<init>", "()V"⟩
def dkwX0_init_3 : List UInt8 := [181, 0, 49, 42, 16, 48, 188, 10, 181, 0, 52, 177]
abbrev dktX0_init_3 : List UInt8 := dkwX0_init_3 ++ []
def dkwX0_init_2 : List UInt8 := [181, 0, 37, 42, 16, 48, 188, 5, 181, 0, 41, 42, 16, 48, 188, 10, 181, 0, 45, 42, 3, 188, 10]
abbrev dktX0_init_2 : List UInt8 := dkwX0_init_2 ++ dktX0_init_3
def dkwX0_init_1 : List UInt8 := [187, 0, 15, 89, 183, 0, 17, 184, 0, 22, 181, 0, 28, 42, 187, 0, 32, 89, 5, 183, 0, 34]
abbrev dktX0_init_1 : List UInt8 := dkwX0_init_1 ++ dktX0_init_2
def dkwX0_init_0 : List UInt8 := [42, 183, 0, 9, 42, 187, 0, 15, 89, 183, 0, 17, 181, 0, 18, 42, 187, 0, 15, 89, 183, 0, 17]
abbrev dktX0_init_0 : List UInt8 := dkwX0_init_0 ++ dktX0_init_1
theorem dksX0_init_0 : cX0_init.data.toList.drop 0 = dktX0_init_0 := by decide +kernel
theorem dksX0_init_1 : cX0_init.data.toList.drop 23 = dktX0_init_1 := dk_seg dksX0_init_0 23 rfl rfl
theorem dksX0_init_2 : cX0_init.data.toList.drop 45 = dktX0_init_2 := dk_seg dksX0_init_1 22 rfl rfl
theorem dksX0_init_3 : cX0_init.data.toList.drop 68 = dktX0_init_3 := dk_seg dksX0_init_2 23 rfl rfl
theorem dX0_init_0 : decode cX0_init 0 = .ok (.aload_n 0, 1) := dk_42 (dk_at dksX0_init_0 0 rfl rfl)
theorem dX0_init_1 : decode cX0_init 1 = .ok (.invokespecial 9, 3) := dk_183 0 9 (dk_at dksX0_init_0 1 rfl rfl)
theorem dX0_init_4 : decode cX0_init 4 = .ok (.aload_n 0, 1) := dk_42 (dk_at dksX0_init_0 4 rfl rfl)
theorem dX0_init_5 : decode cX0_init 5 = .ok (.new 15, 3) := dk_187 0 15 (dk_at dksX0_init_0 5 rfl rfl)
theorem dX0_init_8 : decode cX0_init 8 = .ok (.dup, 1) := dk_89 (dk_at dksX0_init_0 8 rfl rfl)
theorem dX0_init_9 : decode cX0_init 9 = .ok (.invokespecial 17, 3) := dk_183 0 17 (dk_at dksX0_init_0 9 rfl rfl)
theorem dX0_init_12 : decode cX0_init 12 = .ok (.putfield 18, 3) := dk_181 0 18 (dk_at dksX0_init_0 12 rfl rfl)
theorem dX0_init_15 : decode cX0_init 15 = .ok (.aload_n 0, 1) := dk_42 (dk_at dksX0_init_0 15 rfl rfl)
theorem dX0_init_16 : decode cX0_init 16 = .ok (.new 15, 3) := dk_187 0 15 (dk_at dksX0_init_0 16 rfl rfl)
theorem dX0_init_19 : decode cX0_init 19 = .ok (.dup, 1) := dk_89 (dk_at dksX0_init_0 19 rfl rfl)
theorem dX0_init_20 : decode cX0_init 20 = .ok (.invokespecial 17, 3) := dk_183 0 17 (dk_at dksX0_init_0 20 rfl rfl)
theorem dX0_init_23 : decode cX0_init 23 = .ok (.new 15, 3) := dk_187 0 15 (dk_at dksX0_init_1 0 rfl rfl)
theorem dX0_init_26 : decode cX0_init 26 = .ok (.dup, 1) := dk_89 (dk_at dksX0_init_1 3 rfl rfl)
theorem dX0_init_27 : decode cX0_init 27 = .ok (.invokespecial 17, 3) := dk_183 0 17 (dk_at dksX0_init_1 4 rfl rfl)
theorem dX0_init_30 : decode cX0_init 30 = .ok (.invokestatic 22, 3) := dk_184 0 22 (dk_at dksX0_init_1 7 rfl rfl)
theorem dX0_init_33 : decode cX0_init 33 = .ok (.putfield 28, 3) := dk_181 0 28 (dk_at dksX0_init_1 10 rfl rfl)
theorem dX0_init_36 : decode cX0_init 36 = .ok (.aload_n 0, 1) := dk_42 (dk_at dksX0_init_1 13 rfl rfl)
theorem dX0_init_37 : decode cX0_init 37 = .ok (.new 32, 3) := dk_187 0 32 (dk_at dksX0_init_1 14 rfl rfl)
theorem dX0_init_40 : decode cX0_init 40 = .ok (.dup, 1) := dk_89 (dk_at dksX0_init_1 17 rfl rfl)
theorem dX0_init_41 : decode cX0_init 41 = .ok (.iconst 2, 1) := dk_5 (dk_at dksX0_init_1 18 rfl rfl)
theorem dX0_init_42 : decode cX0_init 42 = .ok (.invokespecial 34, 3) := dk_183 0 34 (dk_at dksX0_init_1 19 rfl rfl)
theorem dX0_init_45 : decode cX0_init 45 = .ok (.putfield 37, 3) := dk_181 0 37 (dk_at dksX0_init_2 0 rfl rfl)
theorem dX0_init_48 : decode cX0_init 48 = .ok (.aload_n 0, 1) := dk_42 (dk_at dksX0_init_2 3 rfl rfl)
theorem dX0_init_49 : decode cX0_init 49 = .ok (.bipush 48, 2) := dk_16 48 (dk_at dksX0_init_2 4 rfl rfl)
theorem dX0_init_51 : decode cX0_init 51 = .ok (.newarray .char, 2) := dk_188_5 (dk_at dksX0_init_2 6 rfl rfl)
theorem dX0_init_53 : decode cX0_init 53 = .ok (.putfield 41, 3) := dk_181 0 41 (dk_at dksX0_init_2 8 rfl rfl)
theorem dX0_init_56 : decode cX0_init 56 = .ok (.aload_n 0, 1) := dk_42 (dk_at dksX0_init_2 11 rfl rfl)
theorem dX0_init_57 : decode cX0_init 57 = .ok (.bipush 48, 2) := dk_16 48 (dk_at dksX0_init_2 12 rfl rfl)
theorem dX0_init_59 : decode cX0_init 59 = .ok (.newarray .int, 2) := dk_188_10 (dk_at dksX0_init_2 14 rfl rfl)
theorem dX0_init_61 : decode cX0_init 61 = .ok (.putfield 45, 3) := dk_181 0 45 (dk_at dksX0_init_2 16 rfl rfl)
theorem dX0_init_64 : decode cX0_init 64 = .ok (.aload_n 0, 1) := dk_42 (dk_at dksX0_init_2 19 rfl rfl)
theorem dX0_init_65 : decode cX0_init 65 = .ok (.iconst 0, 1) := dk_3 (dk_at dksX0_init_2 20 rfl rfl)
theorem dX0_init_66 : decode cX0_init 66 = .ok (.newarray .int, 2) := dk_188_10 (dk_at dksX0_init_2 21 rfl rfl)
theorem dX0_init_68 : decode cX0_init 68 = .ok (.putfield 49, 3) := dk_181 0 49 (dk_at dksX0_init_3 0 rfl rfl)
theorem dX0_init_71 : decode cX0_init 71 = .ok (.aload_n 0, 1) := dk_42 (dk_at dksX0_init_3 3 rfl rfl)
theorem dX0_init_72 : decode cX0_init 72 = .ok (.bipush 48, 2) := dk_16 48 (dk_at dksX0_init_3 4 rfl rfl)
theorem dX0_init_74 : decode cX0_init 74 = .ok (.newarray .int, 2) := dk_188_10 (dk_at dksX0_init_3 6 rfl rfl)
theorem dX0_init_76 : decode cX0_init 76 = .ok (.putfield 52, 3) := dk_181 0 52 (dk_at dksX0_init_3 8 rfl rfl)
theorem dX0_init_79 : decode cX0_init 79 = .ok (.return_, 1) := dk_177 (dk_at dksX0_init_3 11 rfl rfl)
abbrev cX0_say : ByteArray := prog_1_method_5_code
def yX0_say : MethodName := ⟨RX0, "say", "(I)I"⟩
def dkwX0_say_2 : List UInt8 := [181, 0, 59, 42, 180, 0, 59, 172]
abbrev dktX0_say_2 : List UInt8 := dkwX0_say_2 ++ []
def dkwX0_say_1 : List UInt8 := [160, 0, 6, 16, 252, 172, 42, 180, 0, 41, 42, 180, 0, 59, 27, 146, 85, 42, 89, 180, 0, 59, 4, 96]
abbrev dktX0_say_1 : List UInt8 := dkwX0_say_1 ++ dktX0_say_2
def dkwX0_say_0 : List UInt8 := [27, 133, 20, 0, 55, 20, 0, 57, 184, 0, 1, 154, 0, 6, 16, 254, 172, 42, 180, 0, 59, 16, 48]
abbrev dktX0_say_0 : List UInt8 := dkwX0_say_0 ++ dktX0_say_1
theorem dksX0_say_0 : cX0_say.data.toList.drop 0 = dktX0_say_0 := by decide +kernel
theorem dksX0_say_1 : cX0_say.data.toList.drop 23 = dktX0_say_1 := dk_seg dksX0_say_0 23 rfl rfl
theorem dksX0_say_2 : cX0_say.data.toList.drop 47 = dktX0_say_2 := dk_seg dksX0_say_1 24 rfl rfl
theorem dX0_say_0 : decode cX0_say 0 = .ok (.iload_n 1, 1) := dk_27 (dk_at dksX0_say_0 0 rfl rfl)
theorem dX0_say_1 : decode cX0_say 1 = .ok (.i2l, 1) := dk_133 (dk_at dksX0_say_0 1 rfl rfl)
theorem dX0_say_2 : decode cX0_say 2 = .ok (.ldc2_w 55, 3) := dk_20 0 55 (dk_at dksX0_say_0 2 rfl rfl)
theorem dX0_say_5 : decode cX0_say 5 = .ok (.ldc2_w 57, 3) := dk_20 0 57 (dk_at dksX0_say_0 5 rfl rfl)
theorem dX0_say_8 : decode cX0_say 8 = .ok (.invokestatic 1, 3) := dk_184 0 1 (dk_at dksX0_say_0 8 rfl rfl)
theorem dX0_say_11 : decode cX0_say 11 = .ok (.ifCond .ne 6, 3) := dk_154 0 6 (dk_at dksX0_say_0 11 rfl rfl)
theorem dX0_say_14 : decode cX0_say 14 = .ok (.bipush (-2), 2) := dk_16 254 (dk_at dksX0_say_0 14 rfl rfl)
theorem dX0_say_16 : decode cX0_say 16 = .ok (.ireturn, 1) := dk_172 (dk_at dksX0_say_0 16 rfl rfl)
theorem dX0_say_17 : decode cX0_say 17 = .ok (.aload_n 0, 1) := dk_42 (dk_at dksX0_say_0 17 rfl rfl)
theorem dX0_say_18 : decode cX0_say 18 = .ok (.getfield 59, 3) := dk_180 0 59 (dk_at dksX0_say_0 18 rfl rfl)
theorem dX0_say_21 : decode cX0_say 21 = .ok (.bipush 48, 2) := dk_16 48 (dk_at dksX0_say_0 21 rfl rfl)
theorem dX0_say_23 : decode cX0_say 23 = .ok (.if_icmp .ne 6, 3) := dk_160 0 6 (dk_at dksX0_say_1 0 rfl rfl)
theorem dX0_say_26 : decode cX0_say 26 = .ok (.bipush (-4), 2) := dk_16 252 (dk_at dksX0_say_1 3 rfl rfl)
theorem dX0_say_28 : decode cX0_say 28 = .ok (.ireturn, 1) := dk_172 (dk_at dksX0_say_1 5 rfl rfl)
theorem dX0_say_29 : decode cX0_say 29 = .ok (.aload_n 0, 1) := dk_42 (dk_at dksX0_say_1 6 rfl rfl)
theorem dX0_say_30 : decode cX0_say 30 = .ok (.getfield 41, 3) := dk_180 0 41 (dk_at dksX0_say_1 7 rfl rfl)
theorem dX0_say_33 : decode cX0_say 33 = .ok (.aload_n 0, 1) := dk_42 (dk_at dksX0_say_1 10 rfl rfl)
theorem dX0_say_34 : decode cX0_say 34 = .ok (.getfield 59, 3) := dk_180 0 59 (dk_at dksX0_say_1 11 rfl rfl)
theorem dX0_say_37 : decode cX0_say 37 = .ok (.iload_n 1, 1) := dk_27 (dk_at dksX0_say_1 14 rfl rfl)
theorem dX0_say_38 : decode cX0_say 38 = .ok (.i2c, 1) := dk_146 (dk_at dksX0_say_1 15 rfl rfl)
theorem dX0_say_39 : decode cX0_say 39 = .ok (.castore, 1) := dk_85 (dk_at dksX0_say_1 16 rfl rfl)
theorem dX0_say_40 : decode cX0_say 40 = .ok (.aload_n 0, 1) := dk_42 (dk_at dksX0_say_1 17 rfl rfl)
theorem dX0_say_41 : decode cX0_say 41 = .ok (.dup, 1) := dk_89 (dk_at dksX0_say_1 18 rfl rfl)
theorem dX0_say_42 : decode cX0_say 42 = .ok (.getfield 59, 3) := dk_180 0 59 (dk_at dksX0_say_1 19 rfl rfl)
theorem dX0_say_45 : decode cX0_say 45 = .ok (.iconst 1, 1) := dk_4 (dk_at dksX0_say_1 22 rfl rfl)
theorem dX0_say_46 : decode cX0_say 46 = .ok (.iadd, 1) := dk_96 (dk_at dksX0_say_1 23 rfl rfl)
theorem dX0_say_47 : decode cX0_say 47 = .ok (.putfield 59, 3) := dk_181 0 59 (dk_at dksX0_say_2 0 rfl rfl)
theorem dX0_say_50 : decode cX0_say 50 = .ok (.aload_n 0, 1) := dk_42 (dk_at dksX0_say_2 3 rfl rfl)
theorem dX0_say_51 : decode cX0_say 51 = .ok (.getfield 59, 3) := dk_180 0 59 (dk_at dksX0_say_2 4 rfl rfl)
theorem dX0_say_54 : decode cX0_say 54 = .ok (.ireturn, 1) := dk_172 (dk_at dksX0_say_2 7 rfl rfl)
abbrev cX0_isIn : ByteArray := prog_1_method_1_code
def yX0_isIn : MethodName := ⟨RX0, "isIn", "(JJJ)Z"⟩
def dkwX0_isIn_0 : List UInt8 := [30, 32, 148, 155, 0, 14, 30, 22, 4, 148, 157, 0, 7, 4, 167, 0, 4, 3, 172]
abbrev dktX0_isIn_0 : List UInt8 := dkwX0_isIn_0 ++ []
theorem dksX0_isIn_0 : cX0_isIn.data.toList.drop 0 = dktX0_isIn_0 := by decide +kernel
theorem dX0_isIn_0 : decode cX0_isIn 0 = .ok (.lload_n 0, 1) := dk_30 (dk_at dksX0_isIn_0 0 rfl rfl)
theorem dX0_isIn_1 : decode cX0_isIn 1 = .ok (.lload_n 2, 1) := dk_32 (dk_at dksX0_isIn_0 1 rfl rfl)
theorem dX0_isIn_2 : decode cX0_isIn 2 = .ok (.lcmp, 1) := dk_148 (dk_at dksX0_isIn_0 2 rfl rfl)
theorem dX0_isIn_3 : decode cX0_isIn 3 = .ok (.ifCond .lt 14, 3) := dk_155 0 14 (dk_at dksX0_isIn_0 3 rfl rfl)
theorem dX0_isIn_6 : decode cX0_isIn 6 = .ok (.lload_n 0, 1) := dk_30 (dk_at dksX0_isIn_0 6 rfl rfl)
theorem dX0_isIn_7 : decode cX0_isIn 7 = .ok (.lload 4, 2) := dk_22 4 (dk_at dksX0_isIn_0 7 rfl rfl)
theorem dX0_isIn_9 : decode cX0_isIn 9 = .ok (.lcmp, 1) := dk_148 (dk_at dksX0_isIn_0 9 rfl rfl)
theorem dX0_isIn_10 : decode cX0_isIn 10 = .ok (.ifCond .gt 7, 3) := dk_157 0 7 (dk_at dksX0_isIn_0 10 rfl rfl)
theorem dX0_isIn_13 : decode cX0_isIn 13 = .ok (.iconst 1, 1) := dk_4 (dk_at dksX0_isIn_0 13 rfl rfl)
theorem dX0_isIn_14 : decode cX0_isIn 14 = .ok (.goto 4, 3) := dk_167 0 4 (dk_at dksX0_isIn_0 14 rfl rfl)
theorem dX0_isIn_17 : decode cX0_isIn 17 = .ok (.iconst 0, 1) := dk_3 (dk_at dksX0_isIn_0 17 rfl rfl)
theorem dX0_isIn_18 : decode cX0_isIn 18 = .ok (.ireturn, 1) := dk_172 (dk_at dksX0_isIn_0 18 rfl rfl)
abbrev cX0_wipe : ByteArray := prog_1_method_6_code
def yX0_wipe : MethodName := ⟨RX0, "wipe", "()I"⟩
def dkwX0_wipe_0 : List UInt8 := [42, 180, 0, 59, 60, 42, 3, 181, 0, 59, 27, 172]
abbrev dktX0_wipe_0 : List UInt8 := dkwX0_wipe_0 ++ []
theorem dksX0_wipe_0 : cX0_wipe.data.toList.drop 0 = dktX0_wipe_0 := by decide +kernel
theorem dX0_wipe_0 : decode cX0_wipe 0 = .ok (.aload_n 0, 1) := dk_42 (dk_at dksX0_wipe_0 0 rfl rfl)
theorem dX0_wipe_1 : decode cX0_wipe 1 = .ok (.getfield 59, 3) := dk_180 0 59 (dk_at dksX0_wipe_0 1 rfl rfl)
theorem dX0_wipe_4 : decode cX0_wipe 4 = .ok (.istore_n 1, 1) := dk_60 (dk_at dksX0_wipe_0 4 rfl rfl)
theorem dX0_wipe_5 : decode cX0_wipe 5 = .ok (.aload_n 0, 1) := dk_42 (dk_at dksX0_wipe_0 5 rfl rfl)
theorem dX0_wipe_6 : decode cX0_wipe 6 = .ok (.iconst 0, 1) := dk_3 (dk_at dksX0_wipe_0 6 rfl rfl)
theorem dX0_wipe_7 : decode cX0_wipe 7 = .ok (.putfield 59, 3) := dk_181 0 59 (dk_at dksX0_wipe_0 7 rfl rfl)
theorem dX0_wipe_10 : decode cX0_wipe 10 = .ok (.iload_n 1, 1) := dk_27 (dk_at dksX0_wipe_0 10 rfl rfl)
theorem dX0_wipe_11 : decode cX0_wipe 11 = .ok (.ireturn, 1) := dk_172 (dk_at dksX0_wipe_0 11 rfl rfl)
abbrev cX0_take : ByteArray := prog_1_method_7_code
def yX0_take : MethodName := ⟨RX0, "take", "(I)I"⟩
def dkwX0_take_5 : List UInt8 := [180, 0, 18, 180, 0, 75, 181, 0, 75, 42, 3, 181, 0, 59, 44, 190, 172]
abbrev dktX0_take_5 : List UInt8 := dkwX0_take_5 ++ []
def dkwX0_take_4 : List UInt8 := [180, 0, 18, 180, 0, 72, 181, 0, 72, 42, 180, 0, 18, 27, 4, 160, 0, 7, 44, 167, 0, 10, 42]
abbrev dktX0_take_4 : List UInt8 := dkwX0_take_4 ++ dktX0_take_5
def dkwX0_take_3 : List UInt8 := [16, 249, 172, 132, 3, 1, 167, 255, 221, 42, 180, 0, 18, 27, 154, 0, 7, 44, 167, 0, 10, 42]
abbrev dktX0_take_3 : List UInt8 := dkwX0_take_3 ++ dktX0_take_4
def dkwX0_take_2 : List UInt8 := [162, 0, 33, 44, 29, 42, 180, 0, 41, 29, 52, 16, 97, 100, 79, 44, 29, 46, 184, 0, 69, 154, 0, 6]
abbrev dktX0_take_2 : List UInt8 := dkwX0_take_2 ++ dktX0_take_3
def dkwX0_take_1 : List UInt8 := [184, 0, 1, 154, 0, 6, 16, 249, 172, 42, 180, 0, 59, 188, 10, 77, 3, 62, 29, 42, 180, 0, 59]
abbrev dktX0_take_1 : List UInt8 := dkwX0_take_1 ++ dktX0_take_2
def dkwX0_take_0 : List UInt8 := [27, 184, 0, 63, 154, 0, 6, 16, 254, 172, 27, 4, 160, 0, 21, 42, 180, 0, 59, 133, 10, 20, 0, 67]
abbrev dktX0_take_0 : List UInt8 := dkwX0_take_0 ++ dktX0_take_1
theorem dksX0_take_0 : cX0_take.data.toList.drop 0 = dktX0_take_0 := by decide +kernel
theorem dksX0_take_1 : cX0_take.data.toList.drop 24 = dktX0_take_1 := dk_seg dksX0_take_0 24 rfl rfl
theorem dksX0_take_2 : cX0_take.data.toList.drop 47 = dktX0_take_2 := dk_seg dksX0_take_1 23 rfl rfl
theorem dksX0_take_3 : cX0_take.data.toList.drop 71 = dktX0_take_3 := dk_seg dksX0_take_2 24 rfl rfl
theorem dksX0_take_4 : cX0_take.data.toList.drop 93 = dktX0_take_4 := dk_seg dksX0_take_3 22 rfl rfl
theorem dksX0_take_5 : cX0_take.data.toList.drop 116 = dktX0_take_5 := dk_seg dksX0_take_4 23 rfl rfl
theorem dX0_take_0 : decode cX0_take 0 = .ok (.iload_n 1, 1) := dk_27 (dk_at dksX0_take_0 0 rfl rfl)
theorem dX0_take_1 : decode cX0_take 1 = .ok (.invokestatic 63, 3) := dk_184 0 63 (dk_at dksX0_take_0 1 rfl rfl)
theorem dX0_take_4 : decode cX0_take 4 = .ok (.ifCond .ne 6, 3) := dk_154 0 6 (dk_at dksX0_take_0 4 rfl rfl)
theorem dX0_take_7 : decode cX0_take 7 = .ok (.bipush (-2), 2) := dk_16 254 (dk_at dksX0_take_0 7 rfl rfl)
theorem dX0_take_9 : decode cX0_take 9 = .ok (.ireturn, 1) := dk_172 (dk_at dksX0_take_0 9 rfl rfl)
theorem dX0_take_10 : decode cX0_take 10 = .ok (.iload_n 1, 1) := dk_27 (dk_at dksX0_take_0 10 rfl rfl)
theorem dX0_take_11 : decode cX0_take 11 = .ok (.iconst 1, 1) := dk_4 (dk_at dksX0_take_0 11 rfl rfl)
theorem dX0_take_12 : decode cX0_take 12 = .ok (.if_icmp .ne 21, 3) := dk_160 0 21 (dk_at dksX0_take_0 12 rfl rfl)
theorem dX0_take_15 : decode cX0_take 15 = .ok (.aload_n 0, 1) := dk_42 (dk_at dksX0_take_0 15 rfl rfl)
theorem dX0_take_16 : decode cX0_take 16 = .ok (.getfield 59, 3) := dk_180 0 59 (dk_at dksX0_take_0 16 rfl rfl)
theorem dX0_take_19 : decode cX0_take 19 = .ok (.i2l, 1) := dk_133 (dk_at dksX0_take_0 19 rfl rfl)
theorem dX0_take_20 : decode cX0_take 20 = .ok (.lconst 1, 1) := dk_10 (dk_at dksX0_take_0 20 rfl rfl)
theorem dX0_take_21 : decode cX0_take 21 = .ok (.ldc2_w 67, 3) := dk_20 0 67 (dk_at dksX0_take_0 21 rfl rfl)
theorem dX0_take_24 : decode cX0_take 24 = .ok (.invokestatic 1, 3) := dk_184 0 1 (dk_at dksX0_take_1 0 rfl rfl)
theorem dX0_take_27 : decode cX0_take 27 = .ok (.ifCond .ne 6, 3) := dk_154 0 6 (dk_at dksX0_take_1 3 rfl rfl)
theorem dX0_take_30 : decode cX0_take 30 = .ok (.bipush (-7), 2) := dk_16 249 (dk_at dksX0_take_1 6 rfl rfl)
theorem dX0_take_32 : decode cX0_take 32 = .ok (.ireturn, 1) := dk_172 (dk_at dksX0_take_1 8 rfl rfl)
theorem dX0_take_33 : decode cX0_take 33 = .ok (.aload_n 0, 1) := dk_42 (dk_at dksX0_take_1 9 rfl rfl)
theorem dX0_take_34 : decode cX0_take 34 = .ok (.getfield 59, 3) := dk_180 0 59 (dk_at dksX0_take_1 10 rfl rfl)
theorem dX0_take_37 : decode cX0_take 37 = .ok (.newarray .int, 2) := dk_188_10 (dk_at dksX0_take_1 13 rfl rfl)
theorem dX0_take_39 : decode cX0_take 39 = .ok (.astore_n 2, 1) := dk_77 (dk_at dksX0_take_1 15 rfl rfl)
theorem dX0_take_40 : decode cX0_take 40 = .ok (.iconst 0, 1) := dk_3 (dk_at dksX0_take_1 16 rfl rfl)
theorem dX0_take_41 : decode cX0_take 41 = .ok (.istore_n 3, 1) := dk_62 (dk_at dksX0_take_1 17 rfl rfl)
theorem dX0_take_42 : decode cX0_take 42 = .ok (.iload_n 3, 1) := dk_29 (dk_at dksX0_take_1 18 rfl rfl)
theorem dX0_take_43 : decode cX0_take 43 = .ok (.aload_n 0, 1) := dk_42 (dk_at dksX0_take_1 19 rfl rfl)
theorem dX0_take_44 : decode cX0_take 44 = .ok (.getfield 59, 3) := dk_180 0 59 (dk_at dksX0_take_1 20 rfl rfl)
theorem dX0_take_47 : decode cX0_take 47 = .ok (.if_icmp .ge 33, 3) := dk_162 0 33 (dk_at dksX0_take_2 0 rfl rfl)
theorem dX0_take_50 : decode cX0_take 50 = .ok (.aload_n 2, 1) := dk_44 (dk_at dksX0_take_2 3 rfl rfl)
theorem dX0_take_51 : decode cX0_take 51 = .ok (.iload_n 3, 1) := dk_29 (dk_at dksX0_take_2 4 rfl rfl)
theorem dX0_take_52 : decode cX0_take 52 = .ok (.aload_n 0, 1) := dk_42 (dk_at dksX0_take_2 5 rfl rfl)
theorem dX0_take_53 : decode cX0_take 53 = .ok (.getfield 41, 3) := dk_180 0 41 (dk_at dksX0_take_2 6 rfl rfl)
theorem dX0_take_56 : decode cX0_take 56 = .ok (.iload_n 3, 1) := dk_29 (dk_at dksX0_take_2 9 rfl rfl)
theorem dX0_take_57 : decode cX0_take 57 = .ok (.caload, 1) := dk_52 (dk_at dksX0_take_2 10 rfl rfl)
theorem dX0_take_58 : decode cX0_take 58 = .ok (.bipush 97, 2) := dk_16 97 (dk_at dksX0_take_2 11 rfl rfl)
theorem dX0_take_60 : decode cX0_take 60 = .ok (.isub, 1) := dk_100 (dk_at dksX0_take_2 13 rfl rfl)
theorem dX0_take_61 : decode cX0_take 61 = .ok (.iastore, 1) := dk_79 (dk_at dksX0_take_2 14 rfl rfl)
theorem dX0_take_62 : decode cX0_take 62 = .ok (.aload_n 2, 1) := dk_44 (dk_at dksX0_take_2 15 rfl rfl)
theorem dX0_take_63 : decode cX0_take 63 = .ok (.iload_n 3, 1) := dk_29 (dk_at dksX0_take_2 16 rfl rfl)
theorem dX0_take_64 : decode cX0_take 64 = .ok (.iaload, 1) := dk_46 (dk_at dksX0_take_2 17 rfl rfl)
theorem dX0_take_65 : decode cX0_take 65 = .ok (.invokestatic 69, 3) := dk_184 0 69 (dk_at dksX0_take_2 18 rfl rfl)
theorem dX0_take_68 : decode cX0_take 68 = .ok (.ifCond .ne 6, 3) := dk_154 0 6 (dk_at dksX0_take_2 21 rfl rfl)
theorem dX0_take_71 : decode cX0_take 71 = .ok (.bipush (-7), 2) := dk_16 249 (dk_at dksX0_take_3 0 rfl rfl)
theorem dX0_take_73 : decode cX0_take 73 = .ok (.ireturn, 1) := dk_172 (dk_at dksX0_take_3 2 rfl rfl)
theorem dX0_take_74 : decode cX0_take 74 = .ok (.iinc 3 1, 3) := dk_132 3 1 (dk_at dksX0_take_3 3 rfl rfl)
theorem dX0_take_77 : decode cX0_take 77 = .ok (.goto (-35), 3) := dk_167 255 221 (dk_at dksX0_take_3 6 rfl rfl)
theorem dX0_take_80 : decode cX0_take 80 = .ok (.aload_n 0, 1) := dk_42 (dk_at dksX0_take_3 9 rfl rfl)
theorem dX0_take_81 : decode cX0_take 81 = .ok (.getfield 18, 3) := dk_180 0 18 (dk_at dksX0_take_3 10 rfl rfl)
theorem dX0_take_84 : decode cX0_take 84 = .ok (.iload_n 1, 1) := dk_27 (dk_at dksX0_take_3 13 rfl rfl)
theorem dX0_take_85 : decode cX0_take 85 = .ok (.ifCond .ne 7, 3) := dk_154 0 7 (dk_at dksX0_take_3 14 rfl rfl)
theorem dX0_take_88 : decode cX0_take 88 = .ok (.aload_n 2, 1) := dk_44 (dk_at dksX0_take_3 17 rfl rfl)
theorem dX0_take_89 : decode cX0_take 89 = .ok (.goto 10, 3) := dk_167 0 10 (dk_at dksX0_take_3 18 rfl rfl)
theorem dX0_take_92 : decode cX0_take 92 = .ok (.aload_n 0, 1) := dk_42 (dk_at dksX0_take_3 21 rfl rfl)
theorem dX0_take_93 : decode cX0_take 93 = .ok (.getfield 18, 3) := dk_180 0 18 (dk_at dksX0_take_4 0 rfl rfl)
theorem dX0_take_96 : decode cX0_take 96 = .ok (.getfield 72, 3) := dk_180 0 72 (dk_at dksX0_take_4 3 rfl rfl)
theorem dX0_take_99 : decode cX0_take 99 = .ok (.putfield 72, 3) := dk_181 0 72 (dk_at dksX0_take_4 6 rfl rfl)
theorem dX0_take_102 : decode cX0_take 102 = .ok (.aload_n 0, 1) := dk_42 (dk_at dksX0_take_4 9 rfl rfl)
theorem dX0_take_103 : decode cX0_take 103 = .ok (.getfield 18, 3) := dk_180 0 18 (dk_at dksX0_take_4 10 rfl rfl)
theorem dX0_take_106 : decode cX0_take 106 = .ok (.iload_n 1, 1) := dk_27 (dk_at dksX0_take_4 13 rfl rfl)
theorem dX0_take_107 : decode cX0_take 107 = .ok (.iconst 1, 1) := dk_4 (dk_at dksX0_take_4 14 rfl rfl)
theorem dX0_take_108 : decode cX0_take 108 = .ok (.if_icmp .ne 7, 3) := dk_160 0 7 (dk_at dksX0_take_4 15 rfl rfl)
theorem dX0_take_111 : decode cX0_take 111 = .ok (.aload_n 2, 1) := dk_44 (dk_at dksX0_take_4 18 rfl rfl)
theorem dX0_take_112 : decode cX0_take 112 = .ok (.goto 10, 3) := dk_167 0 10 (dk_at dksX0_take_4 19 rfl rfl)
theorem dX0_take_115 : decode cX0_take 115 = .ok (.aload_n 0, 1) := dk_42 (dk_at dksX0_take_4 22 rfl rfl)
theorem dX0_take_116 : decode cX0_take 116 = .ok (.getfield 18, 3) := dk_180 0 18 (dk_at dksX0_take_5 0 rfl rfl)
theorem dX0_take_119 : decode cX0_take 119 = .ok (.getfield 75, 3) := dk_180 0 75 (dk_at dksX0_take_5 3 rfl rfl)
theorem dX0_take_122 : decode cX0_take 122 = .ok (.putfield 75, 3) := dk_181 0 75 (dk_at dksX0_take_5 6 rfl rfl)
theorem dX0_take_125 : decode cX0_take 125 = .ok (.aload_n 0, 1) := dk_42 (dk_at dksX0_take_5 9 rfl rfl)
theorem dX0_take_126 : decode cX0_take 126 = .ok (.iconst 0, 1) := dk_3 (dk_at dksX0_take_5 10 rfl rfl)
theorem dX0_take_127 : decode cX0_take 127 = .ok (.putfield 59, 3) := dk_181 0 59 (dk_at dksX0_take_5 11 rfl rfl)
theorem dX0_take_130 : decode cX0_take 130 = .ok (.aload_n 2, 1) := dk_44 (dk_at dksX0_take_5 14 rfl rfl)
theorem dX0_take_131 : decode cX0_take 131 = .ok (.arraylength, 1) := dk_190 (dk_at dksX0_take_5 15 rfl rfl)
theorem dX0_take_132 : decode cX0_take 132 = .ok (.ireturn, 1) := dk_172 (dk_at dksX0_take_5 16 rfl rfl)
abbrev cX0_isEnd : ByteArray := prog_1_method_2_code
def yX0_isEnd : MethodName := ⟨RX0, "isEnd", "(I)Z"⟩
def dkwX0_isEnd_0 : List UInt8 := [26, 133, 9, 10, 184, 0, 1, 172]
abbrev dktX0_isEnd_0 : List UInt8 := dkwX0_isEnd_0 ++ []
theorem dksX0_isEnd_0 : cX0_isEnd.data.toList.drop 0 = dktX0_isEnd_0 := by decide +kernel
theorem dX0_isEnd_0 : decode cX0_isEnd 0 = .ok (.iload_n 0, 1) := dk_26 (dk_at dksX0_isEnd_0 0 rfl rfl)
theorem dX0_isEnd_1 : decode cX0_isEnd 1 = .ok (.i2l, 1) := dk_133 (dk_at dksX0_isEnd_0 1 rfl rfl)
theorem dX0_isEnd_2 : decode cX0_isEnd 2 = .ok (.lconst 0, 1) := dk_9 (dk_at dksX0_isEnd_0 2 rfl rfl)
theorem dX0_isEnd_3 : decode cX0_isEnd 3 = .ok (.lconst 1, 1) := dk_10 (dk_at dksX0_isEnd_0 3 rfl rfl)
theorem dX0_isEnd_4 : decode cX0_isEnd 4 = .ok (.invokestatic 1, 3) := dk_184 0 1 (dk_at dksX0_isEnd_0 4 rfl rfl)
theorem dX0_isEnd_7 : decode cX0_isEnd 7 = .ok (.ireturn, 1) := dk_172 (dk_at dksX0_isEnd_0 7 rfl rfl)
abbrev cX0_isLetter : ByteArray := prog_1_method_3_code
def yX0_isLetter : MethodName := ⟨RX0, "isLetter", "(I)Z"⟩
def dkwX0_isLetter_0 : List UInt8 := [26, 133, 9, 20, 0, 7, 184, 0, 1, 172]
abbrev dktX0_isLetter_0 : List UInt8 := dkwX0_isLetter_0 ++ []
theorem dksX0_isLetter_0 : cX0_isLetter.data.toList.drop 0 = dktX0_isLetter_0 := by decide +kernel
theorem dX0_isLetter_0 : decode cX0_isLetter 0 = .ok (.iload_n 0, 1) := dk_26 (dk_at dksX0_isLetter_0 0 rfl rfl)
theorem dX0_isLetter_1 : decode cX0_isLetter 1 = .ok (.i2l, 1) := dk_133 (dk_at dksX0_isLetter_0 1 rfl rfl)
theorem dX0_isLetter_2 : decode cX0_isLetter 2 = .ok (.lconst 0, 1) := dk_9 (dk_at dksX0_isLetter_0 2 rfl rfl)
theorem dX0_isLetter_3 : decode cX0_isLetter 3 = .ok (.ldc2_w 7, 3) := dk_20 0 7 (dk_at dksX0_isLetter_0 3 rfl rfl)
theorem dX0_isLetter_6 : decode cX0_isLetter 6 = .ok (.invokestatic 1, 3) := dk_184 0 1 (dk_at dksX0_isLetter_0 6 rfl rfl)
theorem dX0_isLetter_9 : decode cX0_isLetter 9 = .ok (.ireturn, 1) := dk_172 (dk_at dksX0_isLetter_0 9 rfl rfl)
abbrev cX0_worth : ByteArray := prog_1_method_8_code
def yX0_worth : MethodName := ⟨RX0, "worth", "(II)I"⟩
def dkwX0_worth_1 : List UInt8 := [180, 0, 18, 180, 0, 80, 27, 46, 62, 42, 180, 0, 18, 180, 0, 80, 27, 28, 79, 29, 172]
abbrev dktX0_worth_1 : List UInt8 := dkwX0_worth_1 ++ []
def dkwX0_worth_0 : List UInt8 := [27, 184, 0, 69, 153, 0, 15, 28, 133, 9, 20, 0, 78, 184, 0, 1, 154, 0, 6, 16, 254, 172, 42]
abbrev dktX0_worth_0 : List UInt8 := dkwX0_worth_0 ++ dktX0_worth_1
theorem dksX0_worth_0 : cX0_worth.data.toList.drop 0 = dktX0_worth_0 := by decide +kernel
theorem dksX0_worth_1 : cX0_worth.data.toList.drop 23 = dktX0_worth_1 := dk_seg dksX0_worth_0 23 rfl rfl
theorem dX0_worth_0 : decode cX0_worth 0 = .ok (.iload_n 1, 1) := dk_27 (dk_at dksX0_worth_0 0 rfl rfl)
theorem dX0_worth_1 : decode cX0_worth 1 = .ok (.invokestatic 69, 3) := dk_184 0 69 (dk_at dksX0_worth_0 1 rfl rfl)
theorem dX0_worth_4 : decode cX0_worth 4 = .ok (.ifCond .eq 15, 3) := dk_153 0 15 (dk_at dksX0_worth_0 4 rfl rfl)
theorem dX0_worth_7 : decode cX0_worth 7 = .ok (.iload_n 2, 1) := dk_28 (dk_at dksX0_worth_0 7 rfl rfl)
theorem dX0_worth_8 : decode cX0_worth 8 = .ok (.i2l, 1) := dk_133 (dk_at dksX0_worth_0 8 rfl rfl)
theorem dX0_worth_9 : decode cX0_worth 9 = .ok (.lconst 0, 1) := dk_9 (dk_at dksX0_worth_0 9 rfl rfl)
theorem dX0_worth_10 : decode cX0_worth 10 = .ok (.ldc2_w 78, 3) := dk_20 0 78 (dk_at dksX0_worth_0 10 rfl rfl)
theorem dX0_worth_13 : decode cX0_worth 13 = .ok (.invokestatic 1, 3) := dk_184 0 1 (dk_at dksX0_worth_0 13 rfl rfl)
theorem dX0_worth_16 : decode cX0_worth 16 = .ok (.ifCond .ne 6, 3) := dk_154 0 6 (dk_at dksX0_worth_0 16 rfl rfl)
theorem dX0_worth_19 : decode cX0_worth 19 = .ok (.bipush (-2), 2) := dk_16 254 (dk_at dksX0_worth_0 19 rfl rfl)
theorem dX0_worth_21 : decode cX0_worth 21 = .ok (.ireturn, 1) := dk_172 (dk_at dksX0_worth_0 21 rfl rfl)
theorem dX0_worth_22 : decode cX0_worth 22 = .ok (.aload_n 0, 1) := dk_42 (dk_at dksX0_worth_0 22 rfl rfl)
theorem dX0_worth_23 : decode cX0_worth 23 = .ok (.getfield 18, 3) := dk_180 0 18 (dk_at dksX0_worth_1 0 rfl rfl)
theorem dX0_worth_26 : decode cX0_worth 26 = .ok (.getfield 80, 3) := dk_180 0 80 (dk_at dksX0_worth_1 3 rfl rfl)
theorem dX0_worth_29 : decode cX0_worth 29 = .ok (.iload_n 1, 1) := dk_27 (dk_at dksX0_worth_1 6 rfl rfl)
theorem dX0_worth_30 : decode cX0_worth 30 = .ok (.iaload, 1) := dk_46 (dk_at dksX0_worth_1 7 rfl rfl)
theorem dX0_worth_31 : decode cX0_worth 31 = .ok (.istore_n 3, 1) := dk_62 (dk_at dksX0_worth_1 8 rfl rfl)
theorem dX0_worth_32 : decode cX0_worth 32 = .ok (.aload_n 0, 1) := dk_42 (dk_at dksX0_worth_1 9 rfl rfl)
theorem dX0_worth_33 : decode cX0_worth 33 = .ok (.getfield 18, 3) := dk_180 0 18 (dk_at dksX0_worth_1 10 rfl rfl)
theorem dX0_worth_36 : decode cX0_worth 36 = .ok (.getfield 80, 3) := dk_180 0 80 (dk_at dksX0_worth_1 13 rfl rfl)
theorem dX0_worth_39 : decode cX0_worth 39 = .ok (.iload_n 1, 1) := dk_27 (dk_at dksX0_worth_1 16 rfl rfl)
theorem dX0_worth_40 : decode cX0_worth 40 = .ok (.iload_n 2, 1) := dk_28 (dk_at dksX0_worth_1 17 rfl rfl)
theorem dX0_worth_41 : decode cX0_worth 41 = .ok (.iastore, 1) := dk_79 (dk_at dksX0_worth_1 18 rfl rfl)
theorem dX0_worth_42 : decode cX0_worth 42 = .ok (.iload_n 3, 1) := dk_29 (dk_at dksX0_worth_1 19 rfl rfl)
theorem dX0_worth_43 : decode cX0_worth 43 = .ok (.ireturn, 1) := dk_172 (dk_at dksX0_worth_1 20 rfl rfl)
abbrev cX0_like : ByteArray := prog_1_method_9_code
def yX0_like : MethodName := ⟨RX0, "like", "(III)I"⟩
def dkwX0_like_2 : List UInt8 := [182, 0, 86, 42, 180, 0, 18, 180, 0, 83, 182, 0, 90, 172]
abbrev dktX0_like_2 : List UInt8 := dkwX0_like_2 ++ []
def dkwX0_like_1 : List UInt8 := [42, 180, 0, 18, 180, 0, 83, 16, 16, 27, 104, 28, 96, 29, 4, 160, 0, 7, 4, 167, 0, 4, 3]
abbrev dktX0_like_1 : List UInt8 := dkwX0_like_1 ++ dktX0_like_2
def dkwX0_like_0 : List UInt8 := [27, 184, 0, 69, 153, 0, 17, 28, 184, 0, 69, 153, 0, 10, 29, 184, 0, 63, 154, 0, 6, 16, 254, 172]
abbrev dktX0_like_0 : List UInt8 := dkwX0_like_0 ++ dktX0_like_1
theorem dksX0_like_0 : cX0_like.data.toList.drop 0 = dktX0_like_0 := by decide +kernel
theorem dksX0_like_1 : cX0_like.data.toList.drop 24 = dktX0_like_1 := dk_seg dksX0_like_0 24 rfl rfl
theorem dksX0_like_2 : cX0_like.data.toList.drop 47 = dktX0_like_2 := dk_seg dksX0_like_1 23 rfl rfl
theorem dX0_like_0 : decode cX0_like 0 = .ok (.iload_n 1, 1) := dk_27 (dk_at dksX0_like_0 0 rfl rfl)
theorem dX0_like_1 : decode cX0_like 1 = .ok (.invokestatic 69, 3) := dk_184 0 69 (dk_at dksX0_like_0 1 rfl rfl)
theorem dX0_like_4 : decode cX0_like 4 = .ok (.ifCond .eq 17, 3) := dk_153 0 17 (dk_at dksX0_like_0 4 rfl rfl)
theorem dX0_like_7 : decode cX0_like 7 = .ok (.iload_n 2, 1) := dk_28 (dk_at dksX0_like_0 7 rfl rfl)
theorem dX0_like_8 : decode cX0_like 8 = .ok (.invokestatic 69, 3) := dk_184 0 69 (dk_at dksX0_like_0 8 rfl rfl)
theorem dX0_like_11 : decode cX0_like 11 = .ok (.ifCond .eq 10, 3) := dk_153 0 10 (dk_at dksX0_like_0 11 rfl rfl)
theorem dX0_like_14 : decode cX0_like 14 = .ok (.iload_n 3, 1) := dk_29 (dk_at dksX0_like_0 14 rfl rfl)
theorem dX0_like_15 : decode cX0_like 15 = .ok (.invokestatic 63, 3) := dk_184 0 63 (dk_at dksX0_like_0 15 rfl rfl)
theorem dX0_like_18 : decode cX0_like 18 = .ok (.ifCond .ne 6, 3) := dk_154 0 6 (dk_at dksX0_like_0 18 rfl rfl)
theorem dX0_like_21 : decode cX0_like 21 = .ok (.bipush (-2), 2) := dk_16 254 (dk_at dksX0_like_0 21 rfl rfl)
theorem dX0_like_23 : decode cX0_like 23 = .ok (.ireturn, 1) := dk_172 (dk_at dksX0_like_0 23 rfl rfl)
theorem dX0_like_24 : decode cX0_like 24 = .ok (.aload_n 0, 1) := dk_42 (dk_at dksX0_like_1 0 rfl rfl)
theorem dX0_like_25 : decode cX0_like 25 = .ok (.getfield 18, 3) := dk_180 0 18 (dk_at dksX0_like_1 1 rfl rfl)
theorem dX0_like_28 : decode cX0_like 28 = .ok (.getfield 83, 3) := dk_180 0 83 (dk_at dksX0_like_1 4 rfl rfl)
theorem dX0_like_31 : decode cX0_like 31 = .ok (.bipush 16, 2) := dk_16 16 (dk_at dksX0_like_1 7 rfl rfl)
theorem dX0_like_33 : decode cX0_like 33 = .ok (.iload_n 1, 1) := dk_27 (dk_at dksX0_like_1 9 rfl rfl)
theorem dX0_like_34 : decode cX0_like 34 = .ok (.imul, 1) := dk_104 (dk_at dksX0_like_1 10 rfl rfl)
theorem dX0_like_35 : decode cX0_like 35 = .ok (.iload_n 2, 1) := dk_28 (dk_at dksX0_like_1 11 rfl rfl)
theorem dX0_like_36 : decode cX0_like 36 = .ok (.iadd, 1) := dk_96 (dk_at dksX0_like_1 12 rfl rfl)
theorem dX0_like_37 : decode cX0_like 37 = .ok (.iload_n 3, 1) := dk_29 (dk_at dksX0_like_1 13 rfl rfl)
theorem dX0_like_38 : decode cX0_like 38 = .ok (.iconst 1, 1) := dk_4 (dk_at dksX0_like_1 14 rfl rfl)
theorem dX0_like_39 : decode cX0_like 39 = .ok (.if_icmp .ne 7, 3) := dk_160 0 7 (dk_at dksX0_like_1 15 rfl rfl)
theorem dX0_like_42 : decode cX0_like 42 = .ok (.iconst 1, 1) := dk_4 (dk_at dksX0_like_1 18 rfl rfl)
theorem dX0_like_43 : decode cX0_like 43 = .ok (.goto 4, 3) := dk_167 0 4 (dk_at dksX0_like_1 19 rfl rfl)
theorem dX0_like_46 : decode cX0_like 46 = .ok (.iconst 0, 1) := dk_3 (dk_at dksX0_like_1 22 rfl rfl)
theorem dX0_like_47 : decode cX0_like 47 = .ok (.invokevirtual 86, 3) := dk_182 0 86 (dk_at dksX0_like_2 0 rfl rfl)
theorem dX0_like_50 : decode cX0_like 50 = .ok (.aload_n 0, 1) := dk_42 (dk_at dksX0_like_2 3 rfl rfl)
theorem dX0_like_51 : decode cX0_like 51 = .ok (.getfield 18, 3) := dk_180 0 18 (dk_at dksX0_like_2 4 rfl rfl)
theorem dX0_like_54 : decode cX0_like 54 = .ok (.getfield 83, 3) := dk_180 0 83 (dk_at dksX0_like_2 7 rfl rfl)
theorem dX0_like_57 : decode cX0_like 57 = .ok (.invokevirtual 90, 3) := dk_182 0 90 (dk_at dksX0_like_2 10 rfl rfl)
theorem dX0_like_60 : decode cX0_like 60 = .ok (.ireturn, 1) := dk_172 (dk_at dksX0_like_2 13 rfl rfl)
abbrev cX0_letter : ByteArray := prog_1_method_12_code
def yX0_letter : MethodName := ⟨RX0, "letter", "(II)I"⟩
def dkwX0_letter_3 : List UInt8 := [42, 182, 0, 137, 28, 184, 0, 133, 172, 16, 254, 172]
abbrev dktX0_letter_3 : List UInt8 := dkwX0_letter_3 ++ []
def dkwX0_letter_2 : List UInt8 := [42, 180, 0, 18, 180, 0, 72, 28, 184, 0, 133, 172, 42, 180, 0, 18, 180, 0, 75, 28, 184, 0, 133, 172]
abbrev dktX0_letter_2 : List UInt8 := dkwX0_letter_2 ++ dktX0_letter_3
def dkwX0_letter_1 : List UInt8 := [170, 0, 0, 0, 0, 0, 60, 0, 0, 0, 0, 0, 0, 0, 2, 0, 0, 0, 27, 0, 0, 0, 39, 0, 0, 0, 51]
abbrev dktX0_letter_1 : List UInt8 := dkwX0_letter_1 ++ dktX0_letter_2
def dkwX0_letter_0 : List UInt8 := [27]
abbrev dktX0_letter_0 : List UInt8 := dkwX0_letter_0 ++ dktX0_letter_1
theorem dksX0_letter_0 : cX0_letter.data.toList.drop 0 = dktX0_letter_0 := by decide +kernel
theorem dksX0_letter_1 : cX0_letter.data.toList.drop 1 = dktX0_letter_1 := dk_seg dksX0_letter_0 1 rfl rfl
theorem dksX0_letter_2 : cX0_letter.data.toList.drop 28 = dktX0_letter_2 := dk_seg dksX0_letter_1 27 rfl rfl
theorem dksX0_letter_3 : cX0_letter.data.toList.drop 52 = dktX0_letter_3 := dk_seg dksX0_letter_2 24 rfl rfl
theorem dX0_letter_0 : decode cX0_letter 0 = .ok (.iload_n 1, 1) := dk_27 (dk_at dksX0_letter_0 0 rfl rfl)
theorem dX0_letter_1 : decode cX0_letter 1 = .ok (.tableswitch 60 0 2 #[27, 39, 51], 27) := by decide +kernel
theorem dX0_letter_28 : decode cX0_letter 28 = .ok (.aload_n 0, 1) := dk_42 (dk_at dksX0_letter_2 0 rfl rfl)
theorem dX0_letter_29 : decode cX0_letter 29 = .ok (.getfield 18, 3) := dk_180 0 18 (dk_at dksX0_letter_2 1 rfl rfl)
theorem dX0_letter_32 : decode cX0_letter 32 = .ok (.getfield 72, 3) := dk_180 0 72 (dk_at dksX0_letter_2 4 rfl rfl)
theorem dX0_letter_35 : decode cX0_letter 35 = .ok (.iload_n 2, 1) := dk_28 (dk_at dksX0_letter_2 7 rfl rfl)
theorem dX0_letter_36 : decode cX0_letter 36 = .ok (.invokestatic 133, 3) := dk_184 0 133 (dk_at dksX0_letter_2 8 rfl rfl)
theorem dX0_letter_39 : decode cX0_letter 39 = .ok (.ireturn, 1) := dk_172 (dk_at dksX0_letter_2 11 rfl rfl)
theorem dX0_letter_40 : decode cX0_letter 40 = .ok (.aload_n 0, 1) := dk_42 (dk_at dksX0_letter_2 12 rfl rfl)
theorem dX0_letter_41 : decode cX0_letter 41 = .ok (.getfield 18, 3) := dk_180 0 18 (dk_at dksX0_letter_2 13 rfl rfl)
theorem dX0_letter_44 : decode cX0_letter 44 = .ok (.getfield 75, 3) := dk_180 0 75 (dk_at dksX0_letter_2 16 rfl rfl)
theorem dX0_letter_47 : decode cX0_letter 47 = .ok (.iload_n 2, 1) := dk_28 (dk_at dksX0_letter_2 19 rfl rfl)
theorem dX0_letter_48 : decode cX0_letter 48 = .ok (.invokestatic 133, 3) := dk_184 0 133 (dk_at dksX0_letter_2 20 rfl rfl)
theorem dX0_letter_51 : decode cX0_letter 51 = .ok (.ireturn, 1) := dk_172 (dk_at dksX0_letter_2 23 rfl rfl)
theorem dX0_letter_52 : decode cX0_letter 52 = .ok (.aload_n 0, 1) := dk_42 (dk_at dksX0_letter_3 0 rfl rfl)
theorem dX0_letter_53 : decode cX0_letter 53 = .ok (.invokevirtual 137, 3) := dk_182 0 137 (dk_at dksX0_letter_3 1 rfl rfl)
theorem dX0_letter_56 : decode cX0_letter 56 = .ok (.iload_n 2, 1) := dk_28 (dk_at dksX0_letter_3 4 rfl rfl)
theorem dX0_letter_57 : decode cX0_letter 57 = .ok (.invokestatic 133, 3) := dk_184 0 133 (dk_at dksX0_letter_3 5 rfl rfl)
theorem dX0_letter_60 : decode cX0_letter 60 = .ok (.ireturn, 1) := dk_172 (dk_at dksX0_letter_3 8 rfl rfl)
theorem dX0_letter_61 : decode cX0_letter 61 = .ok (.bipush (-2), 2) := dk_16 254 (dk_at dksX0_letter_3 9 rfl rfl)
theorem dX0_letter_63 : decode cX0_letter 63 = .ok (.ireturn, 1) := dk_172 (dk_at dksX0_letter_3 11 rfl rfl)
abbrev cX0_at : ByteArray := prog_1_method_11_code
def yX0_at : MethodName := ⟨RX0, "at", "([II)I"⟩
def dkwX0_at_1 : List UInt8 := [42, 27, 46, 167, 0, 5, 16, 250, 172]
abbrev dktX0_at_1 : List UInt8 := dkwX0_at_1 ++ []
def dkwX0_at_0 : List UInt8 := [27, 2, 160, 0, 8, 42, 190, 167, 0, 25, 27, 133, 9, 42, 190, 133, 10, 101, 184, 0, 1, 153, 0, 9]
abbrev dktX0_at_0 : List UInt8 := dkwX0_at_0 ++ dktX0_at_1
theorem dksX0_at_0 : cX0_at.data.toList.drop 0 = dktX0_at_0 := by decide +kernel
theorem dksX0_at_1 : cX0_at.data.toList.drop 24 = dktX0_at_1 := dk_seg dksX0_at_0 24 rfl rfl
theorem dX0_at_0 : decode cX0_at 0 = .ok (.iload_n 1, 1) := dk_27 (dk_at dksX0_at_0 0 rfl rfl)
theorem dX0_at_1 : decode cX0_at 1 = .ok (.iconst (-1), 1) := dk_2 (dk_at dksX0_at_0 1 rfl rfl)
theorem dX0_at_2 : decode cX0_at 2 = .ok (.if_icmp .ne 8, 3) := dk_160 0 8 (dk_at dksX0_at_0 2 rfl rfl)
theorem dX0_at_5 : decode cX0_at 5 = .ok (.aload_n 0, 1) := dk_42 (dk_at dksX0_at_0 5 rfl rfl)
theorem dX0_at_6 : decode cX0_at 6 = .ok (.arraylength, 1) := dk_190 (dk_at dksX0_at_0 6 rfl rfl)
theorem dX0_at_7 : decode cX0_at 7 = .ok (.goto 25, 3) := dk_167 0 25 (dk_at dksX0_at_0 7 rfl rfl)
theorem dX0_at_10 : decode cX0_at 10 = .ok (.iload_n 1, 1) := dk_27 (dk_at dksX0_at_0 10 rfl rfl)
theorem dX0_at_11 : decode cX0_at 11 = .ok (.i2l, 1) := dk_133 (dk_at dksX0_at_0 11 rfl rfl)
theorem dX0_at_12 : decode cX0_at 12 = .ok (.lconst 0, 1) := dk_9 (dk_at dksX0_at_0 12 rfl rfl)
theorem dX0_at_13 : decode cX0_at 13 = .ok (.aload_n 0, 1) := dk_42 (dk_at dksX0_at_0 13 rfl rfl)
theorem dX0_at_14 : decode cX0_at 14 = .ok (.arraylength, 1) := dk_190 (dk_at dksX0_at_0 14 rfl rfl)
theorem dX0_at_15 : decode cX0_at 15 = .ok (.i2l, 1) := dk_133 (dk_at dksX0_at_0 15 rfl rfl)
theorem dX0_at_16 : decode cX0_at 16 = .ok (.lconst 1, 1) := dk_10 (dk_at dksX0_at_0 16 rfl rfl)
theorem dX0_at_17 : decode cX0_at 17 = .ok (.lsub, 1) := dk_101 (dk_at dksX0_at_0 17 rfl rfl)
theorem dX0_at_18 : decode cX0_at 18 = .ok (.invokestatic 1, 3) := dk_184 0 1 (dk_at dksX0_at_0 18 rfl rfl)
theorem dX0_at_21 : decode cX0_at 21 = .ok (.ifCond .eq 9, 3) := dk_153 0 9 (dk_at dksX0_at_0 21 rfl rfl)
theorem dX0_at_24 : decode cX0_at 24 = .ok (.aload_n 0, 1) := dk_42 (dk_at dksX0_at_1 0 rfl rfl)
theorem dX0_at_25 : decode cX0_at 25 = .ok (.iload_n 1, 1) := dk_27 (dk_at dksX0_at_1 1 rfl rfl)
theorem dX0_at_26 : decode cX0_at 26 = .ok (.iaload, 1) := dk_46 (dk_at dksX0_at_1 2 rfl rfl)
theorem dX0_at_27 : decode cX0_at 27 = .ok (.goto 5, 3) := dk_167 0 5 (dk_at dksX0_at_1 3 rfl rfl)
theorem dX0_at_30 : decode cX0_at 30 = .ok (.bipush (-6), 2) := dk_16 250 (dk_at dksX0_at_1 6 rfl rfl)
theorem dX0_at_32 : decode cX0_at 32 = .ok (.ireturn, 1) := dk_172 (dk_at dksX0_at_1 8 rfl rfl)
abbrev cX0_square : ByteArray := prog_1_method_10_code
def yX0_square : MethodName := ⟨RX0, "square", "()[I"⟩
def dkwX0_square_6 : List UInt8 := [192, 0, 98, 182, 0, 121, 79, 132, 3, 1, 167, 255, 233, 44, 176]
abbrev dktX0_square_6 : List UInt8 := dkwX0_square_6 ++ []
def dkwX0_square_5 : List UInt8 := [167, 255, 213, 132, 6, 1, 167, 255, 187, 43, 182, 0, 127, 154, 0, 22, 44, 29, 43, 182, 0, 130]
abbrev dktX0_square_5 : List UInt8 := dkwX0_square_5 ++ dktX0_square_6
def dkwX0_square_4 : List UInt8 := [182, 0, 121, 21, 7, 160, 255, 231, 25, 8, 185, 0, 124, 1, 0, 44, 29, 21, 7, 79, 132, 3, 1]
abbrev dktX0_square_4 : List UInt8 := dkwX0_square_4 ++ dktX0_square_5
def dkwX0_square_3 : List UInt8 := [58, 8, 25, 8, 185, 0, 111, 1, 0, 153, 0, 39, 25, 8, 185, 0, 117, 1, 0, 192, 0, 98]
abbrev dktX0_square_3 : List UInt8 := dkwX0_square_3 ++ dktX0_square_4
def dkwX0_square_2 : List UInt8 := [190, 54, 5, 3, 54, 6, 21, 6, 21, 5, 162, 0, 68, 25, 4, 21, 6, 46, 54, 7, 43, 182, 0, 107]
abbrev dktX0_square_2 : List UInt8 := dkwX0_square_2 ++ dktX0_square_3
def dkwX0_square_1 : List UInt8 := [132, 2, 1, 167, 255, 239, 16, 16, 188, 10, 77, 3, 62, 42, 180, 0, 18, 180, 0, 75, 58, 4, 25, 4]
abbrev dktX0_square_1 : List UInt8 := dkwX0_square_1 ++ dktX0_square_2
def dkwX0_square_0 : List UInt8 := [187, 0, 94, 89, 183, 0, 96, 76, 3, 61, 28, 16, 16, 162, 0, 17, 43, 28, 184, 0, 97, 182, 0, 103]
abbrev dktX0_square_0 : List UInt8 := dkwX0_square_0 ++ dktX0_square_1
theorem dksX0_square_0 : cX0_square.data.toList.drop 0 = dktX0_square_0 := by decide +kernel
theorem dksX0_square_1 : cX0_square.data.toList.drop 24 = dktX0_square_1 := dk_seg dksX0_square_0 24 rfl rfl
theorem dksX0_square_2 : cX0_square.data.toList.drop 48 = dktX0_square_2 := dk_seg dksX0_square_1 24 rfl rfl
theorem dksX0_square_3 : cX0_square.data.toList.drop 72 = dktX0_square_3 := dk_seg dksX0_square_2 24 rfl rfl
theorem dksX0_square_4 : cX0_square.data.toList.drop 94 = dktX0_square_4 := dk_seg dksX0_square_3 22 rfl rfl
theorem dksX0_square_5 : cX0_square.data.toList.drop 117 = dktX0_square_5 := dk_seg dksX0_square_4 23 rfl rfl
theorem dksX0_square_6 : cX0_square.data.toList.drop 139 = dktX0_square_6 := dk_seg dksX0_square_5 22 rfl rfl
theorem dX0_square_0 : decode cX0_square 0 = .ok (.new 94, 3) := dk_187 0 94 (dk_at dksX0_square_0 0 rfl rfl)
theorem dX0_square_3 : decode cX0_square 3 = .ok (.dup, 1) := dk_89 (dk_at dksX0_square_0 3 rfl rfl)
theorem dX0_square_4 : decode cX0_square 4 = .ok (.invokespecial 96, 3) := dk_183 0 96 (dk_at dksX0_square_0 4 rfl rfl)
theorem dX0_square_7 : decode cX0_square 7 = .ok (.astore_n 1, 1) := dk_76 (dk_at dksX0_square_0 7 rfl rfl)
theorem dX0_square_8 : decode cX0_square 8 = .ok (.iconst 0, 1) := dk_3 (dk_at dksX0_square_0 8 rfl rfl)
theorem dX0_square_9 : decode cX0_square 9 = .ok (.istore_n 2, 1) := dk_61 (dk_at dksX0_square_0 9 rfl rfl)
theorem dX0_square_10 : decode cX0_square 10 = .ok (.iload_n 2, 1) := dk_28 (dk_at dksX0_square_0 10 rfl rfl)
theorem dX0_square_11 : decode cX0_square 11 = .ok (.bipush 16, 2) := dk_16 16 (dk_at dksX0_square_0 11 rfl rfl)
theorem dX0_square_13 : decode cX0_square 13 = .ok (.if_icmp .ge 17, 3) := dk_162 0 17 (dk_at dksX0_square_0 13 rfl rfl)
theorem dX0_square_16 : decode cX0_square 16 = .ok (.aload_n 1, 1) := dk_43 (dk_at dksX0_square_0 16 rfl rfl)
theorem dX0_square_17 : decode cX0_square 17 = .ok (.iload_n 2, 1) := dk_28 (dk_at dksX0_square_0 17 rfl rfl)
theorem dX0_square_18 : decode cX0_square 18 = .ok (.invokestatic 97, 3) := dk_184 0 97 (dk_at dksX0_square_0 18 rfl rfl)
theorem dX0_square_21 : decode cX0_square 21 = .ok (.invokevirtual 103, 3) := dk_182 0 103 (dk_at dksX0_square_0 21 rfl rfl)
theorem dX0_square_24 : decode cX0_square 24 = .ok (.iinc 2 1, 3) := dk_132 2 1 (dk_at dksX0_square_1 0 rfl rfl)
theorem dX0_square_27 : decode cX0_square 27 = .ok (.goto (-17), 3) := dk_167 255 239 (dk_at dksX0_square_1 3 rfl rfl)
theorem dX0_square_30 : decode cX0_square 30 = .ok (.bipush 16, 2) := dk_16 16 (dk_at dksX0_square_1 6 rfl rfl)
theorem dX0_square_32 : decode cX0_square 32 = .ok (.newarray .int, 2) := dk_188_10 (dk_at dksX0_square_1 8 rfl rfl)
theorem dX0_square_34 : decode cX0_square 34 = .ok (.astore_n 2, 1) := dk_77 (dk_at dksX0_square_1 10 rfl rfl)
theorem dX0_square_35 : decode cX0_square 35 = .ok (.iconst 0, 1) := dk_3 (dk_at dksX0_square_1 11 rfl rfl)
theorem dX0_square_36 : decode cX0_square 36 = .ok (.istore_n 3, 1) := dk_62 (dk_at dksX0_square_1 12 rfl rfl)
theorem dX0_square_37 : decode cX0_square 37 = .ok (.aload_n 0, 1) := dk_42 (dk_at dksX0_square_1 13 rfl rfl)
theorem dX0_square_38 : decode cX0_square 38 = .ok (.getfield 18, 3) := dk_180 0 18 (dk_at dksX0_square_1 14 rfl rfl)
theorem dX0_square_41 : decode cX0_square 41 = .ok (.getfield 75, 3) := dk_180 0 75 (dk_at dksX0_square_1 17 rfl rfl)
theorem dX0_square_44 : decode cX0_square 44 = .ok (.astore 4, 2) := dk_58 4 (dk_at dksX0_square_1 20 rfl rfl)
theorem dX0_square_46 : decode cX0_square 46 = .ok (.aload 4, 2) := dk_25 4 (dk_at dksX0_square_1 22 rfl rfl)
theorem dX0_square_48 : decode cX0_square 48 = .ok (.arraylength, 1) := dk_190 (dk_at dksX0_square_2 0 rfl rfl)
theorem dX0_square_49 : decode cX0_square 49 = .ok (.istore 5, 2) := dk_54 5 (dk_at dksX0_square_2 1 rfl rfl)
theorem dX0_square_51 : decode cX0_square 51 = .ok (.iconst 0, 1) := dk_3 (dk_at dksX0_square_2 3 rfl rfl)
theorem dX0_square_52 : decode cX0_square 52 = .ok (.istore 6, 2) := dk_54 6 (dk_at dksX0_square_2 4 rfl rfl)
theorem dX0_square_54 : decode cX0_square 54 = .ok (.iload 6, 2) := dk_21 6 (dk_at dksX0_square_2 6 rfl rfl)
theorem dX0_square_56 : decode cX0_square 56 = .ok (.iload 5, 2) := dk_21 5 (dk_at dksX0_square_2 8 rfl rfl)
theorem dX0_square_58 : decode cX0_square 58 = .ok (.if_icmp .ge 68, 3) := dk_162 0 68 (dk_at dksX0_square_2 10 rfl rfl)
theorem dX0_square_61 : decode cX0_square 61 = .ok (.aload 4, 2) := dk_25 4 (dk_at dksX0_square_2 13 rfl rfl)
theorem dX0_square_63 : decode cX0_square 63 = .ok (.iload 6, 2) := dk_21 6 (dk_at dksX0_square_2 15 rfl rfl)
theorem dX0_square_65 : decode cX0_square 65 = .ok (.iaload, 1) := dk_46 (dk_at dksX0_square_2 17 rfl rfl)
theorem dX0_square_66 : decode cX0_square 66 = .ok (.istore 7, 2) := dk_54 7 (dk_at dksX0_square_2 18 rfl rfl)
theorem dX0_square_68 : decode cX0_square 68 = .ok (.aload_n 1, 1) := dk_43 (dk_at dksX0_square_2 20 rfl rfl)
theorem dX0_square_69 : decode cX0_square 69 = .ok (.invokevirtual 107, 3) := dk_182 0 107 (dk_at dksX0_square_2 21 rfl rfl)
theorem dX0_square_72 : decode cX0_square 72 = .ok (.astore 8, 2) := dk_58 8 (dk_at dksX0_square_3 0 rfl rfl)
theorem dX0_square_74 : decode cX0_square 74 = .ok (.aload 8, 2) := dk_25 8 (dk_at dksX0_square_3 2 rfl rfl)
theorem dX0_square_76 : decode cX0_square 76 = .ok (.invokeinterface 111 1, 5) := by decide +kernel
theorem dX0_square_81 : decode cX0_square 81 = .ok (.ifCond .eq 39, 3) := dk_153 0 39 (dk_at dksX0_square_3 9 rfl rfl)
theorem dX0_square_84 : decode cX0_square 84 = .ok (.aload 8, 2) := dk_25 8 (dk_at dksX0_square_3 12 rfl rfl)
theorem dX0_square_86 : decode cX0_square 86 = .ok (.invokeinterface 117 1, 5) := by decide +kernel
theorem dX0_square_91 : decode cX0_square 91 = .ok (.checkcast 98, 3) := dk_192 0 98 (dk_at dksX0_square_3 19 rfl rfl)
theorem dX0_square_94 : decode cX0_square 94 = .ok (.invokevirtual 121, 3) := dk_182 0 121 (dk_at dksX0_square_4 0 rfl rfl)
theorem dX0_square_97 : decode cX0_square 97 = .ok (.iload 7, 2) := dk_21 7 (dk_at dksX0_square_4 3 rfl rfl)
theorem dX0_square_99 : decode cX0_square 99 = .ok (.if_icmp .ne (-25), 3) := dk_160 255 231 (dk_at dksX0_square_4 5 rfl rfl)
theorem dX0_square_102 : decode cX0_square 102 = .ok (.aload 8, 2) := dk_25 8 (dk_at dksX0_square_4 8 rfl rfl)
theorem dX0_square_104 : decode cX0_square 104 = .ok (.invokeinterface 124 1, 5) := by decide +kernel
theorem dX0_square_109 : decode cX0_square 109 = .ok (.aload_n 2, 1) := dk_44 (dk_at dksX0_square_4 15 rfl rfl)
theorem dX0_square_110 : decode cX0_square 110 = .ok (.iload_n 3, 1) := dk_29 (dk_at dksX0_square_4 16 rfl rfl)
theorem dX0_square_111 : decode cX0_square 111 = .ok (.iload 7, 2) := dk_21 7 (dk_at dksX0_square_4 17 rfl rfl)
theorem dX0_square_113 : decode cX0_square 113 = .ok (.iastore, 1) := dk_79 (dk_at dksX0_square_4 19 rfl rfl)
theorem dX0_square_114 : decode cX0_square 114 = .ok (.iinc 3 1, 3) := dk_132 3 1 (dk_at dksX0_square_4 20 rfl rfl)
theorem dX0_square_117 : decode cX0_square 117 = .ok (.goto (-43), 3) := dk_167 255 213 (dk_at dksX0_square_5 0 rfl rfl)
theorem dX0_square_120 : decode cX0_square 120 = .ok (.iinc 6 1, 3) := dk_132 6 1 (dk_at dksX0_square_5 3 rfl rfl)
theorem dX0_square_123 : decode cX0_square 123 = .ok (.goto (-69), 3) := dk_167 255 187 (dk_at dksX0_square_5 6 rfl rfl)
theorem dX0_square_126 : decode cX0_square 126 = .ok (.aload_n 1, 1) := dk_43 (dk_at dksX0_square_5 9 rfl rfl)
theorem dX0_square_127 : decode cX0_square 127 = .ok (.invokevirtual 127, 3) := dk_182 0 127 (dk_at dksX0_square_5 10 rfl rfl)
theorem dX0_square_130 : decode cX0_square 130 = .ok (.ifCond .ne 22, 3) := dk_154 0 22 (dk_at dksX0_square_5 13 rfl rfl)
theorem dX0_square_133 : decode cX0_square 133 = .ok (.aload_n 2, 1) := dk_44 (dk_at dksX0_square_5 16 rfl rfl)
theorem dX0_square_134 : decode cX0_square 134 = .ok (.iload_n 3, 1) := dk_29 (dk_at dksX0_square_5 17 rfl rfl)
theorem dX0_square_135 : decode cX0_square 135 = .ok (.aload_n 1, 1) := dk_43 (dk_at dksX0_square_5 18 rfl rfl)
theorem dX0_square_136 : decode cX0_square 136 = .ok (.invokevirtual 130, 3) := dk_182 0 130 (dk_at dksX0_square_5 19 rfl rfl)
theorem dX0_square_139 : decode cX0_square 139 = .ok (.checkcast 98, 3) := dk_192 0 98 (dk_at dksX0_square_6 0 rfl rfl)
theorem dX0_square_142 : decode cX0_square 142 = .ok (.invokevirtual 121, 3) := dk_182 0 121 (dk_at dksX0_square_6 3 rfl rfl)
theorem dX0_square_145 : decode cX0_square 145 = .ok (.iastore, 1) := dk_79 (dk_at dksX0_square_6 6 rfl rfl)
theorem dX0_square_146 : decode cX0_square 146 = .ok (.iinc 3 1, 3) := dk_132 3 1 (dk_at dksX0_square_6 7 rfl rfl)
theorem dX0_square_149 : decode cX0_square 149 = .ok (.goto (-23), 3) := dk_167 255 233 (dk_at dksX0_square_6 10 rfl rfl)
theorem dX0_square_152 : decode cX0_square 152 = .ok (.aload_n 2, 1) := dk_44 (dk_at dksX0_square_6 13 rfl rfl)
theorem dX0_square_153 : decode cX0_square 153 = .ok (.areturn, 1) := dk_176 (dk_at dksX0_square_6 14 rfl rfl)
abbrev cX0_hide : ByteArray := prog_1_method_25_code
def yX0_hide : MethodName := ⟨RX0, "hide", "(I)I"⟩
def dkwX0_hide_0 : List UInt8 := [42, 27, 4, 182, 0, 205, 172]
abbrev dktX0_hide_0 : List UInt8 := dkwX0_hide_0 ++ []
theorem dksX0_hide_0 : cX0_hide.data.toList.drop 0 = dktX0_hide_0 := by decide +kernel
theorem dX0_hide_0 : decode cX0_hide 0 = .ok (.aload_n 0, 1) := dk_42 (dk_at dksX0_hide_0 0 rfl rfl)
theorem dX0_hide_1 : decode cX0_hide 1 = .ok (.iload_n 1, 1) := dk_27 (dk_at dksX0_hide_0 1 rfl rfl)
theorem dX0_hide_2 : decode cX0_hide 2 = .ok (.iconst 1, 1) := dk_4 (dk_at dksX0_hide_0 2 rfl rfl)
theorem dX0_hide_3 : decode cX0_hide 3 = .ok (.invokevirtual 205, 3) := dk_182 0 205 (dk_at dksX0_hide_0 3 rfl rfl)
theorem dX0_hide_6 : decode cX0_hide 6 = .ok (.ireturn, 1) := dk_172 (dk_at dksX0_hide_0 6 rfl rfl)
abbrev cX0_step : ByteArray := prog_1_method_24_code
def yX0_step : MethodName := ⟨RX0, "step", "(IZ)I"⟩
def dkwX0_step_6 : List UInt8 := [21, 4, 172]
abbrev dktX0_step_6 : List UInt8 := dkwX0_step_6 ++ []
def dkwX0_step_5 : List UInt8 := [180, 0, 18, 180, 0, 194, 42, 180, 0, 18, 180, 0, 72, 182, 0, 204, 42, 180, 0, 18, 45, 181, 0, 72]
abbrev dktX0_step_5 : List UInt8 := dkwX0_step_5 ++ dktX0_step_6
def dkwX0_step_4 : List UInt8 := [180, 0, 194, 182, 0, 198, 16, 10, 160, 0, 14, 42, 180, 0, 18, 180, 0, 194, 182, 0, 203, 87, 42]
abbrev dktX0_step_4 : List UInt8 := dkwX0_step_4 ++ dktX0_step_5
def dkwX0_step_3 : List UInt8 := [46, 160, 0, 7, 3, 167, 0, 4, 4, 96, 54, 4, 132, 5, 1, 167, 255, 219, 42, 180, 0, 18]
abbrev dktX0_step_3 : List UInt8 := dkwX0_step_3 ++ dktX0_step_4
def dkwX0_step_2 : List UInt8 := [54, 5, 21, 5, 45, 190, 162, 0, 36, 21, 4, 45, 21, 5, 46, 42, 180, 0, 18, 180, 0, 72, 21, 5]
abbrev dktX0_step_2 : List UInt8 := dkwX0_step_2 ++ dktX0_step_3
def dkwX0_step_1 : List UInt8 := [180, 0, 72, 190, 5, 112, 4, 160, 0, 6, 16, 253, 172, 42, 27, 28, 182, 0, 190, 78, 3, 54, 4, 3]
abbrev dktX0_step_1 : List UInt8 := dkwX0_step_1 ++ dktX0_step_2
def dkwX0_step_0 : List UInt8 := [27, 133, 9, 20, 0, 188, 184, 0, 1, 154, 0, 6, 16, 254, 172, 27, 5, 160, 0, 20, 42, 180, 0, 18]
abbrev dktX0_step_0 : List UInt8 := dkwX0_step_0 ++ dktX0_step_1
theorem dksX0_step_0 : cX0_step.data.toList.drop 0 = dktX0_step_0 := by decide +kernel
theorem dksX0_step_1 : cX0_step.data.toList.drop 24 = dktX0_step_1 := dk_seg dksX0_step_0 24 rfl rfl
theorem dksX0_step_2 : cX0_step.data.toList.drop 48 = dktX0_step_2 := dk_seg dksX0_step_1 24 rfl rfl
theorem dksX0_step_3 : cX0_step.data.toList.drop 72 = dktX0_step_3 := dk_seg dksX0_step_2 24 rfl rfl
theorem dksX0_step_4 : cX0_step.data.toList.drop 94 = dktX0_step_4 := dk_seg dksX0_step_3 22 rfl rfl
theorem dksX0_step_5 : cX0_step.data.toList.drop 117 = dktX0_step_5 := dk_seg dksX0_step_4 23 rfl rfl
theorem dksX0_step_6 : cX0_step.data.toList.drop 141 = dktX0_step_6 := dk_seg dksX0_step_5 24 rfl rfl
theorem dX0_step_0 : decode cX0_step 0 = .ok (.iload_n 1, 1) := dk_27 (dk_at dksX0_step_0 0 rfl rfl)
theorem dX0_step_1 : decode cX0_step 1 = .ok (.i2l, 1) := dk_133 (dk_at dksX0_step_0 1 rfl rfl)
theorem dX0_step_2 : decode cX0_step 2 = .ok (.lconst 0, 1) := dk_9 (dk_at dksX0_step_0 2 rfl rfl)
theorem dX0_step_3 : decode cX0_step 3 = .ok (.ldc2_w 188, 3) := dk_20 0 188 (dk_at dksX0_step_0 3 rfl rfl)
theorem dX0_step_6 : decode cX0_step 6 = .ok (.invokestatic 1, 3) := dk_184 0 1 (dk_at dksX0_step_0 6 rfl rfl)
theorem dX0_step_9 : decode cX0_step 9 = .ok (.ifCond .ne 6, 3) := dk_154 0 6 (dk_at dksX0_step_0 9 rfl rfl)
theorem dX0_step_12 : decode cX0_step 12 = .ok (.bipush (-2), 2) := dk_16 254 (dk_at dksX0_step_0 12 rfl rfl)
theorem dX0_step_14 : decode cX0_step 14 = .ok (.ireturn, 1) := dk_172 (dk_at dksX0_step_0 14 rfl rfl)
theorem dX0_step_15 : decode cX0_step 15 = .ok (.iload_n 1, 1) := dk_27 (dk_at dksX0_step_0 15 rfl rfl)
theorem dX0_step_16 : decode cX0_step 16 = .ok (.iconst 2, 1) := dk_5 (dk_at dksX0_step_0 16 rfl rfl)
theorem dX0_step_17 : decode cX0_step 17 = .ok (.if_icmp .ne 20, 3) := dk_160 0 20 (dk_at dksX0_step_0 17 rfl rfl)
theorem dX0_step_20 : decode cX0_step 20 = .ok (.aload_n 0, 1) := dk_42 (dk_at dksX0_step_0 20 rfl rfl)
theorem dX0_step_21 : decode cX0_step 21 = .ok (.getfield 18, 3) := dk_180 0 18 (dk_at dksX0_step_0 21 rfl rfl)
theorem dX0_step_24 : decode cX0_step 24 = .ok (.getfield 72, 3) := dk_180 0 72 (dk_at dksX0_step_1 0 rfl rfl)
theorem dX0_step_27 : decode cX0_step 27 = .ok (.arraylength, 1) := dk_190 (dk_at dksX0_step_1 3 rfl rfl)
theorem dX0_step_28 : decode cX0_step 28 = .ok (.iconst 2, 1) := dk_5 (dk_at dksX0_step_1 4 rfl rfl)
theorem dX0_step_29 : decode cX0_step 29 = .ok (.irem, 1) := dk_112 (dk_at dksX0_step_1 5 rfl rfl)
theorem dX0_step_30 : decode cX0_step 30 = .ok (.iconst 1, 1) := dk_4 (dk_at dksX0_step_1 6 rfl rfl)
theorem dX0_step_31 : decode cX0_step 31 = .ok (.if_icmp .ne 6, 3) := dk_160 0 6 (dk_at dksX0_step_1 7 rfl rfl)
theorem dX0_step_34 : decode cX0_step 34 = .ok (.bipush (-3), 2) := dk_16 253 (dk_at dksX0_step_1 10 rfl rfl)
theorem dX0_step_36 : decode cX0_step 36 = .ok (.ireturn, 1) := dk_172 (dk_at dksX0_step_1 12 rfl rfl)
theorem dX0_step_37 : decode cX0_step 37 = .ok (.aload_n 0, 1) := dk_42 (dk_at dksX0_step_1 13 rfl rfl)
theorem dX0_step_38 : decode cX0_step 38 = .ok (.iload_n 1, 1) := dk_27 (dk_at dksX0_step_1 14 rfl rfl)
theorem dX0_step_39 : decode cX0_step 39 = .ok (.iload_n 2, 1) := dk_28 (dk_at dksX0_step_1 15 rfl rfl)
theorem dX0_step_40 : decode cX0_step 40 = .ok (.invokevirtual 190, 3) := dk_182 0 190 (dk_at dksX0_step_1 16 rfl rfl)
theorem dX0_step_43 : decode cX0_step 43 = .ok (.astore_n 3, 1) := dk_78 (dk_at dksX0_step_1 19 rfl rfl)
theorem dX0_step_44 : decode cX0_step 44 = .ok (.iconst 0, 1) := dk_3 (dk_at dksX0_step_1 20 rfl rfl)
theorem dX0_step_45 : decode cX0_step 45 = .ok (.istore 4, 2) := dk_54 4 (dk_at dksX0_step_1 21 rfl rfl)
theorem dX0_step_47 : decode cX0_step 47 = .ok (.iconst 0, 1) := dk_3 (dk_at dksX0_step_1 23 rfl rfl)
theorem dX0_step_48 : decode cX0_step 48 = .ok (.istore 5, 2) := dk_54 5 (dk_at dksX0_step_2 0 rfl rfl)
theorem dX0_step_50 : decode cX0_step 50 = .ok (.iload 5, 2) := dk_21 5 (dk_at dksX0_step_2 2 rfl rfl)
theorem dX0_step_52 : decode cX0_step 52 = .ok (.aload_n 3, 1) := dk_45 (dk_at dksX0_step_2 4 rfl rfl)
theorem dX0_step_53 : decode cX0_step 53 = .ok (.arraylength, 1) := dk_190 (dk_at dksX0_step_2 5 rfl rfl)
theorem dX0_step_54 : decode cX0_step 54 = .ok (.if_icmp .ge 36, 3) := dk_162 0 36 (dk_at dksX0_step_2 6 rfl rfl)
theorem dX0_step_57 : decode cX0_step 57 = .ok (.iload 4, 2) := dk_21 4 (dk_at dksX0_step_2 9 rfl rfl)
theorem dX0_step_59 : decode cX0_step 59 = .ok (.aload_n 3, 1) := dk_45 (dk_at dksX0_step_2 11 rfl rfl)
theorem dX0_step_60 : decode cX0_step 60 = .ok (.iload 5, 2) := dk_21 5 (dk_at dksX0_step_2 12 rfl rfl)
theorem dX0_step_62 : decode cX0_step 62 = .ok (.iaload, 1) := dk_46 (dk_at dksX0_step_2 14 rfl rfl)
theorem dX0_step_63 : decode cX0_step 63 = .ok (.aload_n 0, 1) := dk_42 (dk_at dksX0_step_2 15 rfl rfl)
theorem dX0_step_64 : decode cX0_step 64 = .ok (.getfield 18, 3) := dk_180 0 18 (dk_at dksX0_step_2 16 rfl rfl)
theorem dX0_step_67 : decode cX0_step 67 = .ok (.getfield 72, 3) := dk_180 0 72 (dk_at dksX0_step_2 19 rfl rfl)
theorem dX0_step_70 : decode cX0_step 70 = .ok (.iload 5, 2) := dk_21 5 (dk_at dksX0_step_2 22 rfl rfl)
theorem dX0_step_72 : decode cX0_step 72 = .ok (.iaload, 1) := dk_46 (dk_at dksX0_step_3 0 rfl rfl)
theorem dX0_step_73 : decode cX0_step 73 = .ok (.if_icmp .ne 7, 3) := dk_160 0 7 (dk_at dksX0_step_3 1 rfl rfl)
theorem dX0_step_76 : decode cX0_step 76 = .ok (.iconst 0, 1) := dk_3 (dk_at dksX0_step_3 4 rfl rfl)
theorem dX0_step_77 : decode cX0_step 77 = .ok (.goto 4, 3) := dk_167 0 4 (dk_at dksX0_step_3 5 rfl rfl)
theorem dX0_step_80 : decode cX0_step 80 = .ok (.iconst 1, 1) := dk_4 (dk_at dksX0_step_3 8 rfl rfl)
theorem dX0_step_81 : decode cX0_step 81 = .ok (.iadd, 1) := dk_96 (dk_at dksX0_step_3 9 rfl rfl)
theorem dX0_step_82 : decode cX0_step 82 = .ok (.istore 4, 2) := dk_54 4 (dk_at dksX0_step_3 10 rfl rfl)
theorem dX0_step_84 : decode cX0_step 84 = .ok (.iinc 5 1, 3) := dk_132 5 1 (dk_at dksX0_step_3 12 rfl rfl)
theorem dX0_step_87 : decode cX0_step 87 = .ok (.goto (-37), 3) := dk_167 255 219 (dk_at dksX0_step_3 15 rfl rfl)
theorem dX0_step_90 : decode cX0_step 90 = .ok (.aload_n 0, 1) := dk_42 (dk_at dksX0_step_3 18 rfl rfl)
theorem dX0_step_91 : decode cX0_step 91 = .ok (.getfield 18, 3) := dk_180 0 18 (dk_at dksX0_step_3 19 rfl rfl)
theorem dX0_step_94 : decode cX0_step 94 = .ok (.getfield 194, 3) := dk_180 0 194 (dk_at dksX0_step_4 0 rfl rfl)
theorem dX0_step_97 : decode cX0_step 97 = .ok (.invokevirtual 198, 3) := dk_182 0 198 (dk_at dksX0_step_4 3 rfl rfl)
theorem dX0_step_100 : decode cX0_step 100 = .ok (.bipush 10, 2) := dk_16 10 (dk_at dksX0_step_4 6 rfl rfl)
theorem dX0_step_102 : decode cX0_step 102 = .ok (.if_icmp .ne 14, 3) := dk_160 0 14 (dk_at dksX0_step_4 8 rfl rfl)
theorem dX0_step_105 : decode cX0_step 105 = .ok (.aload_n 0, 1) := dk_42 (dk_at dksX0_step_4 11 rfl rfl)
theorem dX0_step_106 : decode cX0_step 106 = .ok (.getfield 18, 3) := dk_180 0 18 (dk_at dksX0_step_4 12 rfl rfl)
theorem dX0_step_109 : decode cX0_step 109 = .ok (.getfield 194, 3) := dk_180 0 194 (dk_at dksX0_step_4 15 rfl rfl)
theorem dX0_step_112 : decode cX0_step 112 = .ok (.invokevirtual 203, 3) := dk_182 0 203 (dk_at dksX0_step_4 18 rfl rfl)
theorem dX0_step_115 : decode cX0_step 115 = .ok (.pop, 1) := dk_87 (dk_at dksX0_step_4 21 rfl rfl)
theorem dX0_step_116 : decode cX0_step 116 = .ok (.aload_n 0, 1) := dk_42 (dk_at dksX0_step_4 22 rfl rfl)
theorem dX0_step_117 : decode cX0_step 117 = .ok (.getfield 18, 3) := dk_180 0 18 (dk_at dksX0_step_5 0 rfl rfl)
theorem dX0_step_120 : decode cX0_step 120 = .ok (.getfield 194, 3) := dk_180 0 194 (dk_at dksX0_step_5 3 rfl rfl)
theorem dX0_step_123 : decode cX0_step 123 = .ok (.aload_n 0, 1) := dk_42 (dk_at dksX0_step_5 6 rfl rfl)
theorem dX0_step_124 : decode cX0_step 124 = .ok (.getfield 18, 3) := dk_180 0 18 (dk_at dksX0_step_5 7 rfl rfl)
theorem dX0_step_127 : decode cX0_step 127 = .ok (.getfield 72, 3) := dk_180 0 72 (dk_at dksX0_step_5 10 rfl rfl)
theorem dX0_step_130 : decode cX0_step 130 = .ok (.invokevirtual 204, 3) := dk_182 0 204 (dk_at dksX0_step_5 13 rfl rfl)
theorem dX0_step_133 : decode cX0_step 133 = .ok (.aload_n 0, 1) := dk_42 (dk_at dksX0_step_5 16 rfl rfl)
theorem dX0_step_134 : decode cX0_step 134 = .ok (.getfield 18, 3) := dk_180 0 18 (dk_at dksX0_step_5 17 rfl rfl)
theorem dX0_step_137 : decode cX0_step 137 = .ok (.aload_n 3, 1) := dk_45 (dk_at dksX0_step_5 20 rfl rfl)
theorem dX0_step_138 : decode cX0_step 138 = .ok (.putfield 72, 3) := dk_181 0 72 (dk_at dksX0_step_5 21 rfl rfl)
theorem dX0_step_141 : decode cX0_step 141 = .ok (.iload 4, 2) := dk_21 4 (dk_at dksX0_step_6 0 rfl rfl)
theorem dX0_step_143 : decode cX0_step 143 = .ok (.ireturn, 1) := dk_172 (dk_at dksX0_step_6 2 rfl rfl)
abbrev cX0_done : ByteArray := prog_1_method_23_code
def yX0_done : MethodName := ⟨RX0, "done", "(IZ)[I"⟩
def dkwX0_done_5 : List UInt8 := [182, 0, 176, 176, 42, 28, 182, 0, 184, 176]
abbrev dktX0_done_5 : List UInt8 := dkwX0_done_5 ++ []
def dkwX0_done_4 : List UInt8 := [42, 180, 0, 18, 180, 0, 75, 190, 4, 96, 25, 4, 190, 25, 4, 184, 0, 180, 42, 25, 4, 28]
abbrev dktX0_done_4 : List UInt8 := dkwX0_done_4 ++ dktX0_done_5
def dkwX0_done_3 : List UInt8 := [182, 0, 165, 176, 42, 182, 0, 169, 25, 4, 190, 25, 4, 184, 0, 172, 42, 25, 4, 28, 182, 0, 176, 176]
abbrev dktX0_done_3 : List UInt8 := dkwX0_done_3 ++ dktX0_done_4
def dkwX0_done_2 : List UInt8 := [42, 4, 29, 182, 0, 161, 176, 42, 42, 180, 0, 18, 180, 0, 75, 190, 29, 182, 0, 161, 176, 42, 29]
abbrev dktX0_done_2 : List UInt8 := dkwX0_done_2 ++ dktX0_done_3
def dkwX0_done_1 : List UInt8 := [170, 0, 0, 0, 106, 0, 0, 0, 0, 0, 0, 0, 4, 0, 0, 0, 33, 0, 0, 0, 40, 0, 0, 0, 54, 0, 0, 0, 60, 0, 0, 0, 80]
abbrev dktX0_done_1 : List UInt8 := dkwX0_done_1 ++ dktX0_done_2
def dkwX0_done_0 : List UInt8 := [28, 153, 0, 7, 4, 167, 0, 4, 2, 62, 42, 180, 0, 18, 180, 0, 72, 190, 188, 10, 58, 4, 27]
abbrev dktX0_done_0 : List UInt8 := dkwX0_done_0 ++ dktX0_done_1
theorem dksX0_done_0 : cX0_done.data.toList.drop 0 = dktX0_done_0 := by decide +kernel
theorem dksX0_done_1 : cX0_done.data.toList.drop 23 = dktX0_done_1 := dk_seg dksX0_done_0 23 rfl rfl
theorem dksX0_done_2 : cX0_done.data.toList.drop 56 = dktX0_done_2 := dk_seg dksX0_done_1 33 rfl rfl
theorem dksX0_done_3 : cX0_done.data.toList.drop 79 = dktX0_done_3 := dk_seg dksX0_done_2 23 rfl rfl
theorem dksX0_done_4 : cX0_done.data.toList.drop 103 = dktX0_done_4 := dk_seg dksX0_done_3 24 rfl rfl
theorem dksX0_done_5 : cX0_done.data.toList.drop 125 = dktX0_done_5 := dk_seg dksX0_done_4 22 rfl rfl
theorem dX0_done_0 : decode cX0_done 0 = .ok (.iload_n 2, 1) := dk_28 (dk_at dksX0_done_0 0 rfl rfl)
theorem dX0_done_1 : decode cX0_done 1 = .ok (.ifCond .eq 7, 3) := dk_153 0 7 (dk_at dksX0_done_0 1 rfl rfl)
theorem dX0_done_4 : decode cX0_done 4 = .ok (.iconst 1, 1) := dk_4 (dk_at dksX0_done_0 4 rfl rfl)
theorem dX0_done_5 : decode cX0_done 5 = .ok (.goto 4, 3) := dk_167 0 4 (dk_at dksX0_done_0 5 rfl rfl)
theorem dX0_done_8 : decode cX0_done 8 = .ok (.iconst (-1), 1) := dk_2 (dk_at dksX0_done_0 8 rfl rfl)
theorem dX0_done_9 : decode cX0_done 9 = .ok (.istore_n 3, 1) := dk_62 (dk_at dksX0_done_0 9 rfl rfl)
theorem dX0_done_10 : decode cX0_done 10 = .ok (.aload_n 0, 1) := dk_42 (dk_at dksX0_done_0 10 rfl rfl)
theorem dX0_done_11 : decode cX0_done 11 = .ok (.getfield 18, 3) := dk_180 0 18 (dk_at dksX0_done_0 11 rfl rfl)
theorem dX0_done_14 : decode cX0_done 14 = .ok (.getfield 72, 3) := dk_180 0 72 (dk_at dksX0_done_0 14 rfl rfl)
theorem dX0_done_17 : decode cX0_done 17 = .ok (.arraylength, 1) := dk_190 (dk_at dksX0_done_0 17 rfl rfl)
theorem dX0_done_18 : decode cX0_done 18 = .ok (.newarray .int, 2) := dk_188_10 (dk_at dksX0_done_0 18 rfl rfl)
theorem dX0_done_20 : decode cX0_done 20 = .ok (.astore 4, 2) := dk_58 4 (dk_at dksX0_done_0 20 rfl rfl)
theorem dX0_done_22 : decode cX0_done 22 = .ok (.iload_n 1, 1) := dk_27 (dk_at dksX0_done_0 22 rfl rfl)
theorem dX0_done_23 : decode cX0_done 23 = .ok (.tableswitch 106 0 4 #[33, 40, 54, 60, 80], 33) := by decide +kernel
theorem dX0_done_56 : decode cX0_done 56 = .ok (.aload_n 0, 1) := dk_42 (dk_at dksX0_done_2 0 rfl rfl)
theorem dX0_done_57 : decode cX0_done 57 = .ok (.iconst 1, 1) := dk_4 (dk_at dksX0_done_2 1 rfl rfl)
theorem dX0_done_58 : decode cX0_done 58 = .ok (.iload_n 3, 1) := dk_29 (dk_at dksX0_done_2 2 rfl rfl)
theorem dX0_done_59 : decode cX0_done 59 = .ok (.invokevirtual 161, 3) := dk_182 0 161 (dk_at dksX0_done_2 3 rfl rfl)
theorem dX0_done_62 : decode cX0_done 62 = .ok (.areturn, 1) := dk_176 (dk_at dksX0_done_2 6 rfl rfl)
theorem dX0_done_63 : decode cX0_done 63 = .ok (.aload_n 0, 1) := dk_42 (dk_at dksX0_done_2 7 rfl rfl)
theorem dX0_done_64 : decode cX0_done 64 = .ok (.aload_n 0, 1) := dk_42 (dk_at dksX0_done_2 8 rfl rfl)
theorem dX0_done_65 : decode cX0_done 65 = .ok (.getfield 18, 3) := dk_180 0 18 (dk_at dksX0_done_2 9 rfl rfl)
theorem dX0_done_68 : decode cX0_done 68 = .ok (.getfield 75, 3) := dk_180 0 75 (dk_at dksX0_done_2 12 rfl rfl)
theorem dX0_done_71 : decode cX0_done 71 = .ok (.arraylength, 1) := dk_190 (dk_at dksX0_done_2 15 rfl rfl)
theorem dX0_done_72 : decode cX0_done 72 = .ok (.iload_n 3, 1) := dk_29 (dk_at dksX0_done_2 16 rfl rfl)
theorem dX0_done_73 : decode cX0_done 73 = .ok (.invokevirtual 161, 3) := dk_182 0 161 (dk_at dksX0_done_2 17 rfl rfl)
theorem dX0_done_76 : decode cX0_done 76 = .ok (.areturn, 1) := dk_176 (dk_at dksX0_done_2 20 rfl rfl)
theorem dX0_done_77 : decode cX0_done 77 = .ok (.aload_n 0, 1) := dk_42 (dk_at dksX0_done_2 21 rfl rfl)
theorem dX0_done_78 : decode cX0_done 78 = .ok (.iload_n 3, 1) := dk_29 (dk_at dksX0_done_2 22 rfl rfl)
theorem dX0_done_79 : decode cX0_done 79 = .ok (.invokevirtual 165, 3) := dk_182 0 165 (dk_at dksX0_done_3 0 rfl rfl)
theorem dX0_done_82 : decode cX0_done 82 = .ok (.areturn, 1) := dk_176 (dk_at dksX0_done_3 3 rfl rfl)
theorem dX0_done_83 : decode cX0_done 83 = .ok (.aload_n 0, 1) := dk_42 (dk_at dksX0_done_3 4 rfl rfl)
theorem dX0_done_84 : decode cX0_done 84 = .ok (.invokevirtual 169, 3) := dk_182 0 169 (dk_at dksX0_done_3 5 rfl rfl)
theorem dX0_done_87 : decode cX0_done 87 = .ok (.aload 4, 2) := dk_25 4 (dk_at dksX0_done_3 8 rfl rfl)
theorem dX0_done_89 : decode cX0_done 89 = .ok (.arraylength, 1) := dk_190 (dk_at dksX0_done_3 10 rfl rfl)
theorem dX0_done_90 : decode cX0_done 90 = .ok (.aload 4, 2) := dk_25 4 (dk_at dksX0_done_3 11 rfl rfl)
theorem dX0_done_92 : decode cX0_done 92 = .ok (.invokestatic 172, 3) := dk_184 0 172 (dk_at dksX0_done_3 13 rfl rfl)
theorem dX0_done_95 : decode cX0_done 95 = .ok (.aload_n 0, 1) := dk_42 (dk_at dksX0_done_3 16 rfl rfl)
theorem dX0_done_96 : decode cX0_done 96 = .ok (.aload 4, 2) := dk_25 4 (dk_at dksX0_done_3 17 rfl rfl)
theorem dX0_done_98 : decode cX0_done 98 = .ok (.iload_n 2, 1) := dk_28 (dk_at dksX0_done_3 19 rfl rfl)
theorem dX0_done_99 : decode cX0_done 99 = .ok (.invokevirtual 176, 3) := dk_182 0 176 (dk_at dksX0_done_3 20 rfl rfl)
theorem dX0_done_102 : decode cX0_done 102 = .ok (.areturn, 1) := dk_176 (dk_at dksX0_done_3 23 rfl rfl)
theorem dX0_done_103 : decode cX0_done 103 = .ok (.aload_n 0, 1) := dk_42 (dk_at dksX0_done_4 0 rfl rfl)
theorem dX0_done_104 : decode cX0_done 104 = .ok (.getfield 18, 3) := dk_180 0 18 (dk_at dksX0_done_4 1 rfl rfl)
theorem dX0_done_107 : decode cX0_done 107 = .ok (.getfield 75, 3) := dk_180 0 75 (dk_at dksX0_done_4 4 rfl rfl)
theorem dX0_done_110 : decode cX0_done 110 = .ok (.arraylength, 1) := dk_190 (dk_at dksX0_done_4 7 rfl rfl)
theorem dX0_done_111 : decode cX0_done 111 = .ok (.iconst 1, 1) := dk_4 (dk_at dksX0_done_4 8 rfl rfl)
theorem dX0_done_112 : decode cX0_done 112 = .ok (.iadd, 1) := dk_96 (dk_at dksX0_done_4 9 rfl rfl)
theorem dX0_done_113 : decode cX0_done 113 = .ok (.aload 4, 2) := dk_25 4 (dk_at dksX0_done_4 10 rfl rfl)
theorem dX0_done_115 : decode cX0_done 115 = .ok (.arraylength, 1) := dk_190 (dk_at dksX0_done_4 12 rfl rfl)
theorem dX0_done_116 : decode cX0_done 116 = .ok (.aload 4, 2) := dk_25 4 (dk_at dksX0_done_4 13 rfl rfl)
theorem dX0_done_118 : decode cX0_done 118 = .ok (.invokestatic 180, 3) := dk_184 0 180 (dk_at dksX0_done_4 15 rfl rfl)
theorem dX0_done_121 : decode cX0_done 121 = .ok (.aload_n 0, 1) := dk_42 (dk_at dksX0_done_4 18 rfl rfl)
theorem dX0_done_122 : decode cX0_done 122 = .ok (.aload 4, 2) := dk_25 4 (dk_at dksX0_done_4 19 rfl rfl)
theorem dX0_done_124 : decode cX0_done 124 = .ok (.iload_n 2, 1) := dk_28 (dk_at dksX0_done_4 21 rfl rfl)
theorem dX0_done_125 : decode cX0_done 125 = .ok (.invokevirtual 176, 3) := dk_182 0 176 (dk_at dksX0_done_5 0 rfl rfl)
theorem dX0_done_128 : decode cX0_done 128 = .ok (.areturn, 1) := dk_176 (dk_at dksX0_done_5 3 rfl rfl)
theorem dX0_done_129 : decode cX0_done 129 = .ok (.aload_n 0, 1) := dk_42 (dk_at dksX0_done_5 4 rfl rfl)
theorem dX0_done_130 : decode cX0_done 130 = .ok (.iload_n 2, 1) := dk_28 (dk_at dksX0_done_5 5 rfl rfl)
theorem dX0_done_131 : decode cX0_done 131 = .ok (.invokevirtual 184, 3) := dk_182 0 184 (dk_at dksX0_done_5 6 rfl rfl)
theorem dX0_done_134 : decode cX0_done 134 = .ok (.areturn, 1) := dk_176 (dk_at dksX0_done_5 9 rfl rfl)
abbrev cX0_shifted : ByteArray := prog_1_method_13_code
def yX0_shifted : MethodName := ⟨RX0, "shifted", "(II)[I"⟩
def dkwX0_shifted_2 : List UInt8 := [96, 16, 16, 184, 0, 141, 79, 132, 4, 1, 167, 255, 212, 45, 176]
abbrev dktX0_shifted_2 : List UInt8 := dkwX0_shifted_2 ++ []
def dkwX0_shifted_1 : List UInt8 := [42, 180, 0, 18, 180, 0, 72, 21, 4, 46, 28, 42, 180, 0, 18, 180, 0, 75, 21, 4, 27, 112, 46, 104]
abbrev dktX0_shifted_1 : List UInt8 := dkwX0_shifted_1 ++ dktX0_shifted_2
def dkwX0_shifted_0 : List UInt8 := [42, 180, 0, 18, 180, 0, 72, 190, 188, 10, 78, 3, 54, 4, 21, 4, 45, 190, 162, 0, 43, 45, 21, 4]
abbrev dktX0_shifted_0 : List UInt8 := dkwX0_shifted_0 ++ dktX0_shifted_1
theorem dksX0_shifted_0 : cX0_shifted.data.toList.drop 0 = dktX0_shifted_0 := by decide +kernel
theorem dksX0_shifted_1 : cX0_shifted.data.toList.drop 24 = dktX0_shifted_1 := dk_seg dksX0_shifted_0 24 rfl rfl
theorem dksX0_shifted_2 : cX0_shifted.data.toList.drop 48 = dktX0_shifted_2 := dk_seg dksX0_shifted_1 24 rfl rfl
theorem dX0_shifted_0 : decode cX0_shifted 0 = .ok (.aload_n 0, 1) := dk_42 (dk_at dksX0_shifted_0 0 rfl rfl)
theorem dX0_shifted_1 : decode cX0_shifted 1 = .ok (.getfield 18, 3) := dk_180 0 18 (dk_at dksX0_shifted_0 1 rfl rfl)
theorem dX0_shifted_4 : decode cX0_shifted 4 = .ok (.getfield 72, 3) := dk_180 0 72 (dk_at dksX0_shifted_0 4 rfl rfl)
theorem dX0_shifted_7 : decode cX0_shifted 7 = .ok (.arraylength, 1) := dk_190 (dk_at dksX0_shifted_0 7 rfl rfl)
theorem dX0_shifted_8 : decode cX0_shifted 8 = .ok (.newarray .int, 2) := dk_188_10 (dk_at dksX0_shifted_0 8 rfl rfl)
theorem dX0_shifted_10 : decode cX0_shifted 10 = .ok (.astore_n 3, 1) := dk_78 (dk_at dksX0_shifted_0 10 rfl rfl)
theorem dX0_shifted_11 : decode cX0_shifted 11 = .ok (.iconst 0, 1) := dk_3 (dk_at dksX0_shifted_0 11 rfl rfl)
theorem dX0_shifted_12 : decode cX0_shifted 12 = .ok (.istore 4, 2) := dk_54 4 (dk_at dksX0_shifted_0 12 rfl rfl)
theorem dX0_shifted_14 : decode cX0_shifted 14 = .ok (.iload 4, 2) := dk_21 4 (dk_at dksX0_shifted_0 14 rfl rfl)
theorem dX0_shifted_16 : decode cX0_shifted 16 = .ok (.aload_n 3, 1) := dk_45 (dk_at dksX0_shifted_0 16 rfl rfl)
theorem dX0_shifted_17 : decode cX0_shifted 17 = .ok (.arraylength, 1) := dk_190 (dk_at dksX0_shifted_0 17 rfl rfl)
theorem dX0_shifted_18 : decode cX0_shifted 18 = .ok (.if_icmp .ge 43, 3) := dk_162 0 43 (dk_at dksX0_shifted_0 18 rfl rfl)
theorem dX0_shifted_21 : decode cX0_shifted 21 = .ok (.aload_n 3, 1) := dk_45 (dk_at dksX0_shifted_0 21 rfl rfl)
theorem dX0_shifted_22 : decode cX0_shifted 22 = .ok (.iload 4, 2) := dk_21 4 (dk_at dksX0_shifted_0 22 rfl rfl)
theorem dX0_shifted_24 : decode cX0_shifted 24 = .ok (.aload_n 0, 1) := dk_42 (dk_at dksX0_shifted_1 0 rfl rfl)
theorem dX0_shifted_25 : decode cX0_shifted 25 = .ok (.getfield 18, 3) := dk_180 0 18 (dk_at dksX0_shifted_1 1 rfl rfl)
theorem dX0_shifted_28 : decode cX0_shifted 28 = .ok (.getfield 72, 3) := dk_180 0 72 (dk_at dksX0_shifted_1 4 rfl rfl)
theorem dX0_shifted_31 : decode cX0_shifted 31 = .ok (.iload 4, 2) := dk_21 4 (dk_at dksX0_shifted_1 7 rfl rfl)
theorem dX0_shifted_33 : decode cX0_shifted 33 = .ok (.iaload, 1) := dk_46 (dk_at dksX0_shifted_1 9 rfl rfl)
theorem dX0_shifted_34 : decode cX0_shifted 34 = .ok (.iload_n 2, 1) := dk_28 (dk_at dksX0_shifted_1 10 rfl rfl)
theorem dX0_shifted_35 : decode cX0_shifted 35 = .ok (.aload_n 0, 1) := dk_42 (dk_at dksX0_shifted_1 11 rfl rfl)
theorem dX0_shifted_36 : decode cX0_shifted 36 = .ok (.getfield 18, 3) := dk_180 0 18 (dk_at dksX0_shifted_1 12 rfl rfl)
theorem dX0_shifted_39 : decode cX0_shifted 39 = .ok (.getfield 75, 3) := dk_180 0 75 (dk_at dksX0_shifted_1 15 rfl rfl)
theorem dX0_shifted_42 : decode cX0_shifted 42 = .ok (.iload 4, 2) := dk_21 4 (dk_at dksX0_shifted_1 18 rfl rfl)
theorem dX0_shifted_44 : decode cX0_shifted 44 = .ok (.iload_n 1, 1) := dk_27 (dk_at dksX0_shifted_1 20 rfl rfl)
theorem dX0_shifted_45 : decode cX0_shifted 45 = .ok (.irem, 1) := dk_112 (dk_at dksX0_shifted_1 21 rfl rfl)
theorem dX0_shifted_46 : decode cX0_shifted 46 = .ok (.iaload, 1) := dk_46 (dk_at dksX0_shifted_1 22 rfl rfl)
theorem dX0_shifted_47 : decode cX0_shifted 47 = .ok (.imul, 1) := dk_104 (dk_at dksX0_shifted_1 23 rfl rfl)
theorem dX0_shifted_48 : decode cX0_shifted 48 = .ok (.iadd, 1) := dk_96 (dk_at dksX0_shifted_2 0 rfl rfl)
theorem dX0_shifted_49 : decode cX0_shifted 49 = .ok (.bipush 16, 2) := dk_16 16 (dk_at dksX0_shifted_2 1 rfl rfl)
theorem dX0_shifted_51 : decode cX0_shifted 51 = .ok (.invokestatic 141, 3) := dk_184 0 141 (dk_at dksX0_shifted_2 3 rfl rfl)
theorem dX0_shifted_54 : decode cX0_shifted 54 = .ok (.iastore, 1) := dk_79 (dk_at dksX0_shifted_2 6 rfl rfl)
theorem dX0_shifted_55 : decode cX0_shifted 55 = .ok (.iinc 4 1, 3) := dk_132 4 1 (dk_at dksX0_shifted_2 7 rfl rfl)
theorem dX0_shifted_58 : decode cX0_shifted 58 = .ok (.goto (-44), 3) := dk_167 255 212 (dk_at dksX0_shifted_2 10 rfl rfl)
theorem dX0_shifted_61 : decode cX0_shifted 61 = .ok (.aload_n 3, 1) := dk_45 (dk_at dksX0_shifted_2 13 rfl rfl)
theorem dX0_shifted_62 : decode cX0_shifted 62 = .ok (.areturn, 1) := dk_176 (dk_at dksX0_shifted_2 14 rfl rfl)
abbrev cX0_paired : ByteArray := prog_1_method_17_code
def yX0_paired : MethodName := ⟨RX0, "paired", "(I)[I"⟩
def dkwX0_paired_1 : List UInt8 := [180, 0, 18, 180, 0, 72, 45, 27, 184, 0, 154, 45, 176]
abbrev dktX0_paired_1 : List UInt8 := dkwX0_paired_1 ++ []
def dkwX0_paired_0 : List UInt8 := [42, 182, 0, 137, 77, 42, 180, 0, 18, 180, 0, 72, 190, 188, 10, 78, 44, 44, 184, 0, 150, 42]
abbrev dktX0_paired_0 : List UInt8 := dkwX0_paired_0 ++ dktX0_paired_1
theorem dksX0_paired_0 : cX0_paired.data.toList.drop 0 = dktX0_paired_0 := by decide +kernel
theorem dksX0_paired_1 : cX0_paired.data.toList.drop 22 = dktX0_paired_1 := dk_seg dksX0_paired_0 22 rfl rfl
theorem dX0_paired_0 : decode cX0_paired 0 = .ok (.aload_n 0, 1) := dk_42 (dk_at dksX0_paired_0 0 rfl rfl)
theorem dX0_paired_1 : decode cX0_paired 1 = .ok (.invokevirtual 137, 3) := dk_182 0 137 (dk_at dksX0_paired_0 1 rfl rfl)
theorem dX0_paired_4 : decode cX0_paired 4 = .ok (.astore_n 2, 1) := dk_77 (dk_at dksX0_paired_0 4 rfl rfl)
theorem dX0_paired_5 : decode cX0_paired 5 = .ok (.aload_n 0, 1) := dk_42 (dk_at dksX0_paired_0 5 rfl rfl)
theorem dX0_paired_6 : decode cX0_paired 6 = .ok (.getfield 18, 3) := dk_180 0 18 (dk_at dksX0_paired_0 6 rfl rfl)
theorem dX0_paired_9 : decode cX0_paired 9 = .ok (.getfield 72, 3) := dk_180 0 72 (dk_at dksX0_paired_0 9 rfl rfl)
theorem dX0_paired_12 : decode cX0_paired 12 = .ok (.arraylength, 1) := dk_190 (dk_at dksX0_paired_0 12 rfl rfl)
theorem dX0_paired_13 : decode cX0_paired 13 = .ok (.newarray .int, 2) := dk_188_10 (dk_at dksX0_paired_0 13 rfl rfl)
theorem dX0_paired_15 : decode cX0_paired 15 = .ok (.astore_n 3, 1) := dk_78 (dk_at dksX0_paired_0 15 rfl rfl)
theorem dX0_paired_16 : decode cX0_paired 16 = .ok (.aload_n 2, 1) := dk_44 (dk_at dksX0_paired_0 16 rfl rfl)
theorem dX0_paired_17 : decode cX0_paired 17 = .ok (.aload_n 2, 1) := dk_44 (dk_at dksX0_paired_0 17 rfl rfl)
theorem dX0_paired_18 : decode cX0_paired 18 = .ok (.invokestatic 150, 3) := dk_184 0 150 (dk_at dksX0_paired_0 18 rfl rfl)
theorem dX0_paired_21 : decode cX0_paired 21 = .ok (.aload_n 0, 1) := dk_42 (dk_at dksX0_paired_0 21 rfl rfl)
theorem dX0_paired_22 : decode cX0_paired 22 = .ok (.getfield 18, 3) := dk_180 0 18 (dk_at dksX0_paired_1 0 rfl rfl)
theorem dX0_paired_25 : decode cX0_paired 25 = .ok (.getfield 72, 3) := dk_180 0 72 (dk_at dksX0_paired_1 3 rfl rfl)
theorem dX0_paired_28 : decode cX0_paired 28 = .ok (.aload_n 3, 1) := dk_45 (dk_at dksX0_paired_1 6 rfl rfl)
theorem dX0_paired_29 : decode cX0_paired 29 = .ok (.iload_n 1, 1) := dk_27 (dk_at dksX0_paired_1 7 rfl rfl)
theorem dX0_paired_30 : decode cX0_paired 30 = .ok (.invokestatic 154, 3) := dk_184 0 154 (dk_at dksX0_paired_1 8 rfl rfl)
theorem dX0_paired_33 : decode cX0_paired 33 = .ok (.aload_n 3, 1) := dk_45 (dk_at dksX0_paired_1 11 rfl rfl)
theorem dX0_paired_34 : decode cX0_paired 34 = .ok (.areturn, 1) := dk_176 (dk_at dksX0_paired_1 12 rfl rfl)
abbrev cX0_places : ByteArray := prog_1_method_14_code
def yX0_places : MethodName := ⟨RX0, "places", "([I)[I"⟩
def dkwX0_places_1 : List UInt8 := [167, 255, 241, 43, 176]
abbrev dktX0_places_1 : List UInt8 := dkwX0_places_1 ++ []
def dkwX0_places_0 : List UInt8 := [16, 16, 188, 10, 76, 3, 61, 28, 16, 16, 162, 0, 15, 43, 42, 28, 46, 28, 79, 132, 2, 1]
abbrev dktX0_places_0 : List UInt8 := dkwX0_places_0 ++ dktX0_places_1
theorem dksX0_places_0 : cX0_places.data.toList.drop 0 = dktX0_places_0 := by decide +kernel
theorem dksX0_places_1 : cX0_places.data.toList.drop 22 = dktX0_places_1 := dk_seg dksX0_places_0 22 rfl rfl
theorem dX0_places_0 : decode cX0_places 0 = .ok (.bipush 16, 2) := dk_16 16 (dk_at dksX0_places_0 0 rfl rfl)
theorem dX0_places_2 : decode cX0_places 2 = .ok (.newarray .int, 2) := dk_188_10 (dk_at dksX0_places_0 2 rfl rfl)
theorem dX0_places_4 : decode cX0_places 4 = .ok (.astore_n 1, 1) := dk_76 (dk_at dksX0_places_0 4 rfl rfl)
theorem dX0_places_5 : decode cX0_places 5 = .ok (.iconst 0, 1) := dk_3 (dk_at dksX0_places_0 5 rfl rfl)
theorem dX0_places_6 : decode cX0_places 6 = .ok (.istore_n 2, 1) := dk_61 (dk_at dksX0_places_0 6 rfl rfl)
theorem dX0_places_7 : decode cX0_places 7 = .ok (.iload_n 2, 1) := dk_28 (dk_at dksX0_places_0 7 rfl rfl)
theorem dX0_places_8 : decode cX0_places 8 = .ok (.bipush 16, 2) := dk_16 16 (dk_at dksX0_places_0 8 rfl rfl)
theorem dX0_places_10 : decode cX0_places 10 = .ok (.if_icmp .ge 15, 3) := dk_162 0 15 (dk_at dksX0_places_0 10 rfl rfl)
theorem dX0_places_13 : decode cX0_places 13 = .ok (.aload_n 1, 1) := dk_43 (dk_at dksX0_places_0 13 rfl rfl)
theorem dX0_places_14 : decode cX0_places 14 = .ok (.aload_n 0, 1) := dk_42 (dk_at dksX0_places_0 14 rfl rfl)
theorem dX0_places_15 : decode cX0_places 15 = .ok (.iload_n 2, 1) := dk_28 (dk_at dksX0_places_0 15 rfl rfl)
theorem dX0_places_16 : decode cX0_places 16 = .ok (.iaload, 1) := dk_46 (dk_at dksX0_places_0 16 rfl rfl)
theorem dX0_places_17 : decode cX0_places 17 = .ok (.iload_n 2, 1) := dk_28 (dk_at dksX0_places_0 17 rfl rfl)
theorem dX0_places_18 : decode cX0_places 18 = .ok (.iastore, 1) := dk_79 (dk_at dksX0_places_0 18 rfl rfl)
theorem dX0_places_19 : decode cX0_places 19 = .ok (.iinc 2 1, 3) := dk_132 2 1 (dk_at dksX0_places_0 19 rfl rfl)
theorem dX0_places_22 : decode cX0_places 22 = .ok (.goto (-15), 3) := dk_167 255 241 (dk_at dksX0_places_1 0 rfl rfl)
theorem dX0_places_25 : decode cX0_places 25 = .ok (.aload_n 1, 1) := dk_43 (dk_at dksX0_places_1 3 rfl rfl)
theorem dX0_places_26 : decode cX0_places 26 = .ok (.areturn, 1) := dk_176 (dk_at dksX0_places_1 4 rfl rfl)
abbrev cX0_pair : ByteArray := prog_1_method_16_code
def yX0_pair : MethodName := ⟨RX0, "pair", "([I[I[I[II)V"⟩
def dkwX0_pair_7 : List UInt8 := [21, 6, 167, 0, 5, 21, 7, 7, 112, 21, 9, 96, 184, 0, 147, 46, 79, 132, 5, 2, 167, 255, 73, 177]
abbrev dktX0_pair_7 : List UInt8 := dkwX0_pair_7 ++ []
def dkwX0_pair_6 : List UInt8 := [96, 184, 0, 147, 46, 79, 45, 21, 5, 4, 96, 42, 21, 7, 7, 108, 21, 8, 96, 21, 10, 153, 0, 8]
abbrev dktX0_pair_6 : List UInt8 := dkwX0_pair_6 ++ dktX0_pair_7
def dkwX0_pair_5 : List UInt8 := [42, 21, 6, 7, 108, 21, 8, 96, 21, 10, 153, 0, 8, 21, 7, 167, 0, 5, 21, 6, 7, 112, 21, 9]
abbrev dktX0_pair_5 : List UInt8 := dkwX0_pair_5 ++ dktX0_pair_6
def dkwX0_pair_4 : List UInt8 := [159, 0, 18, 21, 6, 7, 112, 21, 7, 7, 112, 159, 0, 7, 4, 167, 0, 4, 3, 54, 10, 45, 21, 5]
abbrev dktX0_pair_4 : List UInt8 := dkwX0_pair_4 ++ dktX0_pair_5
def dkwX0_pair_3 : List UInt8 := [21, 7, 7, 108, 160, 0, 8, 21, 4, 167, 0, 4, 3, 54, 9, 21, 6, 7, 108, 21, 7, 7, 108]
abbrev dktX0_pair_3 : List UInt8 := dkwX0_pair_3 ++ dktX0_pair_4
def dkwX0_pair_2 : List UInt8 := [21, 6, 7, 108, 21, 7, 7, 108, 159, 0, 8, 21, 4, 167, 0, 4, 3, 54, 8, 21, 6, 7, 108]
abbrev dktX0_pair_2 : List UInt8 := dkwX0_pair_2 ++ dktX0_pair_3
def dkwX0_pair_1 : List UInt8 := [4, 96, 46, 46, 54, 7, 21, 6, 21, 7, 159, 0, 25, 21, 6, 7, 112, 21, 7, 7, 112, 160, 0, 19]
abbrev dktX0_pair_1 : List UInt8 := dkwX0_pair_1 ++ dktX0_pair_2
def dkwX0_pair_0 : List UInt8 := [3, 54, 5, 21, 5, 4, 96, 44, 190, 162, 0, 180, 43, 44, 21, 5, 46, 46, 54, 6, 43, 44, 21, 5]
abbrev dktX0_pair_0 : List UInt8 := dkwX0_pair_0 ++ dktX0_pair_1
theorem dksX0_pair_0 : cX0_pair.data.toList.drop 0 = dktX0_pair_0 := by decide +kernel
theorem dksX0_pair_1 : cX0_pair.data.toList.drop 24 = dktX0_pair_1 := dk_seg dksX0_pair_0 24 rfl rfl
theorem dksX0_pair_2 : cX0_pair.data.toList.drop 48 = dktX0_pair_2 := dk_seg dksX0_pair_1 24 rfl rfl
theorem dksX0_pair_3 : cX0_pair.data.toList.drop 71 = dktX0_pair_3 := dk_seg dksX0_pair_2 23 rfl rfl
theorem dksX0_pair_4 : cX0_pair.data.toList.drop 94 = dktX0_pair_4 := dk_seg dksX0_pair_3 23 rfl rfl
theorem dksX0_pair_5 : cX0_pair.data.toList.drop 118 = dktX0_pair_5 := dk_seg dksX0_pair_4 24 rfl rfl
theorem dksX0_pair_6 : cX0_pair.data.toList.drop 142 = dktX0_pair_6 := dk_seg dksX0_pair_5 24 rfl rfl
theorem dksX0_pair_7 : cX0_pair.data.toList.drop 166 = dktX0_pair_7 := dk_seg dksX0_pair_6 24 rfl rfl
theorem dX0_pair_0 : decode cX0_pair 0 = .ok (.iconst 0, 1) := dk_3 (dk_at dksX0_pair_0 0 rfl rfl)
theorem dX0_pair_1 : decode cX0_pair 1 = .ok (.istore 5, 2) := dk_54 5 (dk_at dksX0_pair_0 1 rfl rfl)
theorem dX0_pair_3 : decode cX0_pair 3 = .ok (.iload 5, 2) := dk_21 5 (dk_at dksX0_pair_0 3 rfl rfl)
theorem dX0_pair_5 : decode cX0_pair 5 = .ok (.iconst 1, 1) := dk_4 (dk_at dksX0_pair_0 5 rfl rfl)
theorem dX0_pair_6 : decode cX0_pair 6 = .ok (.iadd, 1) := dk_96 (dk_at dksX0_pair_0 6 rfl rfl)
theorem dX0_pair_7 : decode cX0_pair 7 = .ok (.aload_n 2, 1) := dk_44 (dk_at dksX0_pair_0 7 rfl rfl)
theorem dX0_pair_8 : decode cX0_pair 8 = .ok (.arraylength, 1) := dk_190 (dk_at dksX0_pair_0 8 rfl rfl)
theorem dX0_pair_9 : decode cX0_pair 9 = .ok (.if_icmp .ge 180, 3) := dk_162 0 180 (dk_at dksX0_pair_0 9 rfl rfl)
theorem dX0_pair_12 : decode cX0_pair 12 = .ok (.aload_n 1, 1) := dk_43 (dk_at dksX0_pair_0 12 rfl rfl)
theorem dX0_pair_13 : decode cX0_pair 13 = .ok (.aload_n 2, 1) := dk_44 (dk_at dksX0_pair_0 13 rfl rfl)
theorem dX0_pair_14 : decode cX0_pair 14 = .ok (.iload 5, 2) := dk_21 5 (dk_at dksX0_pair_0 14 rfl rfl)
theorem dX0_pair_16 : decode cX0_pair 16 = .ok (.iaload, 1) := dk_46 (dk_at dksX0_pair_0 16 rfl rfl)
theorem dX0_pair_17 : decode cX0_pair 17 = .ok (.iaload, 1) := dk_46 (dk_at dksX0_pair_0 17 rfl rfl)
theorem dX0_pair_18 : decode cX0_pair 18 = .ok (.istore 6, 2) := dk_54 6 (dk_at dksX0_pair_0 18 rfl rfl)
theorem dX0_pair_20 : decode cX0_pair 20 = .ok (.aload_n 1, 1) := dk_43 (dk_at dksX0_pair_0 20 rfl rfl)
theorem dX0_pair_21 : decode cX0_pair 21 = .ok (.aload_n 2, 1) := dk_44 (dk_at dksX0_pair_0 21 rfl rfl)
theorem dX0_pair_22 : decode cX0_pair 22 = .ok (.iload 5, 2) := dk_21 5 (dk_at dksX0_pair_0 22 rfl rfl)
theorem dX0_pair_24 : decode cX0_pair 24 = .ok (.iconst 1, 1) := dk_4 (dk_at dksX0_pair_1 0 rfl rfl)
theorem dX0_pair_25 : decode cX0_pair 25 = .ok (.iadd, 1) := dk_96 (dk_at dksX0_pair_1 1 rfl rfl)
theorem dX0_pair_26 : decode cX0_pair 26 = .ok (.iaload, 1) := dk_46 (dk_at dksX0_pair_1 2 rfl rfl)
theorem dX0_pair_27 : decode cX0_pair 27 = .ok (.iaload, 1) := dk_46 (dk_at dksX0_pair_1 3 rfl rfl)
theorem dX0_pair_28 : decode cX0_pair 28 = .ok (.istore 7, 2) := dk_54 7 (dk_at dksX0_pair_1 4 rfl rfl)
theorem dX0_pair_30 : decode cX0_pair 30 = .ok (.iload 6, 2) := dk_21 6 (dk_at dksX0_pair_1 6 rfl rfl)
theorem dX0_pair_32 : decode cX0_pair 32 = .ok (.iload 7, 2) := dk_21 7 (dk_at dksX0_pair_1 8 rfl rfl)
theorem dX0_pair_34 : decode cX0_pair 34 = .ok (.if_icmp .eq 25, 3) := dk_159 0 25 (dk_at dksX0_pair_1 10 rfl rfl)
theorem dX0_pair_37 : decode cX0_pair 37 = .ok (.iload 6, 2) := dk_21 6 (dk_at dksX0_pair_1 13 rfl rfl)
theorem dX0_pair_39 : decode cX0_pair 39 = .ok (.iconst 4, 1) := dk_7 (dk_at dksX0_pair_1 15 rfl rfl)
theorem dX0_pair_40 : decode cX0_pair 40 = .ok (.irem, 1) := dk_112 (dk_at dksX0_pair_1 16 rfl rfl)
theorem dX0_pair_41 : decode cX0_pair 41 = .ok (.iload 7, 2) := dk_21 7 (dk_at dksX0_pair_1 17 rfl rfl)
theorem dX0_pair_43 : decode cX0_pair 43 = .ok (.iconst 4, 1) := dk_7 (dk_at dksX0_pair_1 19 rfl rfl)
theorem dX0_pair_44 : decode cX0_pair 44 = .ok (.irem, 1) := dk_112 (dk_at dksX0_pair_1 20 rfl rfl)
theorem dX0_pair_45 : decode cX0_pair 45 = .ok (.if_icmp .ne 19, 3) := dk_160 0 19 (dk_at dksX0_pair_1 21 rfl rfl)
theorem dX0_pair_48 : decode cX0_pair 48 = .ok (.iload 6, 2) := dk_21 6 (dk_at dksX0_pair_2 0 rfl rfl)
theorem dX0_pair_50 : decode cX0_pair 50 = .ok (.iconst 4, 1) := dk_7 (dk_at dksX0_pair_2 2 rfl rfl)
theorem dX0_pair_51 : decode cX0_pair 51 = .ok (.idiv, 1) := dk_108 (dk_at dksX0_pair_2 3 rfl rfl)
theorem dX0_pair_52 : decode cX0_pair 52 = .ok (.iload 7, 2) := dk_21 7 (dk_at dksX0_pair_2 4 rfl rfl)
theorem dX0_pair_54 : decode cX0_pair 54 = .ok (.iconst 4, 1) := dk_7 (dk_at dksX0_pair_2 6 rfl rfl)
theorem dX0_pair_55 : decode cX0_pair 55 = .ok (.idiv, 1) := dk_108 (dk_at dksX0_pair_2 7 rfl rfl)
theorem dX0_pair_56 : decode cX0_pair 56 = .ok (.if_icmp .eq 8, 3) := dk_159 0 8 (dk_at dksX0_pair_2 8 rfl rfl)
theorem dX0_pair_59 : decode cX0_pair 59 = .ok (.iload 4, 2) := dk_21 4 (dk_at dksX0_pair_2 11 rfl rfl)
theorem dX0_pair_61 : decode cX0_pair 61 = .ok (.goto 4, 3) := dk_167 0 4 (dk_at dksX0_pair_2 13 rfl rfl)
theorem dX0_pair_64 : decode cX0_pair 64 = .ok (.iconst 0, 1) := dk_3 (dk_at dksX0_pair_2 16 rfl rfl)
theorem dX0_pair_65 : decode cX0_pair 65 = .ok (.istore 8, 2) := dk_54 8 (dk_at dksX0_pair_2 17 rfl rfl)
theorem dX0_pair_67 : decode cX0_pair 67 = .ok (.iload 6, 2) := dk_21 6 (dk_at dksX0_pair_2 19 rfl rfl)
theorem dX0_pair_69 : decode cX0_pair 69 = .ok (.iconst 4, 1) := dk_7 (dk_at dksX0_pair_2 21 rfl rfl)
theorem dX0_pair_70 : decode cX0_pair 70 = .ok (.idiv, 1) := dk_108 (dk_at dksX0_pair_2 22 rfl rfl)
theorem dX0_pair_71 : decode cX0_pair 71 = .ok (.iload 7, 2) := dk_21 7 (dk_at dksX0_pair_3 0 rfl rfl)
theorem dX0_pair_73 : decode cX0_pair 73 = .ok (.iconst 4, 1) := dk_7 (dk_at dksX0_pair_3 2 rfl rfl)
theorem dX0_pair_74 : decode cX0_pair 74 = .ok (.idiv, 1) := dk_108 (dk_at dksX0_pair_3 3 rfl rfl)
theorem dX0_pair_75 : decode cX0_pair 75 = .ok (.if_icmp .ne 8, 3) := dk_160 0 8 (dk_at dksX0_pair_3 4 rfl rfl)
theorem dX0_pair_78 : decode cX0_pair 78 = .ok (.iload 4, 2) := dk_21 4 (dk_at dksX0_pair_3 7 rfl rfl)
theorem dX0_pair_80 : decode cX0_pair 80 = .ok (.goto 4, 3) := dk_167 0 4 (dk_at dksX0_pair_3 9 rfl rfl)
theorem dX0_pair_83 : decode cX0_pair 83 = .ok (.iconst 0, 1) := dk_3 (dk_at dksX0_pair_3 12 rfl rfl)
theorem dX0_pair_84 : decode cX0_pair 84 = .ok (.istore 9, 2) := dk_54 9 (dk_at dksX0_pair_3 13 rfl rfl)
theorem dX0_pair_86 : decode cX0_pair 86 = .ok (.iload 6, 2) := dk_21 6 (dk_at dksX0_pair_3 15 rfl rfl)
theorem dX0_pair_88 : decode cX0_pair 88 = .ok (.iconst 4, 1) := dk_7 (dk_at dksX0_pair_3 17 rfl rfl)
theorem dX0_pair_89 : decode cX0_pair 89 = .ok (.idiv, 1) := dk_108 (dk_at dksX0_pair_3 18 rfl rfl)
theorem dX0_pair_90 : decode cX0_pair 90 = .ok (.iload 7, 2) := dk_21 7 (dk_at dksX0_pair_3 19 rfl rfl)
theorem dX0_pair_92 : decode cX0_pair 92 = .ok (.iconst 4, 1) := dk_7 (dk_at dksX0_pair_3 21 rfl rfl)
theorem dX0_pair_93 : decode cX0_pair 93 = .ok (.idiv, 1) := dk_108 (dk_at dksX0_pair_3 22 rfl rfl)
theorem dX0_pair_94 : decode cX0_pair 94 = .ok (.if_icmp .eq 18, 3) := dk_159 0 18 (dk_at dksX0_pair_4 0 rfl rfl)
theorem dX0_pair_97 : decode cX0_pair 97 = .ok (.iload 6, 2) := dk_21 6 (dk_at dksX0_pair_4 3 rfl rfl)
theorem dX0_pair_99 : decode cX0_pair 99 = .ok (.iconst 4, 1) := dk_7 (dk_at dksX0_pair_4 5 rfl rfl)
theorem dX0_pair_100 : decode cX0_pair 100 = .ok (.irem, 1) := dk_112 (dk_at dksX0_pair_4 6 rfl rfl)
theorem dX0_pair_101 : decode cX0_pair 101 = .ok (.iload 7, 2) := dk_21 7 (dk_at dksX0_pair_4 7 rfl rfl)
theorem dX0_pair_103 : decode cX0_pair 103 = .ok (.iconst 4, 1) := dk_7 (dk_at dksX0_pair_4 9 rfl rfl)
theorem dX0_pair_104 : decode cX0_pair 104 = .ok (.irem, 1) := dk_112 (dk_at dksX0_pair_4 10 rfl rfl)
theorem dX0_pair_105 : decode cX0_pair 105 = .ok (.if_icmp .eq 7, 3) := dk_159 0 7 (dk_at dksX0_pair_4 11 rfl rfl)
theorem dX0_pair_108 : decode cX0_pair 108 = .ok (.iconst 1, 1) := dk_4 (dk_at dksX0_pair_4 14 rfl rfl)
theorem dX0_pair_109 : decode cX0_pair 109 = .ok (.goto 4, 3) := dk_167 0 4 (dk_at dksX0_pair_4 15 rfl rfl)
theorem dX0_pair_112 : decode cX0_pair 112 = .ok (.iconst 0, 1) := dk_3 (dk_at dksX0_pair_4 18 rfl rfl)
theorem dX0_pair_113 : decode cX0_pair 113 = .ok (.istore 10, 2) := dk_54 10 (dk_at dksX0_pair_4 19 rfl rfl)
theorem dX0_pair_115 : decode cX0_pair 115 = .ok (.aload_n 3, 1) := dk_45 (dk_at dksX0_pair_4 21 rfl rfl)
theorem dX0_pair_116 : decode cX0_pair 116 = .ok (.iload 5, 2) := dk_21 5 (dk_at dksX0_pair_4 22 rfl rfl)
theorem dX0_pair_118 : decode cX0_pair 118 = .ok (.aload_n 0, 1) := dk_42 (dk_at dksX0_pair_5 0 rfl rfl)
theorem dX0_pair_119 : decode cX0_pair 119 = .ok (.iload 6, 2) := dk_21 6 (dk_at dksX0_pair_5 1 rfl rfl)
theorem dX0_pair_121 : decode cX0_pair 121 = .ok (.iconst 4, 1) := dk_7 (dk_at dksX0_pair_5 3 rfl rfl)
theorem dX0_pair_122 : decode cX0_pair 122 = .ok (.idiv, 1) := dk_108 (dk_at dksX0_pair_5 4 rfl rfl)
theorem dX0_pair_123 : decode cX0_pair 123 = .ok (.iload 8, 2) := dk_21 8 (dk_at dksX0_pair_5 5 rfl rfl)
theorem dX0_pair_125 : decode cX0_pair 125 = .ok (.iadd, 1) := dk_96 (dk_at dksX0_pair_5 7 rfl rfl)
theorem dX0_pair_126 : decode cX0_pair 126 = .ok (.iload 10, 2) := dk_21 10 (dk_at dksX0_pair_5 8 rfl rfl)
theorem dX0_pair_128 : decode cX0_pair 128 = .ok (.ifCond .eq 8, 3) := dk_153 0 8 (dk_at dksX0_pair_5 10 rfl rfl)
theorem dX0_pair_131 : decode cX0_pair 131 = .ok (.iload 7, 2) := dk_21 7 (dk_at dksX0_pair_5 13 rfl rfl)
theorem dX0_pair_133 : decode cX0_pair 133 = .ok (.goto 5, 3) := dk_167 0 5 (dk_at dksX0_pair_5 15 rfl rfl)
theorem dX0_pair_136 : decode cX0_pair 136 = .ok (.iload 6, 2) := dk_21 6 (dk_at dksX0_pair_5 18 rfl rfl)
theorem dX0_pair_138 : decode cX0_pair 138 = .ok (.iconst 4, 1) := dk_7 (dk_at dksX0_pair_5 20 rfl rfl)
theorem dX0_pair_139 : decode cX0_pair 139 = .ok (.irem, 1) := dk_112 (dk_at dksX0_pair_5 21 rfl rfl)
theorem dX0_pair_140 : decode cX0_pair 140 = .ok (.iload 9, 2) := dk_21 9 (dk_at dksX0_pair_5 22 rfl rfl)
theorem dX0_pair_142 : decode cX0_pair 142 = .ok (.iadd, 1) := dk_96 (dk_at dksX0_pair_6 0 rfl rfl)
theorem dX0_pair_143 : decode cX0_pair 143 = .ok (.invokestatic 147, 3) := dk_184 0 147 (dk_at dksX0_pair_6 1 rfl rfl)
theorem dX0_pair_146 : decode cX0_pair 146 = .ok (.iaload, 1) := dk_46 (dk_at dksX0_pair_6 4 rfl rfl)
theorem dX0_pair_147 : decode cX0_pair 147 = .ok (.iastore, 1) := dk_79 (dk_at dksX0_pair_6 5 rfl rfl)
theorem dX0_pair_148 : decode cX0_pair 148 = .ok (.aload_n 3, 1) := dk_45 (dk_at dksX0_pair_6 6 rfl rfl)
theorem dX0_pair_149 : decode cX0_pair 149 = .ok (.iload 5, 2) := dk_21 5 (dk_at dksX0_pair_6 7 rfl rfl)
theorem dX0_pair_151 : decode cX0_pair 151 = .ok (.iconst 1, 1) := dk_4 (dk_at dksX0_pair_6 9 rfl rfl)
theorem dX0_pair_152 : decode cX0_pair 152 = .ok (.iadd, 1) := dk_96 (dk_at dksX0_pair_6 10 rfl rfl)
theorem dX0_pair_153 : decode cX0_pair 153 = .ok (.aload_n 0, 1) := dk_42 (dk_at dksX0_pair_6 11 rfl rfl)
theorem dX0_pair_154 : decode cX0_pair 154 = .ok (.iload 7, 2) := dk_21 7 (dk_at dksX0_pair_6 12 rfl rfl)
theorem dX0_pair_156 : decode cX0_pair 156 = .ok (.iconst 4, 1) := dk_7 (dk_at dksX0_pair_6 14 rfl rfl)
theorem dX0_pair_157 : decode cX0_pair 157 = .ok (.idiv, 1) := dk_108 (dk_at dksX0_pair_6 15 rfl rfl)
theorem dX0_pair_158 : decode cX0_pair 158 = .ok (.iload 8, 2) := dk_21 8 (dk_at dksX0_pair_6 16 rfl rfl)
theorem dX0_pair_160 : decode cX0_pair 160 = .ok (.iadd, 1) := dk_96 (dk_at dksX0_pair_6 18 rfl rfl)
theorem dX0_pair_161 : decode cX0_pair 161 = .ok (.iload 10, 2) := dk_21 10 (dk_at dksX0_pair_6 19 rfl rfl)
theorem dX0_pair_163 : decode cX0_pair 163 = .ok (.ifCond .eq 8, 3) := dk_153 0 8 (dk_at dksX0_pair_6 21 rfl rfl)
theorem dX0_pair_166 : decode cX0_pair 166 = .ok (.iload 6, 2) := dk_21 6 (dk_at dksX0_pair_7 0 rfl rfl)
theorem dX0_pair_168 : decode cX0_pair 168 = .ok (.goto 5, 3) := dk_167 0 5 (dk_at dksX0_pair_7 2 rfl rfl)
theorem dX0_pair_171 : decode cX0_pair 171 = .ok (.iload 7, 2) := dk_21 7 (dk_at dksX0_pair_7 5 rfl rfl)
theorem dX0_pair_173 : decode cX0_pair 173 = .ok (.iconst 4, 1) := dk_7 (dk_at dksX0_pair_7 7 rfl rfl)
theorem dX0_pair_174 : decode cX0_pair 174 = .ok (.irem, 1) := dk_112 (dk_at dksX0_pair_7 8 rfl rfl)
theorem dX0_pair_175 : decode cX0_pair 175 = .ok (.iload 9, 2) := dk_21 9 (dk_at dksX0_pair_7 9 rfl rfl)
theorem dX0_pair_177 : decode cX0_pair 177 = .ok (.iadd, 1) := dk_96 (dk_at dksX0_pair_7 11 rfl rfl)
theorem dX0_pair_178 : decode cX0_pair 178 = .ok (.invokestatic 147, 3) := dk_184 0 147 (dk_at dksX0_pair_7 12 rfl rfl)
theorem dX0_pair_181 : decode cX0_pair 181 = .ok (.iaload, 1) := dk_46 (dk_at dksX0_pair_7 15 rfl rfl)
theorem dX0_pair_182 : decode cX0_pair 182 = .ok (.iastore, 1) := dk_79 (dk_at dksX0_pair_7 16 rfl rfl)
theorem dX0_pair_183 : decode cX0_pair 183 = .ok (.iinc 5 2, 3) := dk_132 5 2 (dk_at dksX0_pair_7 17 rfl rfl)
theorem dX0_pair_186 : decode cX0_pair 186 = .ok (.goto (-183), 3) := dk_167 255 73 (dk_at dksX0_pair_7 20 rfl rfl)
theorem dX0_pair_189 : decode cX0_pair 189 = .ok (.return_, 1) := dk_177 (dk_at dksX0_pair_7 23 rfl rfl)
abbrev cX0_place : ByteArray := prog_1_method_15_code
def yX0_place : MethodName := ⟨RX0, "place", "(II)I"⟩
def dkwX0_place_0 : List UInt8 := [26, 7, 184, 0, 141, 7, 104, 27, 7, 184, 0, 141, 96, 172]
abbrev dktX0_place_0 : List UInt8 := dkwX0_place_0 ++ []
theorem dksX0_place_0 : cX0_place.data.toList.drop 0 = dktX0_place_0 := by decide +kernel
theorem dX0_place_0 : decode cX0_place 0 = .ok (.iload_n 0, 1) := dk_26 (dk_at dksX0_place_0 0 rfl rfl)
theorem dX0_place_1 : decode cX0_place 1 = .ok (.iconst 4, 1) := dk_7 (dk_at dksX0_place_0 1 rfl rfl)
theorem dX0_place_2 : decode cX0_place 2 = .ok (.invokestatic 141, 3) := dk_184 0 141 (dk_at dksX0_place_0 2 rfl rfl)
theorem dX0_place_5 : decode cX0_place 5 = .ok (.iconst 4, 1) := dk_7 (dk_at dksX0_place_0 5 rfl rfl)
theorem dX0_place_6 : decode cX0_place 6 = .ok (.imul, 1) := dk_104 (dk_at dksX0_place_0 6 rfl rfl)
theorem dX0_place_7 : decode cX0_place 7 = .ok (.iload_n 1, 1) := dk_27 (dk_at dksX0_place_0 7 rfl rfl)
theorem dX0_place_8 : decode cX0_place 8 = .ok (.iconst 4, 1) := dk_7 (dk_at dksX0_place_0 8 rfl rfl)
theorem dX0_place_9 : decode cX0_place 9 = .ok (.invokestatic 141, 3) := dk_184 0 141 (dk_at dksX0_place_0 9 rfl rfl)
theorem dX0_place_12 : decode cX0_place 12 = .ok (.iadd, 1) := dk_96 (dk_at dksX0_place_0 12 rfl rfl)
theorem dX0_place_13 : decode cX0_place 13 = .ok (.ireturn, 1) := dk_172 (dk_at dksX0_place_0 13 rfl rfl)
abbrev cX0_readBy : ByteArray := prog_1_method_18_code
def yX0_readBy : MethodName := ⟨RX0, "readBy", "()[I"⟩
def dkwX0_readBy_3 : List UInt8 := [132, 2, 1, 167, 255, 198, 43, 176]
abbrev dktX0_readBy_3 : List UInt8 := dkwX0_readBy_3 ++ []
def dkwX0_readBy_2 : List UInt8 := [46, 164, 0, 17, 43, 29, 43, 29, 4, 100, 46, 79, 132, 3, 255, 167, 255, 216, 43, 29, 28, 79]
abbrev dktX0_readBy_2 : List UInt8 := dkwX0_readBy_2 ++ dktX0_readBy_3
def dkwX0_readBy_1 : List UInt8 := [158, 0, 42, 42, 180, 0, 18, 180, 0, 75, 43, 29, 4, 100, 46, 46, 42, 180, 0, 18, 180, 0, 75, 28]
abbrev dktX0_readBy_1 : List UInt8 := dkwX0_readBy_1 ++ dktX0_readBy_2
def dkwX0_readBy_0 : List UInt8 := [42, 180, 0, 18, 180, 0, 75, 190, 188, 10, 76, 3, 61, 28, 43, 190, 162, 0, 58, 28, 62, 29]
abbrev dktX0_readBy_0 : List UInt8 := dkwX0_readBy_0 ++ dktX0_readBy_1
theorem dksX0_readBy_0 : cX0_readBy.data.toList.drop 0 = dktX0_readBy_0 := by decide +kernel
theorem dksX0_readBy_1 : cX0_readBy.data.toList.drop 22 = dktX0_readBy_1 := dk_seg dksX0_readBy_0 22 rfl rfl
theorem dksX0_readBy_2 : cX0_readBy.data.toList.drop 46 = dktX0_readBy_2 := dk_seg dksX0_readBy_1 24 rfl rfl
theorem dksX0_readBy_3 : cX0_readBy.data.toList.drop 68 = dktX0_readBy_3 := dk_seg dksX0_readBy_2 22 rfl rfl
theorem dX0_readBy_0 : decode cX0_readBy 0 = .ok (.aload_n 0, 1) := dk_42 (dk_at dksX0_readBy_0 0 rfl rfl)
theorem dX0_readBy_1 : decode cX0_readBy 1 = .ok (.getfield 18, 3) := dk_180 0 18 (dk_at dksX0_readBy_0 1 rfl rfl)
theorem dX0_readBy_4 : decode cX0_readBy 4 = .ok (.getfield 75, 3) := dk_180 0 75 (dk_at dksX0_readBy_0 4 rfl rfl)
theorem dX0_readBy_7 : decode cX0_readBy 7 = .ok (.arraylength, 1) := dk_190 (dk_at dksX0_readBy_0 7 rfl rfl)
theorem dX0_readBy_8 : decode cX0_readBy 8 = .ok (.newarray .int, 2) := dk_188_10 (dk_at dksX0_readBy_0 8 rfl rfl)
theorem dX0_readBy_10 : decode cX0_readBy 10 = .ok (.astore_n 1, 1) := dk_76 (dk_at dksX0_readBy_0 10 rfl rfl)
theorem dX0_readBy_11 : decode cX0_readBy 11 = .ok (.iconst 0, 1) := dk_3 (dk_at dksX0_readBy_0 11 rfl rfl)
theorem dX0_readBy_12 : decode cX0_readBy 12 = .ok (.istore_n 2, 1) := dk_61 (dk_at dksX0_readBy_0 12 rfl rfl)
theorem dX0_readBy_13 : decode cX0_readBy 13 = .ok (.iload_n 2, 1) := dk_28 (dk_at dksX0_readBy_0 13 rfl rfl)
theorem dX0_readBy_14 : decode cX0_readBy 14 = .ok (.aload_n 1, 1) := dk_43 (dk_at dksX0_readBy_0 14 rfl rfl)
theorem dX0_readBy_15 : decode cX0_readBy 15 = .ok (.arraylength, 1) := dk_190 (dk_at dksX0_readBy_0 15 rfl rfl)
theorem dX0_readBy_16 : decode cX0_readBy 16 = .ok (.if_icmp .ge 58, 3) := dk_162 0 58 (dk_at dksX0_readBy_0 16 rfl rfl)
theorem dX0_readBy_19 : decode cX0_readBy 19 = .ok (.iload_n 2, 1) := dk_28 (dk_at dksX0_readBy_0 19 rfl rfl)
theorem dX0_readBy_20 : decode cX0_readBy 20 = .ok (.istore_n 3, 1) := dk_62 (dk_at dksX0_readBy_0 20 rfl rfl)
theorem dX0_readBy_21 : decode cX0_readBy 21 = .ok (.iload_n 3, 1) := dk_29 (dk_at dksX0_readBy_0 21 rfl rfl)
theorem dX0_readBy_22 : decode cX0_readBy 22 = .ok (.ifCond .le 42, 3) := dk_158 0 42 (dk_at dksX0_readBy_1 0 rfl rfl)
theorem dX0_readBy_25 : decode cX0_readBy 25 = .ok (.aload_n 0, 1) := dk_42 (dk_at dksX0_readBy_1 3 rfl rfl)
theorem dX0_readBy_26 : decode cX0_readBy 26 = .ok (.getfield 18, 3) := dk_180 0 18 (dk_at dksX0_readBy_1 4 rfl rfl)
theorem dX0_readBy_29 : decode cX0_readBy 29 = .ok (.getfield 75, 3) := dk_180 0 75 (dk_at dksX0_readBy_1 7 rfl rfl)
theorem dX0_readBy_32 : decode cX0_readBy 32 = .ok (.aload_n 1, 1) := dk_43 (dk_at dksX0_readBy_1 10 rfl rfl)
theorem dX0_readBy_33 : decode cX0_readBy 33 = .ok (.iload_n 3, 1) := dk_29 (dk_at dksX0_readBy_1 11 rfl rfl)
theorem dX0_readBy_34 : decode cX0_readBy 34 = .ok (.iconst 1, 1) := dk_4 (dk_at dksX0_readBy_1 12 rfl rfl)
theorem dX0_readBy_35 : decode cX0_readBy 35 = .ok (.isub, 1) := dk_100 (dk_at dksX0_readBy_1 13 rfl rfl)
theorem dX0_readBy_36 : decode cX0_readBy 36 = .ok (.iaload, 1) := dk_46 (dk_at dksX0_readBy_1 14 rfl rfl)
theorem dX0_readBy_37 : decode cX0_readBy 37 = .ok (.iaload, 1) := dk_46 (dk_at dksX0_readBy_1 15 rfl rfl)
theorem dX0_readBy_38 : decode cX0_readBy 38 = .ok (.aload_n 0, 1) := dk_42 (dk_at dksX0_readBy_1 16 rfl rfl)
theorem dX0_readBy_39 : decode cX0_readBy 39 = .ok (.getfield 18, 3) := dk_180 0 18 (dk_at dksX0_readBy_1 17 rfl rfl)
theorem dX0_readBy_42 : decode cX0_readBy 42 = .ok (.getfield 75, 3) := dk_180 0 75 (dk_at dksX0_readBy_1 20 rfl rfl)
theorem dX0_readBy_45 : decode cX0_readBy 45 = .ok (.iload_n 2, 1) := dk_28 (dk_at dksX0_readBy_1 23 rfl rfl)
theorem dX0_readBy_46 : decode cX0_readBy 46 = .ok (.iaload, 1) := dk_46 (dk_at dksX0_readBy_2 0 rfl rfl)
theorem dX0_readBy_47 : decode cX0_readBy 47 = .ok (.if_icmp .le 17, 3) := dk_164 0 17 (dk_at dksX0_readBy_2 1 rfl rfl)
theorem dX0_readBy_50 : decode cX0_readBy 50 = .ok (.aload_n 1, 1) := dk_43 (dk_at dksX0_readBy_2 4 rfl rfl)
theorem dX0_readBy_51 : decode cX0_readBy 51 = .ok (.iload_n 3, 1) := dk_29 (dk_at dksX0_readBy_2 5 rfl rfl)
theorem dX0_readBy_52 : decode cX0_readBy 52 = .ok (.aload_n 1, 1) := dk_43 (dk_at dksX0_readBy_2 6 rfl rfl)
theorem dX0_readBy_53 : decode cX0_readBy 53 = .ok (.iload_n 3, 1) := dk_29 (dk_at dksX0_readBy_2 7 rfl rfl)
theorem dX0_readBy_54 : decode cX0_readBy 54 = .ok (.iconst 1, 1) := dk_4 (dk_at dksX0_readBy_2 8 rfl rfl)
theorem dX0_readBy_55 : decode cX0_readBy 55 = .ok (.isub, 1) := dk_100 (dk_at dksX0_readBy_2 9 rfl rfl)
theorem dX0_readBy_56 : decode cX0_readBy 56 = .ok (.iaload, 1) := dk_46 (dk_at dksX0_readBy_2 10 rfl rfl)
theorem dX0_readBy_57 : decode cX0_readBy 57 = .ok (.iastore, 1) := dk_79 (dk_at dksX0_readBy_2 11 rfl rfl)
theorem dX0_readBy_58 : decode cX0_readBy 58 = .ok (.iinc 3 (-1), 3) := dk_132 3 255 (dk_at dksX0_readBy_2 12 rfl rfl)
theorem dX0_readBy_61 : decode cX0_readBy 61 = .ok (.goto (-40), 3) := dk_167 255 216 (dk_at dksX0_readBy_2 15 rfl rfl)
theorem dX0_readBy_64 : decode cX0_readBy 64 = .ok (.aload_n 1, 1) := dk_43 (dk_at dksX0_readBy_2 18 rfl rfl)
theorem dX0_readBy_65 : decode cX0_readBy 65 = .ok (.iload_n 3, 1) := dk_29 (dk_at dksX0_readBy_2 19 rfl rfl)
theorem dX0_readBy_66 : decode cX0_readBy 66 = .ok (.iload_n 2, 1) := dk_28 (dk_at dksX0_readBy_2 20 rfl rfl)
theorem dX0_readBy_67 : decode cX0_readBy 67 = .ok (.iastore, 1) := dk_79 (dk_at dksX0_readBy_2 21 rfl rfl)
theorem dX0_readBy_68 : decode cX0_readBy 68 = .ok (.iinc 2 1, 3) := dk_132 2 1 (dk_at dksX0_readBy_3 0 rfl rfl)
theorem dX0_readBy_71 : decode cX0_readBy 71 = .ok (.goto (-58), 3) := dk_167 255 198 (dk_at dksX0_readBy_3 3 rfl rfl)
theorem dX0_readBy_74 : decode cX0_readBy 74 = .ok (.aload_n 1, 1) := dk_43 (dk_at dksX0_readBy_3 6 rfl rfl)
theorem dX0_readBy_75 : decode cX0_readBy 75 = .ok (.areturn, 1) := dk_176 (dk_at dksX0_readBy_3 7 rfl rfl)
abbrev cX0_byColumns : ByteArray := prog_1_method_19_code
def yX0_byColumns : MethodName := ⟨RX0, "byColumns", "([II[I)V"⟩
def dkwX0_byColumns_2 : List UInt8 := [190, 96, 54, 8, 167, 255, 235, 132, 6, 1, 167, 255, 211, 177]
abbrev dktX0_byColumns_2 : List UInt8 := dkwX0_byColumns_2 ++ []
def dkwX0_byColumns_1 : List UInt8 := [46, 54, 7, 21, 7, 54, 8, 21, 8, 27, 162, 0, 21, 44, 29, 21, 8, 79, 132, 3, 1, 21, 8, 42]
abbrev dktX0_byColumns_1 : List UInt8 := dkwX0_byColumns_1 ++ dktX0_byColumns_2
def dkwX0_byColumns_0 : List UInt8 := [3, 62, 42, 58, 4, 25, 4, 190, 54, 5, 3, 54, 6, 21, 6, 21, 5, 162, 0, 44, 25, 4, 21, 6]
abbrev dktX0_byColumns_0 : List UInt8 := dkwX0_byColumns_0 ++ dktX0_byColumns_1
theorem dksX0_byColumns_0 : cX0_byColumns.data.toList.drop 0 = dktX0_byColumns_0 := by decide +kernel
theorem dksX0_byColumns_1 : cX0_byColumns.data.toList.drop 24 = dktX0_byColumns_1 := dk_seg dksX0_byColumns_0 24 rfl rfl
theorem dksX0_byColumns_2 : cX0_byColumns.data.toList.drop 48 = dktX0_byColumns_2 := dk_seg dksX0_byColumns_1 24 rfl rfl
theorem dX0_byColumns_0 : decode cX0_byColumns 0 = .ok (.iconst 0, 1) := dk_3 (dk_at dksX0_byColumns_0 0 rfl rfl)
theorem dX0_byColumns_1 : decode cX0_byColumns 1 = .ok (.istore_n 3, 1) := dk_62 (dk_at dksX0_byColumns_0 1 rfl rfl)
theorem dX0_byColumns_2 : decode cX0_byColumns 2 = .ok (.aload_n 0, 1) := dk_42 (dk_at dksX0_byColumns_0 2 rfl rfl)
theorem dX0_byColumns_3 : decode cX0_byColumns 3 = .ok (.astore 4, 2) := dk_58 4 (dk_at dksX0_byColumns_0 3 rfl rfl)
theorem dX0_byColumns_5 : decode cX0_byColumns 5 = .ok (.aload 4, 2) := dk_25 4 (dk_at dksX0_byColumns_0 5 rfl rfl)
theorem dX0_byColumns_7 : decode cX0_byColumns 7 = .ok (.arraylength, 1) := dk_190 (dk_at dksX0_byColumns_0 7 rfl rfl)
theorem dX0_byColumns_8 : decode cX0_byColumns 8 = .ok (.istore 5, 2) := dk_54 5 (dk_at dksX0_byColumns_0 8 rfl rfl)
theorem dX0_byColumns_10 : decode cX0_byColumns 10 = .ok (.iconst 0, 1) := dk_3 (dk_at dksX0_byColumns_0 10 rfl rfl)
theorem dX0_byColumns_11 : decode cX0_byColumns 11 = .ok (.istore 6, 2) := dk_54 6 (dk_at dksX0_byColumns_0 11 rfl rfl)
theorem dX0_byColumns_13 : decode cX0_byColumns 13 = .ok (.iload 6, 2) := dk_21 6 (dk_at dksX0_byColumns_0 13 rfl rfl)
theorem dX0_byColumns_15 : decode cX0_byColumns 15 = .ok (.iload 5, 2) := dk_21 5 (dk_at dksX0_byColumns_0 15 rfl rfl)
theorem dX0_byColumns_17 : decode cX0_byColumns 17 = .ok (.if_icmp .ge 44, 3) := dk_162 0 44 (dk_at dksX0_byColumns_0 17 rfl rfl)
theorem dX0_byColumns_20 : decode cX0_byColumns 20 = .ok (.aload 4, 2) := dk_25 4 (dk_at dksX0_byColumns_0 20 rfl rfl)
theorem dX0_byColumns_22 : decode cX0_byColumns 22 = .ok (.iload 6, 2) := dk_21 6 (dk_at dksX0_byColumns_0 22 rfl rfl)
theorem dX0_byColumns_24 : decode cX0_byColumns 24 = .ok (.iaload, 1) := dk_46 (dk_at dksX0_byColumns_1 0 rfl rfl)
theorem dX0_byColumns_25 : decode cX0_byColumns 25 = .ok (.istore 7, 2) := dk_54 7 (dk_at dksX0_byColumns_1 1 rfl rfl)
theorem dX0_byColumns_27 : decode cX0_byColumns 27 = .ok (.iload 7, 2) := dk_21 7 (dk_at dksX0_byColumns_1 3 rfl rfl)
theorem dX0_byColumns_29 : decode cX0_byColumns 29 = .ok (.istore 8, 2) := dk_54 8 (dk_at dksX0_byColumns_1 5 rfl rfl)
theorem dX0_byColumns_31 : decode cX0_byColumns 31 = .ok (.iload 8, 2) := dk_21 8 (dk_at dksX0_byColumns_1 7 rfl rfl)
theorem dX0_byColumns_33 : decode cX0_byColumns 33 = .ok (.iload_n 1, 1) := dk_27 (dk_at dksX0_byColumns_1 9 rfl rfl)
theorem dX0_byColumns_34 : decode cX0_byColumns 34 = .ok (.if_icmp .ge 21, 3) := dk_162 0 21 (dk_at dksX0_byColumns_1 10 rfl rfl)
theorem dX0_byColumns_37 : decode cX0_byColumns 37 = .ok (.aload_n 2, 1) := dk_44 (dk_at dksX0_byColumns_1 13 rfl rfl)
theorem dX0_byColumns_38 : decode cX0_byColumns 38 = .ok (.iload_n 3, 1) := dk_29 (dk_at dksX0_byColumns_1 14 rfl rfl)
theorem dX0_byColumns_39 : decode cX0_byColumns 39 = .ok (.iload 8, 2) := dk_21 8 (dk_at dksX0_byColumns_1 15 rfl rfl)
theorem dX0_byColumns_41 : decode cX0_byColumns 41 = .ok (.iastore, 1) := dk_79 (dk_at dksX0_byColumns_1 17 rfl rfl)
theorem dX0_byColumns_42 : decode cX0_byColumns 42 = .ok (.iinc 3 1, 3) := dk_132 3 1 (dk_at dksX0_byColumns_1 18 rfl rfl)
theorem dX0_byColumns_45 : decode cX0_byColumns 45 = .ok (.iload 8, 2) := dk_21 8 (dk_at dksX0_byColumns_1 21 rfl rfl)
theorem dX0_byColumns_47 : decode cX0_byColumns 47 = .ok (.aload_n 0, 1) := dk_42 (dk_at dksX0_byColumns_1 23 rfl rfl)
theorem dX0_byColumns_48 : decode cX0_byColumns 48 = .ok (.arraylength, 1) := dk_190 (dk_at dksX0_byColumns_2 0 rfl rfl)
theorem dX0_byColumns_49 : decode cX0_byColumns 49 = .ok (.iadd, 1) := dk_96 (dk_at dksX0_byColumns_2 1 rfl rfl)
theorem dX0_byColumns_50 : decode cX0_byColumns 50 = .ok (.istore 8, 2) := dk_54 8 (dk_at dksX0_byColumns_2 2 rfl rfl)
theorem dX0_byColumns_52 : decode cX0_byColumns 52 = .ok (.goto (-21), 3) := dk_167 255 235 (dk_at dksX0_byColumns_2 4 rfl rfl)
theorem dX0_byColumns_55 : decode cX0_byColumns 55 = .ok (.iinc 6 1, 3) := dk_132 6 1 (dk_at dksX0_byColumns_2 7 rfl rfl)
theorem dX0_byColumns_58 : decode cX0_byColumns 58 = .ok (.goto (-45), 3) := dk_167 255 211 (dk_at dksX0_byColumns_2 10 rfl rfl)
theorem dX0_byColumns_61 : decode cX0_byColumns 61 = .ok (.return_, 1) := dk_177 (dk_at dksX0_byColumns_2 13 rfl rfl)
abbrev cX0_moved : ByteArray := prog_1_method_21_code
def yX0_moved : MethodName := ⟨RX0, "moved", "([IZ)[I"⟩
def dkwX0_moved_2 : List UInt8 := [180, 0, 72, 21, 4, 46, 79, 132, 4, 1, 167, 255, 207, 45, 176]
abbrev dktX0_moved_2 : List UInt8 := dkwX0_moved_2 ++ []
def dkwX0_moved_1 : List UInt8 := [180, 0, 18, 180, 0, 72, 43, 21, 4, 46, 46, 79, 167, 0, 19, 45, 43, 21, 4, 46, 42, 180, 0, 18]
abbrev dktX0_moved_1 : List UInt8 := dkwX0_moved_1 ++ dktX0_moved_2
def dkwX0_moved_0 : List UInt8 := [43, 190, 188, 10, 78, 3, 54, 4, 21, 4, 43, 190, 162, 0, 48, 28, 153, 0, 22, 45, 21, 4, 42]
abbrev dktX0_moved_0 : List UInt8 := dkwX0_moved_0 ++ dktX0_moved_1
theorem dksX0_moved_0 : cX0_moved.data.toList.drop 0 = dktX0_moved_0 := by decide +kernel
theorem dksX0_moved_1 : cX0_moved.data.toList.drop 23 = dktX0_moved_1 := dk_seg dksX0_moved_0 23 rfl rfl
theorem dksX0_moved_2 : cX0_moved.data.toList.drop 47 = dktX0_moved_2 := dk_seg dksX0_moved_1 24 rfl rfl
theorem dX0_moved_0 : decode cX0_moved 0 = .ok (.aload_n 1, 1) := dk_43 (dk_at dksX0_moved_0 0 rfl rfl)
theorem dX0_moved_1 : decode cX0_moved 1 = .ok (.arraylength, 1) := dk_190 (dk_at dksX0_moved_0 1 rfl rfl)
theorem dX0_moved_2 : decode cX0_moved 2 = .ok (.newarray .int, 2) := dk_188_10 (dk_at dksX0_moved_0 2 rfl rfl)
theorem dX0_moved_4 : decode cX0_moved 4 = .ok (.astore_n 3, 1) := dk_78 (dk_at dksX0_moved_0 4 rfl rfl)
theorem dX0_moved_5 : decode cX0_moved 5 = .ok (.iconst 0, 1) := dk_3 (dk_at dksX0_moved_0 5 rfl rfl)
theorem dX0_moved_6 : decode cX0_moved 6 = .ok (.istore 4, 2) := dk_54 4 (dk_at dksX0_moved_0 6 rfl rfl)
theorem dX0_moved_8 : decode cX0_moved 8 = .ok (.iload 4, 2) := dk_21 4 (dk_at dksX0_moved_0 8 rfl rfl)
theorem dX0_moved_10 : decode cX0_moved 10 = .ok (.aload_n 1, 1) := dk_43 (dk_at dksX0_moved_0 10 rfl rfl)
theorem dX0_moved_11 : decode cX0_moved 11 = .ok (.arraylength, 1) := dk_190 (dk_at dksX0_moved_0 11 rfl rfl)
theorem dX0_moved_12 : decode cX0_moved 12 = .ok (.if_icmp .ge 48, 3) := dk_162 0 48 (dk_at dksX0_moved_0 12 rfl rfl)
theorem dX0_moved_15 : decode cX0_moved 15 = .ok (.iload_n 2, 1) := dk_28 (dk_at dksX0_moved_0 15 rfl rfl)
theorem dX0_moved_16 : decode cX0_moved 16 = .ok (.ifCond .eq 22, 3) := dk_153 0 22 (dk_at dksX0_moved_0 16 rfl rfl)
theorem dX0_moved_19 : decode cX0_moved 19 = .ok (.aload_n 3, 1) := dk_45 (dk_at dksX0_moved_0 19 rfl rfl)
theorem dX0_moved_20 : decode cX0_moved 20 = .ok (.iload 4, 2) := dk_21 4 (dk_at dksX0_moved_0 20 rfl rfl)
theorem dX0_moved_22 : decode cX0_moved 22 = .ok (.aload_n 0, 1) := dk_42 (dk_at dksX0_moved_0 22 rfl rfl)
theorem dX0_moved_23 : decode cX0_moved 23 = .ok (.getfield 18, 3) := dk_180 0 18 (dk_at dksX0_moved_1 0 rfl rfl)
theorem dX0_moved_26 : decode cX0_moved 26 = .ok (.getfield 72, 3) := dk_180 0 72 (dk_at dksX0_moved_1 3 rfl rfl)
theorem dX0_moved_29 : decode cX0_moved 29 = .ok (.aload_n 1, 1) := dk_43 (dk_at dksX0_moved_1 6 rfl rfl)
theorem dX0_moved_30 : decode cX0_moved 30 = .ok (.iload 4, 2) := dk_21 4 (dk_at dksX0_moved_1 7 rfl rfl)
theorem dX0_moved_32 : decode cX0_moved 32 = .ok (.iaload, 1) := dk_46 (dk_at dksX0_moved_1 9 rfl rfl)
theorem dX0_moved_33 : decode cX0_moved 33 = .ok (.iaload, 1) := dk_46 (dk_at dksX0_moved_1 10 rfl rfl)
theorem dX0_moved_34 : decode cX0_moved 34 = .ok (.iastore, 1) := dk_79 (dk_at dksX0_moved_1 11 rfl rfl)
theorem dX0_moved_35 : decode cX0_moved 35 = .ok (.goto 19, 3) := dk_167 0 19 (dk_at dksX0_moved_1 12 rfl rfl)
theorem dX0_moved_38 : decode cX0_moved 38 = .ok (.aload_n 3, 1) := dk_45 (dk_at dksX0_moved_1 15 rfl rfl)
theorem dX0_moved_39 : decode cX0_moved 39 = .ok (.aload_n 1, 1) := dk_43 (dk_at dksX0_moved_1 16 rfl rfl)
theorem dX0_moved_40 : decode cX0_moved 40 = .ok (.iload 4, 2) := dk_21 4 (dk_at dksX0_moved_1 17 rfl rfl)
theorem dX0_moved_42 : decode cX0_moved 42 = .ok (.iaload, 1) := dk_46 (dk_at dksX0_moved_1 19 rfl rfl)
theorem dX0_moved_43 : decode cX0_moved 43 = .ok (.aload_n 0, 1) := dk_42 (dk_at dksX0_moved_1 20 rfl rfl)
theorem dX0_moved_44 : decode cX0_moved 44 = .ok (.getfield 18, 3) := dk_180 0 18 (dk_at dksX0_moved_1 21 rfl rfl)
theorem dX0_moved_47 : decode cX0_moved 47 = .ok (.getfield 72, 3) := dk_180 0 72 (dk_at dksX0_moved_2 0 rfl rfl)
theorem dX0_moved_50 : decode cX0_moved 50 = .ok (.iload 4, 2) := dk_21 4 (dk_at dksX0_moved_2 3 rfl rfl)
theorem dX0_moved_52 : decode cX0_moved 52 = .ok (.iaload, 1) := dk_46 (dk_at dksX0_moved_2 5 rfl rfl)
theorem dX0_moved_53 : decode cX0_moved 53 = .ok (.iastore, 1) := dk_79 (dk_at dksX0_moved_2 6 rfl rfl)
theorem dX0_moved_54 : decode cX0_moved 54 = .ok (.iinc 4 1, 3) := dk_132 4 1 (dk_at dksX0_moved_2 7 rfl rfl)
theorem dX0_moved_57 : decode cX0_moved 57 = .ok (.goto (-49), 3) := dk_167 255 207 (dk_at dksX0_moved_2 10 rfl rfl)
theorem dX0_moved_60 : decode cX0_moved 60 = .ok (.aload_n 3, 1) := dk_45 (dk_at dksX0_moved_2 13 rfl rfl)
theorem dX0_moved_61 : decode cX0_moved 61 = .ok (.areturn, 1) := dk_176 (dk_at dksX0_moved_2 14 rfl rfl)
abbrev cX0_byRails : ByteArray := prog_1_method_20_code
def yX0_byRails : MethodName := ⟨RX0, "byRails", "(II[I)V"⟩
def dkwX0_byRails_2 : List UInt8 := [21, 4, 21, 6, 79, 132, 4, 1, 132, 6, 1, 167, 255, 218, 132, 5, 1, 167, 255, 203, 177]
abbrev dktX0_byRails_2 : List UInt8 := dkwX0_byRails_2 ++ []
def dkwX0_byRails_1 : List UInt8 := [162, 0, 38, 21, 6, 29, 112, 54, 7, 21, 7, 29, 21, 7, 100, 184, 0, 158, 21, 5, 160, 0, 12, 44]
abbrev dktX0_byRails_1 : List UInt8 := dkwX0_byRails_1 ++ dktX0_byRails_2
def dkwX0_byRails_0 : List UInt8 := [5, 26, 104, 5, 100, 62, 3, 54, 4, 3, 54, 5, 21, 5, 26, 162, 0, 53, 3, 54, 6, 21, 6, 27]
abbrev dktX0_byRails_0 : List UInt8 := dkwX0_byRails_0 ++ dktX0_byRails_1
theorem dksX0_byRails_0 : cX0_byRails.data.toList.drop 0 = dktX0_byRails_0 := by decide +kernel
theorem dksX0_byRails_1 : cX0_byRails.data.toList.drop 24 = dktX0_byRails_1 := dk_seg dksX0_byRails_0 24 rfl rfl
theorem dksX0_byRails_2 : cX0_byRails.data.toList.drop 48 = dktX0_byRails_2 := dk_seg dksX0_byRails_1 24 rfl rfl
theorem dX0_byRails_0 : decode cX0_byRails 0 = .ok (.iconst 2, 1) := dk_5 (dk_at dksX0_byRails_0 0 rfl rfl)
theorem dX0_byRails_1 : decode cX0_byRails 1 = .ok (.iload_n 0, 1) := dk_26 (dk_at dksX0_byRails_0 1 rfl rfl)
theorem dX0_byRails_2 : decode cX0_byRails 2 = .ok (.imul, 1) := dk_104 (dk_at dksX0_byRails_0 2 rfl rfl)
theorem dX0_byRails_3 : decode cX0_byRails 3 = .ok (.iconst 2, 1) := dk_5 (dk_at dksX0_byRails_0 3 rfl rfl)
theorem dX0_byRails_4 : decode cX0_byRails 4 = .ok (.isub, 1) := dk_100 (dk_at dksX0_byRails_0 4 rfl rfl)
theorem dX0_byRails_5 : decode cX0_byRails 5 = .ok (.istore_n 3, 1) := dk_62 (dk_at dksX0_byRails_0 5 rfl rfl)
theorem dX0_byRails_6 : decode cX0_byRails 6 = .ok (.iconst 0, 1) := dk_3 (dk_at dksX0_byRails_0 6 rfl rfl)
theorem dX0_byRails_7 : decode cX0_byRails 7 = .ok (.istore 4, 2) := dk_54 4 (dk_at dksX0_byRails_0 7 rfl rfl)
theorem dX0_byRails_9 : decode cX0_byRails 9 = .ok (.iconst 0, 1) := dk_3 (dk_at dksX0_byRails_0 9 rfl rfl)
theorem dX0_byRails_10 : decode cX0_byRails 10 = .ok (.istore 5, 2) := dk_54 5 (dk_at dksX0_byRails_0 10 rfl rfl)
theorem dX0_byRails_12 : decode cX0_byRails 12 = .ok (.iload 5, 2) := dk_21 5 (dk_at dksX0_byRails_0 12 rfl rfl)
theorem dX0_byRails_14 : decode cX0_byRails 14 = .ok (.iload_n 0, 1) := dk_26 (dk_at dksX0_byRails_0 14 rfl rfl)
theorem dX0_byRails_15 : decode cX0_byRails 15 = .ok (.if_icmp .ge 53, 3) := dk_162 0 53 (dk_at dksX0_byRails_0 15 rfl rfl)
theorem dX0_byRails_18 : decode cX0_byRails 18 = .ok (.iconst 0, 1) := dk_3 (dk_at dksX0_byRails_0 18 rfl rfl)
theorem dX0_byRails_19 : decode cX0_byRails 19 = .ok (.istore 6, 2) := dk_54 6 (dk_at dksX0_byRails_0 19 rfl rfl)
theorem dX0_byRails_21 : decode cX0_byRails 21 = .ok (.iload 6, 2) := dk_21 6 (dk_at dksX0_byRails_0 21 rfl rfl)
theorem dX0_byRails_23 : decode cX0_byRails 23 = .ok (.iload_n 1, 1) := dk_27 (dk_at dksX0_byRails_0 23 rfl rfl)
theorem dX0_byRails_24 : decode cX0_byRails 24 = .ok (.if_icmp .ge 38, 3) := dk_162 0 38 (dk_at dksX0_byRails_1 0 rfl rfl)
theorem dX0_byRails_27 : decode cX0_byRails 27 = .ok (.iload 6, 2) := dk_21 6 (dk_at dksX0_byRails_1 3 rfl rfl)
theorem dX0_byRails_29 : decode cX0_byRails 29 = .ok (.iload_n 3, 1) := dk_29 (dk_at dksX0_byRails_1 5 rfl rfl)
theorem dX0_byRails_30 : decode cX0_byRails 30 = .ok (.irem, 1) := dk_112 (dk_at dksX0_byRails_1 6 rfl rfl)
theorem dX0_byRails_31 : decode cX0_byRails 31 = .ok (.istore 7, 2) := dk_54 7 (dk_at dksX0_byRails_1 7 rfl rfl)
theorem dX0_byRails_33 : decode cX0_byRails 33 = .ok (.iload 7, 2) := dk_21 7 (dk_at dksX0_byRails_1 9 rfl rfl)
theorem dX0_byRails_35 : decode cX0_byRails 35 = .ok (.iload_n 3, 1) := dk_29 (dk_at dksX0_byRails_1 11 rfl rfl)
theorem dX0_byRails_36 : decode cX0_byRails 36 = .ok (.iload 7, 2) := dk_21 7 (dk_at dksX0_byRails_1 12 rfl rfl)
theorem dX0_byRails_38 : decode cX0_byRails 38 = .ok (.isub, 1) := dk_100 (dk_at dksX0_byRails_1 14 rfl rfl)
theorem dX0_byRails_39 : decode cX0_byRails 39 = .ok (.invokestatic 158, 3) := dk_184 0 158 (dk_at dksX0_byRails_1 15 rfl rfl)
theorem dX0_byRails_42 : decode cX0_byRails 42 = .ok (.iload 5, 2) := dk_21 5 (dk_at dksX0_byRails_1 18 rfl rfl)
theorem dX0_byRails_44 : decode cX0_byRails 44 = .ok (.if_icmp .ne 12, 3) := dk_160 0 12 (dk_at dksX0_byRails_1 20 rfl rfl)
theorem dX0_byRails_47 : decode cX0_byRails 47 = .ok (.aload_n 2, 1) := dk_44 (dk_at dksX0_byRails_1 23 rfl rfl)
theorem dX0_byRails_48 : decode cX0_byRails 48 = .ok (.iload 4, 2) := dk_21 4 (dk_at dksX0_byRails_2 0 rfl rfl)
theorem dX0_byRails_50 : decode cX0_byRails 50 = .ok (.iload 6, 2) := dk_21 6 (dk_at dksX0_byRails_2 2 rfl rfl)
theorem dX0_byRails_52 : decode cX0_byRails 52 = .ok (.iastore, 1) := dk_79 (dk_at dksX0_byRails_2 4 rfl rfl)
theorem dX0_byRails_53 : decode cX0_byRails 53 = .ok (.iinc 4 1, 3) := dk_132 4 1 (dk_at dksX0_byRails_2 5 rfl rfl)
theorem dX0_byRails_56 : decode cX0_byRails 56 = .ok (.iinc 6 1, 3) := dk_132 6 1 (dk_at dksX0_byRails_2 8 rfl rfl)
theorem dX0_byRails_59 : decode cX0_byRails 59 = .ok (.goto (-38), 3) := dk_167 255 218 (dk_at dksX0_byRails_2 11 rfl rfl)
theorem dX0_byRails_62 : decode cX0_byRails 62 = .ok (.iinc 5 1, 3) := dk_132 5 1 (dk_at dksX0_byRails_2 14 rfl rfl)
theorem dX0_byRails_65 : decode cX0_byRails 65 = .ok (.goto (-53), 3) := dk_167 255 203 (dk_at dksX0_byRails_2 17 rfl rfl)
theorem dX0_byRails_68 : decode cX0_byRails 68 = .ok (.return_, 1) := dk_177 (dk_at dksX0_byRails_2 20 rfl rfl)
abbrev cX0_apart : ByteArray := prog_1_method_22_code
def yX0_apart : MethodName := ⟨RX0, "apart", "(Z)[I"⟩
def dkwX0_apart_11 : List UInt8 := [25, 5, 182, 0, 130, 192, 0, 98, 182, 0, 121, 96, 46, 79, 132, 7, 1, 167, 255, 218, 25, 6, 176]
abbrev dktX0_apart_11 : List UInt8 := dkwX0_apart_11 ++ []
def dkwX0_apart_10 : List UInt8 := [54, 7, 27, 154, 0, 40, 21, 7, 21, 4, 162, 0, 33, 25, 6, 21, 7, 44, 25, 6, 21, 7, 46]
abbrev dktX0_apart_10 : List UInt8 := dkwX0_apart_10 ++ dktX0_apart_11
def dkwX0_apart_9 : List UInt8 := [21, 7, 7, 25, 5, 182, 0, 130, 192, 0, 98, 182, 0, 121, 104, 79, 132, 7, 1, 167, 255, 224, 3]
abbrev dktX0_apart_9 : List UInt8 := dkwX0_apart_9 ++ dktX0_apart_10
def dkwX0_apart_8 : List UInt8 := [79, 132, 7, 1, 167, 255, 206, 3, 54, 7, 27, 154, 0, 34, 21, 7, 21, 4, 162, 0, 27, 25, 6]
abbrev dktX0_apart_8 : List UInt8 := dkwX0_apart_8 ++ dktX0_apart_9
def dkwX0_apart_7 : List UInt8 := [54, 8, 25, 6, 21, 7, 44, 7, 21, 8, 104, 25, 5, 182, 0, 130, 192, 0, 98, 182, 0, 121, 96, 46]
abbrev dktX0_apart_7 : List UInt8 := dkwX0_apart_7 ++ dktX0_apart_8
def dkwX0_apart_6 : List UInt8 := [54, 7, 27, 153, 0, 52, 21, 7, 21, 4, 162, 0, 45, 25, 5, 182, 0, 130, 192, 0, 98, 182, 0, 121]
abbrev dktX0_apart_6 : List UInt8 := dkwX0_apart_6 ++ dktX0_apart_7
def dkwX0_apart_5 : List UInt8 := [21, 7, 7, 112, 184, 0, 97, 182, 0, 103, 132, 6, 1, 167, 255, 159, 21, 4, 188, 10, 58, 6, 3]
abbrev dktX0_apart_5 : List UInt8 := dkwX0_apart_5 ++ dktX0_apart_6
def dkwX0_apart_4 : List UInt8 := [154, 0, 7, 4, 167, 0, 4, 3, 54, 8, 25, 5, 21, 8, 153, 0, 10, 21, 7, 7, 108, 167, 0, 7]
abbrev dktX0_apart_4 : List UInt8 := dkwX0_apart_4 ++ dktX0_apart_5
def dkwX0_apart_3 : List UInt8 := [153, 0, 18, 21, 6, 21, 4, 162, 0, 7, 4, 167, 0, 19, 3, 167, 0, 15, 21, 6, 5, 112]
abbrev dktX0_apart_3 : List UInt8 := dkwX0_apart_3 ++ dktX0_apart_4
def dkwX0_apart_2 : List UInt8 := [180, 0, 72, 27, 153, 0, 11, 21, 6, 21, 4, 112, 167, 0, 7, 21, 6, 5, 108, 46, 46, 54, 7, 27]
abbrev dktX0_apart_2 : List UInt8 := dkwX0_apart_2 ++ dktX0_apart_3
def dkwX0_apart_1 : List UInt8 := [183, 0, 96, 58, 5, 3, 54, 6, 21, 6, 5, 21, 4, 104, 162, 0, 94, 45, 42, 180, 0, 18]
abbrev dktX0_apart_1 : List UInt8 := dkwX0_apart_1 ++ dktX0_apart_2
def dkwX0_apart_0 : List UInt8 := [42, 182, 0, 137, 77, 44, 184, 0, 150, 78, 42, 180, 0, 18, 180, 0, 72, 190, 54, 4, 187, 0, 94, 89]
abbrev dktX0_apart_0 : List UInt8 := dkwX0_apart_0 ++ dktX0_apart_1
theorem dksX0_apart_0 : cX0_apart.data.toList.drop 0 = dktX0_apart_0 := by decide +kernel
theorem dksX0_apart_1 : cX0_apart.data.toList.drop 24 = dktX0_apart_1 := dk_seg dksX0_apart_0 24 rfl rfl
theorem dksX0_apart_2 : cX0_apart.data.toList.drop 46 = dktX0_apart_2 := dk_seg dksX0_apart_1 22 rfl rfl
theorem dksX0_apart_3 : cX0_apart.data.toList.drop 70 = dktX0_apart_3 := dk_seg dksX0_apart_2 24 rfl rfl
theorem dksX0_apart_4 : cX0_apart.data.toList.drop 92 = dktX0_apart_4 := dk_seg dksX0_apart_3 22 rfl rfl
theorem dksX0_apart_5 : cX0_apart.data.toList.drop 116 = dktX0_apart_5 := dk_seg dksX0_apart_4 24 rfl rfl
theorem dksX0_apart_6 : cX0_apart.data.toList.drop 139 = dktX0_apart_6 := dk_seg dksX0_apart_5 23 rfl rfl
theorem dksX0_apart_7 : cX0_apart.data.toList.drop 163 = dktX0_apart_7 := dk_seg dksX0_apart_6 24 rfl rfl
theorem dksX0_apart_8 : cX0_apart.data.toList.drop 187 = dktX0_apart_8 := dk_seg dksX0_apart_7 24 rfl rfl
theorem dksX0_apart_9 : cX0_apart.data.toList.drop 210 = dktX0_apart_9 := dk_seg dksX0_apart_8 23 rfl rfl
theorem dksX0_apart_10 : cX0_apart.data.toList.drop 233 = dktX0_apart_10 := dk_seg dksX0_apart_9 23 rfl rfl
theorem dksX0_apart_11 : cX0_apart.data.toList.drop 256 = dktX0_apart_11 := dk_seg dksX0_apart_10 23 rfl rfl
theorem dX0_apart_0 : decode cX0_apart 0 = .ok (.aload_n 0, 1) := dk_42 (dk_at dksX0_apart_0 0 rfl rfl)
theorem dX0_apart_1 : decode cX0_apart 1 = .ok (.invokevirtual 137, 3) := dk_182 0 137 (dk_at dksX0_apart_0 1 rfl rfl)
theorem dX0_apart_4 : decode cX0_apart 4 = .ok (.astore_n 2, 1) := dk_77 (dk_at dksX0_apart_0 4 rfl rfl)
theorem dX0_apart_5 : decode cX0_apart 5 = .ok (.aload_n 2, 1) := dk_44 (dk_at dksX0_apart_0 5 rfl rfl)
theorem dX0_apart_6 : decode cX0_apart 6 = .ok (.invokestatic 150, 3) := dk_184 0 150 (dk_at dksX0_apart_0 6 rfl rfl)
theorem dX0_apart_9 : decode cX0_apart 9 = .ok (.astore_n 3, 1) := dk_78 (dk_at dksX0_apart_0 9 rfl rfl)
theorem dX0_apart_10 : decode cX0_apart 10 = .ok (.aload_n 0, 1) := dk_42 (dk_at dksX0_apart_0 10 rfl rfl)
theorem dX0_apart_11 : decode cX0_apart 11 = .ok (.getfield 18, 3) := dk_180 0 18 (dk_at dksX0_apart_0 11 rfl rfl)
theorem dX0_apart_14 : decode cX0_apart 14 = .ok (.getfield 72, 3) := dk_180 0 72 (dk_at dksX0_apart_0 14 rfl rfl)
theorem dX0_apart_17 : decode cX0_apart 17 = .ok (.arraylength, 1) := dk_190 (dk_at dksX0_apart_0 17 rfl rfl)
theorem dX0_apart_18 : decode cX0_apart 18 = .ok (.istore 4, 2) := dk_54 4 (dk_at dksX0_apart_0 18 rfl rfl)
theorem dX0_apart_20 : decode cX0_apart 20 = .ok (.new 94, 3) := dk_187 0 94 (dk_at dksX0_apart_0 20 rfl rfl)
theorem dX0_apart_23 : decode cX0_apart 23 = .ok (.dup, 1) := dk_89 (dk_at dksX0_apart_0 23 rfl rfl)
theorem dX0_apart_24 : decode cX0_apart 24 = .ok (.invokespecial 96, 3) := dk_183 0 96 (dk_at dksX0_apart_1 0 rfl rfl)
theorem dX0_apart_27 : decode cX0_apart 27 = .ok (.astore 5, 2) := dk_58 5 (dk_at dksX0_apart_1 3 rfl rfl)
theorem dX0_apart_29 : decode cX0_apart 29 = .ok (.iconst 0, 1) := dk_3 (dk_at dksX0_apart_1 5 rfl rfl)
theorem dX0_apart_30 : decode cX0_apart 30 = .ok (.istore 6, 2) := dk_54 6 (dk_at dksX0_apart_1 6 rfl rfl)
theorem dX0_apart_32 : decode cX0_apart 32 = .ok (.iload 6, 2) := dk_21 6 (dk_at dksX0_apart_1 8 rfl rfl)
theorem dX0_apart_34 : decode cX0_apart 34 = .ok (.iconst 2, 1) := dk_5 (dk_at dksX0_apart_1 10 rfl rfl)
theorem dX0_apart_35 : decode cX0_apart 35 = .ok (.iload 4, 2) := dk_21 4 (dk_at dksX0_apart_1 11 rfl rfl)
theorem dX0_apart_37 : decode cX0_apart 37 = .ok (.imul, 1) := dk_104 (dk_at dksX0_apart_1 13 rfl rfl)
theorem dX0_apart_38 : decode cX0_apart 38 = .ok (.if_icmp .ge 94, 3) := dk_162 0 94 (dk_at dksX0_apart_1 14 rfl rfl)
theorem dX0_apart_41 : decode cX0_apart 41 = .ok (.aload_n 3, 1) := dk_45 (dk_at dksX0_apart_1 17 rfl rfl)
theorem dX0_apart_42 : decode cX0_apart 42 = .ok (.aload_n 0, 1) := dk_42 (dk_at dksX0_apart_1 18 rfl rfl)
theorem dX0_apart_43 : decode cX0_apart 43 = .ok (.getfield 18, 3) := dk_180 0 18 (dk_at dksX0_apart_1 19 rfl rfl)
theorem dX0_apart_46 : decode cX0_apart 46 = .ok (.getfield 72, 3) := dk_180 0 72 (dk_at dksX0_apart_2 0 rfl rfl)
theorem dX0_apart_49 : decode cX0_apart 49 = .ok (.iload_n 1, 1) := dk_27 (dk_at dksX0_apart_2 3 rfl rfl)
theorem dX0_apart_50 : decode cX0_apart 50 = .ok (.ifCond .eq 11, 3) := dk_153 0 11 (dk_at dksX0_apart_2 4 rfl rfl)
theorem dX0_apart_53 : decode cX0_apart 53 = .ok (.iload 6, 2) := dk_21 6 (dk_at dksX0_apart_2 7 rfl rfl)
theorem dX0_apart_55 : decode cX0_apart 55 = .ok (.iload 4, 2) := dk_21 4 (dk_at dksX0_apart_2 9 rfl rfl)
theorem dX0_apart_57 : decode cX0_apart 57 = .ok (.irem, 1) := dk_112 (dk_at dksX0_apart_2 11 rfl rfl)
theorem dX0_apart_58 : decode cX0_apart 58 = .ok (.goto 7, 3) := dk_167 0 7 (dk_at dksX0_apart_2 12 rfl rfl)
theorem dX0_apart_61 : decode cX0_apart 61 = .ok (.iload 6, 2) := dk_21 6 (dk_at dksX0_apart_2 15 rfl rfl)
theorem dX0_apart_63 : decode cX0_apart 63 = .ok (.iconst 2, 1) := dk_5 (dk_at dksX0_apart_2 17 rfl rfl)
theorem dX0_apart_64 : decode cX0_apart 64 = .ok (.idiv, 1) := dk_108 (dk_at dksX0_apart_2 18 rfl rfl)
theorem dX0_apart_65 : decode cX0_apart 65 = .ok (.iaload, 1) := dk_46 (dk_at dksX0_apart_2 19 rfl rfl)
theorem dX0_apart_66 : decode cX0_apart 66 = .ok (.iaload, 1) := dk_46 (dk_at dksX0_apart_2 20 rfl rfl)
theorem dX0_apart_67 : decode cX0_apart 67 = .ok (.istore 7, 2) := dk_54 7 (dk_at dksX0_apart_2 21 rfl rfl)
theorem dX0_apart_69 : decode cX0_apart 69 = .ok (.iload_n 1, 1) := dk_27 (dk_at dksX0_apart_2 23 rfl rfl)
theorem dX0_apart_70 : decode cX0_apart 70 = .ok (.ifCond .eq 18, 3) := dk_153 0 18 (dk_at dksX0_apart_3 0 rfl rfl)
theorem dX0_apart_73 : decode cX0_apart 73 = .ok (.iload 6, 2) := dk_21 6 (dk_at dksX0_apart_3 3 rfl rfl)
theorem dX0_apart_75 : decode cX0_apart 75 = .ok (.iload 4, 2) := dk_21 4 (dk_at dksX0_apart_3 5 rfl rfl)
theorem dX0_apart_77 : decode cX0_apart 77 = .ok (.if_icmp .ge 7, 3) := dk_162 0 7 (dk_at dksX0_apart_3 7 rfl rfl)
theorem dX0_apart_80 : decode cX0_apart 80 = .ok (.iconst 1, 1) := dk_4 (dk_at dksX0_apart_3 10 rfl rfl)
theorem dX0_apart_81 : decode cX0_apart 81 = .ok (.goto 19, 3) := dk_167 0 19 (dk_at dksX0_apart_3 11 rfl rfl)
theorem dX0_apart_84 : decode cX0_apart 84 = .ok (.iconst 0, 1) := dk_3 (dk_at dksX0_apart_3 14 rfl rfl)
theorem dX0_apart_85 : decode cX0_apart 85 = .ok (.goto 15, 3) := dk_167 0 15 (dk_at dksX0_apart_3 15 rfl rfl)
theorem dX0_apart_88 : decode cX0_apart 88 = .ok (.iload 6, 2) := dk_21 6 (dk_at dksX0_apart_3 18 rfl rfl)
theorem dX0_apart_90 : decode cX0_apart 90 = .ok (.iconst 2, 1) := dk_5 (dk_at dksX0_apart_3 20 rfl rfl)
theorem dX0_apart_91 : decode cX0_apart 91 = .ok (.irem, 1) := dk_112 (dk_at dksX0_apart_3 21 rfl rfl)
theorem dX0_apart_92 : decode cX0_apart 92 = .ok (.ifCond .ne 7, 3) := dk_154 0 7 (dk_at dksX0_apart_4 0 rfl rfl)
theorem dX0_apart_95 : decode cX0_apart 95 = .ok (.iconst 1, 1) := dk_4 (dk_at dksX0_apart_4 3 rfl rfl)
theorem dX0_apart_96 : decode cX0_apart 96 = .ok (.goto 4, 3) := dk_167 0 4 (dk_at dksX0_apart_4 4 rfl rfl)
theorem dX0_apart_99 : decode cX0_apart 99 = .ok (.iconst 0, 1) := dk_3 (dk_at dksX0_apart_4 7 rfl rfl)
theorem dX0_apart_100 : decode cX0_apart 100 = .ok (.istore 8, 2) := dk_54 8 (dk_at dksX0_apart_4 8 rfl rfl)
theorem dX0_apart_102 : decode cX0_apart 102 = .ok (.aload 5, 2) := dk_25 5 (dk_at dksX0_apart_4 10 rfl rfl)
theorem dX0_apart_104 : decode cX0_apart 104 = .ok (.iload 8, 2) := dk_21 8 (dk_at dksX0_apart_4 12 rfl rfl)
theorem dX0_apart_106 : decode cX0_apart 106 = .ok (.ifCond .eq 10, 3) := dk_153 0 10 (dk_at dksX0_apart_4 14 rfl rfl)
theorem dX0_apart_109 : decode cX0_apart 109 = .ok (.iload 7, 2) := dk_21 7 (dk_at dksX0_apart_4 17 rfl rfl)
theorem dX0_apart_111 : decode cX0_apart 111 = .ok (.iconst 4, 1) := dk_7 (dk_at dksX0_apart_4 19 rfl rfl)
theorem dX0_apart_112 : decode cX0_apart 112 = .ok (.idiv, 1) := dk_108 (dk_at dksX0_apart_4 20 rfl rfl)
theorem dX0_apart_113 : decode cX0_apart 113 = .ok (.goto 7, 3) := dk_167 0 7 (dk_at dksX0_apart_4 21 rfl rfl)
theorem dX0_apart_116 : decode cX0_apart 116 = .ok (.iload 7, 2) := dk_21 7 (dk_at dksX0_apart_5 0 rfl rfl)
theorem dX0_apart_118 : decode cX0_apart 118 = .ok (.iconst 4, 1) := dk_7 (dk_at dksX0_apart_5 2 rfl rfl)
theorem dX0_apart_119 : decode cX0_apart 119 = .ok (.irem, 1) := dk_112 (dk_at dksX0_apart_5 3 rfl rfl)
theorem dX0_apart_120 : decode cX0_apart 120 = .ok (.invokestatic 97, 3) := dk_184 0 97 (dk_at dksX0_apart_5 4 rfl rfl)
theorem dX0_apart_123 : decode cX0_apart 123 = .ok (.invokevirtual 103, 3) := dk_182 0 103 (dk_at dksX0_apart_5 7 rfl rfl)
theorem dX0_apart_126 : decode cX0_apart 126 = .ok (.iinc 6 1, 3) := dk_132 6 1 (dk_at dksX0_apart_5 10 rfl rfl)
theorem dX0_apart_129 : decode cX0_apart 129 = .ok (.goto (-97), 3) := dk_167 255 159 (dk_at dksX0_apart_5 13 rfl rfl)
theorem dX0_apart_132 : decode cX0_apart 132 = .ok (.iload 4, 2) := dk_21 4 (dk_at dksX0_apart_5 16 rfl rfl)
theorem dX0_apart_134 : decode cX0_apart 134 = .ok (.newarray .int, 2) := dk_188_10 (dk_at dksX0_apart_5 18 rfl rfl)
theorem dX0_apart_136 : decode cX0_apart 136 = .ok (.astore 6, 2) := dk_58 6 (dk_at dksX0_apart_5 20 rfl rfl)
theorem dX0_apart_138 : decode cX0_apart 138 = .ok (.iconst 0, 1) := dk_3 (dk_at dksX0_apart_5 22 rfl rfl)
theorem dX0_apart_139 : decode cX0_apart 139 = .ok (.istore 7, 2) := dk_54 7 (dk_at dksX0_apart_6 0 rfl rfl)
theorem dX0_apart_141 : decode cX0_apart 141 = .ok (.iload_n 1, 1) := dk_27 (dk_at dksX0_apart_6 2 rfl rfl)
theorem dX0_apart_142 : decode cX0_apart 142 = .ok (.ifCond .eq 52, 3) := dk_153 0 52 (dk_at dksX0_apart_6 3 rfl rfl)
theorem dX0_apart_145 : decode cX0_apart 145 = .ok (.iload 7, 2) := dk_21 7 (dk_at dksX0_apart_6 6 rfl rfl)
theorem dX0_apart_147 : decode cX0_apart 147 = .ok (.iload 4, 2) := dk_21 4 (dk_at dksX0_apart_6 8 rfl rfl)
theorem dX0_apart_149 : decode cX0_apart 149 = .ok (.if_icmp .ge 45, 3) := dk_162 0 45 (dk_at dksX0_apart_6 10 rfl rfl)
theorem dX0_apart_152 : decode cX0_apart 152 = .ok (.aload 5, 2) := dk_25 5 (dk_at dksX0_apart_6 13 rfl rfl)
theorem dX0_apart_154 : decode cX0_apart 154 = .ok (.invokevirtual 130, 3) := dk_182 0 130 (dk_at dksX0_apart_6 15 rfl rfl)
theorem dX0_apart_157 : decode cX0_apart 157 = .ok (.checkcast 98, 3) := dk_192 0 98 (dk_at dksX0_apart_6 18 rfl rfl)
theorem dX0_apart_160 : decode cX0_apart 160 = .ok (.invokevirtual 121, 3) := dk_182 0 121 (dk_at dksX0_apart_6 21 rfl rfl)
theorem dX0_apart_163 : decode cX0_apart 163 = .ok (.istore 8, 2) := dk_54 8 (dk_at dksX0_apart_7 0 rfl rfl)
theorem dX0_apart_165 : decode cX0_apart 165 = .ok (.aload 6, 2) := dk_25 6 (dk_at dksX0_apart_7 2 rfl rfl)
theorem dX0_apart_167 : decode cX0_apart 167 = .ok (.iload 7, 2) := dk_21 7 (dk_at dksX0_apart_7 4 rfl rfl)
theorem dX0_apart_169 : decode cX0_apart 169 = .ok (.aload_n 2, 1) := dk_44 (dk_at dksX0_apart_7 6 rfl rfl)
theorem dX0_apart_170 : decode cX0_apart 170 = .ok (.iconst 4, 1) := dk_7 (dk_at dksX0_apart_7 7 rfl rfl)
theorem dX0_apart_171 : decode cX0_apart 171 = .ok (.iload 8, 2) := dk_21 8 (dk_at dksX0_apart_7 8 rfl rfl)
theorem dX0_apart_173 : decode cX0_apart 173 = .ok (.imul, 1) := dk_104 (dk_at dksX0_apart_7 10 rfl rfl)
theorem dX0_apart_174 : decode cX0_apart 174 = .ok (.aload 5, 2) := dk_25 5 (dk_at dksX0_apart_7 11 rfl rfl)
theorem dX0_apart_176 : decode cX0_apart 176 = .ok (.invokevirtual 130, 3) := dk_182 0 130 (dk_at dksX0_apart_7 13 rfl rfl)
theorem dX0_apart_179 : decode cX0_apart 179 = .ok (.checkcast 98, 3) := dk_192 0 98 (dk_at dksX0_apart_7 16 rfl rfl)
theorem dX0_apart_182 : decode cX0_apart 182 = .ok (.invokevirtual 121, 3) := dk_182 0 121 (dk_at dksX0_apart_7 19 rfl rfl)
theorem dX0_apart_185 : decode cX0_apart 185 = .ok (.iadd, 1) := dk_96 (dk_at dksX0_apart_7 22 rfl rfl)
theorem dX0_apart_186 : decode cX0_apart 186 = .ok (.iaload, 1) := dk_46 (dk_at dksX0_apart_7 23 rfl rfl)
theorem dX0_apart_187 : decode cX0_apart 187 = .ok (.iastore, 1) := dk_79 (dk_at dksX0_apart_8 0 rfl rfl)
theorem dX0_apart_188 : decode cX0_apart 188 = .ok (.iinc 7 1, 3) := dk_132 7 1 (dk_at dksX0_apart_8 1 rfl rfl)
theorem dX0_apart_191 : decode cX0_apart 191 = .ok (.goto (-50), 3) := dk_167 255 206 (dk_at dksX0_apart_8 4 rfl rfl)
theorem dX0_apart_194 : decode cX0_apart 194 = .ok (.iconst 0, 1) := dk_3 (dk_at dksX0_apart_8 7 rfl rfl)
theorem dX0_apart_195 : decode cX0_apart 195 = .ok (.istore 7, 2) := dk_54 7 (dk_at dksX0_apart_8 8 rfl rfl)
theorem dX0_apart_197 : decode cX0_apart 197 = .ok (.iload_n 1, 1) := dk_27 (dk_at dksX0_apart_8 10 rfl rfl)
theorem dX0_apart_198 : decode cX0_apart 198 = .ok (.ifCond .ne 34, 3) := dk_154 0 34 (dk_at dksX0_apart_8 11 rfl rfl)
theorem dX0_apart_201 : decode cX0_apart 201 = .ok (.iload 7, 2) := dk_21 7 (dk_at dksX0_apart_8 14 rfl rfl)
theorem dX0_apart_203 : decode cX0_apart 203 = .ok (.iload 4, 2) := dk_21 4 (dk_at dksX0_apart_8 16 rfl rfl)
theorem dX0_apart_205 : decode cX0_apart 205 = .ok (.if_icmp .ge 27, 3) := dk_162 0 27 (dk_at dksX0_apart_8 18 rfl rfl)
theorem dX0_apart_208 : decode cX0_apart 208 = .ok (.aload 6, 2) := dk_25 6 (dk_at dksX0_apart_8 21 rfl rfl)
theorem dX0_apart_210 : decode cX0_apart 210 = .ok (.iload 7, 2) := dk_21 7 (dk_at dksX0_apart_9 0 rfl rfl)
theorem dX0_apart_212 : decode cX0_apart 212 = .ok (.iconst 4, 1) := dk_7 (dk_at dksX0_apart_9 2 rfl rfl)
theorem dX0_apart_213 : decode cX0_apart 213 = .ok (.aload 5, 2) := dk_25 5 (dk_at dksX0_apart_9 3 rfl rfl)
theorem dX0_apart_215 : decode cX0_apart 215 = .ok (.invokevirtual 130, 3) := dk_182 0 130 (dk_at dksX0_apart_9 5 rfl rfl)
theorem dX0_apart_218 : decode cX0_apart 218 = .ok (.checkcast 98, 3) := dk_192 0 98 (dk_at dksX0_apart_9 8 rfl rfl)
theorem dX0_apart_221 : decode cX0_apart 221 = .ok (.invokevirtual 121, 3) := dk_182 0 121 (dk_at dksX0_apart_9 11 rfl rfl)
theorem dX0_apart_224 : decode cX0_apart 224 = .ok (.imul, 1) := dk_104 (dk_at dksX0_apart_9 14 rfl rfl)
theorem dX0_apart_225 : decode cX0_apart 225 = .ok (.iastore, 1) := dk_79 (dk_at dksX0_apart_9 15 rfl rfl)
theorem dX0_apart_226 : decode cX0_apart 226 = .ok (.iinc 7 1, 3) := dk_132 7 1 (dk_at dksX0_apart_9 16 rfl rfl)
theorem dX0_apart_229 : decode cX0_apart 229 = .ok (.goto (-32), 3) := dk_167 255 224 (dk_at dksX0_apart_9 19 rfl rfl)
theorem dX0_apart_232 : decode cX0_apart 232 = .ok (.iconst 0, 1) := dk_3 (dk_at dksX0_apart_9 22 rfl rfl)
theorem dX0_apart_233 : decode cX0_apart 233 = .ok (.istore 7, 2) := dk_54 7 (dk_at dksX0_apart_10 0 rfl rfl)
theorem dX0_apart_235 : decode cX0_apart 235 = .ok (.iload_n 1, 1) := dk_27 (dk_at dksX0_apart_10 2 rfl rfl)
theorem dX0_apart_236 : decode cX0_apart 236 = .ok (.ifCond .ne 40, 3) := dk_154 0 40 (dk_at dksX0_apart_10 3 rfl rfl)
theorem dX0_apart_239 : decode cX0_apart 239 = .ok (.iload 7, 2) := dk_21 7 (dk_at dksX0_apart_10 6 rfl rfl)
theorem dX0_apart_241 : decode cX0_apart 241 = .ok (.iload 4, 2) := dk_21 4 (dk_at dksX0_apart_10 8 rfl rfl)
theorem dX0_apart_243 : decode cX0_apart 243 = .ok (.if_icmp .ge 33, 3) := dk_162 0 33 (dk_at dksX0_apart_10 10 rfl rfl)
theorem dX0_apart_246 : decode cX0_apart 246 = .ok (.aload 6, 2) := dk_25 6 (dk_at dksX0_apart_10 13 rfl rfl)
theorem dX0_apart_248 : decode cX0_apart 248 = .ok (.iload 7, 2) := dk_21 7 (dk_at dksX0_apart_10 15 rfl rfl)
theorem dX0_apart_250 : decode cX0_apart 250 = .ok (.aload_n 2, 1) := dk_44 (dk_at dksX0_apart_10 17 rfl rfl)
theorem dX0_apart_251 : decode cX0_apart 251 = .ok (.aload 6, 2) := dk_25 6 (dk_at dksX0_apart_10 18 rfl rfl)
theorem dX0_apart_253 : decode cX0_apart 253 = .ok (.iload 7, 2) := dk_21 7 (dk_at dksX0_apart_10 20 rfl rfl)
theorem dX0_apart_255 : decode cX0_apart 255 = .ok (.iaload, 1) := dk_46 (dk_at dksX0_apart_10 22 rfl rfl)
theorem dX0_apart_256 : decode cX0_apart 256 = .ok (.aload 5, 2) := dk_25 5 (dk_at dksX0_apart_11 0 rfl rfl)
theorem dX0_apart_258 : decode cX0_apart 258 = .ok (.invokevirtual 130, 3) := dk_182 0 130 (dk_at dksX0_apart_11 2 rfl rfl)
theorem dX0_apart_261 : decode cX0_apart 261 = .ok (.checkcast 98, 3) := dk_192 0 98 (dk_at dksX0_apart_11 5 rfl rfl)
theorem dX0_apart_264 : decode cX0_apart 264 = .ok (.invokevirtual 121, 3) := dk_182 0 121 (dk_at dksX0_apart_11 8 rfl rfl)
theorem dX0_apart_267 : decode cX0_apart 267 = .ok (.iadd, 1) := dk_96 (dk_at dksX0_apart_11 11 rfl rfl)
theorem dX0_apart_268 : decode cX0_apart 268 = .ok (.iaload, 1) := dk_46 (dk_at dksX0_apart_11 12 rfl rfl)
theorem dX0_apart_269 : decode cX0_apart 269 = .ok (.iastore, 1) := dk_79 (dk_at dksX0_apart_11 13 rfl rfl)
theorem dX0_apart_270 : decode cX0_apart 270 = .ok (.iinc 7 1, 3) := dk_132 7 1 (dk_at dksX0_apart_11 14 rfl rfl)
theorem dX0_apart_273 : decode cX0_apart 273 = .ok (.goto (-38), 3) := dk_167 255 218 (dk_at dksX0_apart_11 17 rfl rfl)
theorem dX0_apart_276 : decode cX0_apart 276 = .ok (.aload 6, 2) := dk_25 6 (dk_at dksX0_apart_11 20 rfl rfl)
theorem dX0_apart_278 : decode cX0_apart 278 = .ok (.areturn, 1) := dk_176 (dk_at dksX0_apart_11 22 rfl rfl)
abbrev cX0_find : ByteArray := prog_1_method_26_code
def yX0_find : MethodName := ⟨RX0, "find", "(I)I"⟩
def dkwX0_find_0 : List UInt8 := [42, 27, 3, 182, 0, 205, 172]
abbrev dktX0_find_0 : List UInt8 := dkwX0_find_0 ++ []
theorem dksX0_find_0 : cX0_find.data.toList.drop 0 = dktX0_find_0 := by decide +kernel
theorem dX0_find_0 : decode cX0_find 0 = .ok (.aload_n 0, 1) := dk_42 (dk_at dksX0_find_0 0 rfl rfl)
theorem dX0_find_1 : decode cX0_find 1 = .ok (.iload_n 1, 1) := dk_27 (dk_at dksX0_find_0 1 rfl rfl)
theorem dX0_find_2 : decode cX0_find 2 = .ok (.iconst 0, 1) := dk_3 (dk_at dksX0_find_0 2 rfl rfl)
theorem dX0_find_3 : decode cX0_find 3 = .ok (.invokevirtual 205, 3) := dk_182 0 205 (dk_at dksX0_find_0 3 rfl rfl)
theorem dX0_find_6 : decode cX0_find 6 = .ok (.ireturn, 1) := dk_172 (dk_at dksX0_find_0 6 rfl rfl)
abbrev cX0_undo : ByteArray := prog_1_method_27_code
def yX0_undo : MethodName := ⟨RX0, "undo", "()I"⟩
def dkwX0_undo_1 : List UInt8 := [180, 0, 194, 182, 0, 210, 192, 0, 213, 181, 0, 72, 42, 180, 0, 18, 180, 0, 194, 182, 0, 198, 172]
abbrev dktX0_undo_1 : List UInt8 := dkwX0_undo_1 ++ []
def dkwX0_undo_0 : List UInt8 := [42, 180, 0, 18, 180, 0, 194, 182, 0, 209, 153, 0, 6, 16, 253, 172, 42, 180, 0, 18, 42, 180, 0, 18]
abbrev dktX0_undo_0 : List UInt8 := dkwX0_undo_0 ++ dktX0_undo_1
theorem dksX0_undo_0 : cX0_undo.data.toList.drop 0 = dktX0_undo_0 := by decide +kernel
theorem dksX0_undo_1 : cX0_undo.data.toList.drop 24 = dktX0_undo_1 := dk_seg dksX0_undo_0 24 rfl rfl
theorem dX0_undo_0 : decode cX0_undo 0 = .ok (.aload_n 0, 1) := dk_42 (dk_at dksX0_undo_0 0 rfl rfl)
theorem dX0_undo_1 : decode cX0_undo 1 = .ok (.getfield 18, 3) := dk_180 0 18 (dk_at dksX0_undo_0 1 rfl rfl)
theorem dX0_undo_4 : decode cX0_undo 4 = .ok (.getfield 194, 3) := dk_180 0 194 (dk_at dksX0_undo_0 4 rfl rfl)
theorem dX0_undo_7 : decode cX0_undo 7 = .ok (.invokevirtual 209, 3) := dk_182 0 209 (dk_at dksX0_undo_0 7 rfl rfl)
theorem dX0_undo_10 : decode cX0_undo 10 = .ok (.ifCond .eq 6, 3) := dk_153 0 6 (dk_at dksX0_undo_0 10 rfl rfl)
theorem dX0_undo_13 : decode cX0_undo 13 = .ok (.bipush (-3), 2) := dk_16 253 (dk_at dksX0_undo_0 13 rfl rfl)
theorem dX0_undo_15 : decode cX0_undo 15 = .ok (.ireturn, 1) := dk_172 (dk_at dksX0_undo_0 15 rfl rfl)
theorem dX0_undo_16 : decode cX0_undo 16 = .ok (.aload_n 0, 1) := dk_42 (dk_at dksX0_undo_0 16 rfl rfl)
theorem dX0_undo_17 : decode cX0_undo 17 = .ok (.getfield 18, 3) := dk_180 0 18 (dk_at dksX0_undo_0 17 rfl rfl)
theorem dX0_undo_20 : decode cX0_undo 20 = .ok (.aload_n 0, 1) := dk_42 (dk_at dksX0_undo_0 20 rfl rfl)
theorem dX0_undo_21 : decode cX0_undo 21 = .ok (.getfield 18, 3) := dk_180 0 18 (dk_at dksX0_undo_0 21 rfl rfl)
theorem dX0_undo_24 : decode cX0_undo 24 = .ok (.getfield 194, 3) := dk_180 0 194 (dk_at dksX0_undo_1 0 rfl rfl)
theorem dX0_undo_27 : decode cX0_undo 27 = .ok (.invokevirtual 210, 3) := dk_182 0 210 (dk_at dksX0_undo_1 3 rfl rfl)
theorem dX0_undo_30 : decode cX0_undo 30 = .ok (.checkcast 213, 3) := dk_192 0 213 (dk_at dksX0_undo_1 6 rfl rfl)
theorem dX0_undo_33 : decode cX0_undo 33 = .ok (.putfield 72, 3) := dk_181 0 72 (dk_at dksX0_undo_1 9 rfl rfl)
theorem dX0_undo_36 : decode cX0_undo 36 = .ok (.aload_n 0, 1) := dk_42 (dk_at dksX0_undo_1 12 rfl rfl)
theorem dX0_undo_37 : decode cX0_undo 37 = .ok (.getfield 18, 3) := dk_180 0 18 (dk_at dksX0_undo_1 13 rfl rfl)
theorem dX0_undo_40 : decode cX0_undo 40 = .ok (.getfield 194, 3) := dk_180 0 194 (dk_at dksX0_undo_1 16 rfl rfl)
theorem dX0_undo_43 : decode cX0_undo 43 = .ok (.invokevirtual 198, 3) := dk_182 0 198 (dk_at dksX0_undo_1 19 rfl rfl)
theorem dX0_undo_46 : decode cX0_undo 46 = .ok (.ireturn, 1) := dk_172 (dk_at dksX0_undo_1 22 rfl rfl)
abbrev cX0_times : ByteArray := prog_1_method_28_code
def yX0_times : MethodName := ⟨RX0, "times", "(I)I"⟩
def dkwX0_times_2 : List UInt8 := [167, 0, 4, 3, 96, 61, 132, 5, 1, 167, 255, 226, 28, 172]
abbrev dktX0_times_2 : List UInt8 := dkwX0_times_2 ++ []
def dkwX0_times_1 : List UInt8 := [3, 54, 5, 21, 5, 21, 4, 162, 0, 29, 45, 21, 5, 46, 54, 6, 28, 21, 6, 27, 160, 0, 7, 4]
abbrev dktX0_times_1 : List UInt8 := dkwX0_times_1 ++ dktX0_times_2
def dkwX0_times_0 : List UInt8 := [27, 184, 0, 69, 154, 0, 6, 16, 254, 172, 3, 61, 42, 180, 0, 18, 180, 0, 72, 78, 45, 190, 54, 4]
abbrev dktX0_times_0 : List UInt8 := dkwX0_times_0 ++ dktX0_times_1
theorem dksX0_times_0 : cX0_times.data.toList.drop 0 = dktX0_times_0 := by decide +kernel
theorem dksX0_times_1 : cX0_times.data.toList.drop 24 = dktX0_times_1 := dk_seg dksX0_times_0 24 rfl rfl
theorem dksX0_times_2 : cX0_times.data.toList.drop 48 = dktX0_times_2 := dk_seg dksX0_times_1 24 rfl rfl
theorem dX0_times_0 : decode cX0_times 0 = .ok (.iload_n 1, 1) := dk_27 (dk_at dksX0_times_0 0 rfl rfl)
theorem dX0_times_1 : decode cX0_times 1 = .ok (.invokestatic 69, 3) := dk_184 0 69 (dk_at dksX0_times_0 1 rfl rfl)
theorem dX0_times_4 : decode cX0_times 4 = .ok (.ifCond .ne 6, 3) := dk_154 0 6 (dk_at dksX0_times_0 4 rfl rfl)
theorem dX0_times_7 : decode cX0_times 7 = .ok (.bipush (-2), 2) := dk_16 254 (dk_at dksX0_times_0 7 rfl rfl)
theorem dX0_times_9 : decode cX0_times 9 = .ok (.ireturn, 1) := dk_172 (dk_at dksX0_times_0 9 rfl rfl)
theorem dX0_times_10 : decode cX0_times 10 = .ok (.iconst 0, 1) := dk_3 (dk_at dksX0_times_0 10 rfl rfl)
theorem dX0_times_11 : decode cX0_times 11 = .ok (.istore_n 2, 1) := dk_61 (dk_at dksX0_times_0 11 rfl rfl)
theorem dX0_times_12 : decode cX0_times 12 = .ok (.aload_n 0, 1) := dk_42 (dk_at dksX0_times_0 12 rfl rfl)
theorem dX0_times_13 : decode cX0_times 13 = .ok (.getfield 18, 3) := dk_180 0 18 (dk_at dksX0_times_0 13 rfl rfl)
theorem dX0_times_16 : decode cX0_times 16 = .ok (.getfield 72, 3) := dk_180 0 72 (dk_at dksX0_times_0 16 rfl rfl)
theorem dX0_times_19 : decode cX0_times 19 = .ok (.astore_n 3, 1) := dk_78 (dk_at dksX0_times_0 19 rfl rfl)
theorem dX0_times_20 : decode cX0_times 20 = .ok (.aload_n 3, 1) := dk_45 (dk_at dksX0_times_0 20 rfl rfl)
theorem dX0_times_21 : decode cX0_times 21 = .ok (.arraylength, 1) := dk_190 (dk_at dksX0_times_0 21 rfl rfl)
theorem dX0_times_22 : decode cX0_times 22 = .ok (.istore 4, 2) := dk_54 4 (dk_at dksX0_times_0 22 rfl rfl)
theorem dX0_times_24 : decode cX0_times 24 = .ok (.iconst 0, 1) := dk_3 (dk_at dksX0_times_1 0 rfl rfl)
theorem dX0_times_25 : decode cX0_times 25 = .ok (.istore 5, 2) := dk_54 5 (dk_at dksX0_times_1 1 rfl rfl)
theorem dX0_times_27 : decode cX0_times 27 = .ok (.iload 5, 2) := dk_21 5 (dk_at dksX0_times_1 3 rfl rfl)
theorem dX0_times_29 : decode cX0_times 29 = .ok (.iload 4, 2) := dk_21 4 (dk_at dksX0_times_1 5 rfl rfl)
theorem dX0_times_31 : decode cX0_times 31 = .ok (.if_icmp .ge 29, 3) := dk_162 0 29 (dk_at dksX0_times_1 7 rfl rfl)
theorem dX0_times_34 : decode cX0_times 34 = .ok (.aload_n 3, 1) := dk_45 (dk_at dksX0_times_1 10 rfl rfl)
theorem dX0_times_35 : decode cX0_times 35 = .ok (.iload 5, 2) := dk_21 5 (dk_at dksX0_times_1 11 rfl rfl)
theorem dX0_times_37 : decode cX0_times 37 = .ok (.iaload, 1) := dk_46 (dk_at dksX0_times_1 13 rfl rfl)
theorem dX0_times_38 : decode cX0_times 38 = .ok (.istore 6, 2) := dk_54 6 (dk_at dksX0_times_1 14 rfl rfl)
theorem dX0_times_40 : decode cX0_times 40 = .ok (.iload_n 2, 1) := dk_28 (dk_at dksX0_times_1 16 rfl rfl)
theorem dX0_times_41 : decode cX0_times 41 = .ok (.iload 6, 2) := dk_21 6 (dk_at dksX0_times_1 17 rfl rfl)
theorem dX0_times_43 : decode cX0_times 43 = .ok (.iload_n 1, 1) := dk_27 (dk_at dksX0_times_1 19 rfl rfl)
theorem dX0_times_44 : decode cX0_times 44 = .ok (.if_icmp .ne 7, 3) := dk_160 0 7 (dk_at dksX0_times_1 20 rfl rfl)
theorem dX0_times_47 : decode cX0_times 47 = .ok (.iconst 1, 1) := dk_4 (dk_at dksX0_times_1 23 rfl rfl)
theorem dX0_times_48 : decode cX0_times 48 = .ok (.goto 4, 3) := dk_167 0 4 (dk_at dksX0_times_2 0 rfl rfl)
theorem dX0_times_51 : decode cX0_times 51 = .ok (.iconst 0, 1) := dk_3 (dk_at dksX0_times_2 3 rfl rfl)
theorem dX0_times_52 : decode cX0_times 52 = .ok (.iadd, 1) := dk_96 (dk_at dksX0_times_2 4 rfl rfl)
theorem dX0_times_53 : decode cX0_times 53 = .ok (.istore_n 2, 1) := dk_61 (dk_at dksX0_times_2 5 rfl rfl)
theorem dX0_times_54 : decode cX0_times 54 = .ok (.iinc 5 1, 3) := dk_132 5 1 (dk_at dksX0_times_2 6 rfl rfl)
theorem dX0_times_57 : decode cX0_times 57 = .ok (.goto (-30), 3) := dk_167 255 226 (dk_at dksX0_times_2 9 rfl rfl)
theorem dX0_times_60 : decode cX0_times 60 = .ok (.iload_n 2, 1) := dk_28 (dk_at dksX0_times_2 12 rfl rfl)
theorem dX0_times_61 : decode cX0_times 61 = .ok (.ireturn, 1) := dk_172 (dk_at dksX0_times_2 13 rfl rfl)
abbrev cX0_same : ByteArray := prog_1_method_30_code
def yX0_same : MethodName := ⟨RX0, "same", "(I)I"⟩
def dkwX0_same_0 : List UInt8 := [27, 133, 10, 20, 0, 214, 184, 0, 1, 153, 0, 11, 42, 27, 182, 0, 216, 167, 0, 5, 16, 254, 172]
abbrev dktX0_same_0 : List UInt8 := dkwX0_same_0 ++ []
theorem dksX0_same_0 : cX0_same.data.toList.drop 0 = dktX0_same_0 := by decide +kernel
theorem dX0_same_0 : decode cX0_same 0 = .ok (.iload_n 1, 1) := dk_27 (dk_at dksX0_same_0 0 rfl rfl)
theorem dX0_same_1 : decode cX0_same 1 = .ok (.i2l, 1) := dk_133 (dk_at dksX0_same_0 1 rfl rfl)
theorem dX0_same_2 : decode cX0_same 2 = .ok (.lconst 1, 1) := dk_10 (dk_at dksX0_same_0 2 rfl rfl)
theorem dX0_same_3 : decode cX0_same 3 = .ok (.ldc2_w 214, 3) := dk_20 0 214 (dk_at dksX0_same_0 3 rfl rfl)
theorem dX0_same_6 : decode cX0_same 6 = .ok (.invokestatic 1, 3) := dk_184 0 1 (dk_at dksX0_same_0 6 rfl rfl)
theorem dX0_same_9 : decode cX0_same 9 = .ok (.ifCond .eq 11, 3) := dk_153 0 11 (dk_at dksX0_same_0 9 rfl rfl)
theorem dX0_same_12 : decode cX0_same 12 = .ok (.aload_n 0, 1) := dk_42 (dk_at dksX0_same_0 12 rfl rfl)
theorem dX0_same_13 : decode cX0_same 13 = .ok (.iload_n 1, 1) := dk_27 (dk_at dksX0_same_0 13 rfl rfl)
theorem dX0_same_14 : decode cX0_same 14 = .ok (.invokevirtual 216, 3) := dk_182 0 216 (dk_at dksX0_same_0 14 rfl rfl)
theorem dX0_same_17 : decode cX0_same 17 = .ok (.goto 5, 3) := dk_167 0 5 (dk_at dksX0_same_0 17 rfl rfl)
theorem dX0_same_20 : decode cX0_same 20 = .ok (.bipush (-2), 2) := dk_16 254 (dk_at dksX0_same_0 20 rfl rfl)
theorem dX0_same_22 : decode cX0_same 22 = .ok (.ireturn, 1) := dk_172 (dk_at dksX0_same_0 22 rfl rfl)
abbrev cX0_sameAt : ByteArray := prog_1_method_29_code
def yX0_sameAt : MethodName := ⟨RX0, "sameAt", "(I)I"⟩
def dkwX0_sameAt_2 : List UInt8 := [96, 61, 132, 3, 1, 167, 255, 208, 28, 172]
abbrev dktX0_sameAt_2 : List UInt8 := dkwX0_sameAt_2 ++ []
def dkwX0_sameAt_1 : List UInt8 := [180, 0, 72, 29, 46, 42, 180, 0, 18, 180, 0, 72, 29, 27, 96, 46, 160, 0, 7, 4, 167, 0, 4, 3]
abbrev dktX0_sameAt_1 : List UInt8 := dkwX0_sameAt_1 ++ dktX0_sameAt_2
def dkwX0_sameAt_0 : List UInt8 := [3, 61, 3, 62, 29, 27, 96, 42, 180, 0, 18, 180, 0, 72, 190, 162, 0, 40, 28, 42, 180, 0, 18]
abbrev dktX0_sameAt_0 : List UInt8 := dkwX0_sameAt_0 ++ dktX0_sameAt_1
theorem dksX0_sameAt_0 : cX0_sameAt.data.toList.drop 0 = dktX0_sameAt_0 := by decide +kernel
theorem dksX0_sameAt_1 : cX0_sameAt.data.toList.drop 23 = dktX0_sameAt_1 := dk_seg dksX0_sameAt_0 23 rfl rfl
theorem dksX0_sameAt_2 : cX0_sameAt.data.toList.drop 47 = dktX0_sameAt_2 := dk_seg dksX0_sameAt_1 24 rfl rfl
theorem dX0_sameAt_0 : decode cX0_sameAt 0 = .ok (.iconst 0, 1) := dk_3 (dk_at dksX0_sameAt_0 0 rfl rfl)
theorem dX0_sameAt_1 : decode cX0_sameAt 1 = .ok (.istore_n 2, 1) := dk_61 (dk_at dksX0_sameAt_0 1 rfl rfl)
theorem dX0_sameAt_2 : decode cX0_sameAt 2 = .ok (.iconst 0, 1) := dk_3 (dk_at dksX0_sameAt_0 2 rfl rfl)
theorem dX0_sameAt_3 : decode cX0_sameAt 3 = .ok (.istore_n 3, 1) := dk_62 (dk_at dksX0_sameAt_0 3 rfl rfl)
theorem dX0_sameAt_4 : decode cX0_sameAt 4 = .ok (.iload_n 3, 1) := dk_29 (dk_at dksX0_sameAt_0 4 rfl rfl)
theorem dX0_sameAt_5 : decode cX0_sameAt 5 = .ok (.iload_n 1, 1) := dk_27 (dk_at dksX0_sameAt_0 5 rfl rfl)
theorem dX0_sameAt_6 : decode cX0_sameAt 6 = .ok (.iadd, 1) := dk_96 (dk_at dksX0_sameAt_0 6 rfl rfl)
theorem dX0_sameAt_7 : decode cX0_sameAt 7 = .ok (.aload_n 0, 1) := dk_42 (dk_at dksX0_sameAt_0 7 rfl rfl)
theorem dX0_sameAt_8 : decode cX0_sameAt 8 = .ok (.getfield 18, 3) := dk_180 0 18 (dk_at dksX0_sameAt_0 8 rfl rfl)
theorem dX0_sameAt_11 : decode cX0_sameAt 11 = .ok (.getfield 72, 3) := dk_180 0 72 (dk_at dksX0_sameAt_0 11 rfl rfl)
theorem dX0_sameAt_14 : decode cX0_sameAt 14 = .ok (.arraylength, 1) := dk_190 (dk_at dksX0_sameAt_0 14 rfl rfl)
theorem dX0_sameAt_15 : decode cX0_sameAt 15 = .ok (.if_icmp .ge 40, 3) := dk_162 0 40 (dk_at dksX0_sameAt_0 15 rfl rfl)
theorem dX0_sameAt_18 : decode cX0_sameAt 18 = .ok (.iload_n 2, 1) := dk_28 (dk_at dksX0_sameAt_0 18 rfl rfl)
theorem dX0_sameAt_19 : decode cX0_sameAt 19 = .ok (.aload_n 0, 1) := dk_42 (dk_at dksX0_sameAt_0 19 rfl rfl)
theorem dX0_sameAt_20 : decode cX0_sameAt 20 = .ok (.getfield 18, 3) := dk_180 0 18 (dk_at dksX0_sameAt_0 20 rfl rfl)
theorem dX0_sameAt_23 : decode cX0_sameAt 23 = .ok (.getfield 72, 3) := dk_180 0 72 (dk_at dksX0_sameAt_1 0 rfl rfl)
theorem dX0_sameAt_26 : decode cX0_sameAt 26 = .ok (.iload_n 3, 1) := dk_29 (dk_at dksX0_sameAt_1 3 rfl rfl)
theorem dX0_sameAt_27 : decode cX0_sameAt 27 = .ok (.iaload, 1) := dk_46 (dk_at dksX0_sameAt_1 4 rfl rfl)
theorem dX0_sameAt_28 : decode cX0_sameAt 28 = .ok (.aload_n 0, 1) := dk_42 (dk_at dksX0_sameAt_1 5 rfl rfl)
theorem dX0_sameAt_29 : decode cX0_sameAt 29 = .ok (.getfield 18, 3) := dk_180 0 18 (dk_at dksX0_sameAt_1 6 rfl rfl)
theorem dX0_sameAt_32 : decode cX0_sameAt 32 = .ok (.getfield 72, 3) := dk_180 0 72 (dk_at dksX0_sameAt_1 9 rfl rfl)
theorem dX0_sameAt_35 : decode cX0_sameAt 35 = .ok (.iload_n 3, 1) := dk_29 (dk_at dksX0_sameAt_1 12 rfl rfl)
theorem dX0_sameAt_36 : decode cX0_sameAt 36 = .ok (.iload_n 1, 1) := dk_27 (dk_at dksX0_sameAt_1 13 rfl rfl)
theorem dX0_sameAt_37 : decode cX0_sameAt 37 = .ok (.iadd, 1) := dk_96 (dk_at dksX0_sameAt_1 14 rfl rfl)
theorem dX0_sameAt_38 : decode cX0_sameAt 38 = .ok (.iaload, 1) := dk_46 (dk_at dksX0_sameAt_1 15 rfl rfl)
theorem dX0_sameAt_39 : decode cX0_sameAt 39 = .ok (.if_icmp .ne 7, 3) := dk_160 0 7 (dk_at dksX0_sameAt_1 16 rfl rfl)
theorem dX0_sameAt_42 : decode cX0_sameAt 42 = .ok (.iconst 1, 1) := dk_4 (dk_at dksX0_sameAt_1 19 rfl rfl)
theorem dX0_sameAt_43 : decode cX0_sameAt 43 = .ok (.goto 4, 3) := dk_167 0 4 (dk_at dksX0_sameAt_1 20 rfl rfl)
theorem dX0_sameAt_46 : decode cX0_sameAt 46 = .ok (.iconst 0, 1) := dk_3 (dk_at dksX0_sameAt_1 23 rfl rfl)
theorem dX0_sameAt_47 : decode cX0_sameAt 47 = .ok (.iadd, 1) := dk_96 (dk_at dksX0_sameAt_2 0 rfl rfl)
theorem dX0_sameAt_48 : decode cX0_sameAt 48 = .ok (.istore_n 2, 1) := dk_61 (dk_at dksX0_sameAt_2 1 rfl rfl)
theorem dX0_sameAt_49 : decode cX0_sameAt 49 = .ok (.iinc 3 1, 3) := dk_132 3 1 (dk_at dksX0_sameAt_2 2 rfl rfl)
theorem dX0_sameAt_52 : decode cX0_sameAt 52 = .ok (.goto (-48), 3) := dk_167 255 208 (dk_at dksX0_sameAt_2 5 rfl rfl)
theorem dX0_sameAt_55 : decode cX0_sameAt 55 = .ok (.iload_n 2, 1) := dk_28 (dk_at dksX0_sameAt_2 8 rfl rfl)
theorem dX0_sameAt_56 : decode cX0_sameAt 56 = .ok (.ireturn, 1) := dk_172 (dk_at dksX0_sameAt_2 9 rfl rfl)
abbrev cX0_length : ByteArray := prog_1_method_31_code
def yX0_length : MethodName := ⟨RX0, "length", "(I)I"⟩
def dkwX0_length_3 : List UInt8 := [62, 132, 4, 1, 167, 255, 211, 29, 172]
abbrev dktX0_length_3 : List UInt8 := dkwX0_length_3 ++ []
def dkwX0_length_2 : List UInt8 := [21, 4, 182, 0, 216, 28, 29, 100, 104, 42, 29, 182, 0, 216, 28, 21, 4, 100, 104, 164, 0, 6, 21, 4]
abbrev dktX0_length_2 : List UInt8 := dkwX0_length_2 ++ dktX0_length_3
def dkwX0_length_1 : List UInt8 := [16, 250, 62, 4, 54, 4, 21, 4, 27, 163, 0, 45, 21, 4, 28, 162, 0, 39, 29, 155, 0, 26, 42]
abbrev dktX0_length_1 : List UInt8 := dkwX0_length_1 ++ dktX0_length_2
def dkwX0_length_0 : List UInt8 := [27, 133, 10, 20, 0, 220, 184, 0, 1, 154, 0, 6, 16, 254, 172, 42, 180, 0, 18, 180, 0, 72, 190, 61]
abbrev dktX0_length_0 : List UInt8 := dkwX0_length_0 ++ dktX0_length_1
theorem dksX0_length_0 : cX0_length.data.toList.drop 0 = dktX0_length_0 := by decide +kernel
theorem dksX0_length_1 : cX0_length.data.toList.drop 24 = dktX0_length_1 := dk_seg dksX0_length_0 24 rfl rfl
theorem dksX0_length_2 : cX0_length.data.toList.drop 47 = dktX0_length_2 := dk_seg dksX0_length_1 23 rfl rfl
theorem dksX0_length_3 : cX0_length.data.toList.drop 71 = dktX0_length_3 := dk_seg dksX0_length_2 24 rfl rfl
theorem dX0_length_0 : decode cX0_length 0 = .ok (.iload_n 1, 1) := dk_27 (dk_at dksX0_length_0 0 rfl rfl)
theorem dX0_length_1 : decode cX0_length 1 = .ok (.i2l, 1) := dk_133 (dk_at dksX0_length_0 1 rfl rfl)
theorem dX0_length_2 : decode cX0_length 2 = .ok (.lconst 1, 1) := dk_10 (dk_at dksX0_length_0 2 rfl rfl)
theorem dX0_length_3 : decode cX0_length 3 = .ok (.ldc2_w 220, 3) := dk_20 0 220 (dk_at dksX0_length_0 3 rfl rfl)
theorem dX0_length_6 : decode cX0_length 6 = .ok (.invokestatic 1, 3) := dk_184 0 1 (dk_at dksX0_length_0 6 rfl rfl)
theorem dX0_length_9 : decode cX0_length 9 = .ok (.ifCond .ne 6, 3) := dk_154 0 6 (dk_at dksX0_length_0 9 rfl rfl)
theorem dX0_length_12 : decode cX0_length 12 = .ok (.bipush (-2), 2) := dk_16 254 (dk_at dksX0_length_0 12 rfl rfl)
theorem dX0_length_14 : decode cX0_length 14 = .ok (.ireturn, 1) := dk_172 (dk_at dksX0_length_0 14 rfl rfl)
theorem dX0_length_15 : decode cX0_length 15 = .ok (.aload_n 0, 1) := dk_42 (dk_at dksX0_length_0 15 rfl rfl)
theorem dX0_length_16 : decode cX0_length 16 = .ok (.getfield 18, 3) := dk_180 0 18 (dk_at dksX0_length_0 16 rfl rfl)
theorem dX0_length_19 : decode cX0_length 19 = .ok (.getfield 72, 3) := dk_180 0 72 (dk_at dksX0_length_0 19 rfl rfl)
theorem dX0_length_22 : decode cX0_length 22 = .ok (.arraylength, 1) := dk_190 (dk_at dksX0_length_0 22 rfl rfl)
theorem dX0_length_23 : decode cX0_length 23 = .ok (.istore_n 2, 1) := dk_61 (dk_at dksX0_length_0 23 rfl rfl)
theorem dX0_length_24 : decode cX0_length 24 = .ok (.bipush (-6), 2) := dk_16 250 (dk_at dksX0_length_1 0 rfl rfl)
theorem dX0_length_26 : decode cX0_length 26 = .ok (.istore_n 3, 1) := dk_62 (dk_at dksX0_length_1 2 rfl rfl)
theorem dX0_length_27 : decode cX0_length 27 = .ok (.iconst 1, 1) := dk_4 (dk_at dksX0_length_1 3 rfl rfl)
theorem dX0_length_28 : decode cX0_length 28 = .ok (.istore 4, 2) := dk_54 4 (dk_at dksX0_length_1 4 rfl rfl)
theorem dX0_length_30 : decode cX0_length 30 = .ok (.iload 4, 2) := dk_21 4 (dk_at dksX0_length_1 6 rfl rfl)
theorem dX0_length_32 : decode cX0_length 32 = .ok (.iload_n 1, 1) := dk_27 (dk_at dksX0_length_1 8 rfl rfl)
theorem dX0_length_33 : decode cX0_length 33 = .ok (.if_icmp .gt 45, 3) := dk_163 0 45 (dk_at dksX0_length_1 9 rfl rfl)
theorem dX0_length_36 : decode cX0_length 36 = .ok (.iload 4, 2) := dk_21 4 (dk_at dksX0_length_1 12 rfl rfl)
theorem dX0_length_38 : decode cX0_length 38 = .ok (.iload_n 2, 1) := dk_28 (dk_at dksX0_length_1 14 rfl rfl)
theorem dX0_length_39 : decode cX0_length 39 = .ok (.if_icmp .ge 39, 3) := dk_162 0 39 (dk_at dksX0_length_1 15 rfl rfl)
theorem dX0_length_42 : decode cX0_length 42 = .ok (.iload_n 3, 1) := dk_29 (dk_at dksX0_length_1 18 rfl rfl)
theorem dX0_length_43 : decode cX0_length 43 = .ok (.ifCond .lt 26, 3) := dk_155 0 26 (dk_at dksX0_length_1 19 rfl rfl)
theorem dX0_length_46 : decode cX0_length 46 = .ok (.aload_n 0, 1) := dk_42 (dk_at dksX0_length_1 22 rfl rfl)
theorem dX0_length_47 : decode cX0_length 47 = .ok (.iload 4, 2) := dk_21 4 (dk_at dksX0_length_2 0 rfl rfl)
theorem dX0_length_49 : decode cX0_length 49 = .ok (.invokevirtual 216, 3) := dk_182 0 216 (dk_at dksX0_length_2 2 rfl rfl)
theorem dX0_length_52 : decode cX0_length 52 = .ok (.iload_n 2, 1) := dk_28 (dk_at dksX0_length_2 5 rfl rfl)
theorem dX0_length_53 : decode cX0_length 53 = .ok (.iload_n 3, 1) := dk_29 (dk_at dksX0_length_2 6 rfl rfl)
theorem dX0_length_54 : decode cX0_length 54 = .ok (.isub, 1) := dk_100 (dk_at dksX0_length_2 7 rfl rfl)
theorem dX0_length_55 : decode cX0_length 55 = .ok (.imul, 1) := dk_104 (dk_at dksX0_length_2 8 rfl rfl)
theorem dX0_length_56 : decode cX0_length 56 = .ok (.aload_n 0, 1) := dk_42 (dk_at dksX0_length_2 9 rfl rfl)
theorem dX0_length_57 : decode cX0_length 57 = .ok (.iload_n 3, 1) := dk_29 (dk_at dksX0_length_2 10 rfl rfl)
theorem dX0_length_58 : decode cX0_length 58 = .ok (.invokevirtual 216, 3) := dk_182 0 216 (dk_at dksX0_length_2 11 rfl rfl)
theorem dX0_length_61 : decode cX0_length 61 = .ok (.iload_n 2, 1) := dk_28 (dk_at dksX0_length_2 14 rfl rfl)
theorem dX0_length_62 : decode cX0_length 62 = .ok (.iload 4, 2) := dk_21 4 (dk_at dksX0_length_2 15 rfl rfl)
theorem dX0_length_64 : decode cX0_length 64 = .ok (.isub, 1) := dk_100 (dk_at dksX0_length_2 17 rfl rfl)
theorem dX0_length_65 : decode cX0_length 65 = .ok (.imul, 1) := dk_104 (dk_at dksX0_length_2 18 rfl rfl)
theorem dX0_length_66 : decode cX0_length 66 = .ok (.if_icmp .le 6, 3) := dk_164 0 6 (dk_at dksX0_length_2 19 rfl rfl)
theorem dX0_length_69 : decode cX0_length 69 = .ok (.iload 4, 2) := dk_21 4 (dk_at dksX0_length_2 22 rfl rfl)
theorem dX0_length_71 : decode cX0_length 71 = .ok (.istore_n 3, 1) := dk_62 (dk_at dksX0_length_3 0 rfl rfl)
theorem dX0_length_72 : decode cX0_length 72 = .ok (.iinc 4 1, 3) := dk_132 4 1 (dk_at dksX0_length_3 1 rfl rfl)
theorem dX0_length_75 : decode cX0_length 75 = .ok (.goto (-45), 3) := dk_167 255 211 (dk_at dksX0_length_3 4 rfl rfl)
theorem dX0_length_78 : decode cX0_length 78 = .ok (.iload_n 3, 1) := dk_29 (dk_at dksX0_length_3 7 rfl rfl)
theorem dX0_length_79 : decode cX0_length 79 = .ok (.ireturn, 1) := dk_172 (dk_at dksX0_length_3 8 rfl rfl)
abbrev cX0_shift : ByteArray := prog_1_method_33_code
def yX0_shift : MethodName := ⟨RX0, "shift", "(IIII)I"⟩
def dkwX0_shift_8 : List UInt8 := [21, 4, 154, 0, 8, 21, 6, 167, 0, 11, 42, 27, 28, 21, 6, 182, 0, 227, 172]
abbrev dktX0_shift_8 : List UInt8 := dkwX0_shift_8 ++ []
def dkwX0_shift_7 : List UInt8 := [21, 6, 54, 6, 167, 255, 203, 25, 5, 21, 6, 184, 0, 97, 182, 0, 231, 87, 132, 7, 1, 167, 255, 160]
abbrev dktX0_shift_7 : List UInt8 := dkwX0_shift_7 ++ dktX0_shift_8
def dkwX0_shift_6 : List UInt8 := [27, 28, 21, 9, 182, 0, 227, 42, 27, 28, 21, 6, 182, 0, 227, 164, 0, 8, 21, 9, 167, 0, 5]
abbrev dktX0_shift_6 : List UInt8 := dkwX0_shift_6 ++ dktX0_shift_7
def dkwX0_shift_5 : List UInt8 := [185, 0, 111, 1, 0, 153, 0, 49, 25, 8, 185, 0, 117, 1, 0, 192, 0, 98, 182, 0, 121, 54, 9, 42]
abbrev dktX0_shift_5 : List UInt8 := dkwX0_shift_5 ++ dktX0_shift_6
def dkwX0_shift_4 : List UInt8 := [182, 0, 224, 192, 0, 98, 182, 0, 121, 54, 6, 25, 5, 182, 0, 107, 58, 8, 25, 8]
abbrev dktX0_shift_4 : List UInt8 := dkwX0_shift_4 ++ dktX0_shift_5
def dkwX0_shift_3 : List UInt8 := [182, 0, 103, 132, 6, 1, 167, 255, 236, 16, 250, 54, 6, 3, 54, 7, 21, 7, 29, 163, 0, 96, 25, 5]
abbrev dktX0_shift_3 : List UInt8 := dkwX0_shift_3 ++ dktX0_shift_4
def dkwX0_shift_2 : List UInt8 := [89, 183, 0, 96, 58, 5, 3, 54, 6, 21, 6, 16, 16, 162, 0, 19, 25, 5, 21, 6, 184, 0, 97]
abbrev dktX0_shift_2 : List UInt8 := dkwX0_shift_2 ++ dktX0_shift_3
def dkwX0_shift_1 : List UInt8 := [153, 0, 18, 29, 184, 0, 69, 153, 0, 11, 21, 4, 184, 0, 63, 154, 0, 6, 16, 254, 172, 187, 0, 94]
abbrev dktX0_shift_1 : List UInt8 := dkwX0_shift_1 ++ dktX0_shift_2
def dkwX0_shift_0 : List UInt8 := [27, 133, 10, 20, 0, 222, 184, 0, 1, 153, 0, 31, 28, 133, 9, 27, 4, 100, 133, 184, 0, 1]
abbrev dktX0_shift_0 : List UInt8 := dkwX0_shift_0 ++ dktX0_shift_1
theorem dksX0_shift_0 : cX0_shift.data.toList.drop 0 = dktX0_shift_0 := by decide +kernel
theorem dksX0_shift_1 : cX0_shift.data.toList.drop 22 = dktX0_shift_1 := dk_seg dksX0_shift_0 22 rfl rfl
theorem dksX0_shift_2 : cX0_shift.data.toList.drop 46 = dktX0_shift_2 := dk_seg dksX0_shift_1 24 rfl rfl
theorem dksX0_shift_3 : cX0_shift.data.toList.drop 69 = dktX0_shift_3 := dk_seg dksX0_shift_2 23 rfl rfl
theorem dksX0_shift_4 : cX0_shift.data.toList.drop 93 = dktX0_shift_4 := dk_seg dksX0_shift_3 24 rfl rfl
theorem dksX0_shift_5 : cX0_shift.data.toList.drop 113 = dktX0_shift_5 := dk_seg dksX0_shift_4 20 rfl rfl
theorem dksX0_shift_6 : cX0_shift.data.toList.drop 137 = dktX0_shift_6 := dk_seg dksX0_shift_5 24 rfl rfl
theorem dksX0_shift_7 : cX0_shift.data.toList.drop 160 = dktX0_shift_7 := dk_seg dksX0_shift_6 23 rfl rfl
theorem dksX0_shift_8 : cX0_shift.data.toList.drop 184 = dktX0_shift_8 := dk_seg dksX0_shift_7 24 rfl rfl
theorem dX0_shift_0 : decode cX0_shift 0 = .ok (.iload_n 1, 1) := dk_27 (dk_at dksX0_shift_0 0 rfl rfl)
theorem dX0_shift_1 : decode cX0_shift 1 = .ok (.i2l, 1) := dk_133 (dk_at dksX0_shift_0 1 rfl rfl)
theorem dX0_shift_2 : decode cX0_shift 2 = .ok (.lconst 1, 1) := dk_10 (dk_at dksX0_shift_0 2 rfl rfl)
theorem dX0_shift_3 : decode cX0_shift 3 = .ok (.ldc2_w 222, 3) := dk_20 0 222 (dk_at dksX0_shift_0 3 rfl rfl)
theorem dX0_shift_6 : decode cX0_shift 6 = .ok (.invokestatic 1, 3) := dk_184 0 1 (dk_at dksX0_shift_0 6 rfl rfl)
theorem dX0_shift_9 : decode cX0_shift 9 = .ok (.ifCond .eq 31, 3) := dk_153 0 31 (dk_at dksX0_shift_0 9 rfl rfl)
theorem dX0_shift_12 : decode cX0_shift 12 = .ok (.iload_n 2, 1) := dk_28 (dk_at dksX0_shift_0 12 rfl rfl)
theorem dX0_shift_13 : decode cX0_shift 13 = .ok (.i2l, 1) := dk_133 (dk_at dksX0_shift_0 13 rfl rfl)
theorem dX0_shift_14 : decode cX0_shift 14 = .ok (.lconst 0, 1) := dk_9 (dk_at dksX0_shift_0 14 rfl rfl)
theorem dX0_shift_15 : decode cX0_shift 15 = .ok (.iload_n 1, 1) := dk_27 (dk_at dksX0_shift_0 15 rfl rfl)
theorem dX0_shift_16 : decode cX0_shift 16 = .ok (.iconst 1, 1) := dk_4 (dk_at dksX0_shift_0 16 rfl rfl)
theorem dX0_shift_17 : decode cX0_shift 17 = .ok (.isub, 1) := dk_100 (dk_at dksX0_shift_0 17 rfl rfl)
theorem dX0_shift_18 : decode cX0_shift 18 = .ok (.i2l, 1) := dk_133 (dk_at dksX0_shift_0 18 rfl rfl)
theorem dX0_shift_19 : decode cX0_shift 19 = .ok (.invokestatic 1, 3) := dk_184 0 1 (dk_at dksX0_shift_0 19 rfl rfl)
theorem dX0_shift_22 : decode cX0_shift 22 = .ok (.ifCond .eq 18, 3) := dk_153 0 18 (dk_at dksX0_shift_1 0 rfl rfl)
theorem dX0_shift_25 : decode cX0_shift 25 = .ok (.iload_n 3, 1) := dk_29 (dk_at dksX0_shift_1 3 rfl rfl)
theorem dX0_shift_26 : decode cX0_shift 26 = .ok (.invokestatic 69, 3) := dk_184 0 69 (dk_at dksX0_shift_1 4 rfl rfl)
theorem dX0_shift_29 : decode cX0_shift 29 = .ok (.ifCond .eq 11, 3) := dk_153 0 11 (dk_at dksX0_shift_1 7 rfl rfl)
theorem dX0_shift_32 : decode cX0_shift 32 = .ok (.iload 4, 2) := dk_21 4 (dk_at dksX0_shift_1 10 rfl rfl)
theorem dX0_shift_34 : decode cX0_shift 34 = .ok (.invokestatic 63, 3) := dk_184 0 63 (dk_at dksX0_shift_1 12 rfl rfl)
theorem dX0_shift_37 : decode cX0_shift 37 = .ok (.ifCond .ne 6, 3) := dk_154 0 6 (dk_at dksX0_shift_1 15 rfl rfl)
theorem dX0_shift_40 : decode cX0_shift 40 = .ok (.bipush (-2), 2) := dk_16 254 (dk_at dksX0_shift_1 18 rfl rfl)
theorem dX0_shift_42 : decode cX0_shift 42 = .ok (.ireturn, 1) := dk_172 (dk_at dksX0_shift_1 20 rfl rfl)
theorem dX0_shift_43 : decode cX0_shift 43 = .ok (.new 94, 3) := dk_187 0 94 (dk_at dksX0_shift_1 21 rfl rfl)
theorem dX0_shift_46 : decode cX0_shift 46 = .ok (.dup, 1) := dk_89 (dk_at dksX0_shift_2 0 rfl rfl)
theorem dX0_shift_47 : decode cX0_shift 47 = .ok (.invokespecial 96, 3) := dk_183 0 96 (dk_at dksX0_shift_2 1 rfl rfl)
theorem dX0_shift_50 : decode cX0_shift 50 = .ok (.astore 5, 2) := dk_58 5 (dk_at dksX0_shift_2 4 rfl rfl)
theorem dX0_shift_52 : decode cX0_shift 52 = .ok (.iconst 0, 1) := dk_3 (dk_at dksX0_shift_2 6 rfl rfl)
theorem dX0_shift_53 : decode cX0_shift 53 = .ok (.istore 6, 2) := dk_54 6 (dk_at dksX0_shift_2 7 rfl rfl)
theorem dX0_shift_55 : decode cX0_shift 55 = .ok (.iload 6, 2) := dk_21 6 (dk_at dksX0_shift_2 9 rfl rfl)
theorem dX0_shift_57 : decode cX0_shift 57 = .ok (.bipush 16, 2) := dk_16 16 (dk_at dksX0_shift_2 11 rfl rfl)
theorem dX0_shift_59 : decode cX0_shift 59 = .ok (.if_icmp .ge 19, 3) := dk_162 0 19 (dk_at dksX0_shift_2 13 rfl rfl)
theorem dX0_shift_62 : decode cX0_shift 62 = .ok (.aload 5, 2) := dk_25 5 (dk_at dksX0_shift_2 16 rfl rfl)
theorem dX0_shift_64 : decode cX0_shift 64 = .ok (.iload 6, 2) := dk_21 6 (dk_at dksX0_shift_2 18 rfl rfl)
theorem dX0_shift_66 : decode cX0_shift 66 = .ok (.invokestatic 97, 3) := dk_184 0 97 (dk_at dksX0_shift_2 20 rfl rfl)
theorem dX0_shift_69 : decode cX0_shift 69 = .ok (.invokevirtual 103, 3) := dk_182 0 103 (dk_at dksX0_shift_3 0 rfl rfl)
theorem dX0_shift_72 : decode cX0_shift 72 = .ok (.iinc 6 1, 3) := dk_132 6 1 (dk_at dksX0_shift_3 3 rfl rfl)
theorem dX0_shift_75 : decode cX0_shift 75 = .ok (.goto (-20), 3) := dk_167 255 236 (dk_at dksX0_shift_3 6 rfl rfl)
theorem dX0_shift_78 : decode cX0_shift 78 = .ok (.bipush (-6), 2) := dk_16 250 (dk_at dksX0_shift_3 9 rfl rfl)
theorem dX0_shift_80 : decode cX0_shift 80 = .ok (.istore 6, 2) := dk_54 6 (dk_at dksX0_shift_3 11 rfl rfl)
theorem dX0_shift_82 : decode cX0_shift 82 = .ok (.iconst 0, 1) := dk_3 (dk_at dksX0_shift_3 13 rfl rfl)
theorem dX0_shift_83 : decode cX0_shift 83 = .ok (.istore 7, 2) := dk_54 7 (dk_at dksX0_shift_3 14 rfl rfl)
theorem dX0_shift_85 : decode cX0_shift 85 = .ok (.iload 7, 2) := dk_21 7 (dk_at dksX0_shift_3 16 rfl rfl)
theorem dX0_shift_87 : decode cX0_shift 87 = .ok (.iload_n 3, 1) := dk_29 (dk_at dksX0_shift_3 18 rfl rfl)
theorem dX0_shift_88 : decode cX0_shift 88 = .ok (.if_icmp .gt 96, 3) := dk_163 0 96 (dk_at dksX0_shift_3 19 rfl rfl)
theorem dX0_shift_91 : decode cX0_shift 91 = .ok (.aload 5, 2) := dk_25 5 (dk_at dksX0_shift_3 22 rfl rfl)
theorem dX0_shift_93 : decode cX0_shift 93 = .ok (.invokevirtual 224, 3) := dk_182 0 224 (dk_at dksX0_shift_4 0 rfl rfl)
theorem dX0_shift_96 : decode cX0_shift 96 = .ok (.checkcast 98, 3) := dk_192 0 98 (dk_at dksX0_shift_4 3 rfl rfl)
theorem dX0_shift_99 : decode cX0_shift 99 = .ok (.invokevirtual 121, 3) := dk_182 0 121 (dk_at dksX0_shift_4 6 rfl rfl)
theorem dX0_shift_102 : decode cX0_shift 102 = .ok (.istore 6, 2) := dk_54 6 (dk_at dksX0_shift_4 9 rfl rfl)
theorem dX0_shift_104 : decode cX0_shift 104 = .ok (.aload 5, 2) := dk_25 5 (dk_at dksX0_shift_4 11 rfl rfl)
theorem dX0_shift_106 : decode cX0_shift 106 = .ok (.invokevirtual 107, 3) := dk_182 0 107 (dk_at dksX0_shift_4 13 rfl rfl)
theorem dX0_shift_109 : decode cX0_shift 109 = .ok (.astore 8, 2) := dk_58 8 (dk_at dksX0_shift_4 16 rfl rfl)
theorem dX0_shift_111 : decode cX0_shift 111 = .ok (.aload 8, 2) := dk_25 8 (dk_at dksX0_shift_4 18 rfl rfl)
theorem dX0_shift_113 : decode cX0_shift 113 = .ok (.invokeinterface 111 1, 5) := by decide +kernel
theorem dX0_shift_118 : decode cX0_shift 118 = .ok (.ifCond .eq 49, 3) := dk_153 0 49 (dk_at dksX0_shift_5 5 rfl rfl)
theorem dX0_shift_121 : decode cX0_shift 121 = .ok (.aload 8, 2) := dk_25 8 (dk_at dksX0_shift_5 8 rfl rfl)
theorem dX0_shift_123 : decode cX0_shift 123 = .ok (.invokeinterface 117 1, 5) := by decide +kernel
theorem dX0_shift_128 : decode cX0_shift 128 = .ok (.checkcast 98, 3) := dk_192 0 98 (dk_at dksX0_shift_5 15 rfl rfl)
theorem dX0_shift_131 : decode cX0_shift 131 = .ok (.invokevirtual 121, 3) := dk_182 0 121 (dk_at dksX0_shift_5 18 rfl rfl)
theorem dX0_shift_134 : decode cX0_shift 134 = .ok (.istore 9, 2) := dk_54 9 (dk_at dksX0_shift_5 21 rfl rfl)
theorem dX0_shift_136 : decode cX0_shift 136 = .ok (.aload_n 0, 1) := dk_42 (dk_at dksX0_shift_5 23 rfl rfl)
theorem dX0_shift_137 : decode cX0_shift 137 = .ok (.iload_n 1, 1) := dk_27 (dk_at dksX0_shift_6 0 rfl rfl)
theorem dX0_shift_138 : decode cX0_shift 138 = .ok (.iload_n 2, 1) := dk_28 (dk_at dksX0_shift_6 1 rfl rfl)
theorem dX0_shift_139 : decode cX0_shift 139 = .ok (.iload 9, 2) := dk_21 9 (dk_at dksX0_shift_6 2 rfl rfl)
theorem dX0_shift_141 : decode cX0_shift 141 = .ok (.invokevirtual 227, 3) := dk_182 0 227 (dk_at dksX0_shift_6 4 rfl rfl)
theorem dX0_shift_144 : decode cX0_shift 144 = .ok (.aload_n 0, 1) := dk_42 (dk_at dksX0_shift_6 7 rfl rfl)
theorem dX0_shift_145 : decode cX0_shift 145 = .ok (.iload_n 1, 1) := dk_27 (dk_at dksX0_shift_6 8 rfl rfl)
theorem dX0_shift_146 : decode cX0_shift 146 = .ok (.iload_n 2, 1) := dk_28 (dk_at dksX0_shift_6 9 rfl rfl)
theorem dX0_shift_147 : decode cX0_shift 147 = .ok (.iload 6, 2) := dk_21 6 (dk_at dksX0_shift_6 10 rfl rfl)
theorem dX0_shift_149 : decode cX0_shift 149 = .ok (.invokevirtual 227, 3) := dk_182 0 227 (dk_at dksX0_shift_6 12 rfl rfl)
theorem dX0_shift_152 : decode cX0_shift 152 = .ok (.if_icmp .le 8, 3) := dk_164 0 8 (dk_at dksX0_shift_6 15 rfl rfl)
theorem dX0_shift_155 : decode cX0_shift 155 = .ok (.iload 9, 2) := dk_21 9 (dk_at dksX0_shift_6 18 rfl rfl)
theorem dX0_shift_157 : decode cX0_shift 157 = .ok (.goto 5, 3) := dk_167 0 5 (dk_at dksX0_shift_6 20 rfl rfl)
theorem dX0_shift_160 : decode cX0_shift 160 = .ok (.iload 6, 2) := dk_21 6 (dk_at dksX0_shift_7 0 rfl rfl)
theorem dX0_shift_162 : decode cX0_shift 162 = .ok (.istore 6, 2) := dk_54 6 (dk_at dksX0_shift_7 2 rfl rfl)
theorem dX0_shift_164 : decode cX0_shift 164 = .ok (.goto (-53), 3) := dk_167 255 203 (dk_at dksX0_shift_7 4 rfl rfl)
theorem dX0_shift_167 : decode cX0_shift 167 = .ok (.aload 5, 2) := dk_25 5 (dk_at dksX0_shift_7 7 rfl rfl)
theorem dX0_shift_169 : decode cX0_shift 169 = .ok (.iload 6, 2) := dk_21 6 (dk_at dksX0_shift_7 9 rfl rfl)
theorem dX0_shift_171 : decode cX0_shift 171 = .ok (.invokestatic 97, 3) := dk_184 0 97 (dk_at dksX0_shift_7 11 rfl rfl)
theorem dX0_shift_174 : decode cX0_shift 174 = .ok (.invokevirtual 231, 3) := dk_182 0 231 (dk_at dksX0_shift_7 14 rfl rfl)
theorem dX0_shift_177 : decode cX0_shift 177 = .ok (.pop, 1) := dk_87 (dk_at dksX0_shift_7 17 rfl rfl)
theorem dX0_shift_178 : decode cX0_shift 178 = .ok (.iinc 7 1, 3) := dk_132 7 1 (dk_at dksX0_shift_7 18 rfl rfl)
theorem dX0_shift_181 : decode cX0_shift 181 = .ok (.goto (-96), 3) := dk_167 255 160 (dk_at dksX0_shift_7 21 rfl rfl)
theorem dX0_shift_184 : decode cX0_shift 184 = .ok (.iload 4, 2) := dk_21 4 (dk_at dksX0_shift_8 0 rfl rfl)
theorem dX0_shift_186 : decode cX0_shift 186 = .ok (.ifCond .ne 8, 3) := dk_154 0 8 (dk_at dksX0_shift_8 2 rfl rfl)
theorem dX0_shift_189 : decode cX0_shift 189 = .ok (.iload 6, 2) := dk_21 6 (dk_at dksX0_shift_8 5 rfl rfl)
theorem dX0_shift_191 : decode cX0_shift 191 = .ok (.goto 11, 3) := dk_167 0 11 (dk_at dksX0_shift_8 7 rfl rfl)
theorem dX0_shift_194 : decode cX0_shift 194 = .ok (.aload_n 0, 1) := dk_42 (dk_at dksX0_shift_8 10 rfl rfl)
theorem dX0_shift_195 : decode cX0_shift 195 = .ok (.iload_n 1, 1) := dk_27 (dk_at dksX0_shift_8 11 rfl rfl)
theorem dX0_shift_196 : decode cX0_shift 196 = .ok (.iload_n 2, 1) := dk_28 (dk_at dksX0_shift_8 12 rfl rfl)
theorem dX0_shift_197 : decode cX0_shift 197 = .ok (.iload 6, 2) := dk_21 6 (dk_at dksX0_shift_8 13 rfl rfl)
theorem dX0_shift_199 : decode cX0_shift 199 = .ok (.invokevirtual 227, 3) := dk_182 0 227 (dk_at dksX0_shift_8 15 rfl rfl)
theorem dX0_shift_202 : decode cX0_shift 202 = .ok (.ireturn, 1) := dk_172 (dk_at dksX0_shift_8 18 rfl rfl)
abbrev cX0_score : ByteArray := prog_1_method_32_code
def yX0_score : MethodName := ⟨RX0, "score", "(III)I"⟩
def dkwX0_score_2 : List UInt8 := [96, 54, 4, 21, 5, 27, 96, 54, 5, 167, 255, 207, 21, 4, 172]
abbrev dktX0_score_2 : List UInt8 := dkwX0_score_2 ++ []
def dkwX0_score_1 : List UInt8 := [180, 0, 18, 180, 0, 80, 42, 180, 0, 18, 180, 0, 72, 21, 5, 46, 29, 100, 16, 16, 184, 0, 141, 46]
abbrev dktX0_score_1 : List UInt8 := dkwX0_score_1 ++ dktX0_score_2
def dkwX0_score_0 : List UInt8 := [3, 54, 4, 28, 54, 5, 21, 5, 42, 180, 0, 18, 180, 0, 72, 190, 162, 0, 42, 21, 4, 42]
abbrev dktX0_score_0 : List UInt8 := dkwX0_score_0 ++ dktX0_score_1
theorem dksX0_score_0 : cX0_score.data.toList.drop 0 = dktX0_score_0 := by decide +kernel
theorem dksX0_score_1 : cX0_score.data.toList.drop 22 = dktX0_score_1 := dk_seg dksX0_score_0 22 rfl rfl
theorem dksX0_score_2 : cX0_score.data.toList.drop 46 = dktX0_score_2 := dk_seg dksX0_score_1 24 rfl rfl
theorem dX0_score_0 : decode cX0_score 0 = .ok (.iconst 0, 1) := dk_3 (dk_at dksX0_score_0 0 rfl rfl)
theorem dX0_score_1 : decode cX0_score 1 = .ok (.istore 4, 2) := dk_54 4 (dk_at dksX0_score_0 1 rfl rfl)
theorem dX0_score_3 : decode cX0_score 3 = .ok (.iload_n 2, 1) := dk_28 (dk_at dksX0_score_0 3 rfl rfl)
theorem dX0_score_4 : decode cX0_score 4 = .ok (.istore 5, 2) := dk_54 5 (dk_at dksX0_score_0 4 rfl rfl)
theorem dX0_score_6 : decode cX0_score 6 = .ok (.iload 5, 2) := dk_21 5 (dk_at dksX0_score_0 6 rfl rfl)
theorem dX0_score_8 : decode cX0_score 8 = .ok (.aload_n 0, 1) := dk_42 (dk_at dksX0_score_0 8 rfl rfl)
theorem dX0_score_9 : decode cX0_score 9 = .ok (.getfield 18, 3) := dk_180 0 18 (dk_at dksX0_score_0 9 rfl rfl)
theorem dX0_score_12 : decode cX0_score 12 = .ok (.getfield 72, 3) := dk_180 0 72 (dk_at dksX0_score_0 12 rfl rfl)
theorem dX0_score_15 : decode cX0_score 15 = .ok (.arraylength, 1) := dk_190 (dk_at dksX0_score_0 15 rfl rfl)
theorem dX0_score_16 : decode cX0_score 16 = .ok (.if_icmp .ge 42, 3) := dk_162 0 42 (dk_at dksX0_score_0 16 rfl rfl)
theorem dX0_score_19 : decode cX0_score 19 = .ok (.iload 4, 2) := dk_21 4 (dk_at dksX0_score_0 19 rfl rfl)
theorem dX0_score_21 : decode cX0_score 21 = .ok (.aload_n 0, 1) := dk_42 (dk_at dksX0_score_0 21 rfl rfl)
theorem dX0_score_22 : decode cX0_score 22 = .ok (.getfield 18, 3) := dk_180 0 18 (dk_at dksX0_score_1 0 rfl rfl)
theorem dX0_score_25 : decode cX0_score 25 = .ok (.getfield 80, 3) := dk_180 0 80 (dk_at dksX0_score_1 3 rfl rfl)
theorem dX0_score_28 : decode cX0_score 28 = .ok (.aload_n 0, 1) := dk_42 (dk_at dksX0_score_1 6 rfl rfl)
theorem dX0_score_29 : decode cX0_score 29 = .ok (.getfield 18, 3) := dk_180 0 18 (dk_at dksX0_score_1 7 rfl rfl)
theorem dX0_score_32 : decode cX0_score 32 = .ok (.getfield 72, 3) := dk_180 0 72 (dk_at dksX0_score_1 10 rfl rfl)
theorem dX0_score_35 : decode cX0_score 35 = .ok (.iload 5, 2) := dk_21 5 (dk_at dksX0_score_1 13 rfl rfl)
theorem dX0_score_37 : decode cX0_score 37 = .ok (.iaload, 1) := dk_46 (dk_at dksX0_score_1 15 rfl rfl)
theorem dX0_score_38 : decode cX0_score 38 = .ok (.iload_n 3, 1) := dk_29 (dk_at dksX0_score_1 16 rfl rfl)
theorem dX0_score_39 : decode cX0_score 39 = .ok (.isub, 1) := dk_100 (dk_at dksX0_score_1 17 rfl rfl)
theorem dX0_score_40 : decode cX0_score 40 = .ok (.bipush 16, 2) := dk_16 16 (dk_at dksX0_score_1 18 rfl rfl)
theorem dX0_score_42 : decode cX0_score 42 = .ok (.invokestatic 141, 3) := dk_184 0 141 (dk_at dksX0_score_1 20 rfl rfl)
theorem dX0_score_45 : decode cX0_score 45 = .ok (.iaload, 1) := dk_46 (dk_at dksX0_score_1 23 rfl rfl)
theorem dX0_score_46 : decode cX0_score 46 = .ok (.iadd, 1) := dk_96 (dk_at dksX0_score_2 0 rfl rfl)
theorem dX0_score_47 : decode cX0_score 47 = .ok (.istore 4, 2) := dk_54 4 (dk_at dksX0_score_2 1 rfl rfl)
theorem dX0_score_49 : decode cX0_score 49 = .ok (.iload 5, 2) := dk_21 5 (dk_at dksX0_score_2 3 rfl rfl)
theorem dX0_score_51 : decode cX0_score 51 = .ok (.iload_n 1, 1) := dk_27 (dk_at dksX0_score_2 5 rfl rfl)
theorem dX0_score_52 : decode cX0_score 52 = .ok (.iadd, 1) := dk_96 (dk_at dksX0_score_2 6 rfl rfl)
theorem dX0_score_53 : decode cX0_score 53 = .ok (.istore 5, 2) := dk_54 5 (dk_at dksX0_score_2 7 rfl rfl)
theorem dX0_score_55 : decode cX0_score 55 = .ok (.goto (-49), 3) := dk_167 255 207 (dk_at dksX0_score_2 9 rfl rfl)
theorem dX0_score_58 : decode cX0_score 58 = .ok (.iload 4, 2) := dk_21 4 (dk_at dksX0_score_2 12 rfl rfl)
theorem dX0_score_60 : decode cX0_score 60 = .ok (.ireturn, 1) := dk_172 (dk_at dksX0_score_2 14 rfl rfl)
abbrev cX0_good : ByteArray := prog_1_method_35_code
def yX0_good : MethodName := ⟨RX0, "good", "()I"⟩
def dkwX0_good_0 : List UInt8 := [42, 42, 180, 0, 18, 180, 0, 72, 182, 0, 238, 172]
abbrev dktX0_good_0 : List UInt8 := dkwX0_good_0 ++ []
theorem dksX0_good_0 : cX0_good.data.toList.drop 0 = dktX0_good_0 := by decide +kernel
theorem dX0_good_0 : decode cX0_good 0 = .ok (.aload_n 0, 1) := dk_42 (dk_at dksX0_good_0 0 rfl rfl)
theorem dX0_good_1 : decode cX0_good 1 = .ok (.aload_n 0, 1) := dk_42 (dk_at dksX0_good_0 1 rfl rfl)
theorem dX0_good_2 : decode cX0_good 2 = .ok (.getfield 18, 3) := dk_180 0 18 (dk_at dksX0_good_0 2 rfl rfl)
theorem dX0_good_5 : decode cX0_good 5 = .ok (.getfield 72, 3) := dk_180 0 72 (dk_at dksX0_good_0 5 rfl rfl)
theorem dX0_good_8 : decode cX0_good 8 = .ok (.invokevirtual 238, 3) := dk_182 0 238 (dk_at dksX0_good_0 8 rfl rfl)
theorem dX0_good_11 : decode cX0_good 11 = .ok (.ireturn, 1) := dk_172 (dk_at dksX0_good_0 11 rfl rfl)
abbrev cX0_good_2 : ByteArray := prog_1_method_34_code
def yX0_good_2 : MethodName := ⟨RX0, "good", "([I)I"⟩
def dkwX0_good_2_2 : List UInt8 := [167, 255, 214, 28, 172]
abbrev dktX0_good_2_2 : List UInt8 := dkwX0_good_2_2 ++ []
def dkwX0_good_2_1 : List UInt8 := [46, 104, 43, 29, 46, 96, 182, 0, 235, 153, 0, 7, 4, 167, 0, 4, 3, 96, 61, 132, 3, 1]
abbrev dktX0_good_2_1 : List UInt8 := dkwX0_good_2_1 ++ dktX0_good_2_2
def dkwX0_good_2_0 : List UInt8 := [3, 61, 4, 62, 29, 43, 190, 162, 0, 42, 28, 42, 180, 0, 18, 180, 0, 83, 16, 16, 43, 29, 4, 100]
abbrev dktX0_good_2_0 : List UInt8 := dkwX0_good_2_0 ++ dktX0_good_2_1
theorem dksX0_good_2_0 : cX0_good_2.data.toList.drop 0 = dktX0_good_2_0 := by decide +kernel
theorem dksX0_good_2_1 : cX0_good_2.data.toList.drop 24 = dktX0_good_2_1 := dk_seg dksX0_good_2_0 24 rfl rfl
theorem dksX0_good_2_2 : cX0_good_2.data.toList.drop 46 = dktX0_good_2_2 := dk_seg dksX0_good_2_1 22 rfl rfl
theorem dX0_good_2_0 : decode cX0_good_2 0 = .ok (.iconst 0, 1) := dk_3 (dk_at dksX0_good_2_0 0 rfl rfl)
theorem dX0_good_2_1 : decode cX0_good_2 1 = .ok (.istore_n 2, 1) := dk_61 (dk_at dksX0_good_2_0 1 rfl rfl)
theorem dX0_good_2_2 : decode cX0_good_2 2 = .ok (.iconst 1, 1) := dk_4 (dk_at dksX0_good_2_0 2 rfl rfl)
theorem dX0_good_2_3 : decode cX0_good_2 3 = .ok (.istore_n 3, 1) := dk_62 (dk_at dksX0_good_2_0 3 rfl rfl)
theorem dX0_good_2_4 : decode cX0_good_2 4 = .ok (.iload_n 3, 1) := dk_29 (dk_at dksX0_good_2_0 4 rfl rfl)
theorem dX0_good_2_5 : decode cX0_good_2 5 = .ok (.aload_n 1, 1) := dk_43 (dk_at dksX0_good_2_0 5 rfl rfl)
theorem dX0_good_2_6 : decode cX0_good_2 6 = .ok (.arraylength, 1) := dk_190 (dk_at dksX0_good_2_0 6 rfl rfl)
theorem dX0_good_2_7 : decode cX0_good_2 7 = .ok (.if_icmp .ge 42, 3) := dk_162 0 42 (dk_at dksX0_good_2_0 7 rfl rfl)
theorem dX0_good_2_10 : decode cX0_good_2 10 = .ok (.iload_n 2, 1) := dk_28 (dk_at dksX0_good_2_0 10 rfl rfl)
theorem dX0_good_2_11 : decode cX0_good_2 11 = .ok (.aload_n 0, 1) := dk_42 (dk_at dksX0_good_2_0 11 rfl rfl)
theorem dX0_good_2_12 : decode cX0_good_2 12 = .ok (.getfield 18, 3) := dk_180 0 18 (dk_at dksX0_good_2_0 12 rfl rfl)
theorem dX0_good_2_15 : decode cX0_good_2 15 = .ok (.getfield 83, 3) := dk_180 0 83 (dk_at dksX0_good_2_0 15 rfl rfl)
theorem dX0_good_2_18 : decode cX0_good_2 18 = .ok (.bipush 16, 2) := dk_16 16 (dk_at dksX0_good_2_0 18 rfl rfl)
theorem dX0_good_2_20 : decode cX0_good_2 20 = .ok (.aload_n 1, 1) := dk_43 (dk_at dksX0_good_2_0 20 rfl rfl)
theorem dX0_good_2_21 : decode cX0_good_2 21 = .ok (.iload_n 3, 1) := dk_29 (dk_at dksX0_good_2_0 21 rfl rfl)
theorem dX0_good_2_22 : decode cX0_good_2 22 = .ok (.iconst 1, 1) := dk_4 (dk_at dksX0_good_2_0 22 rfl rfl)
theorem dX0_good_2_23 : decode cX0_good_2 23 = .ok (.isub, 1) := dk_100 (dk_at dksX0_good_2_0 23 rfl rfl)
theorem dX0_good_2_24 : decode cX0_good_2 24 = .ok (.iaload, 1) := dk_46 (dk_at dksX0_good_2_1 0 rfl rfl)
theorem dX0_good_2_25 : decode cX0_good_2 25 = .ok (.imul, 1) := dk_104 (dk_at dksX0_good_2_1 1 rfl rfl)
theorem dX0_good_2_26 : decode cX0_good_2 26 = .ok (.aload_n 1, 1) := dk_43 (dk_at dksX0_good_2_1 2 rfl rfl)
theorem dX0_good_2_27 : decode cX0_good_2 27 = .ok (.iload_n 3, 1) := dk_29 (dk_at dksX0_good_2_1 3 rfl rfl)
theorem dX0_good_2_28 : decode cX0_good_2 28 = .ok (.iaload, 1) := dk_46 (dk_at dksX0_good_2_1 4 rfl rfl)
theorem dX0_good_2_29 : decode cX0_good_2 29 = .ok (.iadd, 1) := dk_96 (dk_at dksX0_good_2_1 5 rfl rfl)
theorem dX0_good_2_30 : decode cX0_good_2 30 = .ok (.invokevirtual 235, 3) := dk_182 0 235 (dk_at dksX0_good_2_1 6 rfl rfl)
theorem dX0_good_2_33 : decode cX0_good_2 33 = .ok (.ifCond .eq 7, 3) := dk_153 0 7 (dk_at dksX0_good_2_1 9 rfl rfl)
theorem dX0_good_2_36 : decode cX0_good_2 36 = .ok (.iconst 1, 1) := dk_4 (dk_at dksX0_good_2_1 12 rfl rfl)
theorem dX0_good_2_37 : decode cX0_good_2 37 = .ok (.goto 4, 3) := dk_167 0 4 (dk_at dksX0_good_2_1 13 rfl rfl)
theorem dX0_good_2_40 : decode cX0_good_2 40 = .ok (.iconst 0, 1) := dk_3 (dk_at dksX0_good_2_1 16 rfl rfl)
theorem dX0_good_2_41 : decode cX0_good_2 41 = .ok (.iadd, 1) := dk_96 (dk_at dksX0_good_2_1 17 rfl rfl)
theorem dX0_good_2_42 : decode cX0_good_2 42 = .ok (.istore_n 2, 1) := dk_61 (dk_at dksX0_good_2_1 18 rfl rfl)
theorem dX0_good_2_43 : decode cX0_good_2 43 = .ok (.iinc 3 1, 3) := dk_132 3 1 (dk_at dksX0_good_2_1 19 rfl rfl)
theorem dX0_good_2_46 : decode cX0_good_2 46 = .ok (.goto (-42), 3) := dk_167 255 214 (dk_at dksX0_good_2_2 0 rfl rfl)
theorem dX0_good_2_49 : decode cX0_good_2 49 = .ok (.iload_n 2, 1) := dk_28 (dk_at dksX0_good_2_2 3 rfl rfl)
theorem dX0_good_2_50 : decode cX0_good_2 50 = .ok (.ireturn, 1) := dk_172 (dk_at dksX0_good_2_2 4 rfl rfl)
abbrev cX0_order : ByteArray := prog_1_method_39_code
def yX0_order : MethodName := ⟨RX0, "order", "(II)I"⟩
def dkwX0_order_3 : List UInt8 := [180, 0, 248, 167, 0, 9, 42, 180, 0, 49, 28, 46, 172]
abbrev dktX0_order_3 : List UInt8 := dkwX0_order_3 ++ []
def dkwX0_order_2 : List UInt8 := [3, 3, 182, 1, 2, 28, 2, 160, 0, 10, 42, 180, 0, 245, 167, 0, 22, 28, 16, 254, 160, 0, 10, 42]
abbrev dktX0_order_2 : List UInt8 := dkwX0_order_2 ++ dktX0_order_3
def dkwX0_order_1 : List UInt8 := [184, 0, 1, 154, 0, 6, 16, 254, 172, 42, 16, 250, 181, 0, 245, 42, 3, 181, 0, 248, 42, 27, 188, 10]
abbrev dktX0_order_1 : List UInt8 := dkwX0_order_1 ++ dktX0_order_2
def dkwX0_order_0 : List UInt8 := [27, 133, 20, 1, 6, 20, 0, 67, 184, 0, 1, 153, 0, 18, 28, 133, 20, 1, 8, 27, 4, 100, 133]
abbrev dktX0_order_0 : List UInt8 := dkwX0_order_0 ++ dktX0_order_1
theorem dksX0_order_0 : cX0_order.data.toList.drop 0 = dktX0_order_0 := by decide +kernel
theorem dksX0_order_1 : cX0_order.data.toList.drop 23 = dktX0_order_1 := dk_seg dksX0_order_0 23 rfl rfl
theorem dksX0_order_2 : cX0_order.data.toList.drop 47 = dktX0_order_2 := dk_seg dksX0_order_1 24 rfl rfl
theorem dksX0_order_3 : cX0_order.data.toList.drop 71 = dktX0_order_3 := dk_seg dksX0_order_2 24 rfl rfl
theorem dX0_order_0 : decode cX0_order 0 = .ok (.iload_n 1, 1) := dk_27 (dk_at dksX0_order_0 0 rfl rfl)
theorem dX0_order_1 : decode cX0_order 1 = .ok (.i2l, 1) := dk_133 (dk_at dksX0_order_0 1 rfl rfl)
theorem dX0_order_2 : decode cX0_order 2 = .ok (.ldc2_w 262, 3) := dk_20 1 6 (dk_at dksX0_order_0 2 rfl rfl)
theorem dX0_order_5 : decode cX0_order 5 = .ok (.ldc2_w 67, 3) := dk_20 0 67 (dk_at dksX0_order_0 5 rfl rfl)
theorem dX0_order_8 : decode cX0_order 8 = .ok (.invokestatic 1, 3) := dk_184 0 1 (dk_at dksX0_order_0 8 rfl rfl)
theorem dX0_order_11 : decode cX0_order 11 = .ok (.ifCond .eq 18, 3) := dk_153 0 18 (dk_at dksX0_order_0 11 rfl rfl)
theorem dX0_order_14 : decode cX0_order 14 = .ok (.iload_n 2, 1) := dk_28 (dk_at dksX0_order_0 14 rfl rfl)
theorem dX0_order_15 : decode cX0_order 15 = .ok (.i2l, 1) := dk_133 (dk_at dksX0_order_0 15 rfl rfl)
theorem dX0_order_16 : decode cX0_order 16 = .ok (.ldc2_w 264, 3) := dk_20 1 8 (dk_at dksX0_order_0 16 rfl rfl)
theorem dX0_order_19 : decode cX0_order 19 = .ok (.iload_n 1, 1) := dk_27 (dk_at dksX0_order_0 19 rfl rfl)
theorem dX0_order_20 : decode cX0_order 20 = .ok (.iconst 1, 1) := dk_4 (dk_at dksX0_order_0 20 rfl rfl)
theorem dX0_order_21 : decode cX0_order 21 = .ok (.isub, 1) := dk_100 (dk_at dksX0_order_0 21 rfl rfl)
theorem dX0_order_22 : decode cX0_order 22 = .ok (.i2l, 1) := dk_133 (dk_at dksX0_order_0 22 rfl rfl)
theorem dX0_order_23 : decode cX0_order 23 = .ok (.invokestatic 1, 3) := dk_184 0 1 (dk_at dksX0_order_1 0 rfl rfl)
theorem dX0_order_26 : decode cX0_order 26 = .ok (.ifCond .ne 6, 3) := dk_154 0 6 (dk_at dksX0_order_1 3 rfl rfl)
theorem dX0_order_29 : decode cX0_order 29 = .ok (.bipush (-2), 2) := dk_16 254 (dk_at dksX0_order_1 6 rfl rfl)
theorem dX0_order_31 : decode cX0_order 31 = .ok (.ireturn, 1) := dk_172 (dk_at dksX0_order_1 8 rfl rfl)
theorem dX0_order_32 : decode cX0_order 32 = .ok (.aload_n 0, 1) := dk_42 (dk_at dksX0_order_1 9 rfl rfl)
theorem dX0_order_33 : decode cX0_order 33 = .ok (.bipush (-6), 2) := dk_16 250 (dk_at dksX0_order_1 10 rfl rfl)
theorem dX0_order_35 : decode cX0_order 35 = .ok (.putfield 245, 3) := dk_181 0 245 (dk_at dksX0_order_1 12 rfl rfl)
theorem dX0_order_38 : decode cX0_order 38 = .ok (.aload_n 0, 1) := dk_42 (dk_at dksX0_order_1 15 rfl rfl)
theorem dX0_order_39 : decode cX0_order 39 = .ok (.iconst 0, 1) := dk_3 (dk_at dksX0_order_1 16 rfl rfl)
theorem dX0_order_40 : decode cX0_order 40 = .ok (.putfield 248, 3) := dk_181 0 248 (dk_at dksX0_order_1 17 rfl rfl)
theorem dX0_order_43 : decode cX0_order 43 = .ok (.aload_n 0, 1) := dk_42 (dk_at dksX0_order_1 20 rfl rfl)
theorem dX0_order_44 : decode cX0_order 44 = .ok (.iload_n 1, 1) := dk_27 (dk_at dksX0_order_1 21 rfl rfl)
theorem dX0_order_45 : decode cX0_order 45 = .ok (.newarray .int, 2) := dk_188_10 (dk_at dksX0_order_1 22 rfl rfl)
theorem dX0_order_47 : decode cX0_order 47 = .ok (.iconst 0, 1) := dk_3 (dk_at dksX0_order_2 0 rfl rfl)
theorem dX0_order_48 : decode cX0_order 48 = .ok (.iconst 0, 1) := dk_3 (dk_at dksX0_order_2 1 rfl rfl)
theorem dX0_order_49 : decode cX0_order 49 = .ok (.invokevirtual 258, 3) := dk_182 1 2 (dk_at dksX0_order_2 2 rfl rfl)
theorem dX0_order_52 : decode cX0_order 52 = .ok (.iload_n 2, 1) := dk_28 (dk_at dksX0_order_2 5 rfl rfl)
theorem dX0_order_53 : decode cX0_order 53 = .ok (.iconst (-1), 1) := dk_2 (dk_at dksX0_order_2 6 rfl rfl)
theorem dX0_order_54 : decode cX0_order 54 = .ok (.if_icmp .ne 10, 3) := dk_160 0 10 (dk_at dksX0_order_2 7 rfl rfl)
theorem dX0_order_57 : decode cX0_order 57 = .ok (.aload_n 0, 1) := dk_42 (dk_at dksX0_order_2 10 rfl rfl)
theorem dX0_order_58 : decode cX0_order 58 = .ok (.getfield 245, 3) := dk_180 0 245 (dk_at dksX0_order_2 11 rfl rfl)
theorem dX0_order_61 : decode cX0_order 61 = .ok (.goto 22, 3) := dk_167 0 22 (dk_at dksX0_order_2 14 rfl rfl)
theorem dX0_order_64 : decode cX0_order 64 = .ok (.iload_n 2, 1) := dk_28 (dk_at dksX0_order_2 17 rfl rfl)
theorem dX0_order_65 : decode cX0_order 65 = .ok (.bipush (-2), 2) := dk_16 254 (dk_at dksX0_order_2 18 rfl rfl)
theorem dX0_order_67 : decode cX0_order 67 = .ok (.if_icmp .ne 10, 3) := dk_160 0 10 (dk_at dksX0_order_2 20 rfl rfl)
theorem dX0_order_70 : decode cX0_order 70 = .ok (.aload_n 0, 1) := dk_42 (dk_at dksX0_order_2 23 rfl rfl)
theorem dX0_order_71 : decode cX0_order 71 = .ok (.getfield 248, 3) := dk_180 0 248 (dk_at dksX0_order_3 0 rfl rfl)
theorem dX0_order_74 : decode cX0_order 74 = .ok (.goto 9, 3) := dk_167 0 9 (dk_at dksX0_order_3 3 rfl rfl)
theorem dX0_order_77 : decode cX0_order 77 = .ok (.aload_n 0, 1) := dk_42 (dk_at dksX0_order_3 6 rfl rfl)
theorem dX0_order_78 : decode cX0_order 78 = .ok (.getfield 49, 3) := dk_180 0 49 (dk_at dksX0_order_3 7 rfl rfl)
theorem dX0_order_81 : decode cX0_order 81 = .ok (.iload_n 2, 1) := dk_28 (dk_at dksX0_order_3 10 rfl rfl)
theorem dX0_order_82 : decode cX0_order 82 = .ok (.iaload, 1) := dk_46 (dk_at dksX0_order_3 11 rfl rfl)
theorem dX0_order_83 : decode cX0_order 83 = .ok (.ireturn, 1) := dk_172 (dk_at dksX0_order_3 12 rfl rfl)
abbrev cX0_orders : ByteArray := prog_1_method_38_code
def yX0_orders : MethodName := ⟨RX0, "orders", "([III)V"⟩
def dkwX0_orders_2 : List UInt8 := [182, 1, 2, 132, 4, 1, 167, 255, 218, 177]
abbrev dktX0_orders_2 : List UInt8 := dkwX0_orders_2 ++ []
def dkwX0_orders_1 : List UInt8 := [21, 4, 122, 4, 126, 154, 0, 22, 43, 28, 21, 4, 79, 42, 43, 28, 4, 96, 29, 4, 21, 4, 120, 128]
abbrev dktX0_orders_1 : List UInt8 := dkwX0_orders_1 ++ dktX0_orders_2
def dkwX0_orders_0 : List UInt8 := [28, 43, 190, 160, 0, 9, 42, 43, 182, 0, 254, 177, 3, 54, 4, 21, 4, 43, 190, 162, 0, 37, 29]
abbrev dktX0_orders_0 : List UInt8 := dkwX0_orders_0 ++ dktX0_orders_1
theorem dksX0_orders_0 : cX0_orders.data.toList.drop 0 = dktX0_orders_0 := by decide +kernel
theorem dksX0_orders_1 : cX0_orders.data.toList.drop 23 = dktX0_orders_1 := dk_seg dksX0_orders_0 23 rfl rfl
theorem dksX0_orders_2 : cX0_orders.data.toList.drop 47 = dktX0_orders_2 := dk_seg dksX0_orders_1 24 rfl rfl
theorem dX0_orders_0 : decode cX0_orders 0 = .ok (.iload_n 2, 1) := dk_28 (dk_at dksX0_orders_0 0 rfl rfl)
theorem dX0_orders_1 : decode cX0_orders 1 = .ok (.aload_n 1, 1) := dk_43 (dk_at dksX0_orders_0 1 rfl rfl)
theorem dX0_orders_2 : decode cX0_orders 2 = .ok (.arraylength, 1) := dk_190 (dk_at dksX0_orders_0 2 rfl rfl)
theorem dX0_orders_3 : decode cX0_orders 3 = .ok (.if_icmp .ne 9, 3) := dk_160 0 9 (dk_at dksX0_orders_0 3 rfl rfl)
theorem dX0_orders_6 : decode cX0_orders 6 = .ok (.aload_n 0, 1) := dk_42 (dk_at dksX0_orders_0 6 rfl rfl)
theorem dX0_orders_7 : decode cX0_orders 7 = .ok (.aload_n 1, 1) := dk_43 (dk_at dksX0_orders_0 7 rfl rfl)
theorem dX0_orders_8 : decode cX0_orders 8 = .ok (.invokevirtual 254, 3) := dk_182 0 254 (dk_at dksX0_orders_0 8 rfl rfl)
theorem dX0_orders_11 : decode cX0_orders 11 = .ok (.return_, 1) := dk_177 (dk_at dksX0_orders_0 11 rfl rfl)
theorem dX0_orders_12 : decode cX0_orders 12 = .ok (.iconst 0, 1) := dk_3 (dk_at dksX0_orders_0 12 rfl rfl)
theorem dX0_orders_13 : decode cX0_orders 13 = .ok (.istore 4, 2) := dk_54 4 (dk_at dksX0_orders_0 13 rfl rfl)
theorem dX0_orders_15 : decode cX0_orders 15 = .ok (.iload 4, 2) := dk_21 4 (dk_at dksX0_orders_0 15 rfl rfl)
theorem dX0_orders_17 : decode cX0_orders 17 = .ok (.aload_n 1, 1) := dk_43 (dk_at dksX0_orders_0 17 rfl rfl)
theorem dX0_orders_18 : decode cX0_orders 18 = .ok (.arraylength, 1) := dk_190 (dk_at dksX0_orders_0 18 rfl rfl)
theorem dX0_orders_19 : decode cX0_orders 19 = .ok (.if_icmp .ge 37, 3) := dk_162 0 37 (dk_at dksX0_orders_0 19 rfl rfl)
theorem dX0_orders_22 : decode cX0_orders 22 = .ok (.iload_n 3, 1) := dk_29 (dk_at dksX0_orders_0 22 rfl rfl)
theorem dX0_orders_23 : decode cX0_orders 23 = .ok (.iload 4, 2) := dk_21 4 (dk_at dksX0_orders_1 0 rfl rfl)
theorem dX0_orders_25 : decode cX0_orders 25 = .ok (.ishr, 1) := dk_122 (dk_at dksX0_orders_1 2 rfl rfl)
theorem dX0_orders_26 : decode cX0_orders 26 = .ok (.iconst 1, 1) := dk_4 (dk_at dksX0_orders_1 3 rfl rfl)
theorem dX0_orders_27 : decode cX0_orders 27 = .ok (.iand, 1) := dk_126 (dk_at dksX0_orders_1 4 rfl rfl)
theorem dX0_orders_28 : decode cX0_orders 28 = .ok (.ifCond .ne 22, 3) := dk_154 0 22 (dk_at dksX0_orders_1 5 rfl rfl)
theorem dX0_orders_31 : decode cX0_orders 31 = .ok (.aload_n 1, 1) := dk_43 (dk_at dksX0_orders_1 8 rfl rfl)
theorem dX0_orders_32 : decode cX0_orders 32 = .ok (.iload_n 2, 1) := dk_28 (dk_at dksX0_orders_1 9 rfl rfl)
theorem dX0_orders_33 : decode cX0_orders 33 = .ok (.iload 4, 2) := dk_21 4 (dk_at dksX0_orders_1 10 rfl rfl)
theorem dX0_orders_35 : decode cX0_orders 35 = .ok (.iastore, 1) := dk_79 (dk_at dksX0_orders_1 12 rfl rfl)
theorem dX0_orders_36 : decode cX0_orders 36 = .ok (.aload_n 0, 1) := dk_42 (dk_at dksX0_orders_1 13 rfl rfl)
theorem dX0_orders_37 : decode cX0_orders 37 = .ok (.aload_n 1, 1) := dk_43 (dk_at dksX0_orders_1 14 rfl rfl)
theorem dX0_orders_38 : decode cX0_orders 38 = .ok (.iload_n 2, 1) := dk_28 (dk_at dksX0_orders_1 15 rfl rfl)
theorem dX0_orders_39 : decode cX0_orders 39 = .ok (.iconst 1, 1) := dk_4 (dk_at dksX0_orders_1 16 rfl rfl)
theorem dX0_orders_40 : decode cX0_orders 40 = .ok (.iadd, 1) := dk_96 (dk_at dksX0_orders_1 17 rfl rfl)
theorem dX0_orders_41 : decode cX0_orders 41 = .ok (.iload_n 3, 1) := dk_29 (dk_at dksX0_orders_1 18 rfl rfl)
theorem dX0_orders_42 : decode cX0_orders 42 = .ok (.iconst 1, 1) := dk_4 (dk_at dksX0_orders_1 19 rfl rfl)
theorem dX0_orders_43 : decode cX0_orders 43 = .ok (.iload 4, 2) := dk_21 4 (dk_at dksX0_orders_1 20 rfl rfl)
theorem dX0_orders_45 : decode cX0_orders 45 = .ok (.ishl, 1) := dk_120 (dk_at dksX0_orders_1 22 rfl rfl)
theorem dX0_orders_46 : decode cX0_orders 46 = .ok (.ior, 1) := dk_128 (dk_at dksX0_orders_1 23 rfl rfl)
theorem dX0_orders_47 : decode cX0_orders 47 = .ok (.invokevirtual 258, 3) := dk_182 1 2 (dk_at dksX0_orders_2 0 rfl rfl)
theorem dX0_orders_50 : decode cX0_orders 50 = .ok (.iinc 4 1, 3) := dk_132 4 1 (dk_at dksX0_orders_2 3 rfl rfl)
theorem dX0_orders_53 : decode cX0_orders 53 = .ok (.goto (-38), 3) := dk_167 255 218 (dk_at dksX0_orders_2 6 rfl rfl)
theorem dX0_orders_56 : decode cX0_orders 56 = .ok (.return_, 1) := dk_177 (dk_at dksX0_orders_2 9 rfl rfl)
abbrev cX0_tryOrder : ByteArray := prog_1_method_36_code
def yX0_tryOrder : MethodName := ⟨RX0, "tryOrder", "([I)V"⟩
def dkwX0_tryOrder_4 : List UInt8 := [29, 42, 180, 0, 245, 160, 0, 7, 4, 167, 0, 4, 3, 96, 181, 0, 248, 177]
abbrev dktX0_tryOrder_4 : List UInt8 := dkwX0_tryOrder_4 ++ []
def dkwX0_tryOrder_3 : List UInt8 := [181, 0, 245, 42, 3, 181, 0, 248, 42, 43, 182, 0, 251, 192, 0, 213, 181, 0, 49, 42, 89, 180, 0, 248]
abbrev dktX0_tryOrder_3 : List UInt8 := dkwX0_tryOrder_3 ++ dktX0_tryOrder_4
def dkwX0_tryOrder_2 : List UInt8 := [132, 3, 1, 167, 255, 228, 42, 28, 182, 0, 242, 62, 29, 42, 180, 0, 245, 164, 0, 24, 42, 29]
abbrev dktX0_tryOrder_2 : List UInt8 := dkwX0_tryOrder_2 ++ dktX0_tryOrder_3
def dkwX0_tryOrder_1 : List UInt8 := [162, 0, 29, 42, 180, 0, 52, 42, 180, 0, 45, 29, 46, 42, 180, 0, 18, 180, 0, 72, 29, 46, 79]
abbrev dktX0_tryOrder_1 : List UInt8 := dkwX0_tryOrder_1 ++ dktX0_tryOrder_2
def dkwX0_tryOrder_0 : List UInt8 := [42, 180, 0, 18, 180, 0, 72, 190, 61, 43, 28, 42, 180, 0, 45, 184, 0, 172, 3, 62, 29, 28]
abbrev dktX0_tryOrder_0 : List UInt8 := dkwX0_tryOrder_0 ++ dktX0_tryOrder_1
theorem dksX0_tryOrder_0 : cX0_tryOrder.data.toList.drop 0 = dktX0_tryOrder_0 := by decide +kernel
theorem dksX0_tryOrder_1 : cX0_tryOrder.data.toList.drop 22 = dktX0_tryOrder_1 := dk_seg dksX0_tryOrder_0 22 rfl rfl
theorem dksX0_tryOrder_2 : cX0_tryOrder.data.toList.drop 45 = dktX0_tryOrder_2 := dk_seg dksX0_tryOrder_1 23 rfl rfl
theorem dksX0_tryOrder_3 : cX0_tryOrder.data.toList.drop 67 = dktX0_tryOrder_3 := dk_seg dksX0_tryOrder_2 22 rfl rfl
theorem dksX0_tryOrder_4 : cX0_tryOrder.data.toList.drop 91 = dktX0_tryOrder_4 := dk_seg dksX0_tryOrder_3 24 rfl rfl
theorem dX0_tryOrder_0 : decode cX0_tryOrder 0 = .ok (.aload_n 0, 1) := dk_42 (dk_at dksX0_tryOrder_0 0 rfl rfl)
theorem dX0_tryOrder_1 : decode cX0_tryOrder 1 = .ok (.getfield 18, 3) := dk_180 0 18 (dk_at dksX0_tryOrder_0 1 rfl rfl)
theorem dX0_tryOrder_4 : decode cX0_tryOrder 4 = .ok (.getfield 72, 3) := dk_180 0 72 (dk_at dksX0_tryOrder_0 4 rfl rfl)
theorem dX0_tryOrder_7 : decode cX0_tryOrder 7 = .ok (.arraylength, 1) := dk_190 (dk_at dksX0_tryOrder_0 7 rfl rfl)
theorem dX0_tryOrder_8 : decode cX0_tryOrder 8 = .ok (.istore_n 2, 1) := dk_61 (dk_at dksX0_tryOrder_0 8 rfl rfl)
theorem dX0_tryOrder_9 : decode cX0_tryOrder 9 = .ok (.aload_n 1, 1) := dk_43 (dk_at dksX0_tryOrder_0 9 rfl rfl)
theorem dX0_tryOrder_10 : decode cX0_tryOrder 10 = .ok (.iload_n 2, 1) := dk_28 (dk_at dksX0_tryOrder_0 10 rfl rfl)
theorem dX0_tryOrder_11 : decode cX0_tryOrder 11 = .ok (.aload_n 0, 1) := dk_42 (dk_at dksX0_tryOrder_0 11 rfl rfl)
theorem dX0_tryOrder_12 : decode cX0_tryOrder 12 = .ok (.getfield 45, 3) := dk_180 0 45 (dk_at dksX0_tryOrder_0 12 rfl rfl)
theorem dX0_tryOrder_15 : decode cX0_tryOrder 15 = .ok (.invokestatic 172, 3) := dk_184 0 172 (dk_at dksX0_tryOrder_0 15 rfl rfl)
theorem dX0_tryOrder_18 : decode cX0_tryOrder 18 = .ok (.iconst 0, 1) := dk_3 (dk_at dksX0_tryOrder_0 18 rfl rfl)
theorem dX0_tryOrder_19 : decode cX0_tryOrder 19 = .ok (.istore_n 3, 1) := dk_62 (dk_at dksX0_tryOrder_0 19 rfl rfl)
theorem dX0_tryOrder_20 : decode cX0_tryOrder 20 = .ok (.iload_n 3, 1) := dk_29 (dk_at dksX0_tryOrder_0 20 rfl rfl)
theorem dX0_tryOrder_21 : decode cX0_tryOrder 21 = .ok (.iload_n 2, 1) := dk_28 (dk_at dksX0_tryOrder_0 21 rfl rfl)
theorem dX0_tryOrder_22 : decode cX0_tryOrder 22 = .ok (.if_icmp .ge 29, 3) := dk_162 0 29 (dk_at dksX0_tryOrder_1 0 rfl rfl)
theorem dX0_tryOrder_25 : decode cX0_tryOrder 25 = .ok (.aload_n 0, 1) := dk_42 (dk_at dksX0_tryOrder_1 3 rfl rfl)
theorem dX0_tryOrder_26 : decode cX0_tryOrder 26 = .ok (.getfield 52, 3) := dk_180 0 52 (dk_at dksX0_tryOrder_1 4 rfl rfl)
theorem dX0_tryOrder_29 : decode cX0_tryOrder 29 = .ok (.aload_n 0, 1) := dk_42 (dk_at dksX0_tryOrder_1 7 rfl rfl)
theorem dX0_tryOrder_30 : decode cX0_tryOrder 30 = .ok (.getfield 45, 3) := dk_180 0 45 (dk_at dksX0_tryOrder_1 8 rfl rfl)
theorem dX0_tryOrder_33 : decode cX0_tryOrder 33 = .ok (.iload_n 3, 1) := dk_29 (dk_at dksX0_tryOrder_1 11 rfl rfl)
theorem dX0_tryOrder_34 : decode cX0_tryOrder 34 = .ok (.iaload, 1) := dk_46 (dk_at dksX0_tryOrder_1 12 rfl rfl)
theorem dX0_tryOrder_35 : decode cX0_tryOrder 35 = .ok (.aload_n 0, 1) := dk_42 (dk_at dksX0_tryOrder_1 13 rfl rfl)
theorem dX0_tryOrder_36 : decode cX0_tryOrder 36 = .ok (.getfield 18, 3) := dk_180 0 18 (dk_at dksX0_tryOrder_1 14 rfl rfl)
theorem dX0_tryOrder_39 : decode cX0_tryOrder 39 = .ok (.getfield 72, 3) := dk_180 0 72 (dk_at dksX0_tryOrder_1 17 rfl rfl)
theorem dX0_tryOrder_42 : decode cX0_tryOrder 42 = .ok (.iload_n 3, 1) := dk_29 (dk_at dksX0_tryOrder_1 20 rfl rfl)
theorem dX0_tryOrder_43 : decode cX0_tryOrder 43 = .ok (.iaload, 1) := dk_46 (dk_at dksX0_tryOrder_1 21 rfl rfl)
theorem dX0_tryOrder_44 : decode cX0_tryOrder 44 = .ok (.iastore, 1) := dk_79 (dk_at dksX0_tryOrder_1 22 rfl rfl)
theorem dX0_tryOrder_45 : decode cX0_tryOrder 45 = .ok (.iinc 3 1, 3) := dk_132 3 1 (dk_at dksX0_tryOrder_2 0 rfl rfl)
theorem dX0_tryOrder_48 : decode cX0_tryOrder 48 = .ok (.goto (-28), 3) := dk_167 255 228 (dk_at dksX0_tryOrder_2 3 rfl rfl)
theorem dX0_tryOrder_51 : decode cX0_tryOrder 51 = .ok (.aload_n 0, 1) := dk_42 (dk_at dksX0_tryOrder_2 6 rfl rfl)
theorem dX0_tryOrder_52 : decode cX0_tryOrder 52 = .ok (.iload_n 2, 1) := dk_28 (dk_at dksX0_tryOrder_2 7 rfl rfl)
theorem dX0_tryOrder_53 : decode cX0_tryOrder 53 = .ok (.invokevirtual 242, 3) := dk_182 0 242 (dk_at dksX0_tryOrder_2 8 rfl rfl)
theorem dX0_tryOrder_56 : decode cX0_tryOrder 56 = .ok (.istore_n 3, 1) := dk_62 (dk_at dksX0_tryOrder_2 11 rfl rfl)
theorem dX0_tryOrder_57 : decode cX0_tryOrder 57 = .ok (.iload_n 3, 1) := dk_29 (dk_at dksX0_tryOrder_2 12 rfl rfl)
theorem dX0_tryOrder_58 : decode cX0_tryOrder 58 = .ok (.aload_n 0, 1) := dk_42 (dk_at dksX0_tryOrder_2 13 rfl rfl)
theorem dX0_tryOrder_59 : decode cX0_tryOrder 59 = .ok (.getfield 245, 3) := dk_180 0 245 (dk_at dksX0_tryOrder_2 14 rfl rfl)
theorem dX0_tryOrder_62 : decode cX0_tryOrder 62 = .ok (.if_icmp .le 24, 3) := dk_164 0 24 (dk_at dksX0_tryOrder_2 17 rfl rfl)
theorem dX0_tryOrder_65 : decode cX0_tryOrder 65 = .ok (.aload_n 0, 1) := dk_42 (dk_at dksX0_tryOrder_2 20 rfl rfl)
theorem dX0_tryOrder_66 : decode cX0_tryOrder 66 = .ok (.iload_n 3, 1) := dk_29 (dk_at dksX0_tryOrder_2 21 rfl rfl)
theorem dX0_tryOrder_67 : decode cX0_tryOrder 67 = .ok (.putfield 245, 3) := dk_181 0 245 (dk_at dksX0_tryOrder_3 0 rfl rfl)
theorem dX0_tryOrder_70 : decode cX0_tryOrder 70 = .ok (.aload_n 0, 1) := dk_42 (dk_at dksX0_tryOrder_3 3 rfl rfl)
theorem dX0_tryOrder_71 : decode cX0_tryOrder 71 = .ok (.iconst 0, 1) := dk_3 (dk_at dksX0_tryOrder_3 4 rfl rfl)
theorem dX0_tryOrder_72 : decode cX0_tryOrder 72 = .ok (.putfield 248, 3) := dk_181 0 248 (dk_at dksX0_tryOrder_3 5 rfl rfl)
theorem dX0_tryOrder_75 : decode cX0_tryOrder 75 = .ok (.aload_n 0, 1) := dk_42 (dk_at dksX0_tryOrder_3 8 rfl rfl)
theorem dX0_tryOrder_76 : decode cX0_tryOrder 76 = .ok (.aload_n 1, 1) := dk_43 (dk_at dksX0_tryOrder_3 9 rfl rfl)
theorem dX0_tryOrder_77 : decode cX0_tryOrder 77 = .ok (.invokevirtual 251, 3) := dk_182 0 251 (dk_at dksX0_tryOrder_3 10 rfl rfl)
theorem dX0_tryOrder_80 : decode cX0_tryOrder 80 = .ok (.checkcast 213, 3) := dk_192 0 213 (dk_at dksX0_tryOrder_3 13 rfl rfl)
theorem dX0_tryOrder_83 : decode cX0_tryOrder 83 = .ok (.putfield 49, 3) := dk_181 0 49 (dk_at dksX0_tryOrder_3 16 rfl rfl)
theorem dX0_tryOrder_86 : decode cX0_tryOrder 86 = .ok (.aload_n 0, 1) := dk_42 (dk_at dksX0_tryOrder_3 19 rfl rfl)
theorem dX0_tryOrder_87 : decode cX0_tryOrder 87 = .ok (.dup, 1) := dk_89 (dk_at dksX0_tryOrder_3 20 rfl rfl)
theorem dX0_tryOrder_88 : decode cX0_tryOrder 88 = .ok (.getfield 248, 3) := dk_180 0 248 (dk_at dksX0_tryOrder_3 21 rfl rfl)
theorem dX0_tryOrder_91 : decode cX0_tryOrder 91 = .ok (.iload_n 3, 1) := dk_29 (dk_at dksX0_tryOrder_4 0 rfl rfl)
theorem dX0_tryOrder_92 : decode cX0_tryOrder 92 = .ok (.aload_n 0, 1) := dk_42 (dk_at dksX0_tryOrder_4 1 rfl rfl)
theorem dX0_tryOrder_93 : decode cX0_tryOrder 93 = .ok (.getfield 245, 3) := dk_180 0 245 (dk_at dksX0_tryOrder_4 2 rfl rfl)
theorem dX0_tryOrder_96 : decode cX0_tryOrder 96 = .ok (.if_icmp .ne 7, 3) := dk_160 0 7 (dk_at dksX0_tryOrder_4 5 rfl rfl)
theorem dX0_tryOrder_99 : decode cX0_tryOrder 99 = .ok (.iconst 1, 1) := dk_4 (dk_at dksX0_tryOrder_4 8 rfl rfl)
theorem dX0_tryOrder_100 : decode cX0_tryOrder 100 = .ok (.goto 4, 3) := dk_167 0 4 (dk_at dksX0_tryOrder_4 9 rfl rfl)
theorem dX0_tryOrder_103 : decode cX0_tryOrder 103 = .ok (.iconst 0, 1) := dk_3 (dk_at dksX0_tryOrder_4 12 rfl rfl)
theorem dX0_tryOrder_104 : decode cX0_tryOrder 104 = .ok (.iadd, 1) := dk_96 (dk_at dksX0_tryOrder_4 13 rfl rfl)
theorem dX0_tryOrder_105 : decode cX0_tryOrder 105 = .ok (.putfield 248, 3) := dk_181 0 248 (dk_at dksX0_tryOrder_4 14 rfl rfl)
theorem dX0_tryOrder_108 : decode cX0_tryOrder 108 = .ok (.return_, 1) := dk_177 (dk_at dksX0_tryOrder_4 17 rfl rfl)
abbrev cX0_goodOf : ByteArray := prog_1_method_37_code
def yX0_goodOf : MethodName := ⟨RX0, "goodOf", "(I)I"⟩
def dkwX0_goodOf_2 : List UInt8 := [132, 3, 1, 167, 255, 209, 28, 172]
abbrev dktX0_goodOf_2 : List UInt8 := dkwX0_goodOf_2 ++ []
def dkwX0_goodOf_1 : List UInt8 := [4, 100, 46, 104, 42, 180, 0, 52, 29, 46, 96, 182, 0, 235, 153, 0, 7, 4, 167, 0, 4, 3, 96, 61]
abbrev dktX0_goodOf_1 : List UInt8 := dkwX0_goodOf_1 ++ dktX0_goodOf_2
def dkwX0_goodOf_0 : List UInt8 := [3, 61, 4, 62, 29, 27, 162, 0, 48, 28, 42, 180, 0, 18, 180, 0, 83, 16, 16, 42, 180, 0, 52, 29]
abbrev dktX0_goodOf_0 : List UInt8 := dkwX0_goodOf_0 ++ dktX0_goodOf_1
theorem dksX0_goodOf_0 : cX0_goodOf.data.toList.drop 0 = dktX0_goodOf_0 := by decide +kernel
theorem dksX0_goodOf_1 : cX0_goodOf.data.toList.drop 24 = dktX0_goodOf_1 := dk_seg dksX0_goodOf_0 24 rfl rfl
theorem dksX0_goodOf_2 : cX0_goodOf.data.toList.drop 48 = dktX0_goodOf_2 := dk_seg dksX0_goodOf_1 24 rfl rfl
theorem dX0_goodOf_0 : decode cX0_goodOf 0 = .ok (.iconst 0, 1) := dk_3 (dk_at dksX0_goodOf_0 0 rfl rfl)
theorem dX0_goodOf_1 : decode cX0_goodOf 1 = .ok (.istore_n 2, 1) := dk_61 (dk_at dksX0_goodOf_0 1 rfl rfl)
theorem dX0_goodOf_2 : decode cX0_goodOf 2 = .ok (.iconst 1, 1) := dk_4 (dk_at dksX0_goodOf_0 2 rfl rfl)
theorem dX0_goodOf_3 : decode cX0_goodOf 3 = .ok (.istore_n 3, 1) := dk_62 (dk_at dksX0_goodOf_0 3 rfl rfl)
theorem dX0_goodOf_4 : decode cX0_goodOf 4 = .ok (.iload_n 3, 1) := dk_29 (dk_at dksX0_goodOf_0 4 rfl rfl)
theorem dX0_goodOf_5 : decode cX0_goodOf 5 = .ok (.iload_n 1, 1) := dk_27 (dk_at dksX0_goodOf_0 5 rfl rfl)
theorem dX0_goodOf_6 : decode cX0_goodOf 6 = .ok (.if_icmp .ge 48, 3) := dk_162 0 48 (dk_at dksX0_goodOf_0 6 rfl rfl)
theorem dX0_goodOf_9 : decode cX0_goodOf 9 = .ok (.iload_n 2, 1) := dk_28 (dk_at dksX0_goodOf_0 9 rfl rfl)
theorem dX0_goodOf_10 : decode cX0_goodOf 10 = .ok (.aload_n 0, 1) := dk_42 (dk_at dksX0_goodOf_0 10 rfl rfl)
theorem dX0_goodOf_11 : decode cX0_goodOf 11 = .ok (.getfield 18, 3) := dk_180 0 18 (dk_at dksX0_goodOf_0 11 rfl rfl)
theorem dX0_goodOf_14 : decode cX0_goodOf 14 = .ok (.getfield 83, 3) := dk_180 0 83 (dk_at dksX0_goodOf_0 14 rfl rfl)
theorem dX0_goodOf_17 : decode cX0_goodOf 17 = .ok (.bipush 16, 2) := dk_16 16 (dk_at dksX0_goodOf_0 17 rfl rfl)
theorem dX0_goodOf_19 : decode cX0_goodOf 19 = .ok (.aload_n 0, 1) := dk_42 (dk_at dksX0_goodOf_0 19 rfl rfl)
theorem dX0_goodOf_20 : decode cX0_goodOf 20 = .ok (.getfield 52, 3) := dk_180 0 52 (dk_at dksX0_goodOf_0 20 rfl rfl)
theorem dX0_goodOf_23 : decode cX0_goodOf 23 = .ok (.iload_n 3, 1) := dk_29 (dk_at dksX0_goodOf_0 23 rfl rfl)
theorem dX0_goodOf_24 : decode cX0_goodOf 24 = .ok (.iconst 1, 1) := dk_4 (dk_at dksX0_goodOf_1 0 rfl rfl)
theorem dX0_goodOf_25 : decode cX0_goodOf 25 = .ok (.isub, 1) := dk_100 (dk_at dksX0_goodOf_1 1 rfl rfl)
theorem dX0_goodOf_26 : decode cX0_goodOf 26 = .ok (.iaload, 1) := dk_46 (dk_at dksX0_goodOf_1 2 rfl rfl)
theorem dX0_goodOf_27 : decode cX0_goodOf 27 = .ok (.imul, 1) := dk_104 (dk_at dksX0_goodOf_1 3 rfl rfl)
theorem dX0_goodOf_28 : decode cX0_goodOf 28 = .ok (.aload_n 0, 1) := dk_42 (dk_at dksX0_goodOf_1 4 rfl rfl)
theorem dX0_goodOf_29 : decode cX0_goodOf 29 = .ok (.getfield 52, 3) := dk_180 0 52 (dk_at dksX0_goodOf_1 5 rfl rfl)
theorem dX0_goodOf_32 : decode cX0_goodOf 32 = .ok (.iload_n 3, 1) := dk_29 (dk_at dksX0_goodOf_1 8 rfl rfl)
theorem dX0_goodOf_33 : decode cX0_goodOf 33 = .ok (.iaload, 1) := dk_46 (dk_at dksX0_goodOf_1 9 rfl rfl)
theorem dX0_goodOf_34 : decode cX0_goodOf 34 = .ok (.iadd, 1) := dk_96 (dk_at dksX0_goodOf_1 10 rfl rfl)
theorem dX0_goodOf_35 : decode cX0_goodOf 35 = .ok (.invokevirtual 235, 3) := dk_182 0 235 (dk_at dksX0_goodOf_1 11 rfl rfl)
theorem dX0_goodOf_38 : decode cX0_goodOf 38 = .ok (.ifCond .eq 7, 3) := dk_153 0 7 (dk_at dksX0_goodOf_1 14 rfl rfl)
theorem dX0_goodOf_41 : decode cX0_goodOf 41 = .ok (.iconst 1, 1) := dk_4 (dk_at dksX0_goodOf_1 17 rfl rfl)
theorem dX0_goodOf_42 : decode cX0_goodOf 42 = .ok (.goto 4, 3) := dk_167 0 4 (dk_at dksX0_goodOf_1 18 rfl rfl)
theorem dX0_goodOf_45 : decode cX0_goodOf 45 = .ok (.iconst 0, 1) := dk_3 (dk_at dksX0_goodOf_1 21 rfl rfl)
theorem dX0_goodOf_46 : decode cX0_goodOf 46 = .ok (.iadd, 1) := dk_96 (dk_at dksX0_goodOf_1 22 rfl rfl)
theorem dX0_goodOf_47 : decode cX0_goodOf 47 = .ok (.istore_n 2, 1) := dk_61 (dk_at dksX0_goodOf_1 23 rfl rfl)
theorem dX0_goodOf_48 : decode cX0_goodOf 48 = .ok (.iinc 3 1, 3) := dk_132 3 1 (dk_at dksX0_goodOf_2 0 rfl rfl)
theorem dX0_goodOf_51 : decode cX0_goodOf 51 = .ok (.goto (-47), 3) := dk_167 255 209 (dk_at dksX0_goodOf_2 3 rfl rfl)
theorem dX0_goodOf_54 : decode cX0_goodOf 54 = .ok (.iload_n 2, 1) := dk_28 (dk_at dksX0_goodOf_2 6 rfl rfl)
theorem dX0_goodOf_55 : decode cX0_goodOf 55 = .ok (.ireturn, 1) := dk_172 (dk_at dksX0_goodOf_2 7 rfl rfl)
abbrev cX0_climb : ByteArray := prog_1_method_42_code
def yX0_climb : MethodName := ⟨RX0, "climb", "(III)I"⟩
def dkwX0_climb_8 : List UInt8 := [16, 254, 160, 0, 8, 21, 7, 167, 0, 7, 25, 4, 29, 46, 172]
abbrev dktX0_climb_8 : List UInt8 := dkwX0_climb_8 ++ []
def dkwX0_climb_7 : List UInt8 := [21, 10, 54, 6, 132, 7, 1, 132, 9, 1, 167, 255, 170, 29, 2, 160, 0, 8, 21, 6, 167, 0, 18, 29]
abbrev dktX0_climb_7 : List UInt8 := dkwX0_climb_7 ++ dktX0_climb_8
def dkwX0_climb_6 : List UInt8 := [162, 0, 24, 25, 4, 21, 8, 16, 16, 112, 21, 8, 16, 16, 108, 16, 16, 112, 184, 1, 19, 167, 0, 10]
abbrev dktX0_climb_6 : List UInt8 := dkwX0_climb_6 ++ dktX0_climb_7
def dkwX0_climb_5 : List UInt8 := [16, 16, 108, 16, 16, 112, 184, 1, 19, 42, 25, 4, 25, 5, 182, 1, 14, 54, 10, 21, 10, 21, 6]
abbrev dktX0_climb_5 : List UInt8 := dkwX0_climb_5 ++ dktX0_climb_6
def dkwX0_climb_4 : List UInt8 := [16, 75, 21, 8, 104, 16, 74, 96, 19, 1, 18, 112, 54, 8, 25, 4, 21, 8, 16, 16, 112, 21, 8]
abbrev dktX0_climb_4 : List UInt8 := dkwX0_climb_4 ++ dktX0_climb_5
def dkwX0_climb_3 : List UInt8 := [25, 4, 25, 5, 182, 1, 14, 54, 6, 3, 54, 7, 27, 54, 8, 3, 54, 9, 21, 9, 28, 162, 0, 86]
abbrev dktX0_climb_3 : List UInt8 := dkwX0_climb_3 ++ dktX0_climb_4
def dkwX0_climb_2 : List UInt8 := [190, 5, 112, 4, 160, 0, 6, 16, 253, 172, 42, 182, 0, 137, 58, 4, 16, 16, 188, 10, 58, 5, 42]
abbrev dktX0_climb_2 : List UInt8 := dkwX0_climb_2 ++ dktX0_climb_3
def dkwX0_climb_1 : List UInt8 := [29, 133, 20, 1, 8, 20, 0, 7, 184, 0, 1, 154, 0, 6, 16, 254, 172, 42, 180, 0, 18, 180, 0, 72]
abbrev dktX0_climb_1 : List UInt8 := dkwX0_climb_1 ++ dktX0_climb_2
def dkwX0_climb_0 : List UInt8 := [27, 133, 9, 20, 1, 10, 184, 0, 1, 153, 0, 29, 28, 133, 9, 20, 1, 12, 184, 0, 1, 153, 0, 17]
abbrev dktX0_climb_0 : List UInt8 := dkwX0_climb_0 ++ dktX0_climb_1
theorem dksX0_climb_0 : cX0_climb.data.toList.drop 0 = dktX0_climb_0 := by decide +kernel
theorem dksX0_climb_1 : cX0_climb.data.toList.drop 24 = dktX0_climb_1 := dk_seg dksX0_climb_0 24 rfl rfl
theorem dksX0_climb_2 : cX0_climb.data.toList.drop 48 = dktX0_climb_2 := dk_seg dksX0_climb_1 24 rfl rfl
theorem dksX0_climb_3 : cX0_climb.data.toList.drop 71 = dktX0_climb_3 := dk_seg dksX0_climb_2 23 rfl rfl
theorem dksX0_climb_4 : cX0_climb.data.toList.drop 95 = dktX0_climb_4 := dk_seg dksX0_climb_3 24 rfl rfl
theorem dksX0_climb_5 : cX0_climb.data.toList.drop 118 = dktX0_climb_5 := dk_seg dksX0_climb_4 23 rfl rfl
theorem dksX0_climb_6 : cX0_climb.data.toList.drop 141 = dktX0_climb_6 := dk_seg dksX0_climb_5 23 rfl rfl
theorem dksX0_climb_7 : cX0_climb.data.toList.drop 165 = dktX0_climb_7 := dk_seg dksX0_climb_6 24 rfl rfl
theorem dksX0_climb_8 : cX0_climb.data.toList.drop 189 = dktX0_climb_8 := dk_seg dksX0_climb_7 24 rfl rfl
theorem dX0_climb_0 : decode cX0_climb 0 = .ok (.iload_n 1, 1) := dk_27 (dk_at dksX0_climb_0 0 rfl rfl)
theorem dX0_climb_1 : decode cX0_climb 1 = .ok (.i2l, 1) := dk_133 (dk_at dksX0_climb_0 1 rfl rfl)
theorem dX0_climb_2 : decode cX0_climb 2 = .ok (.lconst 0, 1) := dk_9 (dk_at dksX0_climb_0 2 rfl rfl)
theorem dX0_climb_3 : decode cX0_climb 3 = .ok (.ldc2_w 266, 3) := dk_20 1 10 (dk_at dksX0_climb_0 3 rfl rfl)
theorem dX0_climb_6 : decode cX0_climb 6 = .ok (.invokestatic 1, 3) := dk_184 0 1 (dk_at dksX0_climb_0 6 rfl rfl)
theorem dX0_climb_9 : decode cX0_climb 9 = .ok (.ifCond .eq 29, 3) := dk_153 0 29 (dk_at dksX0_climb_0 9 rfl rfl)
theorem dX0_climb_12 : decode cX0_climb 12 = .ok (.iload_n 2, 1) := dk_28 (dk_at dksX0_climb_0 12 rfl rfl)
theorem dX0_climb_13 : decode cX0_climb 13 = .ok (.i2l, 1) := dk_133 (dk_at dksX0_climb_0 13 rfl rfl)
theorem dX0_climb_14 : decode cX0_climb 14 = .ok (.lconst 0, 1) := dk_9 (dk_at dksX0_climb_0 14 rfl rfl)
theorem dX0_climb_15 : decode cX0_climb 15 = .ok (.ldc2_w 268, 3) := dk_20 1 12 (dk_at dksX0_climb_0 15 rfl rfl)
theorem dX0_climb_18 : decode cX0_climb 18 = .ok (.invokestatic 1, 3) := dk_184 0 1 (dk_at dksX0_climb_0 18 rfl rfl)
theorem dX0_climb_21 : decode cX0_climb 21 = .ok (.ifCond .eq 17, 3) := dk_153 0 17 (dk_at dksX0_climb_0 21 rfl rfl)
theorem dX0_climb_24 : decode cX0_climb 24 = .ok (.iload_n 3, 1) := dk_29 (dk_at dksX0_climb_1 0 rfl rfl)
theorem dX0_climb_25 : decode cX0_climb 25 = .ok (.i2l, 1) := dk_133 (dk_at dksX0_climb_1 1 rfl rfl)
theorem dX0_climb_26 : decode cX0_climb 26 = .ok (.ldc2_w 264, 3) := dk_20 1 8 (dk_at dksX0_climb_1 2 rfl rfl)
theorem dX0_climb_29 : decode cX0_climb 29 = .ok (.ldc2_w 7, 3) := dk_20 0 7 (dk_at dksX0_climb_1 5 rfl rfl)
theorem dX0_climb_32 : decode cX0_climb 32 = .ok (.invokestatic 1, 3) := dk_184 0 1 (dk_at dksX0_climb_1 8 rfl rfl)
theorem dX0_climb_35 : decode cX0_climb 35 = .ok (.ifCond .ne 6, 3) := dk_154 0 6 (dk_at dksX0_climb_1 11 rfl rfl)
theorem dX0_climb_38 : decode cX0_climb 38 = .ok (.bipush (-2), 2) := dk_16 254 (dk_at dksX0_climb_1 14 rfl rfl)
theorem dX0_climb_40 : decode cX0_climb 40 = .ok (.ireturn, 1) := dk_172 (dk_at dksX0_climb_1 16 rfl rfl)
theorem dX0_climb_41 : decode cX0_climb 41 = .ok (.aload_n 0, 1) := dk_42 (dk_at dksX0_climb_1 17 rfl rfl)
theorem dX0_climb_42 : decode cX0_climb 42 = .ok (.getfield 18, 3) := dk_180 0 18 (dk_at dksX0_climb_1 18 rfl rfl)
theorem dX0_climb_45 : decode cX0_climb 45 = .ok (.getfield 72, 3) := dk_180 0 72 (dk_at dksX0_climb_1 21 rfl rfl)
theorem dX0_climb_48 : decode cX0_climb 48 = .ok (.arraylength, 1) := dk_190 (dk_at dksX0_climb_2 0 rfl rfl)
theorem dX0_climb_49 : decode cX0_climb 49 = .ok (.iconst 2, 1) := dk_5 (dk_at dksX0_climb_2 1 rfl rfl)
theorem dX0_climb_50 : decode cX0_climb 50 = .ok (.irem, 1) := dk_112 (dk_at dksX0_climb_2 2 rfl rfl)
theorem dX0_climb_51 : decode cX0_climb 51 = .ok (.iconst 1, 1) := dk_4 (dk_at dksX0_climb_2 3 rfl rfl)
theorem dX0_climb_52 : decode cX0_climb 52 = .ok (.if_icmp .ne 6, 3) := dk_160 0 6 (dk_at dksX0_climb_2 4 rfl rfl)
theorem dX0_climb_55 : decode cX0_climb 55 = .ok (.bipush (-3), 2) := dk_16 253 (dk_at dksX0_climb_2 7 rfl rfl)
theorem dX0_climb_57 : decode cX0_climb 57 = .ok (.ireturn, 1) := dk_172 (dk_at dksX0_climb_2 9 rfl rfl)
theorem dX0_climb_58 : decode cX0_climb 58 = .ok (.aload_n 0, 1) := dk_42 (dk_at dksX0_climb_2 10 rfl rfl)
theorem dX0_climb_59 : decode cX0_climb 59 = .ok (.invokevirtual 137, 3) := dk_182 0 137 (dk_at dksX0_climb_2 11 rfl rfl)
theorem dX0_climb_62 : decode cX0_climb 62 = .ok (.astore 4, 2) := dk_58 4 (dk_at dksX0_climb_2 14 rfl rfl)
theorem dX0_climb_64 : decode cX0_climb 64 = .ok (.bipush 16, 2) := dk_16 16 (dk_at dksX0_climb_2 16 rfl rfl)
theorem dX0_climb_66 : decode cX0_climb 66 = .ok (.newarray .int, 2) := dk_188_10 (dk_at dksX0_climb_2 18 rfl rfl)
theorem dX0_climb_68 : decode cX0_climb 68 = .ok (.astore 5, 2) := dk_58 5 (dk_at dksX0_climb_2 20 rfl rfl)
theorem dX0_climb_70 : decode cX0_climb 70 = .ok (.aload_n 0, 1) := dk_42 (dk_at dksX0_climb_2 22 rfl rfl)
theorem dX0_climb_71 : decode cX0_climb 71 = .ok (.aload 4, 2) := dk_25 4 (dk_at dksX0_climb_3 0 rfl rfl)
theorem dX0_climb_73 : decode cX0_climb 73 = .ok (.aload 5, 2) := dk_25 5 (dk_at dksX0_climb_3 2 rfl rfl)
theorem dX0_climb_75 : decode cX0_climb 75 = .ok (.invokevirtual 270, 3) := dk_182 1 14 (dk_at dksX0_climb_3 4 rfl rfl)
theorem dX0_climb_78 : decode cX0_climb 78 = .ok (.istore 6, 2) := dk_54 6 (dk_at dksX0_climb_3 7 rfl rfl)
theorem dX0_climb_80 : decode cX0_climb 80 = .ok (.iconst 0, 1) := dk_3 (dk_at dksX0_climb_3 9 rfl rfl)
theorem dX0_climb_81 : decode cX0_climb 81 = .ok (.istore 7, 2) := dk_54 7 (dk_at dksX0_climb_3 10 rfl rfl)
theorem dX0_climb_83 : decode cX0_climb 83 = .ok (.iload_n 1, 1) := dk_27 (dk_at dksX0_climb_3 12 rfl rfl)
theorem dX0_climb_84 : decode cX0_climb 84 = .ok (.istore 8, 2) := dk_54 8 (dk_at dksX0_climb_3 13 rfl rfl)
theorem dX0_climb_86 : decode cX0_climb 86 = .ok (.iconst 0, 1) := dk_3 (dk_at dksX0_climb_3 15 rfl rfl)
theorem dX0_climb_87 : decode cX0_climb 87 = .ok (.istore 9, 2) := dk_54 9 (dk_at dksX0_climb_3 16 rfl rfl)
theorem dX0_climb_89 : decode cX0_climb 89 = .ok (.iload 9, 2) := dk_21 9 (dk_at dksX0_climb_3 18 rfl rfl)
theorem dX0_climb_91 : decode cX0_climb 91 = .ok (.iload_n 2, 1) := dk_28 (dk_at dksX0_climb_3 20 rfl rfl)
theorem dX0_climb_92 : decode cX0_climb 92 = .ok (.if_icmp .ge 86, 3) := dk_162 0 86 (dk_at dksX0_climb_3 21 rfl rfl)
theorem dX0_climb_95 : decode cX0_climb 95 = .ok (.bipush 75, 2) := dk_16 75 (dk_at dksX0_climb_4 0 rfl rfl)
theorem dX0_climb_97 : decode cX0_climb 97 = .ok (.iload 8, 2) := dk_21 8 (dk_at dksX0_climb_4 2 rfl rfl)
theorem dX0_climb_99 : decode cX0_climb 99 = .ok (.imul, 1) := dk_104 (dk_at dksX0_climb_4 4 rfl rfl)
theorem dX0_climb_100 : decode cX0_climb 100 = .ok (.bipush 74, 2) := dk_16 74 (dk_at dksX0_climb_4 5 rfl rfl)
theorem dX0_climb_102 : decode cX0_climb 102 = .ok (.iadd, 1) := dk_96 (dk_at dksX0_climb_4 7 rfl rfl)
theorem dX0_climb_103 : decode cX0_climb 103 = .ok (.ldc_w 274, 3) := dk_19 1 18 (dk_at dksX0_climb_4 8 rfl rfl)
theorem dX0_climb_106 : decode cX0_climb 106 = .ok (.irem, 1) := dk_112 (dk_at dksX0_climb_4 11 rfl rfl)
theorem dX0_climb_107 : decode cX0_climb 107 = .ok (.istore 8, 2) := dk_54 8 (dk_at dksX0_climb_4 12 rfl rfl)
theorem dX0_climb_109 : decode cX0_climb 109 = .ok (.aload 4, 2) := dk_25 4 (dk_at dksX0_climb_4 14 rfl rfl)
theorem dX0_climb_111 : decode cX0_climb 111 = .ok (.iload 8, 2) := dk_21 8 (dk_at dksX0_climb_4 16 rfl rfl)
theorem dX0_climb_113 : decode cX0_climb 113 = .ok (.bipush 16, 2) := dk_16 16 (dk_at dksX0_climb_4 18 rfl rfl)
theorem dX0_climb_115 : decode cX0_climb 115 = .ok (.irem, 1) := dk_112 (dk_at dksX0_climb_4 20 rfl rfl)
theorem dX0_climb_116 : decode cX0_climb 116 = .ok (.iload 8, 2) := dk_21 8 (dk_at dksX0_climb_4 21 rfl rfl)
theorem dX0_climb_118 : decode cX0_climb 118 = .ok (.bipush 16, 2) := dk_16 16 (dk_at dksX0_climb_5 0 rfl rfl)
theorem dX0_climb_120 : decode cX0_climb 120 = .ok (.idiv, 1) := dk_108 (dk_at dksX0_climb_5 2 rfl rfl)
theorem dX0_climb_121 : decode cX0_climb 121 = .ok (.bipush 16, 2) := dk_16 16 (dk_at dksX0_climb_5 3 rfl rfl)
theorem dX0_climb_123 : decode cX0_climb 123 = .ok (.irem, 1) := dk_112 (dk_at dksX0_climb_5 5 rfl rfl)
theorem dX0_climb_124 : decode cX0_climb 124 = .ok (.invokestatic 275, 3) := dk_184 1 19 (dk_at dksX0_climb_5 6 rfl rfl)
theorem dX0_climb_127 : decode cX0_climb 127 = .ok (.aload_n 0, 1) := dk_42 (dk_at dksX0_climb_5 9 rfl rfl)
theorem dX0_climb_128 : decode cX0_climb 128 = .ok (.aload 4, 2) := dk_25 4 (dk_at dksX0_climb_5 10 rfl rfl)
theorem dX0_climb_130 : decode cX0_climb 130 = .ok (.aload 5, 2) := dk_25 5 (dk_at dksX0_climb_5 12 rfl rfl)
theorem dX0_climb_132 : decode cX0_climb 132 = .ok (.invokevirtual 270, 3) := dk_182 1 14 (dk_at dksX0_climb_5 14 rfl rfl)
theorem dX0_climb_135 : decode cX0_climb 135 = .ok (.istore 10, 2) := dk_54 10 (dk_at dksX0_climb_5 17 rfl rfl)
theorem dX0_climb_137 : decode cX0_climb 137 = .ok (.iload 10, 2) := dk_21 10 (dk_at dksX0_climb_5 19 rfl rfl)
theorem dX0_climb_139 : decode cX0_climb 139 = .ok (.iload 6, 2) := dk_21 6 (dk_at dksX0_climb_5 21 rfl rfl)
theorem dX0_climb_141 : decode cX0_climb 141 = .ok (.if_icmp .ge 24, 3) := dk_162 0 24 (dk_at dksX0_climb_6 0 rfl rfl)
theorem dX0_climb_144 : decode cX0_climb 144 = .ok (.aload 4, 2) := dk_25 4 (dk_at dksX0_climb_6 3 rfl rfl)
theorem dX0_climb_146 : decode cX0_climb 146 = .ok (.iload 8, 2) := dk_21 8 (dk_at dksX0_climb_6 5 rfl rfl)
theorem dX0_climb_148 : decode cX0_climb 148 = .ok (.bipush 16, 2) := dk_16 16 (dk_at dksX0_climb_6 7 rfl rfl)
theorem dX0_climb_150 : decode cX0_climb 150 = .ok (.irem, 1) := dk_112 (dk_at dksX0_climb_6 9 rfl rfl)
theorem dX0_climb_151 : decode cX0_climb 151 = .ok (.iload 8, 2) := dk_21 8 (dk_at dksX0_climb_6 10 rfl rfl)
theorem dX0_climb_153 : decode cX0_climb 153 = .ok (.bipush 16, 2) := dk_16 16 (dk_at dksX0_climb_6 12 rfl rfl)
theorem dX0_climb_155 : decode cX0_climb 155 = .ok (.idiv, 1) := dk_108 (dk_at dksX0_climb_6 14 rfl rfl)
theorem dX0_climb_156 : decode cX0_climb 156 = .ok (.bipush 16, 2) := dk_16 16 (dk_at dksX0_climb_6 15 rfl rfl)
theorem dX0_climb_158 : decode cX0_climb 158 = .ok (.irem, 1) := dk_112 (dk_at dksX0_climb_6 17 rfl rfl)
theorem dX0_climb_159 : decode cX0_climb 159 = .ok (.invokestatic 275, 3) := dk_184 1 19 (dk_at dksX0_climb_6 18 rfl rfl)
theorem dX0_climb_162 : decode cX0_climb 162 = .ok (.goto 10, 3) := dk_167 0 10 (dk_at dksX0_climb_6 21 rfl rfl)
theorem dX0_climb_165 : decode cX0_climb 165 = .ok (.iload 10, 2) := dk_21 10 (dk_at dksX0_climb_7 0 rfl rfl)
theorem dX0_climb_167 : decode cX0_climb 167 = .ok (.istore 6, 2) := dk_54 6 (dk_at dksX0_climb_7 2 rfl rfl)
theorem dX0_climb_169 : decode cX0_climb 169 = .ok (.iinc 7 1, 3) := dk_132 7 1 (dk_at dksX0_climb_7 4 rfl rfl)
theorem dX0_climb_172 : decode cX0_climb 172 = .ok (.iinc 9 1, 3) := dk_132 9 1 (dk_at dksX0_climb_7 7 rfl rfl)
theorem dX0_climb_175 : decode cX0_climb 175 = .ok (.goto (-86), 3) := dk_167 255 170 (dk_at dksX0_climb_7 10 rfl rfl)
theorem dX0_climb_178 : decode cX0_climb 178 = .ok (.iload_n 3, 1) := dk_29 (dk_at dksX0_climb_7 13 rfl rfl)
theorem dX0_climb_179 : decode cX0_climb 179 = .ok (.iconst (-1), 1) := dk_2 (dk_at dksX0_climb_7 14 rfl rfl)
theorem dX0_climb_180 : decode cX0_climb 180 = .ok (.if_icmp .ne 8, 3) := dk_160 0 8 (dk_at dksX0_climb_7 15 rfl rfl)
theorem dX0_climb_183 : decode cX0_climb 183 = .ok (.iload 6, 2) := dk_21 6 (dk_at dksX0_climb_7 18 rfl rfl)
theorem dX0_climb_185 : decode cX0_climb 185 = .ok (.goto 18, 3) := dk_167 0 18 (dk_at dksX0_climb_7 20 rfl rfl)
theorem dX0_climb_188 : decode cX0_climb 188 = .ok (.iload_n 3, 1) := dk_29 (dk_at dksX0_climb_7 23 rfl rfl)
theorem dX0_climb_189 : decode cX0_climb 189 = .ok (.bipush (-2), 2) := dk_16 254 (dk_at dksX0_climb_8 0 rfl rfl)
theorem dX0_climb_191 : decode cX0_climb 191 = .ok (.if_icmp .ne 8, 3) := dk_160 0 8 (dk_at dksX0_climb_8 2 rfl rfl)
theorem dX0_climb_194 : decode cX0_climb 194 = .ok (.iload 7, 2) := dk_21 7 (dk_at dksX0_climb_8 5 rfl rfl)
theorem dX0_climb_196 : decode cX0_climb 196 = .ok (.goto 7, 3) := dk_167 0 7 (dk_at dksX0_climb_8 7 rfl rfl)
theorem dX0_climb_199 : decode cX0_climb 199 = .ok (.aload 4, 2) := dk_25 4 (dk_at dksX0_climb_8 10 rfl rfl)
theorem dX0_climb_201 : decode cX0_climb 201 = .ok (.iload_n 3, 1) := dk_29 (dk_at dksX0_climb_8 12 rfl rfl)
theorem dX0_climb_202 : decode cX0_climb 202 = .ok (.iaload, 1) := dk_46 (dk_at dksX0_climb_8 13 rfl rfl)
theorem dX0_climb_203 : decode cX0_climb 203 = .ok (.ireturn, 1) := dk_172 (dk_at dksX0_climb_8 14 rfl rfl)
abbrev cX0_goodBy : ByteArray := prog_1_method_41_code
def yX0_goodBy : MethodName := ⟨RX0, "goodBy", "([I[I)I"⟩
def dkwX0_goodBy_2 : List UInt8 := [182, 0, 242, 172]
abbrev dktX0_goodBy_2 : List UInt8 := dkwX0_goodBy_2 ++ []
def dkwX0_goodBy_1 : List UInt8 := [180, 0, 18, 180, 0, 72, 42, 180, 0, 52, 2, 184, 0, 154, 42, 42, 180, 0, 18, 180, 0, 72, 190]
abbrev dktX0_goodBy_1 : List UInt8 := dkwX0_goodBy_1 ++ dktX0_goodBy_2
def dkwX0_goodBy_0 : List UInt8 := [3, 62, 29, 16, 16, 162, 0, 15, 44, 43, 29, 46, 29, 79, 132, 3, 1, 167, 255, 241, 43, 44, 42]
abbrev dktX0_goodBy_0 : List UInt8 := dkwX0_goodBy_0 ++ dktX0_goodBy_1
theorem dksX0_goodBy_0 : cX0_goodBy.data.toList.drop 0 = dktX0_goodBy_0 := by decide +kernel
theorem dksX0_goodBy_1 : cX0_goodBy.data.toList.drop 23 = dktX0_goodBy_1 := dk_seg dksX0_goodBy_0 23 rfl rfl
theorem dksX0_goodBy_2 : cX0_goodBy.data.toList.drop 46 = dktX0_goodBy_2 := dk_seg dksX0_goodBy_1 23 rfl rfl
theorem dX0_goodBy_0 : decode cX0_goodBy 0 = .ok (.iconst 0, 1) := dk_3 (dk_at dksX0_goodBy_0 0 rfl rfl)
theorem dX0_goodBy_1 : decode cX0_goodBy 1 = .ok (.istore_n 3, 1) := dk_62 (dk_at dksX0_goodBy_0 1 rfl rfl)
theorem dX0_goodBy_2 : decode cX0_goodBy 2 = .ok (.iload_n 3, 1) := dk_29 (dk_at dksX0_goodBy_0 2 rfl rfl)
theorem dX0_goodBy_3 : decode cX0_goodBy 3 = .ok (.bipush 16, 2) := dk_16 16 (dk_at dksX0_goodBy_0 3 rfl rfl)
theorem dX0_goodBy_5 : decode cX0_goodBy 5 = .ok (.if_icmp .ge 15, 3) := dk_162 0 15 (dk_at dksX0_goodBy_0 5 rfl rfl)
theorem dX0_goodBy_8 : decode cX0_goodBy 8 = .ok (.aload_n 2, 1) := dk_44 (dk_at dksX0_goodBy_0 8 rfl rfl)
theorem dX0_goodBy_9 : decode cX0_goodBy 9 = .ok (.aload_n 1, 1) := dk_43 (dk_at dksX0_goodBy_0 9 rfl rfl)
theorem dX0_goodBy_10 : decode cX0_goodBy 10 = .ok (.iload_n 3, 1) := dk_29 (dk_at dksX0_goodBy_0 10 rfl rfl)
theorem dX0_goodBy_11 : decode cX0_goodBy 11 = .ok (.iaload, 1) := dk_46 (dk_at dksX0_goodBy_0 11 rfl rfl)
theorem dX0_goodBy_12 : decode cX0_goodBy 12 = .ok (.iload_n 3, 1) := dk_29 (dk_at dksX0_goodBy_0 12 rfl rfl)
theorem dX0_goodBy_13 : decode cX0_goodBy 13 = .ok (.iastore, 1) := dk_79 (dk_at dksX0_goodBy_0 13 rfl rfl)
theorem dX0_goodBy_14 : decode cX0_goodBy 14 = .ok (.iinc 3 1, 3) := dk_132 3 1 (dk_at dksX0_goodBy_0 14 rfl rfl)
theorem dX0_goodBy_17 : decode cX0_goodBy 17 = .ok (.goto (-15), 3) := dk_167 255 241 (dk_at dksX0_goodBy_0 17 rfl rfl)
theorem dX0_goodBy_20 : decode cX0_goodBy 20 = .ok (.aload_n 1, 1) := dk_43 (dk_at dksX0_goodBy_0 20 rfl rfl)
theorem dX0_goodBy_21 : decode cX0_goodBy 21 = .ok (.aload_n 2, 1) := dk_44 (dk_at dksX0_goodBy_0 21 rfl rfl)
theorem dX0_goodBy_22 : decode cX0_goodBy 22 = .ok (.aload_n 0, 1) := dk_42 (dk_at dksX0_goodBy_0 22 rfl rfl)
theorem dX0_goodBy_23 : decode cX0_goodBy 23 = .ok (.getfield 18, 3) := dk_180 0 18 (dk_at dksX0_goodBy_1 0 rfl rfl)
theorem dX0_goodBy_26 : decode cX0_goodBy 26 = .ok (.getfield 72, 3) := dk_180 0 72 (dk_at dksX0_goodBy_1 3 rfl rfl)
theorem dX0_goodBy_29 : decode cX0_goodBy 29 = .ok (.aload_n 0, 1) := dk_42 (dk_at dksX0_goodBy_1 6 rfl rfl)
theorem dX0_goodBy_30 : decode cX0_goodBy 30 = .ok (.getfield 52, 3) := dk_180 0 52 (dk_at dksX0_goodBy_1 7 rfl rfl)
theorem dX0_goodBy_33 : decode cX0_goodBy 33 = .ok (.iconst (-1), 1) := dk_2 (dk_at dksX0_goodBy_1 10 rfl rfl)
theorem dX0_goodBy_34 : decode cX0_goodBy 34 = .ok (.invokestatic 154, 3) := dk_184 0 154 (dk_at dksX0_goodBy_1 11 rfl rfl)
theorem dX0_goodBy_37 : decode cX0_goodBy 37 = .ok (.aload_n 0, 1) := dk_42 (dk_at dksX0_goodBy_1 14 rfl rfl)
theorem dX0_goodBy_38 : decode cX0_goodBy 38 = .ok (.aload_n 0, 1) := dk_42 (dk_at dksX0_goodBy_1 15 rfl rfl)
theorem dX0_goodBy_39 : decode cX0_goodBy 39 = .ok (.getfield 18, 3) := dk_180 0 18 (dk_at dksX0_goodBy_1 16 rfl rfl)
theorem dX0_goodBy_42 : decode cX0_goodBy 42 = .ok (.getfield 72, 3) := dk_180 0 72 (dk_at dksX0_goodBy_1 19 rfl rfl)
theorem dX0_goodBy_45 : decode cX0_goodBy 45 = .ok (.arraylength, 1) := dk_190 (dk_at dksX0_goodBy_1 22 rfl rfl)
theorem dX0_goodBy_46 : decode cX0_goodBy 46 = .ok (.invokevirtual 242, 3) := dk_182 0 242 (dk_at dksX0_goodBy_2 0 rfl rfl)
theorem dX0_goodBy_49 : decode cX0_goodBy 49 = .ok (.ireturn, 1) := dk_172 (dk_at dksX0_goodBy_2 3 rfl rfl)
abbrev cX0_exchange : ByteArray := prog_1_method_40_code
def yX0_exchange : MethodName := ⟨RX0, "exchange", "([III)V"⟩
def dkwX0_exchange_0 : List UInt8 := [42, 27, 46, 62, 42, 27, 42, 28, 46, 79, 42, 28, 29, 79, 177]
abbrev dktX0_exchange_0 : List UInt8 := dkwX0_exchange_0 ++ []
theorem dksX0_exchange_0 : cX0_exchange.data.toList.drop 0 = dktX0_exchange_0 := by decide +kernel
theorem dX0_exchange_0 : decode cX0_exchange 0 = .ok (.aload_n 0, 1) := dk_42 (dk_at dksX0_exchange_0 0 rfl rfl)
theorem dX0_exchange_1 : decode cX0_exchange 1 = .ok (.iload_n 1, 1) := dk_27 (dk_at dksX0_exchange_0 1 rfl rfl)
theorem dX0_exchange_2 : decode cX0_exchange 2 = .ok (.iaload, 1) := dk_46 (dk_at dksX0_exchange_0 2 rfl rfl)
theorem dX0_exchange_3 : decode cX0_exchange 3 = .ok (.istore_n 3, 1) := dk_62 (dk_at dksX0_exchange_0 3 rfl rfl)
theorem dX0_exchange_4 : decode cX0_exchange 4 = .ok (.aload_n 0, 1) := dk_42 (dk_at dksX0_exchange_0 4 rfl rfl)
theorem dX0_exchange_5 : decode cX0_exchange 5 = .ok (.iload_n 1, 1) := dk_27 (dk_at dksX0_exchange_0 5 rfl rfl)
theorem dX0_exchange_6 : decode cX0_exchange 6 = .ok (.aload_n 0, 1) := dk_42 (dk_at dksX0_exchange_0 6 rfl rfl)
theorem dX0_exchange_7 : decode cX0_exchange 7 = .ok (.iload_n 2, 1) := dk_28 (dk_at dksX0_exchange_0 7 rfl rfl)
theorem dX0_exchange_8 : decode cX0_exchange 8 = .ok (.iaload, 1) := dk_46 (dk_at dksX0_exchange_0 8 rfl rfl)
theorem dX0_exchange_9 : decode cX0_exchange 9 = .ok (.iastore, 1) := dk_79 (dk_at dksX0_exchange_0 9 rfl rfl)
theorem dX0_exchange_10 : decode cX0_exchange 10 = .ok (.aload_n 0, 1) := dk_42 (dk_at dksX0_exchange_0 10 rfl rfl)
theorem dX0_exchange_11 : decode cX0_exchange 11 = .ok (.iload_n 2, 1) := dk_28 (dk_at dksX0_exchange_0 11 rfl rfl)
theorem dX0_exchange_12 : decode cX0_exchange 12 = .ok (.iload_n 3, 1) := dk_29 (dk_at dksX0_exchange_0 12 rfl rfl)
theorem dX0_exchange_13 : decode cX0_exchange 13 = .ok (.iastore, 1) := dk_79 (dk_at dksX0_exchange_0 13 rfl rfl)
theorem dX0_exchange_14 : decode cX0_exchange 14 = .ok (.return_, 1) := dk_177 (dk_at dksX0_exchange_0 14 rfl rfl)
abbrev cX0_image : ByteArray := prog_1_method_43_code
def yX0_image : MethodName := ⟨RX0, "image", "(I)I"⟩
def dkwX0_image_1 : List UInt8 := [180, 0, 18, 182, 1, 25, 42, 180, 0, 37, 27, 182, 1, 29, 4, 172]
abbrev dktX0_image_1 : List UInt8 := dkwX0_image_1 ++ []
def dkwX0_image_0 : List UInt8 := [27, 184, 0, 63, 154, 0, 6, 16, 254, 172, 42, 180, 0, 28, 27, 185, 1, 22, 2, 0, 192, 0, 15, 42]
abbrev dktX0_image_0 : List UInt8 := dkwX0_image_0 ++ dktX0_image_1
theorem dksX0_image_0 : cX0_image.data.toList.drop 0 = dktX0_image_0 := by decide +kernel
theorem dksX0_image_1 : cX0_image.data.toList.drop 24 = dktX0_image_1 := dk_seg dksX0_image_0 24 rfl rfl
theorem dX0_image_0 : decode cX0_image 0 = .ok (.iload_n 1, 1) := dk_27 (dk_at dksX0_image_0 0 rfl rfl)
theorem dX0_image_1 : decode cX0_image 1 = .ok (.invokestatic 63, 3) := dk_184 0 63 (dk_at dksX0_image_0 1 rfl rfl)
theorem dX0_image_4 : decode cX0_image 4 = .ok (.ifCond .ne 6, 3) := dk_154 0 6 (dk_at dksX0_image_0 4 rfl rfl)
theorem dX0_image_7 : decode cX0_image 7 = .ok (.bipush (-2), 2) := dk_16 254 (dk_at dksX0_image_0 7 rfl rfl)
theorem dX0_image_9 : decode cX0_image 9 = .ok (.ireturn, 1) := dk_172 (dk_at dksX0_image_0 9 rfl rfl)
theorem dX0_image_10 : decode cX0_image 10 = .ok (.aload_n 0, 1) := dk_42 (dk_at dksX0_image_0 10 rfl rfl)
theorem dX0_image_11 : decode cX0_image 11 = .ok (.getfield 28, 3) := dk_180 0 28 (dk_at dksX0_image_0 11 rfl rfl)
theorem dX0_image_14 : decode cX0_image 14 = .ok (.iload_n 1, 1) := dk_27 (dk_at dksX0_image_0 14 rfl rfl)
theorem dX0_image_15 : decode cX0_image 15 = .ok (.invokeinterface 278 2, 5) := by decide +kernel
theorem dX0_image_20 : decode cX0_image 20 = .ok (.checkcast 15, 3) := dk_192 0 15 (dk_at dksX0_image_0 20 rfl rfl)
theorem dX0_image_23 : decode cX0_image 23 = .ok (.aload_n 0, 1) := dk_42 (dk_at dksX0_image_0 23 rfl rfl)
theorem dX0_image_24 : decode cX0_image 24 = .ok (.getfield 18, 3) := dk_180 0 18 (dk_at dksX0_image_1 0 rfl rfl)
theorem dX0_image_27 : decode cX0_image 27 = .ok (.invokevirtual 281, 3) := dk_182 1 25 (dk_at dksX0_image_1 3 rfl rfl)
theorem dX0_image_30 : decode cX0_image 30 = .ok (.aload_n 0, 1) := dk_42 (dk_at dksX0_image_1 6 rfl rfl)
theorem dX0_image_31 : decode cX0_image 31 = .ok (.getfield 37, 3) := dk_180 0 37 (dk_at dksX0_image_1 7 rfl rfl)
theorem dX0_image_34 : decode cX0_image 34 = .ok (.iload_n 1, 1) := dk_27 (dk_at dksX0_image_1 10 rfl rfl)
theorem dX0_image_35 : decode cX0_image 35 = .ok (.invokevirtual 285, 3) := dk_182 1 29 (dk_at dksX0_image_1 11 rfl rfl)
theorem dX0_image_38 : decode cX0_image 38 = .ok (.iconst 1, 1) := dk_4 (dk_at dksX0_image_1 14 rfl rfl)
theorem dX0_image_39 : decode cX0_image 39 = .ok (.ireturn, 1) := dk_172 (dk_at dksX0_image_1 15 rfl rfl)
abbrev cX0_restore : ByteArray := prog_1_method_44_code
def yX0_restore : MethodName := ⟨RX0, "restore", "(I)I"⟩
def dkwX0_restore_1 : List UInt8 := [42, 180, 0, 18, 42, 180, 0, 28, 27, 185, 1, 22, 2, 0, 192, 0, 15, 182, 1, 25, 4, 172]
abbrev dktX0_restore_1 : List UInt8 := dkwX0_restore_1 ++ []
def dkwX0_restore_0 : List UInt8 := [27, 184, 0, 63, 154, 0, 6, 16, 254, 172, 42, 180, 0, 37, 27, 182, 0, 235, 154, 0, 6, 16, 253, 172]
abbrev dktX0_restore_0 : List UInt8 := dkwX0_restore_0 ++ dktX0_restore_1
theorem dksX0_restore_0 : cX0_restore.data.toList.drop 0 = dktX0_restore_0 := by decide +kernel
theorem dksX0_restore_1 : cX0_restore.data.toList.drop 24 = dktX0_restore_1 := dk_seg dksX0_restore_0 24 rfl rfl
theorem dX0_restore_0 : decode cX0_restore 0 = .ok (.iload_n 1, 1) := dk_27 (dk_at dksX0_restore_0 0 rfl rfl)
theorem dX0_restore_1 : decode cX0_restore 1 = .ok (.invokestatic 63, 3) := dk_184 0 63 (dk_at dksX0_restore_0 1 rfl rfl)
theorem dX0_restore_4 : decode cX0_restore 4 = .ok (.ifCond .ne 6, 3) := dk_154 0 6 (dk_at dksX0_restore_0 4 rfl rfl)
theorem dX0_restore_7 : decode cX0_restore 7 = .ok (.bipush (-2), 2) := dk_16 254 (dk_at dksX0_restore_0 7 rfl rfl)
theorem dX0_restore_9 : decode cX0_restore 9 = .ok (.ireturn, 1) := dk_172 (dk_at dksX0_restore_0 9 rfl rfl)
theorem dX0_restore_10 : decode cX0_restore 10 = .ok (.aload_n 0, 1) := dk_42 (dk_at dksX0_restore_0 10 rfl rfl)
theorem dX0_restore_11 : decode cX0_restore 11 = .ok (.getfield 37, 3) := dk_180 0 37 (dk_at dksX0_restore_0 11 rfl rfl)
theorem dX0_restore_14 : decode cX0_restore 14 = .ok (.iload_n 1, 1) := dk_27 (dk_at dksX0_restore_0 14 rfl rfl)
theorem dX0_restore_15 : decode cX0_restore 15 = .ok (.invokevirtual 235, 3) := dk_182 0 235 (dk_at dksX0_restore_0 15 rfl rfl)
theorem dX0_restore_18 : decode cX0_restore 18 = .ok (.ifCond .ne 6, 3) := dk_154 0 6 (dk_at dksX0_restore_0 18 rfl rfl)
theorem dX0_restore_21 : decode cX0_restore 21 = .ok (.bipush (-3), 2) := dk_16 253 (dk_at dksX0_restore_0 21 rfl rfl)
theorem dX0_restore_23 : decode cX0_restore 23 = .ok (.ireturn, 1) := dk_172 (dk_at dksX0_restore_0 23 rfl rfl)
theorem dX0_restore_24 : decode cX0_restore 24 = .ok (.aload_n 0, 1) := dk_42 (dk_at dksX0_restore_1 0 rfl rfl)
theorem dX0_restore_25 : decode cX0_restore 25 = .ok (.getfield 18, 3) := dk_180 0 18 (dk_at dksX0_restore_1 1 rfl rfl)
theorem dX0_restore_28 : decode cX0_restore 28 = .ok (.aload_n 0, 1) := dk_42 (dk_at dksX0_restore_1 4 rfl rfl)
theorem dX0_restore_29 : decode cX0_restore 29 = .ok (.getfield 28, 3) := dk_180 0 28 (dk_at dksX0_restore_1 5 rfl rfl)
theorem dX0_restore_32 : decode cX0_restore 32 = .ok (.iload_n 1, 1) := dk_27 (dk_at dksX0_restore_1 8 rfl rfl)
theorem dX0_restore_33 : decode cX0_restore 33 = .ok (.invokeinterface 278 2, 5) := by decide +kernel
theorem dX0_restore_38 : decode cX0_restore 38 = .ok (.checkcast 15, 3) := dk_192 0 15 (dk_at dksX0_restore_1 14 rfl rfl)
theorem dX0_restore_41 : decode cX0_restore 41 = .ok (.invokevirtual 281, 3) := dk_182 1 25 (dk_at dksX0_restore_1 17 rfl rfl)
theorem dX0_restore_44 : decode cX0_restore 44 = .ok (.iconst 1, 1) := dk_4 (dk_at dksX0_restore_1 20 rfl rfl)
theorem dX0_restore_45 : decode cX0_restore 45 = .ok (.ireturn, 1) := dk_172 (dk_at dksX0_restore_1 21 rfl rfl)
abbrev cX0_count : ByteArray := prog_1_method_45_code
def yX0_count : MethodName := ⟨RX0, "count", "(I)I"⟩
def dkwX0_count_6 : List UInt8 := [153, 0, 7, 5, 167, 0, 4, 3, 96, 172, 16, 254, 172]
abbrev dktX0_count_6 : List UInt8 := dkwX0_count_6 ++ []
def dkwX0_count_5 : List UInt8 := [180, 0, 37, 3, 182, 0, 235, 153, 0, 7, 4, 167, 0, 4, 3, 42, 180, 0, 37, 4, 182, 0, 235]
abbrev dktX0_count_5 : List UInt8 := dkwX0_count_5 ++ dktX0_count_6
def dkwX0_count_4 : List UInt8 := [180, 0, 18, 180, 0, 194, 182, 0, 198, 172, 42, 180, 0, 18, 180, 0, 83, 182, 0, 90, 172, 42]
abbrev dktX0_count_4 : List UInt8 := dkwX0_count_4 ++ dktX0_count_5
def dkwX0_count_3 : List UInt8 := [42, 180, 0, 18, 180, 0, 72, 190, 172, 42, 180, 0, 18, 180, 0, 75, 190, 172, 42, 180, 0, 59, 172, 42]
abbrev dktX0_count_3 : List UInt8 := dkwX0_count_3 ++ dktX0_count_4
def dkwX0_count_2 : List UInt8 := [170, 0, 0, 0, 0, 0, 0, 119, 0, 0, 0, 0, 0, 0, 0, 5, 0, 0, 0, 40, 0, 0, 0, 49, 0, 0, 0, 58, 0, 0, 0, 63, 0, 0, 0, 74, 0, 0, 0, 85]
abbrev dktX0_count_2 : List UInt8 := dkwX0_count_2 ++ dktX0_count_3
def dkwX0_count_1 : List UInt8 := [100, 46, 172, 27]
abbrev dktX0_count_1 : List UInt8 := dkwX0_count_1 ++ dktX0_count_2
def dkwX0_count_0 : List UInt8 := [27, 133, 20, 1, 31, 20, 1, 33, 184, 0, 1, 153, 0, 16, 42, 180, 0, 18, 180, 0, 80, 27, 16, 10]
abbrev dktX0_count_0 : List UInt8 := dkwX0_count_0 ++ dktX0_count_1
theorem dksX0_count_0 : cX0_count.data.toList.drop 0 = dktX0_count_0 := by decide +kernel
theorem dksX0_count_1 : cX0_count.data.toList.drop 24 = dktX0_count_1 := dk_seg dksX0_count_0 24 rfl rfl
theorem dksX0_count_2 : cX0_count.data.toList.drop 28 = dktX0_count_2 := dk_seg dksX0_count_1 4 rfl rfl
theorem dksX0_count_3 : cX0_count.data.toList.drop 68 = dktX0_count_3 := dk_seg dksX0_count_2 40 rfl rfl
theorem dksX0_count_4 : cX0_count.data.toList.drop 92 = dktX0_count_4 := dk_seg dksX0_count_3 24 rfl rfl
theorem dksX0_count_5 : cX0_count.data.toList.drop 114 = dktX0_count_5 := dk_seg dksX0_count_4 22 rfl rfl
theorem dksX0_count_6 : cX0_count.data.toList.drop 137 = dktX0_count_6 := dk_seg dksX0_count_5 23 rfl rfl
theorem dX0_count_0 : decode cX0_count 0 = .ok (.iload_n 1, 1) := dk_27 (dk_at dksX0_count_0 0 rfl rfl)
theorem dX0_count_1 : decode cX0_count 1 = .ok (.i2l, 1) := dk_133 (dk_at dksX0_count_0 1 rfl rfl)
theorem dX0_count_2 : decode cX0_count 2 = .ok (.ldc2_w 287, 3) := dk_20 1 31 (dk_at dksX0_count_0 2 rfl rfl)
theorem dX0_count_5 : decode cX0_count 5 = .ok (.ldc2_w 289, 3) := dk_20 1 33 (dk_at dksX0_count_0 5 rfl rfl)
theorem dX0_count_8 : decode cX0_count 8 = .ok (.invokestatic 1, 3) := dk_184 0 1 (dk_at dksX0_count_0 8 rfl rfl)
theorem dX0_count_11 : decode cX0_count 11 = .ok (.ifCond .eq 16, 3) := dk_153 0 16 (dk_at dksX0_count_0 11 rfl rfl)
theorem dX0_count_14 : decode cX0_count 14 = .ok (.aload_n 0, 1) := dk_42 (dk_at dksX0_count_0 14 rfl rfl)
theorem dX0_count_15 : decode cX0_count 15 = .ok (.getfield 18, 3) := dk_180 0 18 (dk_at dksX0_count_0 15 rfl rfl)
theorem dX0_count_18 : decode cX0_count 18 = .ok (.getfield 80, 3) := dk_180 0 80 (dk_at dksX0_count_0 18 rfl rfl)
theorem dX0_count_21 : decode cX0_count 21 = .ok (.iload_n 1, 1) := dk_27 (dk_at dksX0_count_0 21 rfl rfl)
theorem dX0_count_22 : decode cX0_count 22 = .ok (.bipush 10, 2) := dk_16 10 (dk_at dksX0_count_0 22 rfl rfl)
theorem dX0_count_24 : decode cX0_count 24 = .ok (.isub, 1) := dk_100 (dk_at dksX0_count_1 0 rfl rfl)
theorem dX0_count_25 : decode cX0_count 25 = .ok (.iaload, 1) := dk_46 (dk_at dksX0_count_1 1 rfl rfl)
theorem dX0_count_26 : decode cX0_count 26 = .ok (.ireturn, 1) := dk_172 (dk_at dksX0_count_1 2 rfl rfl)
theorem dX0_count_27 : decode cX0_count 27 = .ok (.iload_n 1, 1) := dk_27 (dk_at dksX0_count_1 3 rfl rfl)
theorem dX0_count_28 : decode cX0_count 28 = .ok (.tableswitch 119 0 5 #[40, 49, 58, 63, 74, 85], 40) := by decide +kernel
theorem dX0_count_68 : decode cX0_count 68 = .ok (.aload_n 0, 1) := dk_42 (dk_at dksX0_count_3 0 rfl rfl)
theorem dX0_count_69 : decode cX0_count 69 = .ok (.getfield 18, 3) := dk_180 0 18 (dk_at dksX0_count_3 1 rfl rfl)
theorem dX0_count_72 : decode cX0_count 72 = .ok (.getfield 72, 3) := dk_180 0 72 (dk_at dksX0_count_3 4 rfl rfl)
theorem dX0_count_75 : decode cX0_count 75 = .ok (.arraylength, 1) := dk_190 (dk_at dksX0_count_3 7 rfl rfl)
theorem dX0_count_76 : decode cX0_count 76 = .ok (.ireturn, 1) := dk_172 (dk_at dksX0_count_3 8 rfl rfl)
theorem dX0_count_77 : decode cX0_count 77 = .ok (.aload_n 0, 1) := dk_42 (dk_at dksX0_count_3 9 rfl rfl)
theorem dX0_count_78 : decode cX0_count 78 = .ok (.getfield 18, 3) := dk_180 0 18 (dk_at dksX0_count_3 10 rfl rfl)
theorem dX0_count_81 : decode cX0_count 81 = .ok (.getfield 75, 3) := dk_180 0 75 (dk_at dksX0_count_3 13 rfl rfl)
theorem dX0_count_84 : decode cX0_count 84 = .ok (.arraylength, 1) := dk_190 (dk_at dksX0_count_3 16 rfl rfl)
theorem dX0_count_85 : decode cX0_count 85 = .ok (.ireturn, 1) := dk_172 (dk_at dksX0_count_3 17 rfl rfl)
theorem dX0_count_86 : decode cX0_count 86 = .ok (.aload_n 0, 1) := dk_42 (dk_at dksX0_count_3 18 rfl rfl)
theorem dX0_count_87 : decode cX0_count 87 = .ok (.getfield 59, 3) := dk_180 0 59 (dk_at dksX0_count_3 19 rfl rfl)
theorem dX0_count_90 : decode cX0_count 90 = .ok (.ireturn, 1) := dk_172 (dk_at dksX0_count_3 22 rfl rfl)
theorem dX0_count_91 : decode cX0_count 91 = .ok (.aload_n 0, 1) := dk_42 (dk_at dksX0_count_3 23 rfl rfl)
theorem dX0_count_92 : decode cX0_count 92 = .ok (.getfield 18, 3) := dk_180 0 18 (dk_at dksX0_count_4 0 rfl rfl)
theorem dX0_count_95 : decode cX0_count 95 = .ok (.getfield 194, 3) := dk_180 0 194 (dk_at dksX0_count_4 3 rfl rfl)
theorem dX0_count_98 : decode cX0_count 98 = .ok (.invokevirtual 198, 3) := dk_182 0 198 (dk_at dksX0_count_4 6 rfl rfl)
theorem dX0_count_101 : decode cX0_count 101 = .ok (.ireturn, 1) := dk_172 (dk_at dksX0_count_4 9 rfl rfl)
theorem dX0_count_102 : decode cX0_count 102 = .ok (.aload_n 0, 1) := dk_42 (dk_at dksX0_count_4 10 rfl rfl)
theorem dX0_count_103 : decode cX0_count 103 = .ok (.getfield 18, 3) := dk_180 0 18 (dk_at dksX0_count_4 11 rfl rfl)
theorem dX0_count_106 : decode cX0_count 106 = .ok (.getfield 83, 3) := dk_180 0 83 (dk_at dksX0_count_4 14 rfl rfl)
theorem dX0_count_109 : decode cX0_count 109 = .ok (.invokevirtual 90, 3) := dk_182 0 90 (dk_at dksX0_count_4 17 rfl rfl)
theorem dX0_count_112 : decode cX0_count 112 = .ok (.ireturn, 1) := dk_172 (dk_at dksX0_count_4 20 rfl rfl)
theorem dX0_count_113 : decode cX0_count 113 = .ok (.aload_n 0, 1) := dk_42 (dk_at dksX0_count_4 21 rfl rfl)
theorem dX0_count_114 : decode cX0_count 114 = .ok (.getfield 37, 3) := dk_180 0 37 (dk_at dksX0_count_5 0 rfl rfl)
theorem dX0_count_117 : decode cX0_count 117 = .ok (.iconst 0, 1) := dk_3 (dk_at dksX0_count_5 3 rfl rfl)
theorem dX0_count_118 : decode cX0_count 118 = .ok (.invokevirtual 235, 3) := dk_182 0 235 (dk_at dksX0_count_5 4 rfl rfl)
theorem dX0_count_121 : decode cX0_count 121 = .ok (.ifCond .eq 7, 3) := dk_153 0 7 (dk_at dksX0_count_5 7 rfl rfl)
theorem dX0_count_124 : decode cX0_count 124 = .ok (.iconst 1, 1) := dk_4 (dk_at dksX0_count_5 10 rfl rfl)
theorem dX0_count_125 : decode cX0_count 125 = .ok (.goto 4, 3) := dk_167 0 4 (dk_at dksX0_count_5 11 rfl rfl)
theorem dX0_count_128 : decode cX0_count 128 = .ok (.iconst 0, 1) := dk_3 (dk_at dksX0_count_5 14 rfl rfl)
theorem dX0_count_129 : decode cX0_count 129 = .ok (.aload_n 0, 1) := dk_42 (dk_at dksX0_count_5 15 rfl rfl)
theorem dX0_count_130 : decode cX0_count 130 = .ok (.getfield 37, 3) := dk_180 0 37 (dk_at dksX0_count_5 16 rfl rfl)
theorem dX0_count_133 : decode cX0_count 133 = .ok (.iconst 1, 1) := dk_4 (dk_at dksX0_count_5 19 rfl rfl)
theorem dX0_count_134 : decode cX0_count 134 = .ok (.invokevirtual 235, 3) := dk_182 0 235 (dk_at dksX0_count_5 20 rfl rfl)
theorem dX0_count_137 : decode cX0_count 137 = .ok (.ifCond .eq 7, 3) := dk_153 0 7 (dk_at dksX0_count_6 0 rfl rfl)
theorem dX0_count_140 : decode cX0_count 140 = .ok (.iconst 2, 1) := dk_5 (dk_at dksX0_count_6 3 rfl rfl)
theorem dX0_count_141 : decode cX0_count 141 = .ok (.goto 4, 3) := dk_167 0 4 (dk_at dksX0_count_6 4 rfl rfl)
theorem dX0_count_144 : decode cX0_count 144 = .ok (.iconst 0, 1) := dk_3 (dk_at dksX0_count_6 7 rfl rfl)
theorem dX0_count_145 : decode cX0_count 145 = .ok (.iadd, 1) := dk_96 (dk_at dksX0_count_6 8 rfl rfl)
theorem dX0_count_146 : decode cX0_count 146 = .ok (.ireturn, 1) := dk_172 (dk_at dksX0_count_6 9 rfl rfl)
theorem dX0_count_147 : decode cX0_count 147 = .ok (.bipush (-2), 2) := dk_16 254 (dk_at dksX0_count_6 10 rfl rfl)
theorem dX0_count_149 : decode cX0_count 149 = .ok (.ireturn, 1) := dk_172 (dk_at dksX0_count_6 12 rfl rfl)
theorem q56 : (Jvm.Cond.initialized "SecretSquares") ∈ lw_all := lw_g (lw_at lw_m1 1 rfl) rfl
theorem q97 : (Jvm.Cond.instantiable "SecretSquares" (10 : Nat)) ∈ lw_all := lw_g (lw_at lw_m1 42 rfl) rfl
theorem q99 : (Jvm.Cond.instanceMethod ({ cls := "SecretSquares", name := "<init>", desc := "()V" } : Jvm.MethodName)) ∈ lw_all := lw_g (lw_at lw_m1 44 rfl) rfl
theorem q100 : (Jvm.Cond.code ({ cls := "SecretSquares", name := "<init>", desc := "()V" } : Jvm.MethodName) prog_1_method_4_code (1 : Nat) (Option.none : Option Jvm.ClassFile.FieldType)) ∈ lw_all := lw_g (lw_at lw_m1 45 rfl) rfl
theorem q101 : (Jvm.Cond.methodLink "SecretSquares" (9 : Nat) ({ cls := "java/lang/Object", name := "<init>", desc := "()V" } : Jvm.MethodName)) ∈ lw_all := lw_g (lw_at lw_m1 46 rfl) rfl
theorem q104 : (Jvm.Cond.classLink "SecretSquares" (15 : Nat) "SecretSquares$Desk") ∈ lw_all := lw_g (lw_at lw_m1 49 rfl) rfl
theorem q106 : (Jvm.Cond.methodLinkNest "SecretSquares" (17 : Nat) ({ cls := "SecretSquares$Desk", name := "<init>", desc := "()V" } : Jvm.MethodName) "SecretSquares") ∈ lw_tbl := lw_at lw_m1 51 rfl
theorem q159 : (Jvm.Cond.fieldLinkNest "SecretSquares" (72 : Nat) "SecretSquares$Desk" "text" "[I" "SecretSquares") ∈ lw_tbl := lw_at lw_m1 104 rfl
theorem q161 : (Jvm.Cond.fieldLinkNest "SecretSquares" (75 : Nat) "SecretSquares$Desk" "key" "[I" "SecretSquares") ∈ lw_tbl := lw_at lw_m1 106 rfl
theorem q163 : (Jvm.Cond.fieldLinkNest "SecretSquares" (80 : Nat) "SecretSquares$Desk" "worth" "[I" "SecretSquares") ∈ lw_tbl := lw_at lw_m1 108 rfl
theorem q165 : (Jvm.Cond.fieldLinkNest "SecretSquares" (83 : Nat) "SecretSquares$Desk" "liked" "Ljava/util/BitSet;" "SecretSquares") ∈ lw_tbl := lw_at lw_m1 110 rfl
theorem q167 : (Jvm.Cond.fieldLinkNest "SecretSquares" (194 : Nat) "SecretSquares$Desk" "steps" "Ljava/util/ArrayDeque;" "SecretSquares") ∈ lw_tbl := lw_at lw_m1 112 rfl
theorem q179 : (Jvm.Cond.methodLink "SecretSquares" (22 : Nat) ({ cls := "java/util/List", name := "of", desc := "(Ljava/lang/Object;Ljava/lang/Object;)Ljava/util/List;" } : Jvm.MethodName)) ∈ lw_all := lw_g (lw_at lw_m1 124 rfl) rfl
theorem q204 : (Jvm.Cond.classLink "SecretSquares" (32 : Nat) "java/util/BitSet") ∈ lw_all := lw_g (lw_at lw_m1 149 rfl) rfl
theorem q205 : (Jvm.Cond.methodLink "SecretSquares" (34 : Nat) ({ cls := "java/util/BitSet", name := "<init>", desc := "(I)V" } : Jvm.MethodName)) ∈ lw_all := lw_g (lw_at lw_m1 150 rfl) rfl
theorem q206 : (Jvm.Cond.fieldLink "SecretSquares" (18 : Nat) "SecretSquares" "desk" "LSecretSquares$Desk;") ∈ lw_all := lw_g (lw_at lw_m1 151 rfl) rfl
theorem q207 : (Jvm.Cond.fieldLink "SecretSquares" (28 : Nat) "SecretSquares" "images" "Ljava/util/List;") ∈ lw_all := lw_g (lw_at lw_m1 152 rfl) rfl
theorem q208 : (Jvm.Cond.fieldLink "SecretSquares" (37 : Nat) "SecretSquares" "kept" "Ljava/util/BitSet;") ∈ lw_all := lw_g (lw_at lw_m1 153 rfl) rfl
theorem q209 : (Jvm.Cond.fieldLink "SecretSquares" (41 : Nat) "SecretSquares" "pad" "[C") ∈ lw_all := lw_g (lw_at lw_m1 154 rfl) rfl
theorem q210 : (Jvm.Cond.fieldLink "SecretSquares" (59 : Nat) "SecretSquares" "signs" "I") ∈ lw_all := lw_g (lw_at lw_m1 155 rfl) rfl
theorem q211 : (Jvm.Cond.fieldLink "SecretSquares" (45 : Nat) "SecretSquares" "from" "[I") ∈ lw_all := lw_g (lw_at lw_m1 156 rfl) rfl
theorem q212 : (Jvm.Cond.fieldLink "SecretSquares" (248 : Nat) "SecretSquares" "asGood" "I") ∈ lw_all := lw_g (lw_at lw_m1 157 rfl) rfl
theorem q213 : (Jvm.Cond.fieldLink "SecretSquares" (245 : Nat) "SecretSquares" "most" "I") ∈ lw_all := lw_g (lw_at lw_m1 158 rfl) rfl
theorem q214 : (Jvm.Cond.fieldLink "SecretSquares" (49 : Nat) "SecretSquares" "best" "[I") ∈ lw_all := lw_g (lw_at lw_m1 159 rfl) rfl
theorem q215 : (Jvm.Cond.fieldLink "SecretSquares" (52 : Nat) "SecretSquares" "found" "[I") ∈ lw_all := lw_g (lw_at lw_m1 160 rfl) rfl
theorem q216 : (Jvm.Cond.laysFinal "SecretSquares" "SecretSquares" "desk" "LSecretSquares$Desk;") ∈ lw_all := lw_g (lw_at lw_m1 161 rfl) rfl
theorem q217 : (Jvm.Cond.soleField "SecretSquares" "desk") ∈ lw_all := lw_g (lw_at lw_m1 162 rfl) rfl
theorem q218 : (Jvm.Cond.laysFinal "SecretSquares" "SecretSquares" "images" "Ljava/util/List;") ∈ lw_all := lw_g (lw_at lw_m1 163 rfl) rfl
theorem q219 : (Jvm.Cond.soleField "SecretSquares" "images") ∈ lw_all := lw_g (lw_at lw_m1 164 rfl) rfl
theorem q220 : (Jvm.Cond.laysFinal "SecretSquares" "SecretSquares" "kept" "Ljava/util/BitSet;") ∈ lw_all := lw_g (lw_at lw_m1 165 rfl) rfl
theorem q221 : (Jvm.Cond.soleField "SecretSquares" "kept") ∈ lw_all := lw_g (lw_at lw_m1 166 rfl) rfl
theorem q222 : (Jvm.Cond.laysFinal "SecretSquares" "SecretSquares" "pad" "[C") ∈ lw_all := lw_g (lw_at lw_m1 167 rfl) rfl
theorem q223 : (Jvm.Cond.soleField "SecretSquares" "pad") ∈ lw_all := lw_g (lw_at lw_m1 168 rfl) rfl
theorem q224 : (Jvm.Cond.lays "SecretSquares" "SecretSquares" "signs" "I") ∈ lw_all := lw_g (lw_at lw_m1 169 rfl) rfl
theorem q225 : (Jvm.Cond.soleField "SecretSquares" "signs") ∈ lw_all := lw_g (lw_at lw_m1 170 rfl) rfl
theorem q226 : (Jvm.Cond.laysFinal "SecretSquares" "SecretSquares" "from" "[I") ∈ lw_all := lw_g (lw_at lw_m1 171 rfl) rfl
theorem q227 : (Jvm.Cond.soleField "SecretSquares" "from") ∈ lw_all := lw_g (lw_at lw_m1 172 rfl) rfl
theorem q228 : (Jvm.Cond.lays "SecretSquares" "SecretSquares" "asGood" "I") ∈ lw_all := lw_g (lw_at lw_m1 173 rfl) rfl
theorem q229 : (Jvm.Cond.soleField "SecretSquares" "asGood") ∈ lw_all := lw_g (lw_at lw_m1 174 rfl) rfl
theorem q230 : (Jvm.Cond.lays "SecretSquares" "SecretSquares" "most" "I") ∈ lw_all := lw_g (lw_at lw_m1 175 rfl) rfl
theorem q231 : (Jvm.Cond.soleField "SecretSquares" "most") ∈ lw_all := lw_g (lw_at lw_m1 176 rfl) rfl
theorem q232 : (Jvm.Cond.lays "SecretSquares" "SecretSquares" "best" "[I") ∈ lw_all := lw_g (lw_at lw_m1 177 rfl) rfl
theorem q233 : (Jvm.Cond.soleField "SecretSquares" "best") ∈ lw_all := lw_g (lw_at lw_m1 178 rfl) rfl
theorem q234 : (Jvm.Cond.laysFinal "SecretSquares" "SecretSquares" "found" "[I") ∈ lw_all := lw_g (lw_at lw_m1 179 rfl) rfl
theorem q235 : (Jvm.Cond.soleField "SecretSquares" "found") ∈ lw_all := lw_g (lw_at lw_m1 180 rfl) rfl
theorem q236 : (Jvm.Cond.superclass "SecretSquares" "java/lang/Object") ∈ lw_all := lw_g (lw_at lw_m1 181 rfl) rfl
theorem q239 : (Jvm.Cond.instanceMethod ({ cls := "SecretSquares", name := "say", desc := "(I)I" } : Jvm.MethodName)) ∈ lw_all := lw_g (lw_at lw_m1 184 rfl) rfl
theorem q240 : (Jvm.Cond.selects "SecretSquares" ({ cls := "SecretSquares", name := "say", desc := "(I)I" } : Jvm.MethodName) ({ cls := "SecretSquares", name := "say", desc := "(I)I" } : Jvm.MethodName)) ∈ lw_all := lw_g (lw_at lw_m1 185 rfl) rfl
theorem q241 : (Jvm.Cond.code ({ cls := "SecretSquares", name := "say", desc := "(I)I" } : Jvm.MethodName) prog_1_method_5_code (2 : Nat) (Option.some Jvm.ClassFile.FieldType.int)) ∈ lw_all := lw_g (lw_at lw_m1 186 rfl) rfl
theorem q242 : (Jvm.Cond.constantLong "SecretSquares" (55 : Nat) (33 : Int64)) ∈ lw_all := lw_g (lw_at lw_m1 187 rfl) rfl
theorem q243 : (Jvm.Cond.constantLong "SecretSquares" (57 : Nat) (126 : Int64)) ∈ lw_all := lw_g (lw_at lw_m1 188 rfl) rfl
theorem q244 : (Jvm.Cond.methodLink "SecretSquares" (1 : Nat) ({ cls := "SecretSquares", name := "isIn", desc := "(JJJ)Z" } : Jvm.MethodName)) ∈ lw_all := lw_g (lw_at lw_m1 189 rfl) rfl
theorem q245 : (Jvm.Cond.static ({ cls := "SecretSquares", name := "isIn", desc := "(JJJ)Z" } : Jvm.MethodName)) ∈ lw_all := lw_g (lw_at lw_m1 190 rfl) rfl
theorem q246 : (Jvm.Cond.code ({ cls := "SecretSquares", name := "isIn", desc := "(JJJ)Z" } : Jvm.MethodName) prog_1_method_1_code (6 : Nat) (Option.some Jvm.ClassFile.FieldType.boolean)) ∈ lw_all := lw_g (lw_at lw_m1 191 rfl) rfl
theorem q248 : (Jvm.Cond.instanceMethod ({ cls := "SecretSquares", name := "wipe", desc := "()I" } : Jvm.MethodName)) ∈ lw_all := lw_g (lw_at lw_m1 193 rfl) rfl
theorem q249 : (Jvm.Cond.selects "SecretSquares" ({ cls := "SecretSquares", name := "wipe", desc := "()I" } : Jvm.MethodName) ({ cls := "SecretSquares", name := "wipe", desc := "()I" } : Jvm.MethodName)) ∈ lw_all := lw_g (lw_at lw_m1 194 rfl) rfl
theorem q250 : (Jvm.Cond.code ({ cls := "SecretSquares", name := "wipe", desc := "()I" } : Jvm.MethodName) prog_1_method_6_code (2 : Nat) (Option.some Jvm.ClassFile.FieldType.int)) ∈ lw_all := lw_g (lw_at lw_m1 195 rfl) rfl
theorem q252 : (Jvm.Cond.instanceMethod ({ cls := "SecretSquares", name := "take", desc := "(I)I" } : Jvm.MethodName)) ∈ lw_all := lw_g (lw_at lw_m1 197 rfl) rfl
theorem q253 : (Jvm.Cond.selects "SecretSquares" ({ cls := "SecretSquares", name := "take", desc := "(I)I" } : Jvm.MethodName) ({ cls := "SecretSquares", name := "take", desc := "(I)I" } : Jvm.MethodName)) ∈ lw_all := lw_g (lw_at lw_m1 198 rfl) rfl
theorem q254 : (Jvm.Cond.code ({ cls := "SecretSquares", name := "take", desc := "(I)I" } : Jvm.MethodName) prog_1_method_7_code (4 : Nat) (Option.some Jvm.ClassFile.FieldType.int)) ∈ lw_all := lw_g (lw_at lw_m1 199 rfl) rfl
theorem q255 : (Jvm.Cond.methodLink "SecretSquares" (63 : Nat) ({ cls := "SecretSquares", name := "isEnd", desc := "(I)Z" } : Jvm.MethodName)) ∈ lw_all := lw_g (lw_at lw_m1 200 rfl) rfl
theorem q256 : (Jvm.Cond.static ({ cls := "SecretSquares", name := "isEnd", desc := "(I)Z" } : Jvm.MethodName)) ∈ lw_all := lw_g (lw_at lw_m1 201 rfl) rfl
theorem q257 : (Jvm.Cond.code ({ cls := "SecretSquares", name := "isEnd", desc := "(I)Z" } : Jvm.MethodName) prog_1_method_2_code (1 : Nat) (Option.some Jvm.ClassFile.FieldType.boolean)) ∈ lw_all := lw_g (lw_at lw_m1 202 rfl) rfl
theorem q258 : (Jvm.Cond.constantLong "SecretSquares" (67 : Nat) (6 : Int64)) ∈ lw_all := lw_g (lw_at lw_m1 203 rfl) rfl
theorem q259 : (Jvm.Cond.methodLink "SecretSquares" (69 : Nat) ({ cls := "SecretSquares", name := "isLetter", desc := "(I)Z" } : Jvm.MethodName)) ∈ lw_all := lw_g (lw_at lw_m1 204 rfl) rfl
theorem q260 : (Jvm.Cond.static ({ cls := "SecretSquares", name := "isLetter", desc := "(I)Z" } : Jvm.MethodName)) ∈ lw_all := lw_g (lw_at lw_m1 205 rfl) rfl
theorem q261 : (Jvm.Cond.code ({ cls := "SecretSquares", name := "isLetter", desc := "(I)Z" } : Jvm.MethodName) prog_1_method_3_code (1 : Nat) (Option.some Jvm.ClassFile.FieldType.boolean)) ∈ lw_all := lw_g (lw_at lw_m1 206 rfl) rfl
theorem q262 : (Jvm.Cond.constantLong "SecretSquares" (7 : Nat) (15 : Int64)) ∈ lw_all := lw_g (lw_at lw_m1 207 rfl) rfl
theorem q264 : (Jvm.Cond.instanceMethod ({ cls := "SecretSquares", name := "worth", desc := "(II)I" } : Jvm.MethodName)) ∈ lw_all := lw_g (lw_at lw_m1 209 rfl) rfl
theorem q265 : (Jvm.Cond.selects "SecretSquares" ({ cls := "SecretSquares", name := "worth", desc := "(II)I" } : Jvm.MethodName) ({ cls := "SecretSquares", name := "worth", desc := "(II)I" } : Jvm.MethodName)) ∈ lw_all := lw_g (lw_at lw_m1 210 rfl) rfl
theorem q266 : (Jvm.Cond.code ({ cls := "SecretSquares", name := "worth", desc := "(II)I" } : Jvm.MethodName) prog_1_method_8_code (4 : Nat) (Option.some Jvm.ClassFile.FieldType.int)) ∈ lw_all := lw_g (lw_at lw_m1 211 rfl) rfl
theorem q267 : (Jvm.Cond.constantLong "SecretSquares" (78 : Nat) (99 : Int64)) ∈ lw_all := lw_g (lw_at lw_m1 212 rfl) rfl
theorem q269 : (Jvm.Cond.instanceMethod ({ cls := "SecretSquares", name := "like", desc := "(III)I" } : Jvm.MethodName)) ∈ lw_all := lw_g (lw_at lw_m1 214 rfl) rfl
theorem q270 : (Jvm.Cond.selects "SecretSquares" ({ cls := "SecretSquares", name := "like", desc := "(III)I" } : Jvm.MethodName) ({ cls := "SecretSquares", name := "like", desc := "(III)I" } : Jvm.MethodName)) ∈ lw_all := lw_g (lw_at lw_m1 215 rfl) rfl
theorem q271 : (Jvm.Cond.code ({ cls := "SecretSquares", name := "like", desc := "(III)I" } : Jvm.MethodName) prog_1_method_9_code (4 : Nat) (Option.some Jvm.ClassFile.FieldType.int)) ∈ lw_all := lw_g (lw_at lw_m1 216 rfl) rfl
theorem q272 : (Jvm.Cond.methodLink "SecretSquares" (86 : Nat) ({ cls := "java/util/BitSet", name := "set", desc := "(IZ)V" } : Jvm.MethodName)) ∈ lw_all := lw_g (lw_at lw_m1 217 rfl) rfl
theorem q322 : (Jvm.Cond.methodLink "SecretSquares" (90 : Nat) ({ cls := "java/util/BitSet", name := "cardinality", desc := "()I" } : Jvm.MethodName)) ∈ lw_all := lw_g (lw_at lw_m2 27 rfl) rfl
theorem q333 : (Jvm.Cond.instanceMethod ({ cls := "SecretSquares", name := "letter", desc := "(II)I" } : Jvm.MethodName)) ∈ lw_all := lw_g (lw_at lw_m2 38 rfl) rfl
theorem q334 : (Jvm.Cond.selects "SecretSquares" ({ cls := "SecretSquares", name := "letter", desc := "(II)I" } : Jvm.MethodName) ({ cls := "SecretSquares", name := "letter", desc := "(II)I" } : Jvm.MethodName)) ∈ lw_all := lw_g (lw_at lw_m2 39 rfl) rfl
theorem q335 : (Jvm.Cond.code ({ cls := "SecretSquares", name := "letter", desc := "(II)I" } : Jvm.MethodName) prog_1_method_12_code (3 : Nat) (Option.some Jvm.ClassFile.FieldType.int)) ∈ lw_all := lw_g (lw_at lw_m2 40 rfl) rfl
theorem q336 : (Jvm.Cond.methodLink "SecretSquares" (133 : Nat) ({ cls := "SecretSquares", name := "at", desc := "([II)I" } : Jvm.MethodName)) ∈ lw_all := lw_g (lw_at lw_m2 41 rfl) rfl
theorem q337 : (Jvm.Cond.static ({ cls := "SecretSquares", name := "at", desc := "([II)I" } : Jvm.MethodName)) ∈ lw_all := lw_g (lw_at lw_m2 42 rfl) rfl
theorem q338 : (Jvm.Cond.code ({ cls := "SecretSquares", name := "at", desc := "([II)I" } : Jvm.MethodName) prog_1_method_11_code (2 : Nat) (Option.some Jvm.ClassFile.FieldType.int)) ∈ lw_all := lw_g (lw_at lw_m2 43 rfl) rfl
theorem q339 : (Jvm.Cond.methodLink "SecretSquares" (137 : Nat) ({ cls := "SecretSquares", name := "square", desc := "()[I" } : Jvm.MethodName)) ∈ lw_all := lw_g (lw_at lw_m2 44 rfl) rfl
theorem q340 : (Jvm.Cond.privateMethod ({ cls := "SecretSquares", name := "square", desc := "()[I" } : Jvm.MethodName)) ∈ lw_tbl := lw_at lw_m2 45 rfl
theorem q341 : (Jvm.Cond.instanceMethod ({ cls := "SecretSquares", name := "square", desc := "()[I" } : Jvm.MethodName)) ∈ lw_all := lw_g (lw_at lw_m2 46 rfl) rfl
theorem q342 : (Jvm.Cond.code ({ cls := "SecretSquares", name := "square", desc := "()[I" } : Jvm.MethodName) prog_1_method_10_code (9 : Nat) (Option.some (Jvm.ClassFile.FieldType.array Jvm.ClassFile.FieldType.int))) ∈ lw_all := lw_g (lw_at lw_m2 47 rfl) rfl
theorem q343 : (Jvm.Cond.classLink "SecretSquares" (94 : Nat) "java/util/LinkedList") ∈ lw_all := lw_g (lw_at lw_m2 48 rfl) rfl
theorem q345 : (Jvm.Cond.methodLink "SecretSquares" (96 : Nat) ({ cls := "java/util/LinkedList", name := "<init>", desc := "()V" } : Jvm.MethodName)) ∈ lw_all := lw_g (lw_at lw_m2 50 rfl) rfl
theorem q373 : (Jvm.Cond.methodLink "SecretSquares" (97 : Nat) ({ cls := "java/lang/Integer", name := "valueOf", desc := "(I)Ljava/lang/Integer;" } : Jvm.MethodName)) ∈ lw_all := lw_g (lw_at lw_m2 78 rfl) rfl
theorem q393 : (Jvm.Cond.methodLink "SecretSquares" (103 : Nat) ({ cls := "java/util/LinkedList", name := "addLast", desc := "(Ljava/lang/Object;)V" } : Jvm.MethodName)) ∈ lw_all := lw_g (lw_at lw_m2 98 rfl) rfl
theorem q422 : (Jvm.Cond.methodLink "SecretSquares" (107 : Nat) ({ cls := "java/util/LinkedList", name := "iterator", desc := "()Ljava/util/Iterator;" } : Jvm.MethodName)) ∈ lw_all := lw_g (lw_at lw_m2 127 rfl) rfl
theorem q475 : (Jvm.Cond.interfaceEntry "SecretSquares" (111 : Nat)) ∈ lw_tbl := lw_at lw_m2 180 rfl
theorem q476 : (Jvm.Cond.methodLink "SecretSquares" (111 : Nat) ({ cls := "java/util/Iterator", name := "hasNext", desc := "()Z" } : Jvm.MethodName)) ∈ lw_all := lw_g (lw_at lw_m2 181 rfl) rfl
theorem q503 : (Jvm.Cond.interfaceEntry "SecretSquares" (117 : Nat)) ∈ lw_tbl := lw_at lw_m2 208 rfl
theorem q504 : (Jvm.Cond.methodLink "SecretSquares" (117 : Nat) ({ cls := "java/util/Iterator", name := "next", desc := "()Ljava/lang/Object;" } : Jvm.MethodName)) ∈ lw_all := lw_g (lw_at lw_m2 209 rfl) rfl
theorem q595 : (Jvm.Cond.selects "SecretSquares" ({ cls := "java/lang/Object", name := "getClass", desc := "()Ljava/lang/Class;" } : Jvm.MethodName) ({ cls := "java/lang/Object", name := "getClass", desc := "()Ljava/lang/Class;" } : Jvm.MethodName)) ∈ lw_all := lw_g (lw_at lw_m3 60 rfl) rfl
theorem q864 : (Jvm.Cond.classLink "SecretSquares" (98 : Nat) "java/lang/Integer") ∈ lw_all := lw_g (lw_at lw_m4 89 rfl) rfl
theorem q865 : (Jvm.Cond.methodLink "SecretSquares" (121 : Nat) ({ cls := "java/lang/Integer", name := "intValue", desc := "()I" } : Jvm.MethodName)) ∈ lw_all := lw_g (lw_at lw_m4 90 rfl) rfl
theorem q869 : (Jvm.Cond.interfaceEntry "SecretSquares" (124 : Nat)) ∈ lw_tbl := lw_at lw_m4 94 rfl
theorem q870 : (Jvm.Cond.methodLink "SecretSquares" (124 : Nat) ({ cls := "java/util/Iterator", name := "remove", desc := "()V" } : Jvm.MethodName)) ∈ lw_all := lw_g (lw_at lw_m4 95 rfl) rfl
theorem q953 : (Jvm.Cond.methodLink "SecretSquares" (127 : Nat) ({ cls := "java/util/LinkedList", name := "isEmpty", desc := "()Z" } : Jvm.MethodName)) ∈ lw_all := lw_g (lw_at lw_m4 178 rfl) rfl
theorem q966 : (Jvm.Cond.methodLink "SecretSquares" (130 : Nat) ({ cls := "java/util/LinkedList", name := "removeFirst", desc := "()Ljava/lang/Object;" } : Jvm.MethodName)) ∈ lw_all := lw_g (lw_at lw_m4 191 rfl) rfl
theorem q975 : (Jvm.Cond.instanceMethod ({ cls := "SecretSquares", name := "hide", desc := "(I)I" } : Jvm.MethodName)) ∈ lw_all := lw_g (lw_at lw_m4 200 rfl) rfl
theorem q976 : (Jvm.Cond.selects "SecretSquares" ({ cls := "SecretSquares", name := "hide", desc := "(I)I" } : Jvm.MethodName) ({ cls := "SecretSquares", name := "hide", desc := "(I)I" } : Jvm.MethodName)) ∈ lw_all := lw_g (lw_at lw_m4 201 rfl) rfl
theorem q977 : (Jvm.Cond.code ({ cls := "SecretSquares", name := "hide", desc := "(I)I" } : Jvm.MethodName) prog_1_method_25_code (2 : Nat) (Option.some Jvm.ClassFile.FieldType.int)) ∈ lw_all := lw_g (lw_at lw_m4 202 rfl) rfl
theorem q978 : (Jvm.Cond.methodLink "SecretSquares" (205 : Nat) ({ cls := "SecretSquares", name := "step", desc := "(IZ)I" } : Jvm.MethodName)) ∈ lw_all := lw_g (lw_at lw_m4 203 rfl) rfl
theorem q979 : (Jvm.Cond.privateMethod ({ cls := "SecretSquares", name := "step", desc := "(IZ)I" } : Jvm.MethodName)) ∈ lw_tbl := lw_at lw_m4 204 rfl
theorem q980 : (Jvm.Cond.instanceMethod ({ cls := "SecretSquares", name := "step", desc := "(IZ)I" } : Jvm.MethodName)) ∈ lw_all := lw_g (lw_at lw_m4 205 rfl) rfl
theorem q981 : (Jvm.Cond.code ({ cls := "SecretSquares", name := "step", desc := "(IZ)I" } : Jvm.MethodName) prog_1_method_24_code (6 : Nat) (Option.some Jvm.ClassFile.FieldType.int)) ∈ lw_all := lw_g (lw_at lw_m4 206 rfl) rfl
theorem q982 : (Jvm.Cond.constantLong "SecretSquares" (188 : Nat) (5 : Int64)) ∈ lw_all := lw_g (lw_at lw_m4 207 rfl) rfl
theorem q983 : (Jvm.Cond.methodLink "SecretSquares" (190 : Nat) ({ cls := "SecretSquares", name := "done", desc := "(IZ)[I" } : Jvm.MethodName)) ∈ lw_all := lw_g (lw_at lw_m4 208 rfl) rfl
theorem q984 : (Jvm.Cond.privateMethod ({ cls := "SecretSquares", name := "done", desc := "(IZ)[I" } : Jvm.MethodName)) ∈ lw_tbl := lw_at lw_m4 209 rfl
theorem q985 : (Jvm.Cond.instanceMethod ({ cls := "SecretSquares", name := "done", desc := "(IZ)[I" } : Jvm.MethodName)) ∈ lw_all := lw_g (lw_at lw_m4 210 rfl) rfl
theorem q986 : (Jvm.Cond.code ({ cls := "SecretSquares", name := "done", desc := "(IZ)[I" } : Jvm.MethodName) prog_1_method_23_code (5 : Nat) (Option.some (Jvm.ClassFile.FieldType.array Jvm.ClassFile.FieldType.int))) ∈ lw_all := lw_g (lw_at lw_m4 211 rfl) rfl
theorem q987 : (Jvm.Cond.methodLink "SecretSquares" (161 : Nat) ({ cls := "SecretSquares", name := "shifted", desc := "(II)[I" } : Jvm.MethodName)) ∈ lw_all := lw_g (lw_at lw_m4 212 rfl) rfl
theorem q988 : (Jvm.Cond.privateMethod ({ cls := "SecretSquares", name := "shifted", desc := "(II)[I" } : Jvm.MethodName)) ∈ lw_tbl := lw_at lw_m4 213 rfl
theorem q989 : (Jvm.Cond.instanceMethod ({ cls := "SecretSquares", name := "shifted", desc := "(II)[I" } : Jvm.MethodName)) ∈ lw_all := lw_g (lw_at lw_m4 214 rfl) rfl
theorem q990 : (Jvm.Cond.code ({ cls := "SecretSquares", name := "shifted", desc := "(II)[I" } : Jvm.MethodName) prog_1_method_13_code (5 : Nat) (Option.some (Jvm.ClassFile.FieldType.array Jvm.ClassFile.FieldType.int))) ∈ lw_all := lw_g (lw_at lw_m4 215 rfl) rfl
theorem q991 : (Jvm.Cond.methodLink "SecretSquares" (141 : Nat) ({ cls := "java/lang/Math", name := "floorMod", desc := "(II)I" } : Jvm.MethodName)) ∈ lw_all := lw_g (lw_at lw_m4 216 rfl) rfl
theorem q994 : (Jvm.Cond.methodLink "SecretSquares" (165 : Nat) ({ cls := "SecretSquares", name := "paired", desc := "(I)[I" } : Jvm.MethodName)) ∈ lw_all := lw_g (lw_at lw_m4 219 rfl) rfl
theorem q995 : (Jvm.Cond.privateMethod ({ cls := "SecretSquares", name := "paired", desc := "(I)[I" } : Jvm.MethodName)) ∈ lw_tbl := lw_at lw_m4 220 rfl
theorem q996 : (Jvm.Cond.instanceMethod ({ cls := "SecretSquares", name := "paired", desc := "(I)[I" } : Jvm.MethodName)) ∈ lw_all := lw_g (lw_at lw_m4 221 rfl) rfl
theorem q997 : (Jvm.Cond.code ({ cls := "SecretSquares", name := "paired", desc := "(I)[I" } : Jvm.MethodName) prog_1_method_17_code (4 : Nat) (Option.some (Jvm.ClassFile.FieldType.array Jvm.ClassFile.FieldType.int))) ∈ lw_all := lw_g (lw_at lw_m4 222 rfl) rfl
theorem q998 : (Jvm.Cond.methodLink "SecretSquares" (150 : Nat) ({ cls := "SecretSquares", name := "places", desc := "([I)[I" } : Jvm.MethodName)) ∈ lw_all := lw_g (lw_at lw_m4 223 rfl) rfl
theorem q999 : (Jvm.Cond.static ({ cls := "SecretSquares", name := "places", desc := "([I)[I" } : Jvm.MethodName)) ∈ lw_all := lw_g (lw_at lw_m4 224 rfl) rfl
theorem q1000 : (Jvm.Cond.code ({ cls := "SecretSquares", name := "places", desc := "([I)[I" } : Jvm.MethodName) prog_1_method_14_code (3 : Nat) (Option.some (Jvm.ClassFile.FieldType.array Jvm.ClassFile.FieldType.int))) ∈ lw_all := lw_g (lw_at lw_m4 225 rfl) rfl
theorem q1001 : (Jvm.Cond.methodLink "SecretSquares" (154 : Nat) ({ cls := "SecretSquares", name := "pair", desc := "([I[I[I[II)V" } : Jvm.MethodName)) ∈ lw_all := lw_g (lw_at lw_m4 226 rfl) rfl
theorem q1002 : (Jvm.Cond.static ({ cls := "SecretSquares", name := "pair", desc := "([I[I[I[II)V" } : Jvm.MethodName)) ∈ lw_all := lw_g (lw_at lw_m4 227 rfl) rfl
theorem q1003 : (Jvm.Cond.code ({ cls := "SecretSquares", name := "pair", desc := "([I[I[I[II)V" } : Jvm.MethodName) prog_1_method_16_code (11 : Nat) (Option.none : Option Jvm.ClassFile.FieldType)) ∈ lw_all := lw_g (lw_at lw_m4 228 rfl) rfl
theorem q1004 : (Jvm.Cond.methodLink "SecretSquares" (147 : Nat) ({ cls := "SecretSquares", name := "place", desc := "(II)I" } : Jvm.MethodName)) ∈ lw_all := lw_g (lw_at lw_m4 229 rfl) rfl
theorem q1005 : (Jvm.Cond.static ({ cls := "SecretSquares", name := "place", desc := "(II)I" } : Jvm.MethodName)) ∈ lw_all := lw_g (lw_at lw_m4 230 rfl) rfl
theorem q1006 : (Jvm.Cond.code ({ cls := "SecretSquares", name := "place", desc := "(II)I" } : Jvm.MethodName) prog_1_method_15_code (2 : Nat) (Option.some Jvm.ClassFile.FieldType.int)) ∈ lw_all := lw_g (lw_at lw_m4 231 rfl) rfl
theorem q1007 : (Jvm.Cond.methodLink "SecretSquares" (169 : Nat) ({ cls := "SecretSquares", name := "readBy", desc := "()[I" } : Jvm.MethodName)) ∈ lw_all := lw_g (lw_at lw_m4 232 rfl) rfl
theorem q1008 : (Jvm.Cond.privateMethod ({ cls := "SecretSquares", name := "readBy", desc := "()[I" } : Jvm.MethodName)) ∈ lw_tbl := lw_at lw_m4 233 rfl
theorem q1009 : (Jvm.Cond.instanceMethod ({ cls := "SecretSquares", name := "readBy", desc := "()[I" } : Jvm.MethodName)) ∈ lw_all := lw_g (lw_at lw_m4 234 rfl) rfl
theorem q1010 : (Jvm.Cond.code ({ cls := "SecretSquares", name := "readBy", desc := "()[I" } : Jvm.MethodName) prog_1_method_18_code (4 : Nat) (Option.some (Jvm.ClassFile.FieldType.array Jvm.ClassFile.FieldType.int))) ∈ lw_all := lw_g (lw_at lw_m4 235 rfl) rfl
theorem q1011 : (Jvm.Cond.methodLink "SecretSquares" (172 : Nat) ({ cls := "SecretSquares", name := "byColumns", desc := "([II[I)V" } : Jvm.MethodName)) ∈ lw_all := lw_g (lw_at lw_m4 236 rfl) rfl
theorem q1012 : (Jvm.Cond.static ({ cls := "SecretSquares", name := "byColumns", desc := "([II[I)V" } : Jvm.MethodName)) ∈ lw_all := lw_g (lw_at lw_m4 237 rfl) rfl
theorem q1013 : (Jvm.Cond.code ({ cls := "SecretSquares", name := "byColumns", desc := "([II[I)V" } : Jvm.MethodName) prog_1_method_19_code (9 : Nat) (Option.none : Option Jvm.ClassFile.FieldType)) ∈ lw_all := lw_g (lw_at lw_m4 238 rfl) rfl
theorem q1014 : (Jvm.Cond.methodLink "SecretSquares" (176 : Nat) ({ cls := "SecretSquares", name := "moved", desc := "([IZ)[I" } : Jvm.MethodName)) ∈ lw_all := lw_g (lw_at lw_m4 239 rfl) rfl
theorem q1015 : (Jvm.Cond.privateMethod ({ cls := "SecretSquares", name := "moved", desc := "([IZ)[I" } : Jvm.MethodName)) ∈ lw_tbl := lw_at lw_m5 0 rfl
theorem q1016 : (Jvm.Cond.instanceMethod ({ cls := "SecretSquares", name := "moved", desc := "([IZ)[I" } : Jvm.MethodName)) ∈ lw_all := lw_g (lw_at lw_m5 1 rfl) rfl
theorem q1017 : (Jvm.Cond.code ({ cls := "SecretSquares", name := "moved", desc := "([IZ)[I" } : Jvm.MethodName) prog_1_method_21_code (5 : Nat) (Option.some (Jvm.ClassFile.FieldType.array Jvm.ClassFile.FieldType.int))) ∈ lw_all := lw_g (lw_at lw_m5 2 rfl) rfl
theorem q1018 : (Jvm.Cond.methodLink "SecretSquares" (180 : Nat) ({ cls := "SecretSquares", name := "byRails", desc := "(II[I)V" } : Jvm.MethodName)) ∈ lw_all := lw_g (lw_at lw_m5 3 rfl) rfl
theorem q1019 : (Jvm.Cond.static ({ cls := "SecretSquares", name := "byRails", desc := "(II[I)V" } : Jvm.MethodName)) ∈ lw_all := lw_g (lw_at lw_m5 4 rfl) rfl
theorem q1020 : (Jvm.Cond.code ({ cls := "SecretSquares", name := "byRails", desc := "(II[I)V" } : Jvm.MethodName) prog_1_method_20_code (8 : Nat) (Option.none : Option Jvm.ClassFile.FieldType)) ∈ lw_all := lw_g (lw_at lw_m5 5 rfl) rfl
theorem q1021 : (Jvm.Cond.methodLink "SecretSquares" (158 : Nat) ({ cls := "java/lang/Math", name := "min", desc := "(II)I" } : Jvm.MethodName)) ∈ lw_all := lw_g (lw_at lw_m5 6 rfl) rfl
theorem q1022 : (Jvm.Cond.methodLink "SecretSquares" (184 : Nat) ({ cls := "SecretSquares", name := "apart", desc := "(Z)[I" } : Jvm.MethodName)) ∈ lw_all := lw_g (lw_at lw_m5 7 rfl) rfl
theorem q1023 : (Jvm.Cond.privateMethod ({ cls := "SecretSquares", name := "apart", desc := "(Z)[I" } : Jvm.MethodName)) ∈ lw_tbl := lw_at lw_m5 8 rfl
theorem q1024 : (Jvm.Cond.instanceMethod ({ cls := "SecretSquares", name := "apart", desc := "(Z)[I" } : Jvm.MethodName)) ∈ lw_all := lw_g (lw_at lw_m5 9 rfl) rfl
theorem q1025 : (Jvm.Cond.code ({ cls := "SecretSquares", name := "apart", desc := "(Z)[I" } : Jvm.MethodName) prog_1_method_22_code (9 : Nat) (Option.some (Jvm.ClassFile.FieldType.array Jvm.ClassFile.FieldType.int))) ∈ lw_all := lw_g (lw_at lw_m5 10 rfl) rfl
theorem q1026 : (Jvm.Cond.methodLink "SecretSquares" (198 : Nat) ({ cls := "java/util/ArrayDeque", name := "size", desc := "()I" } : Jvm.MethodName)) ∈ lw_all := lw_g (lw_at lw_m5 11 rfl) rfl
theorem q1027 : (Jvm.Cond.methodLink "SecretSquares" (203 : Nat) ({ cls := "java/util/ArrayDeque", name := "removeFirst", desc := "()Ljava/lang/Object;" } : Jvm.MethodName)) ∈ lw_all := lw_g (lw_at lw_m5 12 rfl) rfl
theorem q1038 : (Jvm.Cond.methodLink "SecretSquares" (204 : Nat) ({ cls := "java/util/ArrayDeque", name := "addLast", desc := "(Ljava/lang/Object;)V" } : Jvm.MethodName)) ∈ lw_all := lw_g (lw_at lw_m5 23 rfl) rfl
theorem q1062 : (Jvm.Cond.instanceMethod ({ cls := "SecretSquares", name := "find", desc := "(I)I" } : Jvm.MethodName)) ∈ lw_all := lw_g (lw_at lw_m5 47 rfl) rfl
theorem q1063 : (Jvm.Cond.selects "SecretSquares" ({ cls := "SecretSquares", name := "find", desc := "(I)I" } : Jvm.MethodName) ({ cls := "SecretSquares", name := "find", desc := "(I)I" } : Jvm.MethodName)) ∈ lw_all := lw_g (lw_at lw_m5 48 rfl) rfl
theorem q1064 : (Jvm.Cond.code ({ cls := "SecretSquares", name := "find", desc := "(I)I" } : Jvm.MethodName) prog_1_method_26_code (2 : Nat) (Option.some Jvm.ClassFile.FieldType.int)) ∈ lw_all := lw_g (lw_at lw_m5 49 rfl) rfl
theorem q1066 : (Jvm.Cond.instanceMethod ({ cls := "SecretSquares", name := "undo", desc := "()I" } : Jvm.MethodName)) ∈ lw_all := lw_g (lw_at lw_m5 51 rfl) rfl
theorem q1067 : (Jvm.Cond.selects "SecretSquares" ({ cls := "SecretSquares", name := "undo", desc := "()I" } : Jvm.MethodName) ({ cls := "SecretSquares", name := "undo", desc := "()I" } : Jvm.MethodName)) ∈ lw_all := lw_g (lw_at lw_m5 52 rfl) rfl
theorem q1068 : (Jvm.Cond.code ({ cls := "SecretSquares", name := "undo", desc := "()I" } : Jvm.MethodName) prog_1_method_27_code (1 : Nat) (Option.some Jvm.ClassFile.FieldType.int)) ∈ lw_all := lw_g (lw_at lw_m5 53 rfl) rfl
theorem q1069 : (Jvm.Cond.methodLink "SecretSquares" (209 : Nat) ({ cls := "java/util/ArrayDeque", name := "isEmpty", desc := "()Z" } : Jvm.MethodName)) ∈ lw_all := lw_g (lw_at lw_m5 54 rfl) rfl
theorem q1073 : (Jvm.Cond.methodLink "SecretSquares" (210 : Nat) ({ cls := "java/util/ArrayDeque", name := "removeLast", desc := "()Ljava/lang/Object;" } : Jvm.MethodName)) ∈ lw_all := lw_g (lw_at lw_m5 58 rfl) rfl
theorem q1081 : (Jvm.Cond.classLink "SecretSquares" (213 : Nat) "[I") ∈ lw_all := lw_g (lw_at lw_m5 66 rfl) rfl
theorem q1083 : (Jvm.Cond.instanceMethod ({ cls := "SecretSquares", name := "times", desc := "(I)I" } : Jvm.MethodName)) ∈ lw_all := lw_g (lw_at lw_m5 68 rfl) rfl
theorem q1084 : (Jvm.Cond.selects "SecretSquares" ({ cls := "SecretSquares", name := "times", desc := "(I)I" } : Jvm.MethodName) ({ cls := "SecretSquares", name := "times", desc := "(I)I" } : Jvm.MethodName)) ∈ lw_all := lw_g (lw_at lw_m5 69 rfl) rfl
theorem q1085 : (Jvm.Cond.code ({ cls := "SecretSquares", name := "times", desc := "(I)I" } : Jvm.MethodName) prog_1_method_28_code (7 : Nat) (Option.some Jvm.ClassFile.FieldType.int)) ∈ lw_all := lw_g (lw_at lw_m5 70 rfl) rfl
theorem q1087 : (Jvm.Cond.instanceMethod ({ cls := "SecretSquares", name := "same", desc := "(I)I" } : Jvm.MethodName)) ∈ lw_all := lw_g (lw_at lw_m5 72 rfl) rfl
theorem q1088 : (Jvm.Cond.selects "SecretSquares" ({ cls := "SecretSquares", name := "same", desc := "(I)I" } : Jvm.MethodName) ({ cls := "SecretSquares", name := "same", desc := "(I)I" } : Jvm.MethodName)) ∈ lw_all := lw_g (lw_at lw_m5 73 rfl) rfl
theorem q1089 : (Jvm.Cond.code ({ cls := "SecretSquares", name := "same", desc := "(I)I" } : Jvm.MethodName) prog_1_method_30_code (2 : Nat) (Option.some Jvm.ClassFile.FieldType.int)) ∈ lw_all := lw_g (lw_at lw_m5 74 rfl) rfl
theorem q1090 : (Jvm.Cond.constantLong "SecretSquares" (214 : Nat) (47 : Int64)) ∈ lw_all := lw_g (lw_at lw_m5 75 rfl) rfl
theorem q1091 : (Jvm.Cond.methodLink "SecretSquares" (216 : Nat) ({ cls := "SecretSquares", name := "sameAt", desc := "(I)I" } : Jvm.MethodName)) ∈ lw_all := lw_g (lw_at lw_m5 76 rfl) rfl
theorem q1092 : (Jvm.Cond.privateMethod ({ cls := "SecretSquares", name := "sameAt", desc := "(I)I" } : Jvm.MethodName)) ∈ lw_tbl := lw_at lw_m5 77 rfl
theorem q1093 : (Jvm.Cond.instanceMethod ({ cls := "SecretSquares", name := "sameAt", desc := "(I)I" } : Jvm.MethodName)) ∈ lw_all := lw_g (lw_at lw_m5 78 rfl) rfl
theorem q1094 : (Jvm.Cond.code ({ cls := "SecretSquares", name := "sameAt", desc := "(I)I" } : Jvm.MethodName) prog_1_method_29_code (4 : Nat) (Option.some Jvm.ClassFile.FieldType.int)) ∈ lw_all := lw_g (lw_at lw_m5 79 rfl) rfl
theorem q1096 : (Jvm.Cond.instanceMethod ({ cls := "SecretSquares", name := "length", desc := "(I)I" } : Jvm.MethodName)) ∈ lw_all := lw_g (lw_at lw_m5 81 rfl) rfl
theorem q1097 : (Jvm.Cond.selects "SecretSquares" ({ cls := "SecretSquares", name := "length", desc := "(I)I" } : Jvm.MethodName) ({ cls := "SecretSquares", name := "length", desc := "(I)I" } : Jvm.MethodName)) ∈ lw_all := lw_g (lw_at lw_m5 82 rfl) rfl
theorem q1098 : (Jvm.Cond.code ({ cls := "SecretSquares", name := "length", desc := "(I)I" } : Jvm.MethodName) prog_1_method_31_code (5 : Nat) (Option.some Jvm.ClassFile.FieldType.int)) ∈ lw_all := lw_g (lw_at lw_m5 83 rfl) rfl
theorem q1099 : (Jvm.Cond.constantLong "SecretSquares" (220 : Nat) (20 : Int64)) ∈ lw_all := lw_g (lw_at lw_m5 84 rfl) rfl
theorem q1101 : (Jvm.Cond.instanceMethod ({ cls := "SecretSquares", name := "shift", desc := "(IIII)I" } : Jvm.MethodName)) ∈ lw_all := lw_g (lw_at lw_m5 86 rfl) rfl
theorem q1102 : (Jvm.Cond.selects "SecretSquares" ({ cls := "SecretSquares", name := "shift", desc := "(IIII)I" } : Jvm.MethodName) ({ cls := "SecretSquares", name := "shift", desc := "(IIII)I" } : Jvm.MethodName)) ∈ lw_all := lw_g (lw_at lw_m5 87 rfl) rfl
theorem q1103 : (Jvm.Cond.code ({ cls := "SecretSquares", name := "shift", desc := "(IIII)I" } : Jvm.MethodName) prog_1_method_33_code (10 : Nat) (Option.some Jvm.ClassFile.FieldType.int)) ∈ lw_all := lw_g (lw_at lw_m5 88 rfl) rfl
theorem q1104 : (Jvm.Cond.constantLong "SecretSquares" (222 : Nat) (8 : Int64)) ∈ lw_all := lw_g (lw_at lw_m5 89 rfl) rfl
theorem q1105 : (Jvm.Cond.methodLink "SecretSquares" (224 : Nat) ({ cls := "java/util/LinkedList", name := "getFirst", desc := "()Ljava/lang/Object;" } : Jvm.MethodName)) ∈ lw_all := lw_g (lw_at lw_m5 90 rfl) rfl
theorem q1109 : (Jvm.Cond.methodLink "SecretSquares" (227 : Nat) ({ cls := "SecretSquares", name := "score", desc := "(III)I" } : Jvm.MethodName)) ∈ lw_all := lw_g (lw_at lw_m5 94 rfl) rfl
theorem q1110 : (Jvm.Cond.privateMethod ({ cls := "SecretSquares", name := "score", desc := "(III)I" } : Jvm.MethodName)) ∈ lw_tbl := lw_at lw_m5 95 rfl
theorem q1111 : (Jvm.Cond.instanceMethod ({ cls := "SecretSquares", name := "score", desc := "(III)I" } : Jvm.MethodName)) ∈ lw_all := lw_g (lw_at lw_m5 96 rfl) rfl
theorem q1112 : (Jvm.Cond.code ({ cls := "SecretSquares", name := "score", desc := "(III)I" } : Jvm.MethodName) prog_1_method_32_code (6 : Nat) (Option.some Jvm.ClassFile.FieldType.int)) ∈ lw_all := lw_g (lw_at lw_m5 97 rfl) rfl
theorem q1113 : (Jvm.Cond.methodLink "SecretSquares" (231 : Nat) ({ cls := "java/util/LinkedList", name := "removeFirstOccurrence", desc := "(Ljava/lang/Object;)Z" } : Jvm.MethodName)) ∈ lw_all := lw_g (lw_at lw_m5 98 rfl) rfl
theorem q1125 : (Jvm.Cond.selects "SecretSquares" ({ cls := "java/lang/Object", name := "equals", desc := "(Ljava/lang/Object;)Z" } : Jvm.MethodName) ({ cls := "java/lang/Object", name := "equals", desc := "(Ljava/lang/Object;)Z" } : Jvm.MethodName)) ∈ lw_all := lw_g (lw_at lw_m5 110 rfl) rfl
theorem q1143 : (Jvm.Cond.instanceMethod ({ cls := "SecretSquares", name := "good", desc := "()I" } : Jvm.MethodName)) ∈ lw_all := lw_g (lw_at lw_m5 128 rfl) rfl
theorem q1144 : (Jvm.Cond.selects "SecretSquares" ({ cls := "SecretSquares", name := "good", desc := "()I" } : Jvm.MethodName) ({ cls := "SecretSquares", name := "good", desc := "()I" } : Jvm.MethodName)) ∈ lw_all := lw_g (lw_at lw_m5 129 rfl) rfl
theorem q1145 : (Jvm.Cond.code ({ cls := "SecretSquares", name := "good", desc := "()I" } : Jvm.MethodName) prog_1_method_35_code (1 : Nat) (Option.some Jvm.ClassFile.FieldType.int)) ∈ lw_all := lw_g (lw_at lw_m5 130 rfl) rfl
theorem q1146 : (Jvm.Cond.methodLink "SecretSquares" (238 : Nat) ({ cls := "SecretSquares", name := "good", desc := "([I)I" } : Jvm.MethodName)) ∈ lw_all := lw_g (lw_at lw_m5 131 rfl) rfl
theorem q1147 : (Jvm.Cond.privateMethod ({ cls := "SecretSquares", name := "good", desc := "([I)I" } : Jvm.MethodName)) ∈ lw_tbl := lw_at lw_m5 132 rfl
theorem q1148 : (Jvm.Cond.instanceMethod ({ cls := "SecretSquares", name := "good", desc := "([I)I" } : Jvm.MethodName)) ∈ lw_all := lw_g (lw_at lw_m5 133 rfl) rfl
theorem q1149 : (Jvm.Cond.code ({ cls := "SecretSquares", name := "good", desc := "([I)I" } : Jvm.MethodName) prog_1_method_34_code (4 : Nat) (Option.some Jvm.ClassFile.FieldType.int)) ∈ lw_all := lw_g (lw_at lw_m5 134 rfl) rfl
theorem q1150 : (Jvm.Cond.methodLink "SecretSquares" (235 : Nat) ({ cls := "java/util/BitSet", name := "get", desc := "(I)Z" } : Jvm.MethodName)) ∈ lw_all := lw_g (lw_at lw_m5 135 rfl) rfl
theorem q1155 : (Jvm.Cond.instanceMethod ({ cls := "SecretSquares", name := "order", desc := "(II)I" } : Jvm.MethodName)) ∈ lw_all := lw_g (lw_at lw_m5 140 rfl) rfl
theorem q1156 : (Jvm.Cond.selects "SecretSquares" ({ cls := "SecretSquares", name := "order", desc := "(II)I" } : Jvm.MethodName) ({ cls := "SecretSquares", name := "order", desc := "(II)I" } : Jvm.MethodName)) ∈ lw_all := lw_g (lw_at lw_m5 141 rfl) rfl
theorem q1157 : (Jvm.Cond.code ({ cls := "SecretSquares", name := "order", desc := "(II)I" } : Jvm.MethodName) prog_1_method_39_code (3 : Nat) (Option.some Jvm.ClassFile.FieldType.int)) ∈ lw_all := lw_g (lw_at lw_m5 142 rfl) rfl
theorem q1158 : (Jvm.Cond.constantLong "SecretSquares" (262 : Nat) (2 : Int64)) ∈ lw_all := lw_g (lw_at lw_m5 143 rfl) rfl
theorem q1159 : (Jvm.Cond.constantLong "SecretSquares" (264 : Nat) (-2 : Int64)) ∈ lw_all := lw_g (lw_at lw_m5 144 rfl) rfl
theorem q1160 : (Jvm.Cond.methodLink "SecretSquares" (258 : Nat) ({ cls := "SecretSquares", name := "orders", desc := "([III)V" } : Jvm.MethodName)) ∈ lw_all := lw_g (lw_at lw_m5 145 rfl) rfl
theorem q1161 : (Jvm.Cond.privateMethod ({ cls := "SecretSquares", name := "orders", desc := "([III)V" } : Jvm.MethodName)) ∈ lw_tbl := lw_at lw_m5 146 rfl
theorem q1162 : (Jvm.Cond.instanceMethod ({ cls := "SecretSquares", name := "orders", desc := "([III)V" } : Jvm.MethodName)) ∈ lw_all := lw_g (lw_at lw_m5 147 rfl) rfl
theorem q1163 : (Jvm.Cond.code ({ cls := "SecretSquares", name := "orders", desc := "([III)V" } : Jvm.MethodName) prog_1_method_38_code (5 : Nat) (Option.none : Option Jvm.ClassFile.FieldType)) ∈ lw_all := lw_g (lw_at lw_m5 148 rfl) rfl
theorem q1164 : (Jvm.Cond.methodLink "SecretSquares" (254 : Nat) ({ cls := "SecretSquares", name := "tryOrder", desc := "([I)V" } : Jvm.MethodName)) ∈ lw_all := lw_g (lw_at lw_m5 149 rfl) rfl
theorem q1165 : (Jvm.Cond.privateMethod ({ cls := "SecretSquares", name := "tryOrder", desc := "([I)V" } : Jvm.MethodName)) ∈ lw_tbl := lw_at lw_m5 150 rfl
theorem q1166 : (Jvm.Cond.instanceMethod ({ cls := "SecretSquares", name := "tryOrder", desc := "([I)V" } : Jvm.MethodName)) ∈ lw_all := lw_g (lw_at lw_m5 151 rfl) rfl
theorem q1167 : (Jvm.Cond.code ({ cls := "SecretSquares", name := "tryOrder", desc := "([I)V" } : Jvm.MethodName) prog_1_method_36_code (4 : Nat) (Option.none : Option Jvm.ClassFile.FieldType)) ∈ lw_all := lw_g (lw_at lw_m5 152 rfl) rfl
theorem q1168 : (Jvm.Cond.methodLink "SecretSquares" (242 : Nat) ({ cls := "SecretSquares", name := "goodOf", desc := "(I)I" } : Jvm.MethodName)) ∈ lw_all := lw_g (lw_at lw_m5 153 rfl) rfl
theorem q1169 : (Jvm.Cond.privateMethod ({ cls := "SecretSquares", name := "goodOf", desc := "(I)I" } : Jvm.MethodName)) ∈ lw_tbl := lw_at lw_m5 154 rfl
theorem q1170 : (Jvm.Cond.instanceMethod ({ cls := "SecretSquares", name := "goodOf", desc := "(I)I" } : Jvm.MethodName)) ∈ lw_all := lw_g (lw_at lw_m5 155 rfl) rfl
theorem q1171 : (Jvm.Cond.code ({ cls := "SecretSquares", name := "goodOf", desc := "(I)I" } : Jvm.MethodName) prog_1_method_37_code (4 : Nat) (Option.some Jvm.ClassFile.FieldType.int)) ∈ lw_all := lw_g (lw_at lw_m5 156 rfl) rfl
theorem q1172 : (Jvm.Cond.methodLink "SecretSquares" (251 : Nat) ({ cls := "[I", name := "clone", desc := "()Ljava/lang/Object;" } : Jvm.MethodName)) ∈ lw_all := lw_g (lw_at lw_m5 157 rfl) rfl
theorem q1177 : (Jvm.Cond.instanceMethod ({ cls := "SecretSquares", name := "climb", desc := "(III)I" } : Jvm.MethodName)) ∈ lw_all := lw_g (lw_at lw_m5 162 rfl) rfl
theorem q1178 : (Jvm.Cond.selects "SecretSquares" ({ cls := "SecretSquares", name := "climb", desc := "(III)I" } : Jvm.MethodName) ({ cls := "SecretSquares", name := "climb", desc := "(III)I" } : Jvm.MethodName)) ∈ lw_all := lw_g (lw_at lw_m5 163 rfl) rfl
theorem q1179 : (Jvm.Cond.code ({ cls := "SecretSquares", name := "climb", desc := "(III)I" } : Jvm.MethodName) prog_1_method_42_code (11 : Nat) (Option.some Jvm.ClassFile.FieldType.int)) ∈ lw_all := lw_g (lw_at lw_m5 164 rfl) rfl
theorem q1180 : (Jvm.Cond.constantLong "SecretSquares" (266 : Nat) (9999 : Int64)) ∈ lw_all := lw_g (lw_at lw_m5 165 rfl) rfl
theorem q1181 : (Jvm.Cond.constantLong "SecretSquares" (268 : Nat) (60 : Int64)) ∈ lw_all := lw_g (lw_at lw_m5 166 rfl) rfl
theorem q1182 : (Jvm.Cond.methodLink "SecretSquares" (270 : Nat) ({ cls := "SecretSquares", name := "goodBy", desc := "([I[I)I" } : Jvm.MethodName)) ∈ lw_all := lw_g (lw_at lw_m5 167 rfl) rfl
theorem q1183 : (Jvm.Cond.privateMethod ({ cls := "SecretSquares", name := "goodBy", desc := "([I[I)I" } : Jvm.MethodName)) ∈ lw_tbl := lw_at lw_m5 168 rfl
theorem q1184 : (Jvm.Cond.instanceMethod ({ cls := "SecretSquares", name := "goodBy", desc := "([I[I)I" } : Jvm.MethodName)) ∈ lw_all := lw_g (lw_at lw_m5 169 rfl) rfl
theorem q1185 : (Jvm.Cond.code ({ cls := "SecretSquares", name := "goodBy", desc := "([I[I)I" } : Jvm.MethodName) prog_1_method_41_code (4 : Nat) (Option.some Jvm.ClassFile.FieldType.int)) ∈ lw_all := lw_g (lw_at lw_m5 170 rfl) rfl
theorem q1186 : (Jvm.Cond.constant "SecretSquares" (274 : Nat) (65537 : Int32)) ∈ lw_all := lw_g (lw_at lw_m5 171 rfl) rfl
theorem q1187 : (Jvm.Cond.methodLink "SecretSquares" (275 : Nat) ({ cls := "SecretSquares", name := "exchange", desc := "([III)V" } : Jvm.MethodName)) ∈ lw_all := lw_g (lw_at lw_m5 172 rfl) rfl
theorem q1188 : (Jvm.Cond.static ({ cls := "SecretSquares", name := "exchange", desc := "([III)V" } : Jvm.MethodName)) ∈ lw_all := lw_g (lw_at lw_m5 173 rfl) rfl
theorem q1189 : (Jvm.Cond.code ({ cls := "SecretSquares", name := "exchange", desc := "([III)V" } : Jvm.MethodName) prog_1_method_40_code (4 : Nat) (Option.none : Option Jvm.ClassFile.FieldType)) ∈ lw_all := lw_g (lw_at lw_m5 174 rfl) rfl
theorem q1191 : (Jvm.Cond.instanceMethod ({ cls := "SecretSquares", name := "image", desc := "(I)I" } : Jvm.MethodName)) ∈ lw_all := lw_g (lw_at lw_m5 176 rfl) rfl
theorem q1192 : (Jvm.Cond.selects "SecretSquares" ({ cls := "SecretSquares", name := "image", desc := "(I)I" } : Jvm.MethodName) ({ cls := "SecretSquares", name := "image", desc := "(I)I" } : Jvm.MethodName)) ∈ lw_all := lw_g (lw_at lw_m5 177 rfl) rfl
theorem q1193 : (Jvm.Cond.code ({ cls := "SecretSquares", name := "image", desc := "(I)I" } : Jvm.MethodName) prog_1_method_43_code (2 : Nat) (Option.some Jvm.ClassFile.FieldType.int)) ∈ lw_all := lw_g (lw_at lw_m5 178 rfl) rfl
theorem q1194 : (Jvm.Cond.interfaceEntry "SecretSquares" (278 : Nat)) ∈ lw_tbl := lw_at lw_m5 179 rfl
theorem q1195 : (Jvm.Cond.methodLink "SecretSquares" (278 : Nat) ({ cls := "java/util/List", name := "get", desc := "(I)Ljava/lang/Object;" } : Jvm.MethodName)) ∈ lw_all := lw_g (lw_at lw_m5 180 rfl) rfl
theorem q1208 : (Jvm.Cond.methodLink "SecretSquares" (281 : Nat) ({ cls := "SecretSquares$Desk", name := "take", desc := "(LSecretSquares$Desk;)V" } : Jvm.MethodName)) ∈ lw_all := lw_g (lw_at lw_m5 193 rfl) rfl
theorem q1263 : (Jvm.Cond.methodLink "SecretSquares" (285 : Nat) ({ cls := "java/util/BitSet", name := "set", desc := "(I)V" } : Jvm.MethodName)) ∈ lw_all := lw_g (lw_at lw_m6 8 rfl) rfl
theorem q1265 : (Jvm.Cond.instanceMethod ({ cls := "SecretSquares", name := "restore", desc := "(I)I" } : Jvm.MethodName)) ∈ lw_all := lw_g (lw_at lw_m6 10 rfl) rfl
theorem q1266 : (Jvm.Cond.selects "SecretSquares" ({ cls := "SecretSquares", name := "restore", desc := "(I)I" } : Jvm.MethodName) ({ cls := "SecretSquares", name := "restore", desc := "(I)I" } : Jvm.MethodName)) ∈ lw_all := lw_g (lw_at lw_m6 11 rfl) rfl
theorem q1267 : (Jvm.Cond.code ({ cls := "SecretSquares", name := "restore", desc := "(I)I" } : Jvm.MethodName) prog_1_method_44_code (2 : Nat) (Option.some Jvm.ClassFile.FieldType.int)) ∈ lw_all := lw_g (lw_at lw_m6 12 rfl) rfl
theorem q1269 : (Jvm.Cond.instanceMethod ({ cls := "SecretSquares", name := "count", desc := "(I)I" } : Jvm.MethodName)) ∈ lw_all := lw_g (lw_at lw_m6 14 rfl) rfl
theorem q1270 : (Jvm.Cond.selects "SecretSquares" ({ cls := "SecretSquares", name := "count", desc := "(I)I" } : Jvm.MethodName) ({ cls := "SecretSquares", name := "count", desc := "(I)I" } : Jvm.MethodName)) ∈ lw_all := lw_g (lw_at lw_m6 15 rfl) rfl
theorem q1271 : (Jvm.Cond.code ({ cls := "SecretSquares", name := "count", desc := "(I)I" } : Jvm.MethodName) prog_1_method_45_code (2 : Nat) (Option.some Jvm.ClassFile.FieldType.int)) ∈ lw_all := lw_g (lw_at lw_m6 16 rfl) rfl
theorem q1272 : (Jvm.Cond.constantLong "SecretSquares" (287 : Nat) (10 : Int64)) ∈ lw_all := lw_g (lw_at lw_m6 17 rfl) rfl
theorem q1273 : (Jvm.Cond.constantLong "SecretSquares" (289 : Nat) (25 : Int64)) ∈ lw_all := lw_g (lw_at lw_m6 18 rfl) rfl
theorem q1529 : (Jvm.Cond.castable "SecretSquares" "java/lang/Object") ∈ lw_tbl := lw_at lw_m7 34 rfl
theorem in_X0 : ∀ w ∈ wsX00, w ∈ lw_all := lw_in wsX00 [216, 218, 220, 222, 224, 226, 228, 230, 232, 234] (by decide +kernel) (by decide +kernel)

/-! SecretSquares$Desk -/
set_option maxRecDepth 100000
def RX1 : String := "SecretSquares$Desk"
def TX1 : u_T := fun k => match k with
  | 0 => ("SecretSquares$Desk", "text", "[I", false)
  | 1 => ("SecretSquares$Desk", "key", "[I", false)
  | 2 => ("SecretSquares$Desk", "worth", "[I", true)
  | 3 => ("SecretSquares$Desk", "liked", "Ljava/util/BitSet;", false)
  | _ => ("SecretSquares$Desk", "steps", "Ljava/util/ArrayDeque;", true)
def tyX1 : Nat → FieldType := fun k => match k with
  | 0 => .array .int
  | 1 => .array .int
  | 2 => .array .int
  | 3 => .object "java/util/BitSet"
  | _ => .object "java/util/ArrayDeque"
abbrev wsX10 : List Cond := u_ws RX1 TX1 5
theorem nmX1 : ∀ a, a < 5 → ∀ b, b < 5 → a ≠ b → (TX1 a).2.1 ≠ (TX1 b).2.1 := by decide +kernel
theorem tyX1_ok : ∀ k, k < 5 → parseFieldDescriptor (TX1 k).2.2.1 = some (tyX1 k) := by decide +kernel
abbrev cX1_init : ByteArray := prog_2_method_1_code
def yX1_init : MethodName := ⟨RX1, "<init>", "()V"⟩
def dkwX1_init_2 : List UInt8 := [183, 0, 32, 181, 0, 33, 177]
abbrev dktX1_init_2 : List UInt8 := dkwX1_init_2 ++ []
def dkwX1_init_1 : List UInt8 := [181, 0, 18, 42, 187, 0, 21, 89, 17, 1, 0, 183, 0, 23, 181, 0, 26, 42, 187, 0, 30, 89]
abbrev dktX1_init_1 : List UInt8 := dkwX1_init_1 ++ dktX1_init_2
def dkwX1_init_0 : List UInt8 := [42, 183, 0, 3, 42, 3, 188, 10, 181, 0, 9, 42, 4, 188, 10, 181, 0, 15, 42, 16, 16, 188, 10]
abbrev dktX1_init_0 : List UInt8 := dkwX1_init_0 ++ dktX1_init_1
theorem dksX1_init_0 : cX1_init.data.toList.drop 0 = dktX1_init_0 := by decide +kernel
theorem dksX1_init_1 : cX1_init.data.toList.drop 23 = dktX1_init_1 := dk_seg dksX1_init_0 23 rfl rfl
theorem dksX1_init_2 : cX1_init.data.toList.drop 45 = dktX1_init_2 := dk_seg dksX1_init_1 22 rfl rfl
theorem dX1_init_0 : decode cX1_init 0 = .ok (.aload_n 0, 1) := dk_42 (dk_at dksX1_init_0 0 rfl rfl)
theorem dX1_init_1 : decode cX1_init 1 = .ok (.invokespecial 3, 3) := dk_183 0 3 (dk_at dksX1_init_0 1 rfl rfl)
theorem dX1_init_4 : decode cX1_init 4 = .ok (.aload_n 0, 1) := dk_42 (dk_at dksX1_init_0 4 rfl rfl)
theorem dX1_init_5 : decode cX1_init 5 = .ok (.iconst 0, 1) := dk_3 (dk_at dksX1_init_0 5 rfl rfl)
theorem dX1_init_6 : decode cX1_init 6 = .ok (.newarray .int, 2) := dk_188_10 (dk_at dksX1_init_0 6 rfl rfl)
theorem dX1_init_8 : decode cX1_init 8 = .ok (.putfield 9, 3) := dk_181 0 9 (dk_at dksX1_init_0 8 rfl rfl)
theorem dX1_init_11 : decode cX1_init 11 = .ok (.aload_n 0, 1) := dk_42 (dk_at dksX1_init_0 11 rfl rfl)
theorem dX1_init_12 : decode cX1_init 12 = .ok (.iconst 1, 1) := dk_4 (dk_at dksX1_init_0 12 rfl rfl)
theorem dX1_init_13 : decode cX1_init 13 = .ok (.newarray .int, 2) := dk_188_10 (dk_at dksX1_init_0 13 rfl rfl)
theorem dX1_init_15 : decode cX1_init 15 = .ok (.putfield 15, 3) := dk_181 0 15 (dk_at dksX1_init_0 15 rfl rfl)
theorem dX1_init_18 : decode cX1_init 18 = .ok (.aload_n 0, 1) := dk_42 (dk_at dksX1_init_0 18 rfl rfl)
theorem dX1_init_19 : decode cX1_init 19 = .ok (.bipush 16, 2) := dk_16 16 (dk_at dksX1_init_0 19 rfl rfl)
theorem dX1_init_21 : decode cX1_init 21 = .ok (.newarray .int, 2) := dk_188_10 (dk_at dksX1_init_0 21 rfl rfl)
theorem dX1_init_23 : decode cX1_init 23 = .ok (.putfield 18, 3) := dk_181 0 18 (dk_at dksX1_init_1 0 rfl rfl)
theorem dX1_init_26 : decode cX1_init 26 = .ok (.aload_n 0, 1) := dk_42 (dk_at dksX1_init_1 3 rfl rfl)
theorem dX1_init_27 : decode cX1_init 27 = .ok (.new 21, 3) := dk_187 0 21 (dk_at dksX1_init_1 4 rfl rfl)
theorem dX1_init_30 : decode cX1_init 30 = .ok (.dup, 1) := dk_89 (dk_at dksX1_init_1 7 rfl rfl)
theorem dX1_init_31 : decode cX1_init 31 = .ok (.sipush 256, 3) := dk_17 1 0 (dk_at dksX1_init_1 8 rfl rfl)
theorem dX1_init_34 : decode cX1_init 34 = .ok (.invokespecial 23, 3) := dk_183 0 23 (dk_at dksX1_init_1 11 rfl rfl)
theorem dX1_init_37 : decode cX1_init 37 = .ok (.putfield 26, 3) := dk_181 0 26 (dk_at dksX1_init_1 14 rfl rfl)
theorem dX1_init_40 : decode cX1_init 40 = .ok (.aload_n 0, 1) := dk_42 (dk_at dksX1_init_1 17 rfl rfl)
theorem dX1_init_41 : decode cX1_init 41 = .ok (.new 30, 3) := dk_187 0 30 (dk_at dksX1_init_1 18 rfl rfl)
theorem dX1_init_44 : decode cX1_init 44 = .ok (.dup, 1) := dk_89 (dk_at dksX1_init_1 21 rfl rfl)
theorem dX1_init_45 : decode cX1_init 45 = .ok (.invokespecial 32, 3) := dk_183 0 32 (dk_at dksX1_init_2 0 rfl rfl)
theorem dX1_init_48 : decode cX1_init 48 = .ok (.putfield 33, 3) := dk_181 0 33 (dk_at dksX1_init_2 3 rfl rfl)
theorem dX1_init_51 : decode cX1_init 51 = .ok (.return_, 1) := dk_177 (dk_at dksX1_init_2 6 rfl rfl)
abbrev cX1_take : ByteArray := prog_2_method_2_code
def yX1_take : MethodName := ⟨RX1, "take", "(LSecretSquares$Desk;)V"⟩
def dkwX1_take_4 : List UInt8 := [180, 0, 33, 45, 182, 0, 65, 167, 255, 229, 177]
abbrev dktX1_take_4 : List UInt8 := dkwX1_take_4 ++ []
def dkwX1_take_3 : List UInt8 := [182, 0, 52, 77, 44, 185, 0, 56, 1, 0, 153, 0, 24, 44, 185, 0, 62, 1, 0, 192, 0, 38, 78, 42]
abbrev dktX1_take_3 : List UInt8 := dkwX1_take_3 ++ dktX1_take_4
def dkwX1_take_2 : List UInt8 := [180, 0, 26, 182, 0, 48, 192, 0, 21, 181, 0, 26, 42, 180, 0, 33, 182, 0, 49, 43, 180, 0, 33]
abbrev dktX1_take_2 : List UInt8 := dkwX1_take_2 ++ dktX1_take_3
def dkwX1_take_1 : List UInt8 := [192, 0, 38, 181, 0, 15, 43, 180, 0, 18, 3, 42, 180, 0, 18, 3, 16, 16, 184, 0, 42, 42, 43]
abbrev dktX1_take_1 : List UInt8 := dkwX1_take_1 ++ dktX1_take_2
def dkwX1_take_0 : List UInt8 := [42, 43, 180, 0, 9, 182, 0, 37, 192, 0, 38, 181, 0, 9, 42, 43, 180, 0, 15, 182, 0, 37]
abbrev dktX1_take_0 : List UInt8 := dkwX1_take_0 ++ dktX1_take_1
theorem dksX1_take_0 : cX1_take.data.toList.drop 0 = dktX1_take_0 := by decide +kernel
theorem dksX1_take_1 : cX1_take.data.toList.drop 22 = dktX1_take_1 := dk_seg dksX1_take_0 22 rfl rfl
theorem dksX1_take_2 : cX1_take.data.toList.drop 45 = dktX1_take_2 := dk_seg dksX1_take_1 23 rfl rfl
theorem dksX1_take_3 : cX1_take.data.toList.drop 68 = dktX1_take_3 := dk_seg dksX1_take_2 23 rfl rfl
theorem dksX1_take_4 : cX1_take.data.toList.drop 92 = dktX1_take_4 := dk_seg dksX1_take_3 24 rfl rfl
theorem dX1_take_0 : decode cX1_take 0 = .ok (.aload_n 0, 1) := dk_42 (dk_at dksX1_take_0 0 rfl rfl)
theorem dX1_take_1 : decode cX1_take 1 = .ok (.aload_n 1, 1) := dk_43 (dk_at dksX1_take_0 1 rfl rfl)
theorem dX1_take_2 : decode cX1_take 2 = .ok (.getfield 9, 3) := dk_180 0 9 (dk_at dksX1_take_0 2 rfl rfl)
theorem dX1_take_5 : decode cX1_take 5 = .ok (.invokevirtual 37, 3) := dk_182 0 37 (dk_at dksX1_take_0 5 rfl rfl)
theorem dX1_take_8 : decode cX1_take 8 = .ok (.checkcast 38, 3) := dk_192 0 38 (dk_at dksX1_take_0 8 rfl rfl)
theorem dX1_take_11 : decode cX1_take 11 = .ok (.putfield 9, 3) := dk_181 0 9 (dk_at dksX1_take_0 11 rfl rfl)
theorem dX1_take_14 : decode cX1_take 14 = .ok (.aload_n 0, 1) := dk_42 (dk_at dksX1_take_0 14 rfl rfl)
theorem dX1_take_15 : decode cX1_take 15 = .ok (.aload_n 1, 1) := dk_43 (dk_at dksX1_take_0 15 rfl rfl)
theorem dX1_take_16 : decode cX1_take 16 = .ok (.getfield 15, 3) := dk_180 0 15 (dk_at dksX1_take_0 16 rfl rfl)
theorem dX1_take_19 : decode cX1_take 19 = .ok (.invokevirtual 37, 3) := dk_182 0 37 (dk_at dksX1_take_0 19 rfl rfl)
theorem dX1_take_22 : decode cX1_take 22 = .ok (.checkcast 38, 3) := dk_192 0 38 (dk_at dksX1_take_1 0 rfl rfl)
theorem dX1_take_25 : decode cX1_take 25 = .ok (.putfield 15, 3) := dk_181 0 15 (dk_at dksX1_take_1 3 rfl rfl)
theorem dX1_take_28 : decode cX1_take 28 = .ok (.aload_n 1, 1) := dk_43 (dk_at dksX1_take_1 6 rfl rfl)
theorem dX1_take_29 : decode cX1_take 29 = .ok (.getfield 18, 3) := dk_180 0 18 (dk_at dksX1_take_1 7 rfl rfl)
theorem dX1_take_32 : decode cX1_take 32 = .ok (.iconst 0, 1) := dk_3 (dk_at dksX1_take_1 10 rfl rfl)
theorem dX1_take_33 : decode cX1_take 33 = .ok (.aload_n 0, 1) := dk_42 (dk_at dksX1_take_1 11 rfl rfl)
theorem dX1_take_34 : decode cX1_take 34 = .ok (.getfield 18, 3) := dk_180 0 18 (dk_at dksX1_take_1 12 rfl rfl)
theorem dX1_take_37 : decode cX1_take 37 = .ok (.iconst 0, 1) := dk_3 (dk_at dksX1_take_1 15 rfl rfl)
theorem dX1_take_38 : decode cX1_take 38 = .ok (.bipush 16, 2) := dk_16 16 (dk_at dksX1_take_1 16 rfl rfl)
theorem dX1_take_40 : decode cX1_take 40 = .ok (.invokestatic 42, 3) := dk_184 0 42 (dk_at dksX1_take_1 18 rfl rfl)
theorem dX1_take_43 : decode cX1_take 43 = .ok (.aload_n 0, 1) := dk_42 (dk_at dksX1_take_1 21 rfl rfl)
theorem dX1_take_44 : decode cX1_take 44 = .ok (.aload_n 1, 1) := dk_43 (dk_at dksX1_take_1 22 rfl rfl)
theorem dX1_take_45 : decode cX1_take 45 = .ok (.getfield 26, 3) := dk_180 0 26 (dk_at dksX1_take_2 0 rfl rfl)
theorem dX1_take_48 : decode cX1_take 48 = .ok (.invokevirtual 48, 3) := dk_182 0 48 (dk_at dksX1_take_2 3 rfl rfl)
theorem dX1_take_51 : decode cX1_take 51 = .ok (.checkcast 21, 3) := dk_192 0 21 (dk_at dksX1_take_2 6 rfl rfl)
theorem dX1_take_54 : decode cX1_take 54 = .ok (.putfield 26, 3) := dk_181 0 26 (dk_at dksX1_take_2 9 rfl rfl)
theorem dX1_take_57 : decode cX1_take 57 = .ok (.aload_n 0, 1) := dk_42 (dk_at dksX1_take_2 12 rfl rfl)
theorem dX1_take_58 : decode cX1_take 58 = .ok (.getfield 33, 3) := dk_180 0 33 (dk_at dksX1_take_2 13 rfl rfl)
theorem dX1_take_61 : decode cX1_take 61 = .ok (.invokevirtual 49, 3) := dk_182 0 49 (dk_at dksX1_take_2 16 rfl rfl)
theorem dX1_take_64 : decode cX1_take 64 = .ok (.aload_n 1, 1) := dk_43 (dk_at dksX1_take_2 19 rfl rfl)
theorem dX1_take_65 : decode cX1_take 65 = .ok (.getfield 33, 3) := dk_180 0 33 (dk_at dksX1_take_2 20 rfl rfl)
theorem dX1_take_68 : decode cX1_take 68 = .ok (.invokevirtual 52, 3) := dk_182 0 52 (dk_at dksX1_take_3 0 rfl rfl)
theorem dX1_take_71 : decode cX1_take 71 = .ok (.astore_n 2, 1) := dk_77 (dk_at dksX1_take_3 3 rfl rfl)
theorem dX1_take_72 : decode cX1_take 72 = .ok (.aload_n 2, 1) := dk_44 (dk_at dksX1_take_3 4 rfl rfl)
theorem dX1_take_73 : decode cX1_take 73 = .ok (.invokeinterface 56 1, 5) := by decide +kernel
theorem dX1_take_78 : decode cX1_take 78 = .ok (.ifCond .eq 24, 3) := dk_153 0 24 (dk_at dksX1_take_3 10 rfl rfl)
theorem dX1_take_81 : decode cX1_take 81 = .ok (.aload_n 2, 1) := dk_44 (dk_at dksX1_take_3 13 rfl rfl)
theorem dX1_take_82 : decode cX1_take 82 = .ok (.invokeinterface 62 1, 5) := by decide +kernel
theorem dX1_take_87 : decode cX1_take 87 = .ok (.checkcast 38, 3) := dk_192 0 38 (dk_at dksX1_take_3 19 rfl rfl)
theorem dX1_take_90 : decode cX1_take 90 = .ok (.astore_n 3, 1) := dk_78 (dk_at dksX1_take_3 22 rfl rfl)
theorem dX1_take_91 : decode cX1_take 91 = .ok (.aload_n 0, 1) := dk_42 (dk_at dksX1_take_3 23 rfl rfl)
theorem dX1_take_92 : decode cX1_take 92 = .ok (.getfield 33, 3) := dk_180 0 33 (dk_at dksX1_take_4 0 rfl rfl)
theorem dX1_take_95 : decode cX1_take 95 = .ok (.aload_n 3, 1) := dk_45 (dk_at dksX1_take_4 3 rfl rfl)
theorem dX1_take_96 : decode cX1_take 96 = .ok (.invokevirtual 65, 3) := dk_182 0 65 (dk_at dksX1_take_4 4 rfl rfl)
theorem dX1_take_99 : decode cX1_take 99 = .ok (.goto (-27), 3) := dk_167 255 229 (dk_at dksX1_take_4 7 rfl rfl)
theorem dX1_take_102 : decode cX1_take 102 = .ok (.return_, 1) := dk_177 (dk_at dksX1_take_4 10 rfl rfl)
theorem q57 : (Jvm.Cond.initialized "SecretSquares$Desk") ∈ lw_all := lw_g (lw_at lw_m1 2 rfl) rfl
theorem q105 : (Jvm.Cond.instantiable "SecretSquares$Desk" (5 : Nat)) ∈ lw_all := lw_g (lw_at lw_m1 50 rfl) rfl
theorem q107 : (Jvm.Cond.instanceMethod ({ cls := "SecretSquares$Desk", name := "<init>", desc := "()V" } : Jvm.MethodName)) ∈ lw_all := lw_g (lw_at lw_m1 52 rfl) rfl
theorem q108 : (Jvm.Cond.code ({ cls := "SecretSquares$Desk", name := "<init>", desc := "()V" } : Jvm.MethodName) prog_2_method_1_code (1 : Nat) (Option.none : Option Jvm.ClassFile.FieldType)) ∈ lw_all := lw_g (lw_at lw_m1 53 rfl) rfl
theorem q109 : (Jvm.Cond.methodLink "SecretSquares$Desk" (3 : Nat) ({ cls := "java/lang/Object", name := "<init>", desc := "()V" } : Jvm.MethodName)) ∈ lw_all := lw_g (lw_at lw_m1 54 rfl) rfl
theorem q110 : (Jvm.Cond.classLink "SecretSquares$Desk" (21 : Nat) "java/util/BitSet") ∈ lw_all := lw_g (lw_at lw_m1 55 rfl) rfl
theorem q112 : (Jvm.Cond.methodLink "SecretSquares$Desk" (23 : Nat) ({ cls := "java/util/BitSet", name := "<init>", desc := "(I)V" } : Jvm.MethodName)) ∈ lw_all := lw_g (lw_at lw_m1 57 rfl) rfl
theorem q135 : (Jvm.Cond.classLink "SecretSquares$Desk" (30 : Nat) "java/util/ArrayDeque") ∈ lw_all := lw_g (lw_at lw_m1 80 rfl) rfl
theorem q137 : (Jvm.Cond.methodLink "SecretSquares$Desk" (32 : Nat) ({ cls := "java/util/ArrayDeque", name := "<init>", desc := "()V" } : Jvm.MethodName)) ∈ lw_all := lw_g (lw_at lw_m1 82 rfl) rfl
theorem q158 : (Jvm.Cond.fieldLink "SecretSquares$Desk" (9 : Nat) "SecretSquares$Desk" "text" "[I") ∈ lw_all := lw_g (lw_at lw_m1 103 rfl) rfl
theorem q160 : (Jvm.Cond.fieldLink "SecretSquares$Desk" (15 : Nat) "SecretSquares$Desk" "key" "[I") ∈ lw_all := lw_g (lw_at lw_m1 105 rfl) rfl
theorem q162 : (Jvm.Cond.fieldLink "SecretSquares$Desk" (18 : Nat) "SecretSquares$Desk" "worth" "[I") ∈ lw_all := lw_g (lw_at lw_m1 107 rfl) rfl
theorem q164 : (Jvm.Cond.fieldLink "SecretSquares$Desk" (26 : Nat) "SecretSquares$Desk" "liked" "Ljava/util/BitSet;") ∈ lw_all := lw_g (lw_at lw_m1 109 rfl) rfl
theorem q166 : (Jvm.Cond.fieldLink "SecretSquares$Desk" (33 : Nat) "SecretSquares$Desk" "steps" "Ljava/util/ArrayDeque;") ∈ lw_all := lw_g (lw_at lw_m1 111 rfl) rfl
theorem q168 : (Jvm.Cond.lays "SecretSquares$Desk" "SecretSquares$Desk" "text" "[I") ∈ lw_all := lw_g (lw_at lw_m1 113 rfl) rfl
theorem q169 : (Jvm.Cond.soleField "SecretSquares$Desk" "text") ∈ lw_all := lw_g (lw_at lw_m1 114 rfl) rfl
theorem q170 : (Jvm.Cond.lays "SecretSquares$Desk" "SecretSquares$Desk" "key" "[I") ∈ lw_all := lw_g (lw_at lw_m1 115 rfl) rfl
theorem q171 : (Jvm.Cond.soleField "SecretSquares$Desk" "key") ∈ lw_all := lw_g (lw_at lw_m1 116 rfl) rfl
theorem q172 : (Jvm.Cond.laysFinal "SecretSquares$Desk" "SecretSquares$Desk" "worth" "[I") ∈ lw_all := lw_g (lw_at lw_m1 117 rfl) rfl
theorem q173 : (Jvm.Cond.soleField "SecretSquares$Desk" "worth") ∈ lw_all := lw_g (lw_at lw_m1 118 rfl) rfl
theorem q174 : (Jvm.Cond.lays "SecretSquares$Desk" "SecretSquares$Desk" "liked" "Ljava/util/BitSet;") ∈ lw_all := lw_g (lw_at lw_m1 119 rfl) rfl
theorem q175 : (Jvm.Cond.soleField "SecretSquares$Desk" "liked") ∈ lw_all := lw_g (lw_at lw_m1 120 rfl) rfl
theorem q176 : (Jvm.Cond.laysFinal "SecretSquares$Desk" "SecretSquares$Desk" "steps" "Ljava/util/ArrayDeque;") ∈ lw_all := lw_g (lw_at lw_m1 121 rfl) rfl
theorem q177 : (Jvm.Cond.soleField "SecretSquares$Desk" "steps") ∈ lw_all := lw_g (lw_at lw_m1 122 rfl) rfl
theorem q178 : (Jvm.Cond.superclass "SecretSquares$Desk" "java/lang/Object") ∈ lw_all := lw_g (lw_at lw_m1 123 rfl) rfl
theorem q596 : (Jvm.Cond.selects "SecretSquares$Desk" ({ cls := "java/lang/Object", name := "getClass", desc := "()Ljava/lang/Class;" } : Jvm.MethodName) ({ cls := "java/lang/Object", name := "getClass", desc := "()Ljava/lang/Class;" } : Jvm.MethodName)) ∈ lw_all := lw_g (lw_at lw_m3 61 rfl) rfl
theorem q1126 : (Jvm.Cond.selects "SecretSquares$Desk" ({ cls := "java/lang/Object", name := "equals", desc := "(Ljava/lang/Object;)Z" } : Jvm.MethodName) ({ cls := "java/lang/Object", name := "equals", desc := "(Ljava/lang/Object;)Z" } : Jvm.MethodName)) ∈ lw_all := lw_g (lw_at lw_m5 111 rfl) rfl
theorem q1209 : (Jvm.Cond.instanceMethod ({ cls := "SecretSquares$Desk", name := "take", desc := "(LSecretSquares$Desk;)V" } : Jvm.MethodName)) ∈ lw_all := lw_g (lw_at lw_m5 194 rfl) rfl
theorem q1210 : (Jvm.Cond.selects "SecretSquares$Desk" ({ cls := "SecretSquares$Desk", name := "take", desc := "(LSecretSquares$Desk;)V" } : Jvm.MethodName) ({ cls := "SecretSquares$Desk", name := "take", desc := "(LSecretSquares$Desk;)V" } : Jvm.MethodName)) ∈ lw_all := lw_g (lw_at lw_m5 195 rfl) rfl
theorem q1211 : (Jvm.Cond.code ({ cls := "SecretSquares$Desk", name := "take", desc := "(LSecretSquares$Desk;)V" } : Jvm.MethodName) prog_2_method_2_code (4 : Nat) (Option.none : Option Jvm.ClassFile.FieldType)) ∈ lw_all := lw_g (lw_at lw_m5 196 rfl) rfl
theorem q1212 : (Jvm.Cond.methodLink "SecretSquares$Desk" (37 : Nat) ({ cls := "[I", name := "clone", desc := "()Ljava/lang/Object;" } : Jvm.MethodName)) ∈ lw_all := lw_g (lw_at lw_m5 197 rfl) rfl
theorem q1213 : (Jvm.Cond.classLink "SecretSquares$Desk" (38 : Nat) "[I") ∈ lw_all := lw_g (lw_at lw_m5 198 rfl) rfl
theorem q1214 : (Jvm.Cond.methodLink "SecretSquares$Desk" (42 : Nat) ({ cls := "java/lang/System", name := "arraycopy", desc := "(Ljava/lang/Object;ILjava/lang/Object;II)V" } : Jvm.MethodName)) ∈ lw_all := lw_g (lw_at lw_m5 199 rfl) rfl
theorem q1215 : (Jvm.Cond.methodLink "SecretSquares$Desk" (48 : Nat) ({ cls := "java/util/BitSet", name := "clone", desc := "()Ljava/lang/Object;" } : Jvm.MethodName)) ∈ lw_all := lw_g (lw_at lw_m5 200 rfl) rfl
theorem q1227 : (Jvm.Cond.methodLink "SecretSquares$Desk" (49 : Nat) ({ cls := "java/util/ArrayDeque", name := "clear", desc := "()V" } : Jvm.MethodName)) ∈ lw_all := lw_g (lw_at lw_m5 212 rfl) rfl
theorem q1234 : (Jvm.Cond.methodLink "SecretSquares$Desk" (52 : Nat) ({ cls := "java/util/ArrayDeque", name := "iterator", desc := "()Ljava/util/Iterator;" } : Jvm.MethodName)) ∈ lw_all := lw_g (lw_at lw_m5 219 rfl) rfl
theorem q1258 : (Jvm.Cond.interfaceEntry "SecretSquares$Desk" (56 : Nat)) ∈ lw_tbl := lw_at lw_m6 3 rfl
theorem q1259 : (Jvm.Cond.methodLink "SecretSquares$Desk" (56 : Nat) ({ cls := "java/util/Iterator", name := "hasNext", desc := "()Z" } : Jvm.MethodName)) ∈ lw_all := lw_g (lw_at lw_m6 4 rfl) rfl
theorem q1260 : (Jvm.Cond.interfaceEntry "SecretSquares$Desk" (62 : Nat)) ∈ lw_tbl := lw_at lw_m6 5 rfl
theorem q1261 : (Jvm.Cond.methodLink "SecretSquares$Desk" (62 : Nat) ({ cls := "java/util/Iterator", name := "next", desc := "()Ljava/lang/Object;" } : Jvm.MethodName)) ∈ lw_all := lw_g (lw_at lw_m6 6 rfl) rfl
theorem q1262 : (Jvm.Cond.methodLink "SecretSquares$Desk" (65 : Nat) ({ cls := "java/util/ArrayDeque", name := "addLast", desc := "(Ljava/lang/Object;)V" } : Jvm.MethodName)) ∈ lw_all := lw_g (lw_at lw_m6 7 rfl) rfl
theorem q1530 : (Jvm.Cond.castable "SecretSquares$Desk" "java/lang/Object") ∈ lw_tbl := lw_at lw_m7 35 rfl
theorem in_X1 : ∀ w ∈ wsX10, w ∈ lw_all := lw_in wsX10 [168, 170, 172, 174, 176] (by decide +kernel) (by decide +kernel)
