/-! SecretSquaresModel -/
set_option maxRecDepth 100000
def RX2 : String := "SecretSquaresModel"
def TX2 : u_T := fun k => match k with
  | 0 => ("SecretSquaresModel", "state", "[I", true)
  | 1 => ("SecretSquaresModel", "images", "[I", true)
  | 2 => ("SecretSquaresModel", "isKept", "[Z", true)
  | 3 => ("SecretSquaresModel", "pad", "[I", true)
  | 4 => ("SecretSquaresModel", "said", "I", false)
  | 5 => ("SecretSquaresModel", "text", "[I", true)
  | 6 => ("SecretSquaresModel", "other", "[I", true)
  | 7 => ("SecretSquaresModel", "square", "[I", true)
  | 8 => ("SecretSquaresModel", "order", "[I", true)
  | 9 => ("SecretSquaresModel", "from", "[I", true)
  | 10 => ("SecretSquaresModel", "line", "[I", true)
  | _ => ("SecretSquaresModel", "kept", "I", false)
def tyX2 : Nat → FieldType := fun k => match k with
  | 0 => .array .int
  | 1 => .array .int
  | 2 => .array .boolean
  | 3 => .array .int
  | 4 => .int
  | 5 => .array .int
  | 6 => .array .int
  | 7 => .array .int
  | 8 => .array .int
  | 9 => .array .int
  | 10 => .array .int
  | _ => .int
abbrev wsX20 : List Cond := u_ws RX2 TX2 12
theorem nmX2 : ∀ a, a < 12 → ∀ b, b < 12 → a ≠ b → (TX2 a).2.1 ≠ (TX2 b).2.1 := by decide +kernel
theorem tyX2_ok : ∀ k, k < 12 → parseFieldDescriptor (TX2 k).2.2.1 = some (tyX2 k) := by decide +kernel
abbrev cX2_init : ByteArray := prog_4_method_1_code
def yX2_init : MethodName := ⟨RX2, "<init>", "()V"⟩
def dkwX2_init_3 : List UInt8 := [188, 10, 181, 0, 35, 42, 16, 96, 188, 10, 181, 0, 38, 42, 180, 0, 7, 16, 55, 4, 79, 177]
abbrev dktX2_init_3 : List UInt8 := dkwX2_init_3 ++ []
def dkwX2_init_2 : List UInt8 := [188, 10, 181, 0, 26, 42, 16, 16, 188, 10, 181, 0, 29, 42, 16, 6, 188, 10, 181, 0, 32, 42, 16, 48]
abbrev dktX2_init_2 : List UInt8 := dkwX2_init_2 ++ dktX2_init_3
def dkwX2_init_1 : List UInt8 := [188, 4, 181, 0, 16, 42, 16, 48, 188, 10, 181, 0, 20, 42, 16, 48, 188, 10, 181, 0, 23, 42, 16, 48]
abbrev dktX2_init_1 : List UInt8 := dkwX2_init_1 ++ dktX2_init_2
def dkwX2_init_0 : List UInt8 := [42, 183, 0, 1, 42, 17, 3, 51, 188, 10, 181, 0, 7, 42, 17, 6, 102, 188, 10, 181, 0, 13, 42, 5]
abbrev dktX2_init_0 : List UInt8 := dkwX2_init_0 ++ dktX2_init_1
theorem dksX2_init_0 : cX2_init.data.toList.drop 0 = dktX2_init_0 := by decide +kernel
theorem dksX2_init_1 : cX2_init.data.toList.drop 24 = dktX2_init_1 := dk_seg dksX2_init_0 24 rfl rfl
theorem dksX2_init_2 : cX2_init.data.toList.drop 48 = dktX2_init_2 := dk_seg dksX2_init_1 24 rfl rfl
theorem dksX2_init_3 : cX2_init.data.toList.drop 72 = dktX2_init_3 := dk_seg dksX2_init_2 24 rfl rfl
theorem dX2_init_0 : decode cX2_init 0 = .ok (.aload_n 0, 1) := dk_42 (dk_at dksX2_init_0 0 rfl rfl)
theorem dX2_init_1 : decode cX2_init 1 = .ok (.invokespecial 1, 3) := dk_183 0 1 (dk_at dksX2_init_0 1 rfl rfl)
theorem dX2_init_4 : decode cX2_init 4 = .ok (.aload_n 0, 1) := dk_42 (dk_at dksX2_init_0 4 rfl rfl)
theorem dX2_init_5 : decode cX2_init 5 = .ok (.sipush 819, 3) := dk_17 3 51 (dk_at dksX2_init_0 5 rfl rfl)
theorem dX2_init_8 : decode cX2_init 8 = .ok (.newarray .int, 2) := dk_188_10 (dk_at dksX2_init_0 8 rfl rfl)
theorem dX2_init_10 : decode cX2_init 10 = .ok (.putfield 7, 3) := dk_181 0 7 (dk_at dksX2_init_0 10 rfl rfl)
theorem dX2_init_13 : decode cX2_init 13 = .ok (.aload_n 0, 1) := dk_42 (dk_at dksX2_init_0 13 rfl rfl)
theorem dX2_init_14 : decode cX2_init 14 = .ok (.sipush 1638, 3) := dk_17 6 102 (dk_at dksX2_init_0 14 rfl rfl)
theorem dX2_init_17 : decode cX2_init 17 = .ok (.newarray .int, 2) := dk_188_10 (dk_at dksX2_init_0 17 rfl rfl)
theorem dX2_init_19 : decode cX2_init 19 = .ok (.putfield 13, 3) := dk_181 0 13 (dk_at dksX2_init_0 19 rfl rfl)
theorem dX2_init_22 : decode cX2_init 22 = .ok (.aload_n 0, 1) := dk_42 (dk_at dksX2_init_0 22 rfl rfl)
theorem dX2_init_23 : decode cX2_init 23 = .ok (.iconst 2, 1) := dk_5 (dk_at dksX2_init_0 23 rfl rfl)
theorem dX2_init_24 : decode cX2_init 24 = .ok (.newarray .boolean, 2) := dk_188_4 (dk_at dksX2_init_1 0 rfl rfl)
theorem dX2_init_26 : decode cX2_init 26 = .ok (.putfield 16, 3) := dk_181 0 16 (dk_at dksX2_init_1 2 rfl rfl)
theorem dX2_init_29 : decode cX2_init 29 = .ok (.aload_n 0, 1) := dk_42 (dk_at dksX2_init_1 5 rfl rfl)
theorem dX2_init_30 : decode cX2_init 30 = .ok (.bipush 48, 2) := dk_16 48 (dk_at dksX2_init_1 6 rfl rfl)
theorem dX2_init_32 : decode cX2_init 32 = .ok (.newarray .int, 2) := dk_188_10 (dk_at dksX2_init_1 8 rfl rfl)
theorem dX2_init_34 : decode cX2_init 34 = .ok (.putfield 20, 3) := dk_181 0 20 (dk_at dksX2_init_1 10 rfl rfl)
theorem dX2_init_37 : decode cX2_init 37 = .ok (.aload_n 0, 1) := dk_42 (dk_at dksX2_init_1 13 rfl rfl)
theorem dX2_init_38 : decode cX2_init 38 = .ok (.bipush 48, 2) := dk_16 48 (dk_at dksX2_init_1 14 rfl rfl)
theorem dX2_init_40 : decode cX2_init 40 = .ok (.newarray .int, 2) := dk_188_10 (dk_at dksX2_init_1 16 rfl rfl)
theorem dX2_init_42 : decode cX2_init 42 = .ok (.putfield 23, 3) := dk_181 0 23 (dk_at dksX2_init_1 18 rfl rfl)
theorem dX2_init_45 : decode cX2_init 45 = .ok (.aload_n 0, 1) := dk_42 (dk_at dksX2_init_1 21 rfl rfl)
theorem dX2_init_46 : decode cX2_init 46 = .ok (.bipush 48, 2) := dk_16 48 (dk_at dksX2_init_1 22 rfl rfl)
theorem dX2_init_48 : decode cX2_init 48 = .ok (.newarray .int, 2) := dk_188_10 (dk_at dksX2_init_2 0 rfl rfl)
theorem dX2_init_50 : decode cX2_init 50 = .ok (.putfield 26, 3) := dk_181 0 26 (dk_at dksX2_init_2 2 rfl rfl)
theorem dX2_init_53 : decode cX2_init 53 = .ok (.aload_n 0, 1) := dk_42 (dk_at dksX2_init_2 5 rfl rfl)
theorem dX2_init_54 : decode cX2_init 54 = .ok (.bipush 16, 2) := dk_16 16 (dk_at dksX2_init_2 6 rfl rfl)
theorem dX2_init_56 : decode cX2_init 56 = .ok (.newarray .int, 2) := dk_188_10 (dk_at dksX2_init_2 8 rfl rfl)
theorem dX2_init_58 : decode cX2_init 58 = .ok (.putfield 29, 3) := dk_181 0 29 (dk_at dksX2_init_2 10 rfl rfl)
theorem dX2_init_61 : decode cX2_init 61 = .ok (.aload_n 0, 1) := dk_42 (dk_at dksX2_init_2 13 rfl rfl)
theorem dX2_init_62 : decode cX2_init 62 = .ok (.bipush 6, 2) := dk_16 6 (dk_at dksX2_init_2 14 rfl rfl)
theorem dX2_init_64 : decode cX2_init 64 = .ok (.newarray .int, 2) := dk_188_10 (dk_at dksX2_init_2 16 rfl rfl)
theorem dX2_init_66 : decode cX2_init 66 = .ok (.putfield 32, 3) := dk_181 0 32 (dk_at dksX2_init_2 18 rfl rfl)
theorem dX2_init_69 : decode cX2_init 69 = .ok (.aload_n 0, 1) := dk_42 (dk_at dksX2_init_2 21 rfl rfl)
theorem dX2_init_70 : decode cX2_init 70 = .ok (.bipush 48, 2) := dk_16 48 (dk_at dksX2_init_2 22 rfl rfl)
theorem dX2_init_72 : decode cX2_init 72 = .ok (.newarray .int, 2) := dk_188_10 (dk_at dksX2_init_3 0 rfl rfl)
theorem dX2_init_74 : decode cX2_init 74 = .ok (.putfield 35, 3) := dk_181 0 35 (dk_at dksX2_init_3 2 rfl rfl)
theorem dX2_init_77 : decode cX2_init 77 = .ok (.aload_n 0, 1) := dk_42 (dk_at dksX2_init_3 5 rfl rfl)
theorem dX2_init_78 : decode cX2_init 78 = .ok (.bipush 96, 2) := dk_16 96 (dk_at dksX2_init_3 6 rfl rfl)
theorem dX2_init_80 : decode cX2_init 80 = .ok (.newarray .int, 2) := dk_188_10 (dk_at dksX2_init_3 8 rfl rfl)
theorem dX2_init_82 : decode cX2_init 82 = .ok (.putfield 38, 3) := dk_181 0 38 (dk_at dksX2_init_3 10 rfl rfl)
theorem dX2_init_85 : decode cX2_init 85 = .ok (.aload_n 0, 1) := dk_42 (dk_at dksX2_init_3 13 rfl rfl)
theorem dX2_init_86 : decode cX2_init 86 = .ok (.getfield 7, 3) := dk_180 0 7 (dk_at dksX2_init_3 14 rfl rfl)
theorem dX2_init_89 : decode cX2_init 89 = .ok (.bipush 55, 2) := dk_16 55 (dk_at dksX2_init_3 17 rfl rfl)
theorem dX2_init_91 : decode cX2_init 91 = .ok (.iconst 1, 1) := dk_4 (dk_at dksX2_init_3 19 rfl rfl)
theorem dX2_init_92 : decode cX2_init 92 = .ok (.iastore, 1) := dk_79 (dk_at dksX2_init_3 20 rfl rfl)
theorem dX2_init_93 : decode cX2_init 93 = .ok (.return_, 1) := dk_177 (dk_at dksX2_init_3 21 rfl rfl)
abbrev cX2_say : ByteArray := prog_4_method_5_code
def yX2_say : MethodName := ⟨RX2, "say", "(I)I"⟩
def dkwX2_say_2 : List UInt8 := [180, 0, 45, 172]
abbrev dktX2_say_2 : List UInt8 := dkwX2_say_2 ++ []
def dkwX2_say_1 : List UInt8 := [16, 252, 172, 42, 180, 0, 20, 42, 180, 0, 45, 27, 79, 42, 89, 180, 0, 45, 4, 96, 181, 0, 45, 42]
abbrev dktX2_say_1 : List UInt8 := dkwX2_say_1 ++ dktX2_say_2
def dkwX2_say_0 : List UInt8 := [27, 16, 33, 16, 126, 184, 0, 41, 154, 0, 6, 16, 254, 172, 42, 180, 0, 45, 16, 48, 160, 0, 6]
abbrev dktX2_say_0 : List UInt8 := dkwX2_say_0 ++ dktX2_say_1
theorem dksX2_say_0 : cX2_say.data.toList.drop 0 = dktX2_say_0 := by decide +kernel
theorem dksX2_say_1 : cX2_say.data.toList.drop 23 = dktX2_say_1 := dk_seg dksX2_say_0 23 rfl rfl
theorem dksX2_say_2 : cX2_say.data.toList.drop 47 = dktX2_say_2 := dk_seg dksX2_say_1 24 rfl rfl
theorem dX2_say_0 : decode cX2_say 0 = .ok (.iload_n 1, 1) := dk_27 (dk_at dksX2_say_0 0 rfl rfl)
theorem dX2_say_1 : decode cX2_say 1 = .ok (.bipush 33, 2) := dk_16 33 (dk_at dksX2_say_0 1 rfl rfl)
theorem dX2_say_3 : decode cX2_say 3 = .ok (.bipush 126, 2) := dk_16 126 (dk_at dksX2_say_0 3 rfl rfl)
theorem dX2_say_5 : decode cX2_say 5 = .ok (.invokestatic 41, 3) := dk_184 0 41 (dk_at dksX2_say_0 5 rfl rfl)
theorem dX2_say_8 : decode cX2_say 8 = .ok (.ifCond .ne 6, 3) := dk_154 0 6 (dk_at dksX2_say_0 8 rfl rfl)
theorem dX2_say_11 : decode cX2_say 11 = .ok (.bipush (-2), 2) := dk_16 254 (dk_at dksX2_say_0 11 rfl rfl)
theorem dX2_say_13 : decode cX2_say 13 = .ok (.ireturn, 1) := dk_172 (dk_at dksX2_say_0 13 rfl rfl)
theorem dX2_say_14 : decode cX2_say 14 = .ok (.aload_n 0, 1) := dk_42 (dk_at dksX2_say_0 14 rfl rfl)
theorem dX2_say_15 : decode cX2_say 15 = .ok (.getfield 45, 3) := dk_180 0 45 (dk_at dksX2_say_0 15 rfl rfl)
theorem dX2_say_18 : decode cX2_say 18 = .ok (.bipush 48, 2) := dk_16 48 (dk_at dksX2_say_0 18 rfl rfl)
theorem dX2_say_20 : decode cX2_say 20 = .ok (.if_icmp .ne 6, 3) := dk_160 0 6 (dk_at dksX2_say_0 20 rfl rfl)
theorem dX2_say_23 : decode cX2_say 23 = .ok (.bipush (-4), 2) := dk_16 252 (dk_at dksX2_say_1 0 rfl rfl)
theorem dX2_say_25 : decode cX2_say 25 = .ok (.ireturn, 1) := dk_172 (dk_at dksX2_say_1 2 rfl rfl)
theorem dX2_say_26 : decode cX2_say 26 = .ok (.aload_n 0, 1) := dk_42 (dk_at dksX2_say_1 3 rfl rfl)
theorem dX2_say_27 : decode cX2_say 27 = .ok (.getfield 20, 3) := dk_180 0 20 (dk_at dksX2_say_1 4 rfl rfl)
theorem dX2_say_30 : decode cX2_say 30 = .ok (.aload_n 0, 1) := dk_42 (dk_at dksX2_say_1 7 rfl rfl)
theorem dX2_say_31 : decode cX2_say 31 = .ok (.getfield 45, 3) := dk_180 0 45 (dk_at dksX2_say_1 8 rfl rfl)
theorem dX2_say_34 : decode cX2_say 34 = .ok (.iload_n 1, 1) := dk_27 (dk_at dksX2_say_1 11 rfl rfl)
theorem dX2_say_35 : decode cX2_say 35 = .ok (.iastore, 1) := dk_79 (dk_at dksX2_say_1 12 rfl rfl)
theorem dX2_say_36 : decode cX2_say 36 = .ok (.aload_n 0, 1) := dk_42 (dk_at dksX2_say_1 13 rfl rfl)
theorem dX2_say_37 : decode cX2_say 37 = .ok (.dup, 1) := dk_89 (dk_at dksX2_say_1 14 rfl rfl)
theorem dX2_say_38 : decode cX2_say 38 = .ok (.getfield 45, 3) := dk_180 0 45 (dk_at dksX2_say_1 15 rfl rfl)
theorem dX2_say_41 : decode cX2_say 41 = .ok (.iconst 1, 1) := dk_4 (dk_at dksX2_say_1 18 rfl rfl)
theorem dX2_say_42 : decode cX2_say 42 = .ok (.iadd, 1) := dk_96 (dk_at dksX2_say_1 19 rfl rfl)
theorem dX2_say_43 : decode cX2_say 43 = .ok (.putfield 45, 3) := dk_181 0 45 (dk_at dksX2_say_1 20 rfl rfl)
theorem dX2_say_46 : decode cX2_say 46 = .ok (.aload_n 0, 1) := dk_42 (dk_at dksX2_say_1 23 rfl rfl)
theorem dX2_say_47 : decode cX2_say 47 = .ok (.getfield 45, 3) := dk_180 0 45 (dk_at dksX2_say_2 0 rfl rfl)
theorem dX2_say_50 : decode cX2_say 50 = .ok (.ireturn, 1) := dk_172 (dk_at dksX2_say_2 3 rfl rfl)
abbrev cX2_in : ByteArray := prog_4_method_2_code
def yX2_in : MethodName := ⟨RX2, "in", "(III)Z"⟩
def dkwX2_in_0 : List UInt8 := [26, 27, 161, 0, 12, 26, 28, 163, 0, 7, 4, 167, 0, 4, 3, 172]
abbrev dktX2_in_0 : List UInt8 := dkwX2_in_0 ++ []
theorem dksX2_in_0 : cX2_in.data.toList.drop 0 = dktX2_in_0 := by decide +kernel
theorem dX2_in_0 : decode cX2_in 0 = .ok (.iload_n 0, 1) := dk_26 (dk_at dksX2_in_0 0 rfl rfl)
theorem dX2_in_1 : decode cX2_in 1 = .ok (.iload_n 1, 1) := dk_27 (dk_at dksX2_in_0 1 rfl rfl)
theorem dX2_in_2 : decode cX2_in 2 = .ok (.if_icmp .lt 12, 3) := dk_161 0 12 (dk_at dksX2_in_0 2 rfl rfl)
theorem dX2_in_5 : decode cX2_in 5 = .ok (.iload_n 0, 1) := dk_26 (dk_at dksX2_in_0 5 rfl rfl)
theorem dX2_in_6 : decode cX2_in 6 = .ok (.iload_n 2, 1) := dk_28 (dk_at dksX2_in_0 6 rfl rfl)
theorem dX2_in_7 : decode cX2_in 7 = .ok (.if_icmp .gt 7, 3) := dk_163 0 7 (dk_at dksX2_in_0 7 rfl rfl)
theorem dX2_in_10 : decode cX2_in 10 = .ok (.iconst 1, 1) := dk_4 (dk_at dksX2_in_0 10 rfl rfl)
theorem dX2_in_11 : decode cX2_in 11 = .ok (.goto 4, 3) := dk_167 0 4 (dk_at dksX2_in_0 11 rfl rfl)
theorem dX2_in_14 : decode cX2_in 14 = .ok (.iconst 0, 1) := dk_3 (dk_at dksX2_in_0 14 rfl rfl)
theorem dX2_in_15 : decode cX2_in 15 = .ok (.ireturn, 1) := dk_172 (dk_at dksX2_in_0 15 rfl rfl)
abbrev cX2_wipe : ByteArray := prog_4_method_6_code
def yX2_wipe : MethodName := ⟨RX2, "wipe", "()I"⟩
def dkwX2_wipe_0 : List UInt8 := [42, 180, 0, 45, 60, 42, 3, 181, 0, 45, 27, 172]
abbrev dktX2_wipe_0 : List UInt8 := dkwX2_wipe_0 ++ []
theorem dksX2_wipe_0 : cX2_wipe.data.toList.drop 0 = dktX2_wipe_0 := by decide +kernel
theorem dX2_wipe_0 : decode cX2_wipe 0 = .ok (.aload_n 0, 1) := dk_42 (dk_at dksX2_wipe_0 0 rfl rfl)
theorem dX2_wipe_1 : decode cX2_wipe 1 = .ok (.getfield 45, 3) := dk_180 0 45 (dk_at dksX2_wipe_0 1 rfl rfl)
theorem dX2_wipe_4 : decode cX2_wipe 4 = .ok (.istore_n 1, 1) := dk_60 (dk_at dksX2_wipe_0 4 rfl rfl)
theorem dX2_wipe_5 : decode cX2_wipe 5 = .ok (.aload_n 0, 1) := dk_42 (dk_at dksX2_wipe_0 5 rfl rfl)
theorem dX2_wipe_6 : decode cX2_wipe 6 = .ok (.iconst 0, 1) := dk_3 (dk_at dksX2_wipe_0 6 rfl rfl)
theorem dX2_wipe_7 : decode cX2_wipe 7 = .ok (.putfield 45, 3) := dk_181 0 45 (dk_at dksX2_wipe_0 7 rfl rfl)
theorem dX2_wipe_10 : decode cX2_wipe 10 = .ok (.iload_n 1, 1) := dk_27 (dk_at dksX2_wipe_0 10 rfl rfl)
theorem dX2_wipe_11 : decode cX2_wipe 11 = .ok (.ireturn, 1) := dk_172 (dk_at dksX2_wipe_0 11 rfl rfl)
abbrev cX2_take : ByteArray := prog_4_method_7_code
def yX2_take : MethodName := ⟨RX2, "take", "(I)I"⟩
def dkwX2_take_6 : List UInt8 := [180, 0, 45, 79, 42, 180, 0, 45, 62, 42, 3, 181, 0, 45, 29, 172]
abbrev dktX2_take_6 : List UInt8 := dkwX2_take_6 ++ []
def dkwX2_take_5 : List UInt8 := [100, 79, 132, 3, 1, 167, 255, 219, 42, 180, 0, 7, 27, 154, 0, 8, 16, 48, 167, 0, 5, 16, 55, 42]
abbrev dktX2_take_5 : List UInt8 := dkwX2_take_5 ++ dktX2_take_6
def dkwX2_take_4 : List UInt8 := [42, 180, 0, 7, 27, 154, 0, 7, 3, 167, 0, 5, 16, 49, 29, 96, 42, 180, 0, 20, 29, 46, 16, 97]
abbrev dktX2_take_4 : List UInt8 := dkwX2_take_4 ++ dktX2_take_5
def dkwX2_take_3 : List UInt8 := [61, 132, 3, 1, 167, 255, 219, 28, 154, 0, 6, 16, 249, 172, 3, 62, 29, 42, 180, 0, 45, 162, 0, 35]
abbrev dktX2_take_3 : List UInt8 := dkwX2_take_3 ++ dktX2_take_4
def dkwX2_take_2 : List UInt8 := [153, 0, 23, 42, 180, 0, 20, 29, 46, 16, 97, 16, 112, 184, 0, 41, 153, 0, 7, 4, 167, 0, 4, 3]
abbrev dktX2_take_2 : List UInt8 := dkwX2_take_2 ++ dktX2_take_3
def dkwX2_take_1 : List UInt8 := [184, 0, 41, 153, 0, 7, 4, 167, 0, 4, 3, 61, 3, 62, 29, 42, 180, 0, 45, 162, 0, 35, 28]
abbrev dktX2_take_1 : List UInt8 := dkwX2_take_1 ++ dktX2_take_2
def dkwX2_take_0 : List UInt8 := [27, 3, 4, 184, 0, 41, 154, 0, 6, 16, 254, 172, 27, 153, 0, 16, 42, 180, 0, 45, 4, 16, 6]
abbrev dktX2_take_0 : List UInt8 := dkwX2_take_0 ++ dktX2_take_1
theorem dksX2_take_0 : cX2_take.data.toList.drop 0 = dktX2_take_0 := by decide +kernel
theorem dksX2_take_1 : cX2_take.data.toList.drop 23 = dktX2_take_1 := dk_seg dksX2_take_0 23 rfl rfl
theorem dksX2_take_2 : cX2_take.data.toList.drop 46 = dktX2_take_2 := dk_seg dksX2_take_1 23 rfl rfl
theorem dksX2_take_3 : cX2_take.data.toList.drop 70 = dktX2_take_3 := dk_seg dksX2_take_2 24 rfl rfl
theorem dksX2_take_4 : cX2_take.data.toList.drop 94 = dktX2_take_4 := dk_seg dksX2_take_3 24 rfl rfl
theorem dksX2_take_5 : cX2_take.data.toList.drop 118 = dktX2_take_5 := dk_seg dksX2_take_4 24 rfl rfl
theorem dksX2_take_6 : cX2_take.data.toList.drop 142 = dktX2_take_6 := dk_seg dksX2_take_5 24 rfl rfl
theorem dX2_take_0 : decode cX2_take 0 = .ok (.iload_n 1, 1) := dk_27 (dk_at dksX2_take_0 0 rfl rfl)
theorem dX2_take_1 : decode cX2_take 1 = .ok (.iconst 0, 1) := dk_3 (dk_at dksX2_take_0 1 rfl rfl)
theorem dX2_take_2 : decode cX2_take 2 = .ok (.iconst 1, 1) := dk_4 (dk_at dksX2_take_0 2 rfl rfl)
theorem dX2_take_3 : decode cX2_take 3 = .ok (.invokestatic 41, 3) := dk_184 0 41 (dk_at dksX2_take_0 3 rfl rfl)
theorem dX2_take_6 : decode cX2_take 6 = .ok (.ifCond .ne 6, 3) := dk_154 0 6 (dk_at dksX2_take_0 6 rfl rfl)
theorem dX2_take_9 : decode cX2_take 9 = .ok (.bipush (-2), 2) := dk_16 254 (dk_at dksX2_take_0 9 rfl rfl)
theorem dX2_take_11 : decode cX2_take 11 = .ok (.ireturn, 1) := dk_172 (dk_at dksX2_take_0 11 rfl rfl)
theorem dX2_take_12 : decode cX2_take 12 = .ok (.iload_n 1, 1) := dk_27 (dk_at dksX2_take_0 12 rfl rfl)
theorem dX2_take_13 : decode cX2_take 13 = .ok (.ifCond .eq 16, 3) := dk_153 0 16 (dk_at dksX2_take_0 13 rfl rfl)
theorem dX2_take_16 : decode cX2_take 16 = .ok (.aload_n 0, 1) := dk_42 (dk_at dksX2_take_0 16 rfl rfl)
theorem dX2_take_17 : decode cX2_take 17 = .ok (.getfield 45, 3) := dk_180 0 45 (dk_at dksX2_take_0 17 rfl rfl)
theorem dX2_take_20 : decode cX2_take 20 = .ok (.iconst 1, 1) := dk_4 (dk_at dksX2_take_0 20 rfl rfl)
theorem dX2_take_21 : decode cX2_take 21 = .ok (.bipush 6, 2) := dk_16 6 (dk_at dksX2_take_0 21 rfl rfl)
theorem dX2_take_23 : decode cX2_take 23 = .ok (.invokestatic 41, 3) := dk_184 0 41 (dk_at dksX2_take_1 0 rfl rfl)
theorem dX2_take_26 : decode cX2_take 26 = .ok (.ifCond .eq 7, 3) := dk_153 0 7 (dk_at dksX2_take_1 3 rfl rfl)
theorem dX2_take_29 : decode cX2_take 29 = .ok (.iconst 1, 1) := dk_4 (dk_at dksX2_take_1 6 rfl rfl)
theorem dX2_take_30 : decode cX2_take 30 = .ok (.goto 4, 3) := dk_167 0 4 (dk_at dksX2_take_1 7 rfl rfl)
theorem dX2_take_33 : decode cX2_take 33 = .ok (.iconst 0, 1) := dk_3 (dk_at dksX2_take_1 10 rfl rfl)
theorem dX2_take_34 : decode cX2_take 34 = .ok (.istore_n 2, 1) := dk_61 (dk_at dksX2_take_1 11 rfl rfl)
theorem dX2_take_35 : decode cX2_take 35 = .ok (.iconst 0, 1) := dk_3 (dk_at dksX2_take_1 12 rfl rfl)
theorem dX2_take_36 : decode cX2_take 36 = .ok (.istore_n 3, 1) := dk_62 (dk_at dksX2_take_1 13 rfl rfl)
theorem dX2_take_37 : decode cX2_take 37 = .ok (.iload_n 3, 1) := dk_29 (dk_at dksX2_take_1 14 rfl rfl)
theorem dX2_take_38 : decode cX2_take 38 = .ok (.aload_n 0, 1) := dk_42 (dk_at dksX2_take_1 15 rfl rfl)
theorem dX2_take_39 : decode cX2_take 39 = .ok (.getfield 45, 3) := dk_180 0 45 (dk_at dksX2_take_1 16 rfl rfl)
theorem dX2_take_42 : decode cX2_take 42 = .ok (.if_icmp .ge 35, 3) := dk_162 0 35 (dk_at dksX2_take_1 19 rfl rfl)
theorem dX2_take_45 : decode cX2_take 45 = .ok (.iload_n 2, 1) := dk_28 (dk_at dksX2_take_1 22 rfl rfl)
theorem dX2_take_46 : decode cX2_take 46 = .ok (.ifCond .eq 23, 3) := dk_153 0 23 (dk_at dksX2_take_2 0 rfl rfl)
theorem dX2_take_49 : decode cX2_take 49 = .ok (.aload_n 0, 1) := dk_42 (dk_at dksX2_take_2 3 rfl rfl)
theorem dX2_take_50 : decode cX2_take 50 = .ok (.getfield 20, 3) := dk_180 0 20 (dk_at dksX2_take_2 4 rfl rfl)
theorem dX2_take_53 : decode cX2_take 53 = .ok (.iload_n 3, 1) := dk_29 (dk_at dksX2_take_2 7 rfl rfl)
theorem dX2_take_54 : decode cX2_take 54 = .ok (.iaload, 1) := dk_46 (dk_at dksX2_take_2 8 rfl rfl)
theorem dX2_take_55 : decode cX2_take 55 = .ok (.bipush 97, 2) := dk_16 97 (dk_at dksX2_take_2 9 rfl rfl)
theorem dX2_take_57 : decode cX2_take 57 = .ok (.bipush 112, 2) := dk_16 112 (dk_at dksX2_take_2 11 rfl rfl)
theorem dX2_take_59 : decode cX2_take 59 = .ok (.invokestatic 41, 3) := dk_184 0 41 (dk_at dksX2_take_2 13 rfl rfl)
theorem dX2_take_62 : decode cX2_take 62 = .ok (.ifCond .eq 7, 3) := dk_153 0 7 (dk_at dksX2_take_2 16 rfl rfl)
theorem dX2_take_65 : decode cX2_take 65 = .ok (.iconst 1, 1) := dk_4 (dk_at dksX2_take_2 19 rfl rfl)
theorem dX2_take_66 : decode cX2_take 66 = .ok (.goto 4, 3) := dk_167 0 4 (dk_at dksX2_take_2 20 rfl rfl)
theorem dX2_take_69 : decode cX2_take 69 = .ok (.iconst 0, 1) := dk_3 (dk_at dksX2_take_2 23 rfl rfl)
theorem dX2_take_70 : decode cX2_take 70 = .ok (.istore_n 2, 1) := dk_61 (dk_at dksX2_take_3 0 rfl rfl)
theorem dX2_take_71 : decode cX2_take 71 = .ok (.iinc 3 1, 3) := dk_132 3 1 (dk_at dksX2_take_3 1 rfl rfl)
theorem dX2_take_74 : decode cX2_take 74 = .ok (.goto (-37), 3) := dk_167 255 219 (dk_at dksX2_take_3 4 rfl rfl)
theorem dX2_take_77 : decode cX2_take 77 = .ok (.iload_n 2, 1) := dk_28 (dk_at dksX2_take_3 7 rfl rfl)
theorem dX2_take_78 : decode cX2_take 78 = .ok (.ifCond .ne 6, 3) := dk_154 0 6 (dk_at dksX2_take_3 8 rfl rfl)
theorem dX2_take_81 : decode cX2_take 81 = .ok (.bipush (-7), 2) := dk_16 249 (dk_at dksX2_take_3 11 rfl rfl)
theorem dX2_take_83 : decode cX2_take 83 = .ok (.ireturn, 1) := dk_172 (dk_at dksX2_take_3 13 rfl rfl)
theorem dX2_take_84 : decode cX2_take 84 = .ok (.iconst 0, 1) := dk_3 (dk_at dksX2_take_3 14 rfl rfl)
theorem dX2_take_85 : decode cX2_take 85 = .ok (.istore_n 3, 1) := dk_62 (dk_at dksX2_take_3 15 rfl rfl)
theorem dX2_take_86 : decode cX2_take 86 = .ok (.iload_n 3, 1) := dk_29 (dk_at dksX2_take_3 16 rfl rfl)
theorem dX2_take_87 : decode cX2_take 87 = .ok (.aload_n 0, 1) := dk_42 (dk_at dksX2_take_3 17 rfl rfl)
theorem dX2_take_88 : decode cX2_take 88 = .ok (.getfield 45, 3) := dk_180 0 45 (dk_at dksX2_take_3 18 rfl rfl)
theorem dX2_take_91 : decode cX2_take 91 = .ok (.if_icmp .ge 35, 3) := dk_162 0 35 (dk_at dksX2_take_3 21 rfl rfl)
theorem dX2_take_94 : decode cX2_take 94 = .ok (.aload_n 0, 1) := dk_42 (dk_at dksX2_take_4 0 rfl rfl)
theorem dX2_take_95 : decode cX2_take 95 = .ok (.getfield 7, 3) := dk_180 0 7 (dk_at dksX2_take_4 1 rfl rfl)
theorem dX2_take_98 : decode cX2_take 98 = .ok (.iload_n 1, 1) := dk_27 (dk_at dksX2_take_4 4 rfl rfl)
theorem dX2_take_99 : decode cX2_take 99 = .ok (.ifCond .ne 7, 3) := dk_154 0 7 (dk_at dksX2_take_4 5 rfl rfl)
theorem dX2_take_102 : decode cX2_take 102 = .ok (.iconst 0, 1) := dk_3 (dk_at dksX2_take_4 8 rfl rfl)
theorem dX2_take_103 : decode cX2_take 103 = .ok (.goto 5, 3) := dk_167 0 5 (dk_at dksX2_take_4 9 rfl rfl)
theorem dX2_take_106 : decode cX2_take 106 = .ok (.bipush 49, 2) := dk_16 49 (dk_at dksX2_take_4 12 rfl rfl)
theorem dX2_take_108 : decode cX2_take 108 = .ok (.iload_n 3, 1) := dk_29 (dk_at dksX2_take_4 14 rfl rfl)
theorem dX2_take_109 : decode cX2_take 109 = .ok (.iadd, 1) := dk_96 (dk_at dksX2_take_4 15 rfl rfl)
theorem dX2_take_110 : decode cX2_take 110 = .ok (.aload_n 0, 1) := dk_42 (dk_at dksX2_take_4 16 rfl rfl)
theorem dX2_take_111 : decode cX2_take 111 = .ok (.getfield 20, 3) := dk_180 0 20 (dk_at dksX2_take_4 17 rfl rfl)
theorem dX2_take_114 : decode cX2_take 114 = .ok (.iload_n 3, 1) := dk_29 (dk_at dksX2_take_4 20 rfl rfl)
theorem dX2_take_115 : decode cX2_take 115 = .ok (.iaload, 1) := dk_46 (dk_at dksX2_take_4 21 rfl rfl)
theorem dX2_take_116 : decode cX2_take 116 = .ok (.bipush 97, 2) := dk_16 97 (dk_at dksX2_take_4 22 rfl rfl)
theorem dX2_take_118 : decode cX2_take 118 = .ok (.isub, 1) := dk_100 (dk_at dksX2_take_5 0 rfl rfl)
theorem dX2_take_119 : decode cX2_take 119 = .ok (.iastore, 1) := dk_79 (dk_at dksX2_take_5 1 rfl rfl)
theorem dX2_take_120 : decode cX2_take 120 = .ok (.iinc 3 1, 3) := dk_132 3 1 (dk_at dksX2_take_5 2 rfl rfl)
theorem dX2_take_123 : decode cX2_take 123 = .ok (.goto (-37), 3) := dk_167 255 219 (dk_at dksX2_take_5 5 rfl rfl)
theorem dX2_take_126 : decode cX2_take 126 = .ok (.aload_n 0, 1) := dk_42 (dk_at dksX2_take_5 8 rfl rfl)
theorem dX2_take_127 : decode cX2_take 127 = .ok (.getfield 7, 3) := dk_180 0 7 (dk_at dksX2_take_5 9 rfl rfl)
theorem dX2_take_130 : decode cX2_take 130 = .ok (.iload_n 1, 1) := dk_27 (dk_at dksX2_take_5 12 rfl rfl)
theorem dX2_take_131 : decode cX2_take 131 = .ok (.ifCond .ne 8, 3) := dk_154 0 8 (dk_at dksX2_take_5 13 rfl rfl)
theorem dX2_take_134 : decode cX2_take 134 = .ok (.bipush 48, 2) := dk_16 48 (dk_at dksX2_take_5 16 rfl rfl)
theorem dX2_take_136 : decode cX2_take 136 = .ok (.goto 5, 3) := dk_167 0 5 (dk_at dksX2_take_5 18 rfl rfl)
theorem dX2_take_139 : decode cX2_take 139 = .ok (.bipush 55, 2) := dk_16 55 (dk_at dksX2_take_5 21 rfl rfl)
theorem dX2_take_141 : decode cX2_take 141 = .ok (.aload_n 0, 1) := dk_42 (dk_at dksX2_take_5 23 rfl rfl)
theorem dX2_take_142 : decode cX2_take 142 = .ok (.getfield 45, 3) := dk_180 0 45 (dk_at dksX2_take_6 0 rfl rfl)
theorem dX2_take_145 : decode cX2_take 145 = .ok (.iastore, 1) := dk_79 (dk_at dksX2_take_6 3 rfl rfl)
theorem dX2_take_146 : decode cX2_take 146 = .ok (.aload_n 0, 1) := dk_42 (dk_at dksX2_take_6 4 rfl rfl)
theorem dX2_take_147 : decode cX2_take 147 = .ok (.getfield 45, 3) := dk_180 0 45 (dk_at dksX2_take_6 5 rfl rfl)
theorem dX2_take_150 : decode cX2_take 150 = .ok (.istore_n 3, 1) := dk_62 (dk_at dksX2_take_6 8 rfl rfl)
theorem dX2_take_151 : decode cX2_take 151 = .ok (.aload_n 0, 1) := dk_42 (dk_at dksX2_take_6 9 rfl rfl)
theorem dX2_take_152 : decode cX2_take 152 = .ok (.iconst 0, 1) := dk_3 (dk_at dksX2_take_6 10 rfl rfl)
theorem dX2_take_153 : decode cX2_take 153 = .ok (.putfield 45, 3) := dk_181 0 45 (dk_at dksX2_take_6 11 rfl rfl)
theorem dX2_take_156 : decode cX2_take 156 = .ok (.iload_n 3, 1) := dk_29 (dk_at dksX2_take_6 14 rfl rfl)
theorem dX2_take_157 : decode cX2_take 157 = .ok (.ireturn, 1) := dk_172 (dk_at dksX2_take_6 15 rfl rfl)
abbrev cX2_worth : ByteArray := prog_4_method_8_code
def yX2_worth : MethodName := ⟨RX2, "worth", "(II)I"⟩
def dkwX2_worth_1 : List UInt8 := [16, 56, 27, 96, 46, 62, 42, 180, 0, 7, 16, 56, 27, 96, 28, 79, 29, 172]
abbrev dktX2_worth_1 : List UInt8 := dkwX2_worth_1 ++ []
def dkwX2_worth_0 : List UInt8 := [27, 184, 0, 49, 153, 0, 13, 28, 3, 16, 99, 184, 0, 41, 154, 0, 6, 16, 254, 172, 42, 180, 0, 7]
abbrev dktX2_worth_0 : List UInt8 := dkwX2_worth_0 ++ dktX2_worth_1
theorem dksX2_worth_0 : cX2_worth.data.toList.drop 0 = dktX2_worth_0 := by decide +kernel
theorem dksX2_worth_1 : cX2_worth.data.toList.drop 24 = dktX2_worth_1 := dk_seg dksX2_worth_0 24 rfl rfl
theorem dX2_worth_0 : decode cX2_worth 0 = .ok (.iload_n 1, 1) := dk_27 (dk_at dksX2_worth_0 0 rfl rfl)
theorem dX2_worth_1 : decode cX2_worth 1 = .ok (.invokestatic 49, 3) := dk_184 0 49 (dk_at dksX2_worth_0 1 rfl rfl)
theorem dX2_worth_4 : decode cX2_worth 4 = .ok (.ifCond .eq 13, 3) := dk_153 0 13 (dk_at dksX2_worth_0 4 rfl rfl)
theorem dX2_worth_7 : decode cX2_worth 7 = .ok (.iload_n 2, 1) := dk_28 (dk_at dksX2_worth_0 7 rfl rfl)
theorem dX2_worth_8 : decode cX2_worth 8 = .ok (.iconst 0, 1) := dk_3 (dk_at dksX2_worth_0 8 rfl rfl)
theorem dX2_worth_9 : decode cX2_worth 9 = .ok (.bipush 99, 2) := dk_16 99 (dk_at dksX2_worth_0 9 rfl rfl)
theorem dX2_worth_11 : decode cX2_worth 11 = .ok (.invokestatic 41, 3) := dk_184 0 41 (dk_at dksX2_worth_0 11 rfl rfl)
theorem dX2_worth_14 : decode cX2_worth 14 = .ok (.ifCond .ne 6, 3) := dk_154 0 6 (dk_at dksX2_worth_0 14 rfl rfl)
theorem dX2_worth_17 : decode cX2_worth 17 = .ok (.bipush (-2), 2) := dk_16 254 (dk_at dksX2_worth_0 17 rfl rfl)
theorem dX2_worth_19 : decode cX2_worth 19 = .ok (.ireturn, 1) := dk_172 (dk_at dksX2_worth_0 19 rfl rfl)
theorem dX2_worth_20 : decode cX2_worth 20 = .ok (.aload_n 0, 1) := dk_42 (dk_at dksX2_worth_0 20 rfl rfl)
theorem dX2_worth_21 : decode cX2_worth 21 = .ok (.getfield 7, 3) := dk_180 0 7 (dk_at dksX2_worth_0 21 rfl rfl)
theorem dX2_worth_24 : decode cX2_worth 24 = .ok (.bipush 56, 2) := dk_16 56 (dk_at dksX2_worth_1 0 rfl rfl)
theorem dX2_worth_26 : decode cX2_worth 26 = .ok (.iload_n 1, 1) := dk_27 (dk_at dksX2_worth_1 2 rfl rfl)
theorem dX2_worth_27 : decode cX2_worth 27 = .ok (.iadd, 1) := dk_96 (dk_at dksX2_worth_1 3 rfl rfl)
theorem dX2_worth_28 : decode cX2_worth 28 = .ok (.iaload, 1) := dk_46 (dk_at dksX2_worth_1 4 rfl rfl)
theorem dX2_worth_29 : decode cX2_worth 29 = .ok (.istore_n 3, 1) := dk_62 (dk_at dksX2_worth_1 5 rfl rfl)
theorem dX2_worth_30 : decode cX2_worth 30 = .ok (.aload_n 0, 1) := dk_42 (dk_at dksX2_worth_1 6 rfl rfl)
theorem dX2_worth_31 : decode cX2_worth 31 = .ok (.getfield 7, 3) := dk_180 0 7 (dk_at dksX2_worth_1 7 rfl rfl)
theorem dX2_worth_34 : decode cX2_worth 34 = .ok (.bipush 56, 2) := dk_16 56 (dk_at dksX2_worth_1 10 rfl rfl)
theorem dX2_worth_36 : decode cX2_worth 36 = .ok (.iload_n 1, 1) := dk_27 (dk_at dksX2_worth_1 12 rfl rfl)
theorem dX2_worth_37 : decode cX2_worth 37 = .ok (.iadd, 1) := dk_96 (dk_at dksX2_worth_1 13 rfl rfl)
theorem dX2_worth_38 : decode cX2_worth 38 = .ok (.iload_n 2, 1) := dk_28 (dk_at dksX2_worth_1 14 rfl rfl)
theorem dX2_worth_39 : decode cX2_worth 39 = .ok (.iastore, 1) := dk_79 (dk_at dksX2_worth_1 15 rfl rfl)
theorem dX2_worth_40 : decode cX2_worth 40 = .ok (.iload_n 3, 1) := dk_29 (dk_at dksX2_worth_1 16 rfl rfl)
theorem dX2_worth_41 : decode cX2_worth 41 = .ok (.ireturn, 1) := dk_172 (dk_at dksX2_worth_1 17 rfl rfl)
abbrev cX2_isLetter : ByteArray := prog_4_method_3_code
def yX2_isLetter : MethodName := ⟨RX2, "isLetter", "(I)Z"⟩
def dkwX2_isLetter_0 : List UInt8 := [26, 3, 16, 15, 184, 0, 41, 172]
abbrev dktX2_isLetter_0 : List UInt8 := dkwX2_isLetter_0 ++ []
theorem dksX2_isLetter_0 : cX2_isLetter.data.toList.drop 0 = dktX2_isLetter_0 := by decide +kernel
theorem dX2_isLetter_0 : decode cX2_isLetter 0 = .ok (.iload_n 0, 1) := dk_26 (dk_at dksX2_isLetter_0 0 rfl rfl)
theorem dX2_isLetter_1 : decode cX2_isLetter 1 = .ok (.iconst 0, 1) := dk_3 (dk_at dksX2_isLetter_0 1 rfl rfl)
theorem dX2_isLetter_2 : decode cX2_isLetter 2 = .ok (.bipush 15, 2) := dk_16 15 (dk_at dksX2_isLetter_0 2 rfl rfl)
theorem dX2_isLetter_4 : decode cX2_isLetter 4 = .ok (.invokestatic 41, 3) := dk_184 0 41 (dk_at dksX2_isLetter_0 4 rfl rfl)
theorem dX2_isLetter_7 : decode cX2_isLetter 7 = .ok (.ireturn, 1) := dk_172 (dk_at dksX2_isLetter_0 7 rfl rfl)
abbrev cX2_like : ByteArray := prog_4_method_10_code
def yX2_like : MethodName := ⟨RX2, "like", "(III)I"⟩
def dkwX2_like_1 : List UInt8 := [16, 254, 172, 42, 180, 0, 7, 16, 72, 16, 16, 27, 104, 96, 28, 96, 29, 79, 42, 182, 0, 53, 172]
abbrev dktX2_like_1 : List UInt8 := dkwX2_like_1 ++ []
def dkwX2_like_0 : List UInt8 := [27, 184, 0, 49, 153, 0, 19, 28, 184, 0, 49, 153, 0, 12, 29, 3, 4, 184, 0, 41, 154, 0, 6]
abbrev dktX2_like_0 : List UInt8 := dkwX2_like_0 ++ dktX2_like_1
theorem dksX2_like_0 : cX2_like.data.toList.drop 0 = dktX2_like_0 := by decide +kernel
theorem dksX2_like_1 : cX2_like.data.toList.drop 23 = dktX2_like_1 := dk_seg dksX2_like_0 23 rfl rfl
theorem dX2_like_0 : decode cX2_like 0 = .ok (.iload_n 1, 1) := dk_27 (dk_at dksX2_like_0 0 rfl rfl)
theorem dX2_like_1 : decode cX2_like 1 = .ok (.invokestatic 49, 3) := dk_184 0 49 (dk_at dksX2_like_0 1 rfl rfl)
theorem dX2_like_4 : decode cX2_like 4 = .ok (.ifCond .eq 19, 3) := dk_153 0 19 (dk_at dksX2_like_0 4 rfl rfl)
theorem dX2_like_7 : decode cX2_like 7 = .ok (.iload_n 2, 1) := dk_28 (dk_at dksX2_like_0 7 rfl rfl)
theorem dX2_like_8 : decode cX2_like 8 = .ok (.invokestatic 49, 3) := dk_184 0 49 (dk_at dksX2_like_0 8 rfl rfl)
theorem dX2_like_11 : decode cX2_like 11 = .ok (.ifCond .eq 12, 3) := dk_153 0 12 (dk_at dksX2_like_0 11 rfl rfl)
theorem dX2_like_14 : decode cX2_like 14 = .ok (.iload_n 3, 1) := dk_29 (dk_at dksX2_like_0 14 rfl rfl)
theorem dX2_like_15 : decode cX2_like 15 = .ok (.iconst 0, 1) := dk_3 (dk_at dksX2_like_0 15 rfl rfl)
theorem dX2_like_16 : decode cX2_like 16 = .ok (.iconst 1, 1) := dk_4 (dk_at dksX2_like_0 16 rfl rfl)
theorem dX2_like_17 : decode cX2_like 17 = .ok (.invokestatic 41, 3) := dk_184 0 41 (dk_at dksX2_like_0 17 rfl rfl)
theorem dX2_like_20 : decode cX2_like 20 = .ok (.ifCond .ne 6, 3) := dk_154 0 6 (dk_at dksX2_like_0 20 rfl rfl)
theorem dX2_like_23 : decode cX2_like 23 = .ok (.bipush (-2), 2) := dk_16 254 (dk_at dksX2_like_1 0 rfl rfl)
theorem dX2_like_25 : decode cX2_like 25 = .ok (.ireturn, 1) := dk_172 (dk_at dksX2_like_1 2 rfl rfl)
theorem dX2_like_26 : decode cX2_like 26 = .ok (.aload_n 0, 1) := dk_42 (dk_at dksX2_like_1 3 rfl rfl)
theorem dX2_like_27 : decode cX2_like 27 = .ok (.getfield 7, 3) := dk_180 0 7 (dk_at dksX2_like_1 4 rfl rfl)
theorem dX2_like_30 : decode cX2_like 30 = .ok (.bipush 72, 2) := dk_16 72 (dk_at dksX2_like_1 7 rfl rfl)
theorem dX2_like_32 : decode cX2_like 32 = .ok (.bipush 16, 2) := dk_16 16 (dk_at dksX2_like_1 9 rfl rfl)
theorem dX2_like_34 : decode cX2_like 34 = .ok (.iload_n 1, 1) := dk_27 (dk_at dksX2_like_1 11 rfl rfl)
theorem dX2_like_35 : decode cX2_like 35 = .ok (.imul, 1) := dk_104 (dk_at dksX2_like_1 12 rfl rfl)
theorem dX2_like_36 : decode cX2_like 36 = .ok (.iadd, 1) := dk_96 (dk_at dksX2_like_1 13 rfl rfl)
theorem dX2_like_37 : decode cX2_like 37 = .ok (.iload_n 2, 1) := dk_28 (dk_at dksX2_like_1 14 rfl rfl)
theorem dX2_like_38 : decode cX2_like 38 = .ok (.iadd, 1) := dk_96 (dk_at dksX2_like_1 15 rfl rfl)
theorem dX2_like_39 : decode cX2_like 39 = .ok (.iload_n 3, 1) := dk_29 (dk_at dksX2_like_1 16 rfl rfl)
theorem dX2_like_40 : decode cX2_like 40 = .ok (.iastore, 1) := dk_79 (dk_at dksX2_like_1 17 rfl rfl)
theorem dX2_like_41 : decode cX2_like 41 = .ok (.aload_n 0, 1) := dk_42 (dk_at dksX2_like_1 18 rfl rfl)
theorem dX2_like_42 : decode cX2_like 42 = .ok (.invokevirtual 53, 3) := dk_182 0 53 (dk_at dksX2_like_1 19 rfl rfl)
theorem dX2_like_45 : decode cX2_like 45 = .ok (.ireturn, 1) := dk_172 (dk_at dksX2_like_1 22 rfl rfl)
abbrev cX2_liked : ByteArray := prog_4_method_9_code
def yX2_liked : MethodName := ⟨RX2, "liked", "()I"⟩
def dkwX2_liked_1 : List UInt8 := [132, 2, 1, 167, 255, 234, 27, 172]
abbrev dktX2_liked_1 : List UInt8 := dkwX2_liked_1 ++ []
def dkwX2_liked_0 : List UInt8 := [3, 60, 3, 61, 28, 17, 1, 0, 162, 0, 21, 27, 42, 180, 0, 7, 16, 72, 28, 96, 46, 96, 60]
abbrev dktX2_liked_0 : List UInt8 := dkwX2_liked_0 ++ dktX2_liked_1
theorem dksX2_liked_0 : cX2_liked.data.toList.drop 0 = dktX2_liked_0 := by decide +kernel
theorem dksX2_liked_1 : cX2_liked.data.toList.drop 23 = dktX2_liked_1 := dk_seg dksX2_liked_0 23 rfl rfl
theorem dX2_liked_0 : decode cX2_liked 0 = .ok (.iconst 0, 1) := dk_3 (dk_at dksX2_liked_0 0 rfl rfl)
theorem dX2_liked_1 : decode cX2_liked 1 = .ok (.istore_n 1, 1) := dk_60 (dk_at dksX2_liked_0 1 rfl rfl)
theorem dX2_liked_2 : decode cX2_liked 2 = .ok (.iconst 0, 1) := dk_3 (dk_at dksX2_liked_0 2 rfl rfl)
theorem dX2_liked_3 : decode cX2_liked 3 = .ok (.istore_n 2, 1) := dk_61 (dk_at dksX2_liked_0 3 rfl rfl)
theorem dX2_liked_4 : decode cX2_liked 4 = .ok (.iload_n 2, 1) := dk_28 (dk_at dksX2_liked_0 4 rfl rfl)
theorem dX2_liked_5 : decode cX2_liked 5 = .ok (.sipush 256, 3) := dk_17 1 0 (dk_at dksX2_liked_0 5 rfl rfl)
theorem dX2_liked_8 : decode cX2_liked 8 = .ok (.if_icmp .ge 21, 3) := dk_162 0 21 (dk_at dksX2_liked_0 8 rfl rfl)
theorem dX2_liked_11 : decode cX2_liked 11 = .ok (.iload_n 1, 1) := dk_27 (dk_at dksX2_liked_0 11 rfl rfl)
theorem dX2_liked_12 : decode cX2_liked 12 = .ok (.aload_n 0, 1) := dk_42 (dk_at dksX2_liked_0 12 rfl rfl)
theorem dX2_liked_13 : decode cX2_liked 13 = .ok (.getfield 7, 3) := dk_180 0 7 (dk_at dksX2_liked_0 13 rfl rfl)
theorem dX2_liked_16 : decode cX2_liked 16 = .ok (.bipush 72, 2) := dk_16 72 (dk_at dksX2_liked_0 16 rfl rfl)
theorem dX2_liked_18 : decode cX2_liked 18 = .ok (.iload_n 2, 1) := dk_28 (dk_at dksX2_liked_0 18 rfl rfl)
theorem dX2_liked_19 : decode cX2_liked 19 = .ok (.iadd, 1) := dk_96 (dk_at dksX2_liked_0 19 rfl rfl)
theorem dX2_liked_20 : decode cX2_liked 20 = .ok (.iaload, 1) := dk_46 (dk_at dksX2_liked_0 20 rfl rfl)
theorem dX2_liked_21 : decode cX2_liked 21 = .ok (.iadd, 1) := dk_96 (dk_at dksX2_liked_0 21 rfl rfl)
theorem dX2_liked_22 : decode cX2_liked 22 = .ok (.istore_n 1, 1) := dk_60 (dk_at dksX2_liked_0 22 rfl rfl)
theorem dX2_liked_23 : decode cX2_liked 23 = .ok (.iinc 2 1, 3) := dk_132 2 1 (dk_at dksX2_liked_1 0 rfl rfl)
theorem dX2_liked_26 : decode cX2_liked 26 = .ok (.goto (-22), 3) := dk_167 255 234 (dk_at dksX2_liked_1 3 rfl rfl)
theorem dX2_liked_29 : decode cX2_liked 29 = .ok (.iload_n 1, 1) := dk_27 (dk_at dksX2_liked_1 6 rfl rfl)
theorem dX2_liked_30 : decode cX2_liked 30 = .ok (.ireturn, 1) := dk_172 (dk_at dksX2_liked_1 7 rfl rfl)
abbrev cX2_letter : ByteArray := prog_4_method_13_code
def yX2_letter : MethodName := ⟨RX2, "letter", "(II)I"⟩
def dkwX2_letter_4 : List UInt8 := [167, 0, 9, 42, 180, 0, 29, 28, 46, 172]
abbrev dktX2_letter_4 : List UInt8 := dkwX2_letter_4 ++ []
def dkwX2_letter_3 : List UInt8 := [180, 0, 7, 3, 28, 96, 46, 167, 0, 26, 27, 4, 160, 0, 15, 42, 180, 0, 7, 16, 49, 28, 96, 46]
abbrev dktX2_letter_3 : List UInt8 := dkwX2_letter_3 ++ dktX2_letter_4
def dkwX2_letter_2 : List UInt8 := [28, 3, 29, 4, 100, 184, 0, 41, 154, 0, 6, 16, 250, 172, 42, 182, 0, 60, 27, 154, 0, 14, 42]
abbrev dktX2_letter_2 : List UInt8 := dkwX2_letter_2 ++ dktX2_letter_3
def dkwX2_letter_1 : List UInt8 := [4, 160, 0, 13, 42, 180, 0, 7, 16, 55, 46, 167, 0, 5, 16, 16, 62, 28, 2, 160, 0, 5, 29, 172]
abbrev dktX2_letter_1 : List UInt8 := dkwX2_letter_1 ++ dktX2_letter_2
def dkwX2_letter_0 : List UInt8 := [27, 3, 5, 184, 0, 41, 154, 0, 6, 16, 254, 172, 27, 154, 0, 10, 42, 182, 0, 57, 167, 0, 20, 27]
abbrev dktX2_letter_0 : List UInt8 := dkwX2_letter_0 ++ dktX2_letter_1
theorem dksX2_letter_0 : cX2_letter.data.toList.drop 0 = dktX2_letter_0 := by decide +kernel
theorem dksX2_letter_1 : cX2_letter.data.toList.drop 24 = dktX2_letter_1 := dk_seg dksX2_letter_0 24 rfl rfl
theorem dksX2_letter_2 : cX2_letter.data.toList.drop 48 = dktX2_letter_2 := dk_seg dksX2_letter_1 24 rfl rfl
theorem dksX2_letter_3 : cX2_letter.data.toList.drop 71 = dktX2_letter_3 := dk_seg dksX2_letter_2 23 rfl rfl
theorem dksX2_letter_4 : cX2_letter.data.toList.drop 95 = dktX2_letter_4 := dk_seg dksX2_letter_3 24 rfl rfl
theorem dX2_letter_0 : decode cX2_letter 0 = .ok (.iload_n 1, 1) := dk_27 (dk_at dksX2_letter_0 0 rfl rfl)
theorem dX2_letter_1 : decode cX2_letter 1 = .ok (.iconst 0, 1) := dk_3 (dk_at dksX2_letter_0 1 rfl rfl)
theorem dX2_letter_2 : decode cX2_letter 2 = .ok (.iconst 2, 1) := dk_5 (dk_at dksX2_letter_0 2 rfl rfl)
theorem dX2_letter_3 : decode cX2_letter 3 = .ok (.invokestatic 41, 3) := dk_184 0 41 (dk_at dksX2_letter_0 3 rfl rfl)
theorem dX2_letter_6 : decode cX2_letter 6 = .ok (.ifCond .ne 6, 3) := dk_154 0 6 (dk_at dksX2_letter_0 6 rfl rfl)
theorem dX2_letter_9 : decode cX2_letter 9 = .ok (.bipush (-2), 2) := dk_16 254 (dk_at dksX2_letter_0 9 rfl rfl)
theorem dX2_letter_11 : decode cX2_letter 11 = .ok (.ireturn, 1) := dk_172 (dk_at dksX2_letter_0 11 rfl rfl)
theorem dX2_letter_12 : decode cX2_letter 12 = .ok (.iload_n 1, 1) := dk_27 (dk_at dksX2_letter_0 12 rfl rfl)
theorem dX2_letter_13 : decode cX2_letter 13 = .ok (.ifCond .ne 10, 3) := dk_154 0 10 (dk_at dksX2_letter_0 13 rfl rfl)
theorem dX2_letter_16 : decode cX2_letter 16 = .ok (.aload_n 0, 1) := dk_42 (dk_at dksX2_letter_0 16 rfl rfl)
theorem dX2_letter_17 : decode cX2_letter 17 = .ok (.invokevirtual 57, 3) := dk_182 0 57 (dk_at dksX2_letter_0 17 rfl rfl)
theorem dX2_letter_20 : decode cX2_letter 20 = .ok (.goto 20, 3) := dk_167 0 20 (dk_at dksX2_letter_0 20 rfl rfl)
theorem dX2_letter_23 : decode cX2_letter 23 = .ok (.iload_n 1, 1) := dk_27 (dk_at dksX2_letter_0 23 rfl rfl)
theorem dX2_letter_24 : decode cX2_letter 24 = .ok (.iconst 1, 1) := dk_4 (dk_at dksX2_letter_1 0 rfl rfl)
theorem dX2_letter_25 : decode cX2_letter 25 = .ok (.if_icmp .ne 13, 3) := dk_160 0 13 (dk_at dksX2_letter_1 1 rfl rfl)
theorem dX2_letter_28 : decode cX2_letter 28 = .ok (.aload_n 0, 1) := dk_42 (dk_at dksX2_letter_1 4 rfl rfl)
theorem dX2_letter_29 : decode cX2_letter 29 = .ok (.getfield 7, 3) := dk_180 0 7 (dk_at dksX2_letter_1 5 rfl rfl)
theorem dX2_letter_32 : decode cX2_letter 32 = .ok (.bipush 55, 2) := dk_16 55 (dk_at dksX2_letter_1 8 rfl rfl)
theorem dX2_letter_34 : decode cX2_letter 34 = .ok (.iaload, 1) := dk_46 (dk_at dksX2_letter_1 10 rfl rfl)
theorem dX2_letter_35 : decode cX2_letter 35 = .ok (.goto 5, 3) := dk_167 0 5 (dk_at dksX2_letter_1 11 rfl rfl)
theorem dX2_letter_38 : decode cX2_letter 38 = .ok (.bipush 16, 2) := dk_16 16 (dk_at dksX2_letter_1 14 rfl rfl)
theorem dX2_letter_40 : decode cX2_letter 40 = .ok (.istore_n 3, 1) := dk_62 (dk_at dksX2_letter_1 16 rfl rfl)
theorem dX2_letter_41 : decode cX2_letter 41 = .ok (.iload_n 2, 1) := dk_28 (dk_at dksX2_letter_1 17 rfl rfl)
theorem dX2_letter_42 : decode cX2_letter 42 = .ok (.iconst (-1), 1) := dk_2 (dk_at dksX2_letter_1 18 rfl rfl)
theorem dX2_letter_43 : decode cX2_letter 43 = .ok (.if_icmp .ne 5, 3) := dk_160 0 5 (dk_at dksX2_letter_1 19 rfl rfl)
theorem dX2_letter_46 : decode cX2_letter 46 = .ok (.iload_n 3, 1) := dk_29 (dk_at dksX2_letter_1 22 rfl rfl)
theorem dX2_letter_47 : decode cX2_letter 47 = .ok (.ireturn, 1) := dk_172 (dk_at dksX2_letter_1 23 rfl rfl)
theorem dX2_letter_48 : decode cX2_letter 48 = .ok (.iload_n 2, 1) := dk_28 (dk_at dksX2_letter_2 0 rfl rfl)
theorem dX2_letter_49 : decode cX2_letter 49 = .ok (.iconst 0, 1) := dk_3 (dk_at dksX2_letter_2 1 rfl rfl)
theorem dX2_letter_50 : decode cX2_letter 50 = .ok (.iload_n 3, 1) := dk_29 (dk_at dksX2_letter_2 2 rfl rfl)
theorem dX2_letter_51 : decode cX2_letter 51 = .ok (.iconst 1, 1) := dk_4 (dk_at dksX2_letter_2 3 rfl rfl)
theorem dX2_letter_52 : decode cX2_letter 52 = .ok (.isub, 1) := dk_100 (dk_at dksX2_letter_2 4 rfl rfl)
theorem dX2_letter_53 : decode cX2_letter 53 = .ok (.invokestatic 41, 3) := dk_184 0 41 (dk_at dksX2_letter_2 5 rfl rfl)
theorem dX2_letter_56 : decode cX2_letter 56 = .ok (.ifCond .ne 6, 3) := dk_154 0 6 (dk_at dksX2_letter_2 8 rfl rfl)
theorem dX2_letter_59 : decode cX2_letter 59 = .ok (.bipush (-6), 2) := dk_16 250 (dk_at dksX2_letter_2 11 rfl rfl)
theorem dX2_letter_61 : decode cX2_letter 61 = .ok (.ireturn, 1) := dk_172 (dk_at dksX2_letter_2 13 rfl rfl)
theorem dX2_letter_62 : decode cX2_letter 62 = .ok (.aload_n 0, 1) := dk_42 (dk_at dksX2_letter_2 14 rfl rfl)
theorem dX2_letter_63 : decode cX2_letter 63 = .ok (.invokevirtual 60, 3) := dk_182 0 60 (dk_at dksX2_letter_2 15 rfl rfl)
theorem dX2_letter_66 : decode cX2_letter 66 = .ok (.iload_n 1, 1) := dk_27 (dk_at dksX2_letter_2 18 rfl rfl)
theorem dX2_letter_67 : decode cX2_letter 67 = .ok (.ifCond .ne 14, 3) := dk_154 0 14 (dk_at dksX2_letter_2 19 rfl rfl)
theorem dX2_letter_70 : decode cX2_letter 70 = .ok (.aload_n 0, 1) := dk_42 (dk_at dksX2_letter_2 22 rfl rfl)
theorem dX2_letter_71 : decode cX2_letter 71 = .ok (.getfield 7, 3) := dk_180 0 7 (dk_at dksX2_letter_3 0 rfl rfl)
theorem dX2_letter_74 : decode cX2_letter 74 = .ok (.iconst 0, 1) := dk_3 (dk_at dksX2_letter_3 3 rfl rfl)
theorem dX2_letter_75 : decode cX2_letter 75 = .ok (.iload_n 2, 1) := dk_28 (dk_at dksX2_letter_3 4 rfl rfl)
theorem dX2_letter_76 : decode cX2_letter 76 = .ok (.iadd, 1) := dk_96 (dk_at dksX2_letter_3 5 rfl rfl)
theorem dX2_letter_77 : decode cX2_letter 77 = .ok (.iaload, 1) := dk_46 (dk_at dksX2_letter_3 6 rfl rfl)
theorem dX2_letter_78 : decode cX2_letter 78 = .ok (.goto 26, 3) := dk_167 0 26 (dk_at dksX2_letter_3 7 rfl rfl)
theorem dX2_letter_81 : decode cX2_letter 81 = .ok (.iload_n 1, 1) := dk_27 (dk_at dksX2_letter_3 10 rfl rfl)
theorem dX2_letter_82 : decode cX2_letter 82 = .ok (.iconst 1, 1) := dk_4 (dk_at dksX2_letter_3 11 rfl rfl)
theorem dX2_letter_83 : decode cX2_letter 83 = .ok (.if_icmp .ne 15, 3) := dk_160 0 15 (dk_at dksX2_letter_3 12 rfl rfl)
theorem dX2_letter_86 : decode cX2_letter 86 = .ok (.aload_n 0, 1) := dk_42 (dk_at dksX2_letter_3 15 rfl rfl)
theorem dX2_letter_87 : decode cX2_letter 87 = .ok (.getfield 7, 3) := dk_180 0 7 (dk_at dksX2_letter_3 16 rfl rfl)
theorem dX2_letter_90 : decode cX2_letter 90 = .ok (.bipush 49, 2) := dk_16 49 (dk_at dksX2_letter_3 19 rfl rfl)
theorem dX2_letter_92 : decode cX2_letter 92 = .ok (.iload_n 2, 1) := dk_28 (dk_at dksX2_letter_3 21 rfl rfl)
theorem dX2_letter_93 : decode cX2_letter 93 = .ok (.iadd, 1) := dk_96 (dk_at dksX2_letter_3 22 rfl rfl)
theorem dX2_letter_94 : decode cX2_letter 94 = .ok (.iaload, 1) := dk_46 (dk_at dksX2_letter_3 23 rfl rfl)
theorem dX2_letter_95 : decode cX2_letter 95 = .ok (.goto 9, 3) := dk_167 0 9 (dk_at dksX2_letter_4 0 rfl rfl)
theorem dX2_letter_98 : decode cX2_letter 98 = .ok (.aload_n 0, 1) := dk_42 (dk_at dksX2_letter_4 3 rfl rfl)
theorem dX2_letter_99 : decode cX2_letter 99 = .ok (.getfield 29, 3) := dk_180 0 29 (dk_at dksX2_letter_4 4 rfl rfl)
theorem dX2_letter_102 : decode cX2_letter 102 = .ok (.iload_n 2, 1) := dk_28 (dk_at dksX2_letter_4 7 rfl rfl)
theorem dX2_letter_103 : decode cX2_letter 103 = .ok (.iaload, 1) := dk_46 (dk_at dksX2_letter_4 8 rfl rfl)
theorem dX2_letter_104 : decode cX2_letter 104 = .ok (.ireturn, 1) := dk_172 (dk_at dksX2_letter_4 9 rfl rfl)
abbrev cX2_many : ByteArray := prog_4_method_4_code
def yX2_many : MethodName := ⟨RX2, "many", "()I"⟩
def dkwX2_many_0 : List UInt8 := [42, 180, 0, 7, 16, 48, 46, 172]
abbrev dktX2_many_0 : List UInt8 := dkwX2_many_0 ++ []
theorem dksX2_many_0 : cX2_many.data.toList.drop 0 = dktX2_many_0 := by decide +kernel
theorem dX2_many_0 : decode cX2_many 0 = .ok (.aload_n 0, 1) := dk_42 (dk_at dksX2_many_0 0 rfl rfl)
theorem dX2_many_1 : decode cX2_many 1 = .ok (.getfield 7, 3) := dk_180 0 7 (dk_at dksX2_many_0 1 rfl rfl)
theorem dX2_many_4 : decode cX2_many 4 = .ok (.bipush 48, 2) := dk_16 48 (dk_at dksX2_many_0 4 rfl rfl)
theorem dX2_many_6 : decode cX2_many 6 = .ok (.iaload, 1) := dk_46 (dk_at dksX2_many_0 6 rfl rfl)
theorem dX2_many_7 : decode cX2_many 7 = .ok (.ireturn, 1) := dk_172 (dk_at dksX2_many_0 7 rfl rfl)
abbrev cX2_laySquare : ByteArray := prog_4_method_11_code
def yX2_laySquare : MethodName := ⟨RX2, "laySquare", "()V"⟩
def dkwX2_laySquare_3 : List UInt8 := [21, 4, 79, 132, 1, 1, 28, 4, 21, 4, 120, 128, 61, 132, 3, 1, 167, 255, 178, 177]
abbrev dktX2_laySquare_3 : List UInt8 := dkwX2_laySquare_3 ++ []
def dkwX2_laySquare_2 : List UInt8 := [180, 0, 7, 16, 55, 46, 100, 54, 4, 28, 21, 4, 122, 4, 126, 154, 0, 21, 42, 180, 0, 29, 27]
abbrev dktX2_laySquare_2 : List UInt8 := dkwX2_laySquare_2 ++ dktX2_laySquare_3
def dkwX2_laySquare_1 : List UInt8 := [180, 0, 7, 16, 55, 46, 162, 0, 15, 42, 180, 0, 7, 16, 49, 29, 96, 46, 167, 0, 12, 29, 42]
abbrev dktX2_laySquare_1 : List UInt8 := dkwX2_laySquare_1 ++ dktX2_laySquare_2
def dkwX2_laySquare_0 : List UInt8 := [3, 60, 3, 61, 3, 62, 29, 42, 180, 0, 7, 16, 55, 46, 16, 16, 96, 162, 0, 70, 29, 42]
abbrev dktX2_laySquare_0 : List UInt8 := dkwX2_laySquare_0 ++ dktX2_laySquare_1
theorem dksX2_laySquare_0 : cX2_laySquare.data.toList.drop 0 = dktX2_laySquare_0 := by decide +kernel
theorem dksX2_laySquare_1 : cX2_laySquare.data.toList.drop 22 = dktX2_laySquare_1 := dk_seg dksX2_laySquare_0 22 rfl rfl
theorem dksX2_laySquare_2 : cX2_laySquare.data.toList.drop 45 = dktX2_laySquare_2 := dk_seg dksX2_laySquare_1 23 rfl rfl
theorem dksX2_laySquare_3 : cX2_laySquare.data.toList.drop 68 = dktX2_laySquare_3 := dk_seg dksX2_laySquare_2 23 rfl rfl
theorem dX2_laySquare_0 : decode cX2_laySquare 0 = .ok (.iconst 0, 1) := dk_3 (dk_at dksX2_laySquare_0 0 rfl rfl)
theorem dX2_laySquare_1 : decode cX2_laySquare 1 = .ok (.istore_n 1, 1) := dk_60 (dk_at dksX2_laySquare_0 1 rfl rfl)
theorem dX2_laySquare_2 : decode cX2_laySquare 2 = .ok (.iconst 0, 1) := dk_3 (dk_at dksX2_laySquare_0 2 rfl rfl)
theorem dX2_laySquare_3 : decode cX2_laySquare 3 = .ok (.istore_n 2, 1) := dk_61 (dk_at dksX2_laySquare_0 3 rfl rfl)
theorem dX2_laySquare_4 : decode cX2_laySquare 4 = .ok (.iconst 0, 1) := dk_3 (dk_at dksX2_laySquare_0 4 rfl rfl)
theorem dX2_laySquare_5 : decode cX2_laySquare 5 = .ok (.istore_n 3, 1) := dk_62 (dk_at dksX2_laySquare_0 5 rfl rfl)
theorem dX2_laySquare_6 : decode cX2_laySquare 6 = .ok (.iload_n 3, 1) := dk_29 (dk_at dksX2_laySquare_0 6 rfl rfl)
theorem dX2_laySquare_7 : decode cX2_laySquare 7 = .ok (.aload_n 0, 1) := dk_42 (dk_at dksX2_laySquare_0 7 rfl rfl)
theorem dX2_laySquare_8 : decode cX2_laySquare 8 = .ok (.getfield 7, 3) := dk_180 0 7 (dk_at dksX2_laySquare_0 8 rfl rfl)
theorem dX2_laySquare_11 : decode cX2_laySquare 11 = .ok (.bipush 55, 2) := dk_16 55 (dk_at dksX2_laySquare_0 11 rfl rfl)
theorem dX2_laySquare_13 : decode cX2_laySquare 13 = .ok (.iaload, 1) := dk_46 (dk_at dksX2_laySquare_0 13 rfl rfl)
theorem dX2_laySquare_14 : decode cX2_laySquare 14 = .ok (.bipush 16, 2) := dk_16 16 (dk_at dksX2_laySquare_0 14 rfl rfl)
theorem dX2_laySquare_16 : decode cX2_laySquare 16 = .ok (.iadd, 1) := dk_96 (dk_at dksX2_laySquare_0 16 rfl rfl)
theorem dX2_laySquare_17 : decode cX2_laySquare 17 = .ok (.if_icmp .ge 70, 3) := dk_162 0 70 (dk_at dksX2_laySquare_0 17 rfl rfl)
theorem dX2_laySquare_20 : decode cX2_laySquare 20 = .ok (.iload_n 3, 1) := dk_29 (dk_at dksX2_laySquare_0 20 rfl rfl)
theorem dX2_laySquare_21 : decode cX2_laySquare 21 = .ok (.aload_n 0, 1) := dk_42 (dk_at dksX2_laySquare_0 21 rfl rfl)
theorem dX2_laySquare_22 : decode cX2_laySquare 22 = .ok (.getfield 7, 3) := dk_180 0 7 (dk_at dksX2_laySquare_1 0 rfl rfl)
theorem dX2_laySquare_25 : decode cX2_laySquare 25 = .ok (.bipush 55, 2) := dk_16 55 (dk_at dksX2_laySquare_1 3 rfl rfl)
theorem dX2_laySquare_27 : decode cX2_laySquare 27 = .ok (.iaload, 1) := dk_46 (dk_at dksX2_laySquare_1 5 rfl rfl)
theorem dX2_laySquare_28 : decode cX2_laySquare 28 = .ok (.if_icmp .ge 15, 3) := dk_162 0 15 (dk_at dksX2_laySquare_1 6 rfl rfl)
theorem dX2_laySquare_31 : decode cX2_laySquare 31 = .ok (.aload_n 0, 1) := dk_42 (dk_at dksX2_laySquare_1 9 rfl rfl)
theorem dX2_laySquare_32 : decode cX2_laySquare 32 = .ok (.getfield 7, 3) := dk_180 0 7 (dk_at dksX2_laySquare_1 10 rfl rfl)
theorem dX2_laySquare_35 : decode cX2_laySquare 35 = .ok (.bipush 49, 2) := dk_16 49 (dk_at dksX2_laySquare_1 13 rfl rfl)
theorem dX2_laySquare_37 : decode cX2_laySquare 37 = .ok (.iload_n 3, 1) := dk_29 (dk_at dksX2_laySquare_1 15 rfl rfl)
theorem dX2_laySquare_38 : decode cX2_laySquare 38 = .ok (.iadd, 1) := dk_96 (dk_at dksX2_laySquare_1 16 rfl rfl)
theorem dX2_laySquare_39 : decode cX2_laySquare 39 = .ok (.iaload, 1) := dk_46 (dk_at dksX2_laySquare_1 17 rfl rfl)
theorem dX2_laySquare_40 : decode cX2_laySquare 40 = .ok (.goto 12, 3) := dk_167 0 12 (dk_at dksX2_laySquare_1 18 rfl rfl)
theorem dX2_laySquare_43 : decode cX2_laySquare 43 = .ok (.iload_n 3, 1) := dk_29 (dk_at dksX2_laySquare_1 21 rfl rfl)
theorem dX2_laySquare_44 : decode cX2_laySquare 44 = .ok (.aload_n 0, 1) := dk_42 (dk_at dksX2_laySquare_1 22 rfl rfl)
theorem dX2_laySquare_45 : decode cX2_laySquare 45 = .ok (.getfield 7, 3) := dk_180 0 7 (dk_at dksX2_laySquare_2 0 rfl rfl)
theorem dX2_laySquare_48 : decode cX2_laySquare 48 = .ok (.bipush 55, 2) := dk_16 55 (dk_at dksX2_laySquare_2 3 rfl rfl)
theorem dX2_laySquare_50 : decode cX2_laySquare 50 = .ok (.iaload, 1) := dk_46 (dk_at dksX2_laySquare_2 5 rfl rfl)
theorem dX2_laySquare_51 : decode cX2_laySquare 51 = .ok (.isub, 1) := dk_100 (dk_at dksX2_laySquare_2 6 rfl rfl)
theorem dX2_laySquare_52 : decode cX2_laySquare 52 = .ok (.istore 4, 2) := dk_54 4 (dk_at dksX2_laySquare_2 7 rfl rfl)
theorem dX2_laySquare_54 : decode cX2_laySquare 54 = .ok (.iload_n 2, 1) := dk_28 (dk_at dksX2_laySquare_2 9 rfl rfl)
theorem dX2_laySquare_55 : decode cX2_laySquare 55 = .ok (.iload 4, 2) := dk_21 4 (dk_at dksX2_laySquare_2 10 rfl rfl)
theorem dX2_laySquare_57 : decode cX2_laySquare 57 = .ok (.ishr, 1) := dk_122 (dk_at dksX2_laySquare_2 12 rfl rfl)
theorem dX2_laySquare_58 : decode cX2_laySquare 58 = .ok (.iconst 1, 1) := dk_4 (dk_at dksX2_laySquare_2 13 rfl rfl)
theorem dX2_laySquare_59 : decode cX2_laySquare 59 = .ok (.iand, 1) := dk_126 (dk_at dksX2_laySquare_2 14 rfl rfl)
theorem dX2_laySquare_60 : decode cX2_laySquare 60 = .ok (.ifCond .ne 21, 3) := dk_154 0 21 (dk_at dksX2_laySquare_2 15 rfl rfl)
theorem dX2_laySquare_63 : decode cX2_laySquare 63 = .ok (.aload_n 0, 1) := dk_42 (dk_at dksX2_laySquare_2 18 rfl rfl)
theorem dX2_laySquare_64 : decode cX2_laySquare 64 = .ok (.getfield 29, 3) := dk_180 0 29 (dk_at dksX2_laySquare_2 19 rfl rfl)
theorem dX2_laySquare_67 : decode cX2_laySquare 67 = .ok (.iload_n 1, 1) := dk_27 (dk_at dksX2_laySquare_2 22 rfl rfl)
theorem dX2_laySquare_68 : decode cX2_laySquare 68 = .ok (.iload 4, 2) := dk_21 4 (dk_at dksX2_laySquare_3 0 rfl rfl)
theorem dX2_laySquare_70 : decode cX2_laySquare 70 = .ok (.iastore, 1) := dk_79 (dk_at dksX2_laySquare_3 2 rfl rfl)
theorem dX2_laySquare_71 : decode cX2_laySquare 71 = .ok (.iinc 1 1, 3) := dk_132 1 1 (dk_at dksX2_laySquare_3 3 rfl rfl)
theorem dX2_laySquare_74 : decode cX2_laySquare 74 = .ok (.iload_n 2, 1) := dk_28 (dk_at dksX2_laySquare_3 6 rfl rfl)
theorem dX2_laySquare_75 : decode cX2_laySquare 75 = .ok (.iconst 1, 1) := dk_4 (dk_at dksX2_laySquare_3 7 rfl rfl)
theorem dX2_laySquare_76 : decode cX2_laySquare 76 = .ok (.iload 4, 2) := dk_21 4 (dk_at dksX2_laySquare_3 8 rfl rfl)
theorem dX2_laySquare_78 : decode cX2_laySquare 78 = .ok (.ishl, 1) := dk_120 (dk_at dksX2_laySquare_3 10 rfl rfl)
theorem dX2_laySquare_79 : decode cX2_laySquare 79 = .ok (.ior, 1) := dk_128 (dk_at dksX2_laySquare_3 11 rfl rfl)
theorem dX2_laySquare_80 : decode cX2_laySquare 80 = .ok (.istore_n 2, 1) := dk_61 (dk_at dksX2_laySquare_3 12 rfl rfl)
theorem dX2_laySquare_81 : decode cX2_laySquare 81 = .ok (.iinc 3 1, 3) := dk_132 3 1 (dk_at dksX2_laySquare_3 13 rfl rfl)
theorem dX2_laySquare_84 : decode cX2_laySquare 84 = .ok (.goto (-78), 3) := dk_167 255 178 (dk_at dksX2_laySquare_3 16 rfl rfl)
theorem dX2_laySquare_87 : decode cX2_laySquare 87 = .ok (.return_, 1) := dk_177 (dk_at dksX2_laySquare_3 19 rfl rfl)
abbrev cX2_hide : ByteArray := prog_4_method_27_code
def yX2_hide : MethodName := ⟨RX2, "hide", "(I)I"⟩
def dkwX2_hide_0 : List UInt8 := [42, 27, 4, 182, 0, 107, 172]
abbrev dktX2_hide_0 : List UInt8 := dkwX2_hide_0 ++ []
theorem dksX2_hide_0 : cX2_hide.data.toList.drop 0 = dktX2_hide_0 := by decide +kernel
theorem dX2_hide_0 : decode cX2_hide 0 = .ok (.aload_n 0, 1) := dk_42 (dk_at dksX2_hide_0 0 rfl rfl)
theorem dX2_hide_1 : decode cX2_hide 1 = .ok (.iload_n 1, 1) := dk_27 (dk_at dksX2_hide_0 1 rfl rfl)
theorem dX2_hide_2 : decode cX2_hide 2 = .ok (.iconst 1, 1) := dk_4 (dk_at dksX2_hide_0 2 rfl rfl)
theorem dX2_hide_3 : decode cX2_hide 3 = .ok (.invokevirtual 107, 3) := dk_182 0 107 (dk_at dksX2_hide_0 3 rfl rfl)
theorem dX2_hide_6 : decode cX2_hide 6 = .ok (.ireturn, 1) := dk_172 (dk_at dksX2_hide_0 6 rfl rfl)
abbrev cX2_step : ByteArray := prog_4_method_26_code
def yX2_step : MethodName := ⟨RX2, "step", "(II)I"⟩
def dkwX2_step_4 : List UInt8 := [46, 79, 132, 4, 1, 167, 255, 201, 29, 172]
abbrev dktX2_step_4 : List UInt8 := dkwX2_step_4 ++ []
def dkwX2_step_3 : List UInt8 := [160, 0, 7, 3, 167, 0, 4, 4, 96, 62, 42, 180, 0, 7, 3, 21, 4, 96, 42, 180, 0, 26, 21, 4]
abbrev dktX2_step_3 : List UInt8 := dkwX2_step_3 ++ dktX2_step_4
def dkwX2_step_2 : List UInt8 := [182, 0, 57, 162, 0, 52, 29, 42, 180, 0, 7, 3, 21, 4, 96, 46, 42, 180, 0, 26, 21, 4, 46]
abbrev dktX2_step_2 : List UInt8 := dkwX2_step_2 ++ dktX2_step_3
def dkwX2_step_1 : List UInt8 := [160, 0, 6, 16, 253, 172, 42, 27, 28, 182, 0, 101, 42, 182, 0, 104, 3, 62, 3, 54, 4, 21, 4, 42]
abbrev dktX2_step_1 : List UInt8 := dkwX2_step_1 ++ dktX2_step_2
def dkwX2_step_0 : List UInt8 := [27, 3, 8, 184, 0, 41, 154, 0, 6, 16, 254, 172, 27, 5, 160, 0, 16, 42, 182, 0, 57, 5, 112, 4]
abbrev dktX2_step_0 : List UInt8 := dkwX2_step_0 ++ dktX2_step_1
theorem dksX2_step_0 : cX2_step.data.toList.drop 0 = dktX2_step_0 := by decide +kernel
theorem dksX2_step_1 : cX2_step.data.toList.drop 24 = dktX2_step_1 := dk_seg dksX2_step_0 24 rfl rfl
theorem dksX2_step_2 : cX2_step.data.toList.drop 48 = dktX2_step_2 := dk_seg dksX2_step_1 24 rfl rfl
theorem dksX2_step_3 : cX2_step.data.toList.drop 71 = dktX2_step_3 := dk_seg dksX2_step_2 23 rfl rfl
theorem dksX2_step_4 : cX2_step.data.toList.drop 95 = dktX2_step_4 := dk_seg dksX2_step_3 24 rfl rfl
theorem dX2_step_0 : decode cX2_step 0 = .ok (.iload_n 1, 1) := dk_27 (dk_at dksX2_step_0 0 rfl rfl)
theorem dX2_step_1 : decode cX2_step 1 = .ok (.iconst 0, 1) := dk_3 (dk_at dksX2_step_0 1 rfl rfl)
theorem dX2_step_2 : decode cX2_step 2 = .ok (.iconst 5, 1) := dk_8 (dk_at dksX2_step_0 2 rfl rfl)
theorem dX2_step_3 : decode cX2_step 3 = .ok (.invokestatic 41, 3) := dk_184 0 41 (dk_at dksX2_step_0 3 rfl rfl)
theorem dX2_step_6 : decode cX2_step 6 = .ok (.ifCond .ne 6, 3) := dk_154 0 6 (dk_at dksX2_step_0 6 rfl rfl)
theorem dX2_step_9 : decode cX2_step 9 = .ok (.bipush (-2), 2) := dk_16 254 (dk_at dksX2_step_0 9 rfl rfl)
theorem dX2_step_11 : decode cX2_step 11 = .ok (.ireturn, 1) := dk_172 (dk_at dksX2_step_0 11 rfl rfl)
theorem dX2_step_12 : decode cX2_step 12 = .ok (.iload_n 1, 1) := dk_27 (dk_at dksX2_step_0 12 rfl rfl)
theorem dX2_step_13 : decode cX2_step 13 = .ok (.iconst 2, 1) := dk_5 (dk_at dksX2_step_0 13 rfl rfl)
theorem dX2_step_14 : decode cX2_step 14 = .ok (.if_icmp .ne 16, 3) := dk_160 0 16 (dk_at dksX2_step_0 14 rfl rfl)
theorem dX2_step_17 : decode cX2_step 17 = .ok (.aload_n 0, 1) := dk_42 (dk_at dksX2_step_0 17 rfl rfl)
theorem dX2_step_18 : decode cX2_step 18 = .ok (.invokevirtual 57, 3) := dk_182 0 57 (dk_at dksX2_step_0 18 rfl rfl)
theorem dX2_step_21 : decode cX2_step 21 = .ok (.iconst 2, 1) := dk_5 (dk_at dksX2_step_0 21 rfl rfl)
theorem dX2_step_22 : decode cX2_step 22 = .ok (.irem, 1) := dk_112 (dk_at dksX2_step_0 22 rfl rfl)
theorem dX2_step_23 : decode cX2_step 23 = .ok (.iconst 1, 1) := dk_4 (dk_at dksX2_step_0 23 rfl rfl)
theorem dX2_step_24 : decode cX2_step 24 = .ok (.if_icmp .ne 6, 3) := dk_160 0 6 (dk_at dksX2_step_1 0 rfl rfl)
theorem dX2_step_27 : decode cX2_step 27 = .ok (.bipush (-3), 2) := dk_16 253 (dk_at dksX2_step_1 3 rfl rfl)
theorem dX2_step_29 : decode cX2_step 29 = .ok (.ireturn, 1) := dk_172 (dk_at dksX2_step_1 5 rfl rfl)
theorem dX2_step_30 : decode cX2_step 30 = .ok (.aload_n 0, 1) := dk_42 (dk_at dksX2_step_1 6 rfl rfl)
theorem dX2_step_31 : decode cX2_step 31 = .ok (.iload_n 1, 1) := dk_27 (dk_at dksX2_step_1 7 rfl rfl)
theorem dX2_step_32 : decode cX2_step 32 = .ok (.iload_n 2, 1) := dk_28 (dk_at dksX2_step_1 8 rfl rfl)
theorem dX2_step_33 : decode cX2_step 33 = .ok (.invokevirtual 101, 3) := dk_182 0 101 (dk_at dksX2_step_1 9 rfl rfl)
theorem dX2_step_36 : decode cX2_step 36 = .ok (.aload_n 0, 1) := dk_42 (dk_at dksX2_step_1 12 rfl rfl)
theorem dX2_step_37 : decode cX2_step 37 = .ok (.invokevirtual 104, 3) := dk_182 0 104 (dk_at dksX2_step_1 13 rfl rfl)
theorem dX2_step_40 : decode cX2_step 40 = .ok (.iconst 0, 1) := dk_3 (dk_at dksX2_step_1 16 rfl rfl)
theorem dX2_step_41 : decode cX2_step 41 = .ok (.istore_n 3, 1) := dk_62 (dk_at dksX2_step_1 17 rfl rfl)
theorem dX2_step_42 : decode cX2_step 42 = .ok (.iconst 0, 1) := dk_3 (dk_at dksX2_step_1 18 rfl rfl)
theorem dX2_step_43 : decode cX2_step 43 = .ok (.istore 4, 2) := dk_54 4 (dk_at dksX2_step_1 19 rfl rfl)
theorem dX2_step_45 : decode cX2_step 45 = .ok (.iload 4, 2) := dk_21 4 (dk_at dksX2_step_1 21 rfl rfl)
theorem dX2_step_47 : decode cX2_step 47 = .ok (.aload_n 0, 1) := dk_42 (dk_at dksX2_step_1 23 rfl rfl)
theorem dX2_step_48 : decode cX2_step 48 = .ok (.invokevirtual 57, 3) := dk_182 0 57 (dk_at dksX2_step_2 0 rfl rfl)
theorem dX2_step_51 : decode cX2_step 51 = .ok (.if_icmp .ge 52, 3) := dk_162 0 52 (dk_at dksX2_step_2 3 rfl rfl)
theorem dX2_step_54 : decode cX2_step 54 = .ok (.iload_n 3, 1) := dk_29 (dk_at dksX2_step_2 6 rfl rfl)
theorem dX2_step_55 : decode cX2_step 55 = .ok (.aload_n 0, 1) := dk_42 (dk_at dksX2_step_2 7 rfl rfl)
theorem dX2_step_56 : decode cX2_step 56 = .ok (.getfield 7, 3) := dk_180 0 7 (dk_at dksX2_step_2 8 rfl rfl)
theorem dX2_step_59 : decode cX2_step 59 = .ok (.iconst 0, 1) := dk_3 (dk_at dksX2_step_2 11 rfl rfl)
theorem dX2_step_60 : decode cX2_step 60 = .ok (.iload 4, 2) := dk_21 4 (dk_at dksX2_step_2 12 rfl rfl)
theorem dX2_step_62 : decode cX2_step 62 = .ok (.iadd, 1) := dk_96 (dk_at dksX2_step_2 14 rfl rfl)
theorem dX2_step_63 : decode cX2_step 63 = .ok (.iaload, 1) := dk_46 (dk_at dksX2_step_2 15 rfl rfl)
theorem dX2_step_64 : decode cX2_step 64 = .ok (.aload_n 0, 1) := dk_42 (dk_at dksX2_step_2 16 rfl rfl)
theorem dX2_step_65 : decode cX2_step 65 = .ok (.getfield 26, 3) := dk_180 0 26 (dk_at dksX2_step_2 17 rfl rfl)
theorem dX2_step_68 : decode cX2_step 68 = .ok (.iload 4, 2) := dk_21 4 (dk_at dksX2_step_2 20 rfl rfl)
theorem dX2_step_70 : decode cX2_step 70 = .ok (.iaload, 1) := dk_46 (dk_at dksX2_step_2 22 rfl rfl)
theorem dX2_step_71 : decode cX2_step 71 = .ok (.if_icmp .ne 7, 3) := dk_160 0 7 (dk_at dksX2_step_3 0 rfl rfl)
theorem dX2_step_74 : decode cX2_step 74 = .ok (.iconst 0, 1) := dk_3 (dk_at dksX2_step_3 3 rfl rfl)
theorem dX2_step_75 : decode cX2_step 75 = .ok (.goto 4, 3) := dk_167 0 4 (dk_at dksX2_step_3 4 rfl rfl)
theorem dX2_step_78 : decode cX2_step 78 = .ok (.iconst 1, 1) := dk_4 (dk_at dksX2_step_3 7 rfl rfl)
theorem dX2_step_79 : decode cX2_step 79 = .ok (.iadd, 1) := dk_96 (dk_at dksX2_step_3 8 rfl rfl)
theorem dX2_step_80 : decode cX2_step 80 = .ok (.istore_n 3, 1) := dk_62 (dk_at dksX2_step_3 9 rfl rfl)
theorem dX2_step_81 : decode cX2_step 81 = .ok (.aload_n 0, 1) := dk_42 (dk_at dksX2_step_3 10 rfl rfl)
theorem dX2_step_82 : decode cX2_step 82 = .ok (.getfield 7, 3) := dk_180 0 7 (dk_at dksX2_step_3 11 rfl rfl)
theorem dX2_step_85 : decode cX2_step 85 = .ok (.iconst 0, 1) := dk_3 (dk_at dksX2_step_3 14 rfl rfl)
theorem dX2_step_86 : decode cX2_step 86 = .ok (.iload 4, 2) := dk_21 4 (dk_at dksX2_step_3 15 rfl rfl)
theorem dX2_step_88 : decode cX2_step 88 = .ok (.iadd, 1) := dk_96 (dk_at dksX2_step_3 17 rfl rfl)
theorem dX2_step_89 : decode cX2_step 89 = .ok (.aload_n 0, 1) := dk_42 (dk_at dksX2_step_3 18 rfl rfl)
theorem dX2_step_90 : decode cX2_step 90 = .ok (.getfield 26, 3) := dk_180 0 26 (dk_at dksX2_step_3 19 rfl rfl)
theorem dX2_step_93 : decode cX2_step 93 = .ok (.iload 4, 2) := dk_21 4 (dk_at dksX2_step_3 22 rfl rfl)
theorem dX2_step_95 : decode cX2_step 95 = .ok (.iaload, 1) := dk_46 (dk_at dksX2_step_4 0 rfl rfl)
theorem dX2_step_96 : decode cX2_step 96 = .ok (.iastore, 1) := dk_79 (dk_at dksX2_step_4 1 rfl rfl)
theorem dX2_step_97 : decode cX2_step 97 = .ok (.iinc 4 1, 3) := dk_132 4 1 (dk_at dksX2_step_4 2 rfl rfl)
theorem dX2_step_100 : decode cX2_step 100 = .ok (.goto (-55), 3) := dk_167 255 201 (dk_at dksX2_step_4 5 rfl rfl)
theorem dX2_step_103 : decode cX2_step 103 = .ok (.iload_n 3, 1) := dk_29 (dk_at dksX2_step_4 8 rfl rfl)
theorem dX2_step_104 : decode cX2_step 104 = .ok (.ireturn, 1) := dk_172 (dk_at dksX2_step_4 9 rfl rfl)
abbrev cX2_goWay : ByteArray := prog_4_method_24_code
def yX2_goWay : MethodName := ⟨RX2, "goWay", "(II)V"⟩
def dkwX2_goWay_6 : List UInt8 := [42, 28, 182, 0, 98, 177]
abbrev dktX2_goWay_6 : List UInt8 := dkwX2_goWay_6 ++ []
def dkwX2_goWay_5 : List UInt8 := [167, 0, 29, 42, 42, 180, 0, 7, 16, 55, 46, 4, 96, 182, 0, 95, 42, 28, 182, 0, 92, 167, 0, 8]
abbrev dktX2_goWay_5 : List UInt8 := dkwX2_goWay_5 ++ dktX2_goWay_6
def dkwX2_goWay_4 : List UInt8 := [167, 0, 52, 42, 182, 0, 86, 42, 42, 180, 0, 7, 16, 55, 46, 182, 0, 89, 42, 28, 182, 0, 92]
abbrev dktX2_goWay_4 : List UInt8 := dkwX2_goWay_4 ++ dktX2_goWay_5
def dkwX2_goWay_3 : List UInt8 := [42, 28, 27, 4, 160, 0, 7, 4, 167, 0, 4, 3, 182, 0, 78, 167, 0, 60, 42, 28, 182, 0, 82]
abbrev dktX2_goWay_3 : List UInt8 := dkwX2_goWay_3 ++ dktX2_goWay_4
def dkwX2_goWay_2 : List UInt8 := [170, 0, 0, 0, 103, 0, 0, 0, 0, 0, 0, 0, 4, 0, 0, 0, 33, 0, 0, 0, 33, 0, 0, 0, 51, 0, 0, 0, 59, 0, 0, 0, 82]
abbrev dktX2_goWay_2 : List UInt8 := dkwX2_goWay_2 ++ dktX2_goWay_3
def dkwX2_goWay_1 : List UInt8 := [29, 96, 46, 79, 132, 3, 1, 167, 255, 231, 27]
abbrev dktX2_goWay_1 : List UInt8 := dkwX2_goWay_1 ++ dktX2_goWay_2
def dkwX2_goWay_0 : List UInt8 := [42, 182, 0, 60, 3, 62, 29, 42, 182, 0, 57, 162, 0, 23, 42, 180, 0, 23, 29, 42, 180, 0, 7, 3]
abbrev dktX2_goWay_0 : List UInt8 := dkwX2_goWay_0 ++ dktX2_goWay_1
theorem dksX2_goWay_0 : cX2_goWay.data.toList.drop 0 = dktX2_goWay_0 := by decide +kernel
theorem dksX2_goWay_1 : cX2_goWay.data.toList.drop 24 = dktX2_goWay_1 := dk_seg dksX2_goWay_0 24 rfl rfl
theorem dksX2_goWay_2 : cX2_goWay.data.toList.drop 35 = dktX2_goWay_2 := dk_seg dksX2_goWay_1 11 rfl rfl
theorem dksX2_goWay_3 : cX2_goWay.data.toList.drop 68 = dktX2_goWay_3 := dk_seg dksX2_goWay_2 33 rfl rfl
theorem dksX2_goWay_4 : cX2_goWay.data.toList.drop 91 = dktX2_goWay_4 := dk_seg dksX2_goWay_3 23 rfl rfl
theorem dksX2_goWay_5 : cX2_goWay.data.toList.drop 114 = dktX2_goWay_5 := dk_seg dksX2_goWay_4 23 rfl rfl
theorem dksX2_goWay_6 : cX2_goWay.data.toList.drop 138 = dktX2_goWay_6 := dk_seg dksX2_goWay_5 24 rfl rfl
theorem dX2_goWay_0 : decode cX2_goWay 0 = .ok (.aload_n 0, 1) := dk_42 (dk_at dksX2_goWay_0 0 rfl rfl)
theorem dX2_goWay_1 : decode cX2_goWay 1 = .ok (.invokevirtual 60, 3) := dk_182 0 60 (dk_at dksX2_goWay_0 1 rfl rfl)
theorem dX2_goWay_4 : decode cX2_goWay 4 = .ok (.iconst 0, 1) := dk_3 (dk_at dksX2_goWay_0 4 rfl rfl)
theorem dX2_goWay_5 : decode cX2_goWay 5 = .ok (.istore_n 3, 1) := dk_62 (dk_at dksX2_goWay_0 5 rfl rfl)
theorem dX2_goWay_6 : decode cX2_goWay 6 = .ok (.iload_n 3, 1) := dk_29 (dk_at dksX2_goWay_0 6 rfl rfl)
theorem dX2_goWay_7 : decode cX2_goWay 7 = .ok (.aload_n 0, 1) := dk_42 (dk_at dksX2_goWay_0 7 rfl rfl)
theorem dX2_goWay_8 : decode cX2_goWay 8 = .ok (.invokevirtual 57, 3) := dk_182 0 57 (dk_at dksX2_goWay_0 8 rfl rfl)
theorem dX2_goWay_11 : decode cX2_goWay 11 = .ok (.if_icmp .ge 23, 3) := dk_162 0 23 (dk_at dksX2_goWay_0 11 rfl rfl)
theorem dX2_goWay_14 : decode cX2_goWay 14 = .ok (.aload_n 0, 1) := dk_42 (dk_at dksX2_goWay_0 14 rfl rfl)
theorem dX2_goWay_15 : decode cX2_goWay 15 = .ok (.getfield 23, 3) := dk_180 0 23 (dk_at dksX2_goWay_0 15 rfl rfl)
theorem dX2_goWay_18 : decode cX2_goWay 18 = .ok (.iload_n 3, 1) := dk_29 (dk_at dksX2_goWay_0 18 rfl rfl)
theorem dX2_goWay_19 : decode cX2_goWay 19 = .ok (.aload_n 0, 1) := dk_42 (dk_at dksX2_goWay_0 19 rfl rfl)
theorem dX2_goWay_20 : decode cX2_goWay 20 = .ok (.getfield 7, 3) := dk_180 0 7 (dk_at dksX2_goWay_0 20 rfl rfl)
theorem dX2_goWay_23 : decode cX2_goWay 23 = .ok (.iconst 0, 1) := dk_3 (dk_at dksX2_goWay_0 23 rfl rfl)
theorem dX2_goWay_24 : decode cX2_goWay 24 = .ok (.iload_n 3, 1) := dk_29 (dk_at dksX2_goWay_1 0 rfl rfl)
theorem dX2_goWay_25 : decode cX2_goWay 25 = .ok (.iadd, 1) := dk_96 (dk_at dksX2_goWay_1 1 rfl rfl)
theorem dX2_goWay_26 : decode cX2_goWay 26 = .ok (.iaload, 1) := dk_46 (dk_at dksX2_goWay_1 2 rfl rfl)
theorem dX2_goWay_27 : decode cX2_goWay 27 = .ok (.iastore, 1) := dk_79 (dk_at dksX2_goWay_1 3 rfl rfl)
theorem dX2_goWay_28 : decode cX2_goWay 28 = .ok (.iinc 3 1, 3) := dk_132 3 1 (dk_at dksX2_goWay_1 4 rfl rfl)
theorem dX2_goWay_31 : decode cX2_goWay 31 = .ok (.goto (-25), 3) := dk_167 255 231 (dk_at dksX2_goWay_1 7 rfl rfl)
theorem dX2_goWay_34 : decode cX2_goWay 34 = .ok (.iload_n 1, 1) := dk_27 (dk_at dksX2_goWay_1 10 rfl rfl)
theorem dX2_goWay_35 : decode cX2_goWay 35 = .ok (.tableswitch 103 0 4 #[33, 33, 51, 59, 82], 33) := by decide +kernel
theorem dX2_goWay_68 : decode cX2_goWay 68 = .ok (.aload_n 0, 1) := dk_42 (dk_at dksX2_goWay_3 0 rfl rfl)
theorem dX2_goWay_69 : decode cX2_goWay 69 = .ok (.iload_n 2, 1) := dk_28 (dk_at dksX2_goWay_3 1 rfl rfl)
theorem dX2_goWay_70 : decode cX2_goWay 70 = .ok (.iload_n 1, 1) := dk_27 (dk_at dksX2_goWay_3 2 rfl rfl)
theorem dX2_goWay_71 : decode cX2_goWay 71 = .ok (.iconst 1, 1) := dk_4 (dk_at dksX2_goWay_3 3 rfl rfl)
theorem dX2_goWay_72 : decode cX2_goWay 72 = .ok (.if_icmp .ne 7, 3) := dk_160 0 7 (dk_at dksX2_goWay_3 4 rfl rfl)
theorem dX2_goWay_75 : decode cX2_goWay 75 = .ok (.iconst 1, 1) := dk_4 (dk_at dksX2_goWay_3 7 rfl rfl)
theorem dX2_goWay_76 : decode cX2_goWay 76 = .ok (.goto 4, 3) := dk_167 0 4 (dk_at dksX2_goWay_3 8 rfl rfl)
theorem dX2_goWay_79 : decode cX2_goWay 79 = .ok (.iconst 0, 1) := dk_3 (dk_at dksX2_goWay_3 11 rfl rfl)
theorem dX2_goWay_80 : decode cX2_goWay 80 = .ok (.invokevirtual 78, 3) := dk_182 0 78 (dk_at dksX2_goWay_3 12 rfl rfl)
theorem dX2_goWay_83 : decode cX2_goWay 83 = .ok (.goto 60, 3) := dk_167 0 60 (dk_at dksX2_goWay_3 15 rfl rfl)
theorem dX2_goWay_86 : decode cX2_goWay 86 = .ok (.aload_n 0, 1) := dk_42 (dk_at dksX2_goWay_3 18 rfl rfl)
theorem dX2_goWay_87 : decode cX2_goWay 87 = .ok (.iload_n 2, 1) := dk_28 (dk_at dksX2_goWay_3 19 rfl rfl)
theorem dX2_goWay_88 : decode cX2_goWay 88 = .ok (.invokevirtual 82, 3) := dk_182 0 82 (dk_at dksX2_goWay_3 20 rfl rfl)
theorem dX2_goWay_91 : decode cX2_goWay 91 = .ok (.goto 52, 3) := dk_167 0 52 (dk_at dksX2_goWay_4 0 rfl rfl)
theorem dX2_goWay_94 : decode cX2_goWay 94 = .ok (.aload_n 0, 1) := dk_42 (dk_at dksX2_goWay_4 3 rfl rfl)
theorem dX2_goWay_95 : decode cX2_goWay 95 = .ok (.invokevirtual 86, 3) := dk_182 0 86 (dk_at dksX2_goWay_4 4 rfl rfl)
theorem dX2_goWay_98 : decode cX2_goWay 98 = .ok (.aload_n 0, 1) := dk_42 (dk_at dksX2_goWay_4 7 rfl rfl)
theorem dX2_goWay_99 : decode cX2_goWay 99 = .ok (.aload_n 0, 1) := dk_42 (dk_at dksX2_goWay_4 8 rfl rfl)
theorem dX2_goWay_100 : decode cX2_goWay 100 = .ok (.getfield 7, 3) := dk_180 0 7 (dk_at dksX2_goWay_4 9 rfl rfl)
theorem dX2_goWay_103 : decode cX2_goWay 103 = .ok (.bipush 55, 2) := dk_16 55 (dk_at dksX2_goWay_4 12 rfl rfl)
theorem dX2_goWay_105 : decode cX2_goWay 105 = .ok (.iaload, 1) := dk_46 (dk_at dksX2_goWay_4 14 rfl rfl)
theorem dX2_goWay_106 : decode cX2_goWay 106 = .ok (.invokevirtual 89, 3) := dk_182 0 89 (dk_at dksX2_goWay_4 15 rfl rfl)
theorem dX2_goWay_109 : decode cX2_goWay 109 = .ok (.aload_n 0, 1) := dk_42 (dk_at dksX2_goWay_4 18 rfl rfl)
theorem dX2_goWay_110 : decode cX2_goWay 110 = .ok (.iload_n 2, 1) := dk_28 (dk_at dksX2_goWay_4 19 rfl rfl)
theorem dX2_goWay_111 : decode cX2_goWay 111 = .ok (.invokevirtual 92, 3) := dk_182 0 92 (dk_at dksX2_goWay_4 20 rfl rfl)
theorem dX2_goWay_114 : decode cX2_goWay 114 = .ok (.goto 29, 3) := dk_167 0 29 (dk_at dksX2_goWay_5 0 rfl rfl)
theorem dX2_goWay_117 : decode cX2_goWay 117 = .ok (.aload_n 0, 1) := dk_42 (dk_at dksX2_goWay_5 3 rfl rfl)
theorem dX2_goWay_118 : decode cX2_goWay 118 = .ok (.aload_n 0, 1) := dk_42 (dk_at dksX2_goWay_5 4 rfl rfl)
theorem dX2_goWay_119 : decode cX2_goWay 119 = .ok (.getfield 7, 3) := dk_180 0 7 (dk_at dksX2_goWay_5 5 rfl rfl)
theorem dX2_goWay_122 : decode cX2_goWay 122 = .ok (.bipush 55, 2) := dk_16 55 (dk_at dksX2_goWay_5 8 rfl rfl)
theorem dX2_goWay_124 : decode cX2_goWay 124 = .ok (.iaload, 1) := dk_46 (dk_at dksX2_goWay_5 10 rfl rfl)
theorem dX2_goWay_125 : decode cX2_goWay 125 = .ok (.iconst 1, 1) := dk_4 (dk_at dksX2_goWay_5 11 rfl rfl)
theorem dX2_goWay_126 : decode cX2_goWay 126 = .ok (.iadd, 1) := dk_96 (dk_at dksX2_goWay_5 12 rfl rfl)
theorem dX2_goWay_127 : decode cX2_goWay 127 = .ok (.invokevirtual 95, 3) := dk_182 0 95 (dk_at dksX2_goWay_5 13 rfl rfl)
theorem dX2_goWay_130 : decode cX2_goWay 130 = .ok (.aload_n 0, 1) := dk_42 (dk_at dksX2_goWay_5 16 rfl rfl)
theorem dX2_goWay_131 : decode cX2_goWay 131 = .ok (.iload_n 2, 1) := dk_28 (dk_at dksX2_goWay_5 17 rfl rfl)
theorem dX2_goWay_132 : decode cX2_goWay 132 = .ok (.invokevirtual 92, 3) := dk_182 0 92 (dk_at dksX2_goWay_5 18 rfl rfl)
theorem dX2_goWay_135 : decode cX2_goWay 135 = .ok (.goto 8, 3) := dk_167 0 8 (dk_at dksX2_goWay_5 21 rfl rfl)
theorem dX2_goWay_138 : decode cX2_goWay 138 = .ok (.aload_n 0, 1) := dk_42 (dk_at dksX2_goWay_6 0 rfl rfl)
theorem dX2_goWay_139 : decode cX2_goWay 139 = .ok (.iload_n 2, 1) := dk_28 (dk_at dksX2_goWay_6 1 rfl rfl)
theorem dX2_goWay_140 : decode cX2_goWay 140 = .ok (.invokevirtual 98, 3) := dk_182 0 98 (dk_at dksX2_goWay_6 2 rfl rfl)
theorem dX2_goWay_143 : decode cX2_goWay 143 = .ok (.return_, 1) := dk_177 (dk_at dksX2_goWay_6 5 rfl rfl)
abbrev cX2_shiftAll : ByteArray := prog_4_method_14_code
def yX2_shiftAll : MethodName := ⟨RX2, "shiftAll", "(IZ)V"⟩
def dkwX2_shiftAll_2 : List UInt8 := [29, 46, 27, 21, 4, 104, 96, 16, 16, 96, 16, 16, 112, 79, 132, 3, 1, 167, 255, 195, 177]
abbrev dktX2_shiftAll_2 : List UInt8 := dkwX2_shiftAll_2 ++ []
def dkwX2_shiftAll_1 : List UInt8 := [180, 0, 7, 16, 55, 46, 112, 167, 0, 4, 3, 96, 46, 54, 4, 42, 180, 0, 26, 29, 42, 180, 0, 23]
abbrev dktX2_shiftAll_1 : List UInt8 := dkwX2_shiftAll_1 ++ dktX2_shiftAll_2
def dkwX2_shiftAll_0 : List UInt8 := [3, 62, 29, 42, 182, 0, 57, 162, 0, 59, 42, 180, 0, 7, 16, 49, 28, 153, 0, 15, 29, 42]
abbrev dktX2_shiftAll_0 : List UInt8 := dkwX2_shiftAll_0 ++ dktX2_shiftAll_1
theorem dksX2_shiftAll_0 : cX2_shiftAll.data.toList.drop 0 = dktX2_shiftAll_0 := by decide +kernel
theorem dksX2_shiftAll_1 : cX2_shiftAll.data.toList.drop 22 = dktX2_shiftAll_1 := dk_seg dksX2_shiftAll_0 22 rfl rfl
theorem dksX2_shiftAll_2 : cX2_shiftAll.data.toList.drop 46 = dktX2_shiftAll_2 := dk_seg dksX2_shiftAll_1 24 rfl rfl
theorem dX2_shiftAll_0 : decode cX2_shiftAll 0 = .ok (.iconst 0, 1) := dk_3 (dk_at dksX2_shiftAll_0 0 rfl rfl)
theorem dX2_shiftAll_1 : decode cX2_shiftAll 1 = .ok (.istore_n 3, 1) := dk_62 (dk_at dksX2_shiftAll_0 1 rfl rfl)
theorem dX2_shiftAll_2 : decode cX2_shiftAll 2 = .ok (.iload_n 3, 1) := dk_29 (dk_at dksX2_shiftAll_0 2 rfl rfl)
theorem dX2_shiftAll_3 : decode cX2_shiftAll 3 = .ok (.aload_n 0, 1) := dk_42 (dk_at dksX2_shiftAll_0 3 rfl rfl)
theorem dX2_shiftAll_4 : decode cX2_shiftAll 4 = .ok (.invokevirtual 57, 3) := dk_182 0 57 (dk_at dksX2_shiftAll_0 4 rfl rfl)
theorem dX2_shiftAll_7 : decode cX2_shiftAll 7 = .ok (.if_icmp .ge 59, 3) := dk_162 0 59 (dk_at dksX2_shiftAll_0 7 rfl rfl)
theorem dX2_shiftAll_10 : decode cX2_shiftAll 10 = .ok (.aload_n 0, 1) := dk_42 (dk_at dksX2_shiftAll_0 10 rfl rfl)
theorem dX2_shiftAll_11 : decode cX2_shiftAll 11 = .ok (.getfield 7, 3) := dk_180 0 7 (dk_at dksX2_shiftAll_0 11 rfl rfl)
theorem dX2_shiftAll_14 : decode cX2_shiftAll 14 = .ok (.bipush 49, 2) := dk_16 49 (dk_at dksX2_shiftAll_0 14 rfl rfl)
theorem dX2_shiftAll_16 : decode cX2_shiftAll 16 = .ok (.iload_n 2, 1) := dk_28 (dk_at dksX2_shiftAll_0 16 rfl rfl)
theorem dX2_shiftAll_17 : decode cX2_shiftAll 17 = .ok (.ifCond .eq 15, 3) := dk_153 0 15 (dk_at dksX2_shiftAll_0 17 rfl rfl)
theorem dX2_shiftAll_20 : decode cX2_shiftAll 20 = .ok (.iload_n 3, 1) := dk_29 (dk_at dksX2_shiftAll_0 20 rfl rfl)
theorem dX2_shiftAll_21 : decode cX2_shiftAll 21 = .ok (.aload_n 0, 1) := dk_42 (dk_at dksX2_shiftAll_0 21 rfl rfl)
theorem dX2_shiftAll_22 : decode cX2_shiftAll 22 = .ok (.getfield 7, 3) := dk_180 0 7 (dk_at dksX2_shiftAll_1 0 rfl rfl)
theorem dX2_shiftAll_25 : decode cX2_shiftAll 25 = .ok (.bipush 55, 2) := dk_16 55 (dk_at dksX2_shiftAll_1 3 rfl rfl)
theorem dX2_shiftAll_27 : decode cX2_shiftAll 27 = .ok (.iaload, 1) := dk_46 (dk_at dksX2_shiftAll_1 5 rfl rfl)
theorem dX2_shiftAll_28 : decode cX2_shiftAll 28 = .ok (.irem, 1) := dk_112 (dk_at dksX2_shiftAll_1 6 rfl rfl)
theorem dX2_shiftAll_29 : decode cX2_shiftAll 29 = .ok (.goto 4, 3) := dk_167 0 4 (dk_at dksX2_shiftAll_1 7 rfl rfl)
theorem dX2_shiftAll_32 : decode cX2_shiftAll 32 = .ok (.iconst 0, 1) := dk_3 (dk_at dksX2_shiftAll_1 10 rfl rfl)
theorem dX2_shiftAll_33 : decode cX2_shiftAll 33 = .ok (.iadd, 1) := dk_96 (dk_at dksX2_shiftAll_1 11 rfl rfl)
theorem dX2_shiftAll_34 : decode cX2_shiftAll 34 = .ok (.iaload, 1) := dk_46 (dk_at dksX2_shiftAll_1 12 rfl rfl)
theorem dX2_shiftAll_35 : decode cX2_shiftAll 35 = .ok (.istore 4, 2) := dk_54 4 (dk_at dksX2_shiftAll_1 13 rfl rfl)
theorem dX2_shiftAll_37 : decode cX2_shiftAll 37 = .ok (.aload_n 0, 1) := dk_42 (dk_at dksX2_shiftAll_1 15 rfl rfl)
theorem dX2_shiftAll_38 : decode cX2_shiftAll 38 = .ok (.getfield 26, 3) := dk_180 0 26 (dk_at dksX2_shiftAll_1 16 rfl rfl)
theorem dX2_shiftAll_41 : decode cX2_shiftAll 41 = .ok (.iload_n 3, 1) := dk_29 (dk_at dksX2_shiftAll_1 19 rfl rfl)
theorem dX2_shiftAll_42 : decode cX2_shiftAll 42 = .ok (.aload_n 0, 1) := dk_42 (dk_at dksX2_shiftAll_1 20 rfl rfl)
theorem dX2_shiftAll_43 : decode cX2_shiftAll 43 = .ok (.getfield 23, 3) := dk_180 0 23 (dk_at dksX2_shiftAll_1 21 rfl rfl)
theorem dX2_shiftAll_46 : decode cX2_shiftAll 46 = .ok (.iload_n 3, 1) := dk_29 (dk_at dksX2_shiftAll_2 0 rfl rfl)
theorem dX2_shiftAll_47 : decode cX2_shiftAll 47 = .ok (.iaload, 1) := dk_46 (dk_at dksX2_shiftAll_2 1 rfl rfl)
theorem dX2_shiftAll_48 : decode cX2_shiftAll 48 = .ok (.iload_n 1, 1) := dk_27 (dk_at dksX2_shiftAll_2 2 rfl rfl)
theorem dX2_shiftAll_49 : decode cX2_shiftAll 49 = .ok (.iload 4, 2) := dk_21 4 (dk_at dksX2_shiftAll_2 3 rfl rfl)
theorem dX2_shiftAll_51 : decode cX2_shiftAll 51 = .ok (.imul, 1) := dk_104 (dk_at dksX2_shiftAll_2 5 rfl rfl)
theorem dX2_shiftAll_52 : decode cX2_shiftAll 52 = .ok (.iadd, 1) := dk_96 (dk_at dksX2_shiftAll_2 6 rfl rfl)
theorem dX2_shiftAll_53 : decode cX2_shiftAll 53 = .ok (.bipush 16, 2) := dk_16 16 (dk_at dksX2_shiftAll_2 7 rfl rfl)
theorem dX2_shiftAll_55 : decode cX2_shiftAll 55 = .ok (.iadd, 1) := dk_96 (dk_at dksX2_shiftAll_2 9 rfl rfl)
theorem dX2_shiftAll_56 : decode cX2_shiftAll 56 = .ok (.bipush 16, 2) := dk_16 16 (dk_at dksX2_shiftAll_2 10 rfl rfl)
theorem dX2_shiftAll_58 : decode cX2_shiftAll 58 = .ok (.irem, 1) := dk_112 (dk_at dksX2_shiftAll_2 12 rfl rfl)
theorem dX2_shiftAll_59 : decode cX2_shiftAll 59 = .ok (.iastore, 1) := dk_79 (dk_at dksX2_shiftAll_2 13 rfl rfl)
theorem dX2_shiftAll_60 : decode cX2_shiftAll 60 = .ok (.iinc 3 1, 3) := dk_132 3 1 (dk_at dksX2_shiftAll_2 14 rfl rfl)
theorem dX2_shiftAll_63 : decode cX2_shiftAll 63 = .ok (.goto (-61), 3) := dk_167 255 195 (dk_at dksX2_shiftAll_2 17 rfl rfl)
theorem dX2_shiftAll_66 : decode cX2_shiftAll 66 = .ok (.return_, 1) := dk_177 (dk_at dksX2_shiftAll_2 20 rfl rfl)
abbrev cX2_pairs : ByteArray := prog_4_method_18_code
def yX2_pairs : MethodName := ⟨RX2, "pairs", "(I)V"⟩
def dkwX2_pairs_1 : List UInt8 := [177]
abbrev dktX2_pairs_1 : List UInt8 := dkwX2_pairs_1 ++ []
def dkwX2_pairs_0 : List UInt8 := [3, 61, 28, 4, 96, 42, 182, 0, 57, 162, 0, 15, 42, 28, 27, 182, 0, 74, 132, 2, 2, 167, 255, 237]
abbrev dktX2_pairs_0 : List UInt8 := dkwX2_pairs_0 ++ dktX2_pairs_1
theorem dksX2_pairs_0 : cX2_pairs.data.toList.drop 0 = dktX2_pairs_0 := by decide +kernel
theorem dksX2_pairs_1 : cX2_pairs.data.toList.drop 24 = dktX2_pairs_1 := dk_seg dksX2_pairs_0 24 rfl rfl
theorem dX2_pairs_0 : decode cX2_pairs 0 = .ok (.iconst 0, 1) := dk_3 (dk_at dksX2_pairs_0 0 rfl rfl)
theorem dX2_pairs_1 : decode cX2_pairs 1 = .ok (.istore_n 2, 1) := dk_61 (dk_at dksX2_pairs_0 1 rfl rfl)
theorem dX2_pairs_2 : decode cX2_pairs 2 = .ok (.iload_n 2, 1) := dk_28 (dk_at dksX2_pairs_0 2 rfl rfl)
theorem dX2_pairs_3 : decode cX2_pairs 3 = .ok (.iconst 1, 1) := dk_4 (dk_at dksX2_pairs_0 3 rfl rfl)
theorem dX2_pairs_4 : decode cX2_pairs 4 = .ok (.iadd, 1) := dk_96 (dk_at dksX2_pairs_0 4 rfl rfl)
theorem dX2_pairs_5 : decode cX2_pairs 5 = .ok (.aload_n 0, 1) := dk_42 (dk_at dksX2_pairs_0 5 rfl rfl)
theorem dX2_pairs_6 : decode cX2_pairs 6 = .ok (.invokevirtual 57, 3) := dk_182 0 57 (dk_at dksX2_pairs_0 6 rfl rfl)
theorem dX2_pairs_9 : decode cX2_pairs 9 = .ok (.if_icmp .ge 15, 3) := dk_162 0 15 (dk_at dksX2_pairs_0 9 rfl rfl)
theorem dX2_pairs_12 : decode cX2_pairs 12 = .ok (.aload_n 0, 1) := dk_42 (dk_at dksX2_pairs_0 12 rfl rfl)
theorem dX2_pairs_13 : decode cX2_pairs 13 = .ok (.iload_n 2, 1) := dk_28 (dk_at dksX2_pairs_0 13 rfl rfl)
theorem dX2_pairs_14 : decode cX2_pairs 14 = .ok (.iload_n 1, 1) := dk_27 (dk_at dksX2_pairs_0 14 rfl rfl)
theorem dX2_pairs_15 : decode cX2_pairs 15 = .ok (.invokevirtual 74, 3) := dk_182 0 74 (dk_at dksX2_pairs_0 15 rfl rfl)
theorem dX2_pairs_18 : decode cX2_pairs 18 = .ok (.iinc 2 2, 3) := dk_132 2 2 (dk_at dksX2_pairs_0 18 rfl rfl)
theorem dX2_pairs_21 : decode cX2_pairs 21 = .ok (.goto (-19), 3) := dk_167 255 237 (dk_at dksX2_pairs_0 21 rfl rfl)
theorem dX2_pairs_24 : decode cX2_pairs 24 = .ok (.return_, 1) := dk_177 (dk_at dksX2_pairs_1 0 rfl rfl)
abbrev cX2_pair : ByteArray := prog_4_method_17_code
def yX2_pair : MethodName := ⟨RX2, "pair", "(II)V"⟩
def dkwX2_pair_7 : List UInt8 := [21, 6, 96, 182, 0, 70, 79, 177]
abbrev dktX2_pair_7 : List UInt8 := dkwX2_pair_7 ++ []
def dkwX2_pair_6 : List UInt8 := [96, 182, 0, 70, 79, 42, 180, 0, 26, 27, 4, 96, 42, 21, 4, 7, 108, 21, 5, 96, 21, 4, 7, 112]
abbrev dktX2_pair_6 : List UInt8 := dkwX2_pair_6 ++ dktX2_pair_7
def dkwX2_pair_5 : List UInt8 := [182, 0, 70, 79, 167, 0, 51, 42, 180, 0, 26, 27, 42, 29, 7, 108, 21, 5, 96, 29, 7, 112, 21, 6]
abbrev dktX2_pair_5 : List UInt8 := dkwX2_pair_5 ++ dktX2_pair_6
def dkwX2_pair_4 : List UInt8 := [108, 21, 4, 7, 112, 182, 0, 70, 79, 42, 180, 0, 26, 27, 4, 96, 42, 21, 4, 7, 108, 29, 7, 112]
abbrev dktX2_pair_4 : List UInt8 := dkwX2_pair_4 ++ dktX2_pair_5
def dkwX2_pair_3 : List UInt8 := [167, 0, 4, 3, 54, 6, 21, 5, 154, 0, 47, 21, 6, 154, 0, 42, 42, 180, 0, 26, 27, 42, 29, 7]
abbrev dktX2_pair_3 : List UInt8 := dkwX2_pair_3 ++ dktX2_pair_4
def dkwX2_pair_2 : List UInt8 := [112, 160, 0, 7, 28, 167, 0, 4, 3, 54, 5, 29, 7, 108, 21, 4, 7, 108, 160, 0, 7, 28]
abbrev dktX2_pair_2 : List UInt8 := dkwX2_pair_2 ++ dktX2_pair_3
def dkwX2_pair_1 : List UInt8 := [54, 4, 29, 21, 4, 159, 0, 23, 29, 7, 108, 21, 4, 7, 108, 159, 0, 17, 29, 7, 112, 21, 4, 7]
abbrev dktX2_pair_1 : List UInt8 := dkwX2_pair_1 ++ dktX2_pair_2
def dkwX2_pair_0 : List UInt8 := [42, 42, 180, 0, 23, 27, 46, 182, 0, 67, 62, 42, 42, 180, 0, 23, 27, 4, 96, 46, 182, 0, 67]
abbrev dktX2_pair_0 : List UInt8 := dkwX2_pair_0 ++ dktX2_pair_1
theorem dksX2_pair_0 : cX2_pair.data.toList.drop 0 = dktX2_pair_0 := by decide +kernel
theorem dksX2_pair_1 : cX2_pair.data.toList.drop 23 = dktX2_pair_1 := dk_seg dksX2_pair_0 23 rfl rfl
theorem dksX2_pair_2 : cX2_pair.data.toList.drop 47 = dktX2_pair_2 := dk_seg dksX2_pair_1 24 rfl rfl
theorem dksX2_pair_3 : cX2_pair.data.toList.drop 69 = dktX2_pair_3 := dk_seg dksX2_pair_2 22 rfl rfl
theorem dksX2_pair_4 : cX2_pair.data.toList.drop 93 = dktX2_pair_4 := dk_seg dksX2_pair_3 24 rfl rfl
theorem dksX2_pair_5 : cX2_pair.data.toList.drop 117 = dktX2_pair_5 := dk_seg dksX2_pair_4 24 rfl rfl
theorem dksX2_pair_6 : cX2_pair.data.toList.drop 141 = dktX2_pair_6 := dk_seg dksX2_pair_5 24 rfl rfl
theorem dksX2_pair_7 : cX2_pair.data.toList.drop 165 = dktX2_pair_7 := dk_seg dksX2_pair_6 24 rfl rfl
theorem dX2_pair_0 : decode cX2_pair 0 = .ok (.aload_n 0, 1) := dk_42 (dk_at dksX2_pair_0 0 rfl rfl)
theorem dX2_pair_1 : decode cX2_pair 1 = .ok (.aload_n 0, 1) := dk_42 (dk_at dksX2_pair_0 1 rfl rfl)
theorem dX2_pair_2 : decode cX2_pair 2 = .ok (.getfield 23, 3) := dk_180 0 23 (dk_at dksX2_pair_0 2 rfl rfl)
theorem dX2_pair_5 : decode cX2_pair 5 = .ok (.iload_n 1, 1) := dk_27 (dk_at dksX2_pair_0 5 rfl rfl)
theorem dX2_pair_6 : decode cX2_pair 6 = .ok (.iaload, 1) := dk_46 (dk_at dksX2_pair_0 6 rfl rfl)
theorem dX2_pair_7 : decode cX2_pair 7 = .ok (.invokevirtual 67, 3) := dk_182 0 67 (dk_at dksX2_pair_0 7 rfl rfl)
theorem dX2_pair_10 : decode cX2_pair 10 = .ok (.istore_n 3, 1) := dk_62 (dk_at dksX2_pair_0 10 rfl rfl)
theorem dX2_pair_11 : decode cX2_pair 11 = .ok (.aload_n 0, 1) := dk_42 (dk_at dksX2_pair_0 11 rfl rfl)
theorem dX2_pair_12 : decode cX2_pair 12 = .ok (.aload_n 0, 1) := dk_42 (dk_at dksX2_pair_0 12 rfl rfl)
theorem dX2_pair_13 : decode cX2_pair 13 = .ok (.getfield 23, 3) := dk_180 0 23 (dk_at dksX2_pair_0 13 rfl rfl)
theorem dX2_pair_16 : decode cX2_pair 16 = .ok (.iload_n 1, 1) := dk_27 (dk_at dksX2_pair_0 16 rfl rfl)
theorem dX2_pair_17 : decode cX2_pair 17 = .ok (.iconst 1, 1) := dk_4 (dk_at dksX2_pair_0 17 rfl rfl)
theorem dX2_pair_18 : decode cX2_pair 18 = .ok (.iadd, 1) := dk_96 (dk_at dksX2_pair_0 18 rfl rfl)
theorem dX2_pair_19 : decode cX2_pair 19 = .ok (.iaload, 1) := dk_46 (dk_at dksX2_pair_0 19 rfl rfl)
theorem dX2_pair_20 : decode cX2_pair 20 = .ok (.invokevirtual 67, 3) := dk_182 0 67 (dk_at dksX2_pair_0 20 rfl rfl)
theorem dX2_pair_23 : decode cX2_pair 23 = .ok (.istore 4, 2) := dk_54 4 (dk_at dksX2_pair_1 0 rfl rfl)
theorem dX2_pair_25 : decode cX2_pair 25 = .ok (.iload_n 3, 1) := dk_29 (dk_at dksX2_pair_1 2 rfl rfl)
theorem dX2_pair_26 : decode cX2_pair 26 = .ok (.iload 4, 2) := dk_21 4 (dk_at dksX2_pair_1 3 rfl rfl)
theorem dX2_pair_28 : decode cX2_pair 28 = .ok (.if_icmp .eq 23, 3) := dk_159 0 23 (dk_at dksX2_pair_1 5 rfl rfl)
theorem dX2_pair_31 : decode cX2_pair 31 = .ok (.iload_n 3, 1) := dk_29 (dk_at dksX2_pair_1 8 rfl rfl)
theorem dX2_pair_32 : decode cX2_pair 32 = .ok (.iconst 4, 1) := dk_7 (dk_at dksX2_pair_1 9 rfl rfl)
theorem dX2_pair_33 : decode cX2_pair 33 = .ok (.idiv, 1) := dk_108 (dk_at dksX2_pair_1 10 rfl rfl)
theorem dX2_pair_34 : decode cX2_pair 34 = .ok (.iload 4, 2) := dk_21 4 (dk_at dksX2_pair_1 11 rfl rfl)
theorem dX2_pair_36 : decode cX2_pair 36 = .ok (.iconst 4, 1) := dk_7 (dk_at dksX2_pair_1 13 rfl rfl)
theorem dX2_pair_37 : decode cX2_pair 37 = .ok (.idiv, 1) := dk_108 (dk_at dksX2_pair_1 14 rfl rfl)
theorem dX2_pair_38 : decode cX2_pair 38 = .ok (.if_icmp .eq 17, 3) := dk_159 0 17 (dk_at dksX2_pair_1 15 rfl rfl)
theorem dX2_pair_41 : decode cX2_pair 41 = .ok (.iload_n 3, 1) := dk_29 (dk_at dksX2_pair_1 18 rfl rfl)
theorem dX2_pair_42 : decode cX2_pair 42 = .ok (.iconst 4, 1) := dk_7 (dk_at dksX2_pair_1 19 rfl rfl)
theorem dX2_pair_43 : decode cX2_pair 43 = .ok (.irem, 1) := dk_112 (dk_at dksX2_pair_1 20 rfl rfl)
theorem dX2_pair_44 : decode cX2_pair 44 = .ok (.iload 4, 2) := dk_21 4 (dk_at dksX2_pair_1 21 rfl rfl)
theorem dX2_pair_46 : decode cX2_pair 46 = .ok (.iconst 4, 1) := dk_7 (dk_at dksX2_pair_1 23 rfl rfl)
theorem dX2_pair_47 : decode cX2_pair 47 = .ok (.irem, 1) := dk_112 (dk_at dksX2_pair_2 0 rfl rfl)
theorem dX2_pair_48 : decode cX2_pair 48 = .ok (.if_icmp .ne 7, 3) := dk_160 0 7 (dk_at dksX2_pair_2 1 rfl rfl)
theorem dX2_pair_51 : decode cX2_pair 51 = .ok (.iload_n 2, 1) := dk_28 (dk_at dksX2_pair_2 4 rfl rfl)
theorem dX2_pair_52 : decode cX2_pair 52 = .ok (.goto 4, 3) := dk_167 0 4 (dk_at dksX2_pair_2 5 rfl rfl)
theorem dX2_pair_55 : decode cX2_pair 55 = .ok (.iconst 0, 1) := dk_3 (dk_at dksX2_pair_2 8 rfl rfl)
theorem dX2_pair_56 : decode cX2_pair 56 = .ok (.istore 5, 2) := dk_54 5 (dk_at dksX2_pair_2 9 rfl rfl)
theorem dX2_pair_58 : decode cX2_pair 58 = .ok (.iload_n 3, 1) := dk_29 (dk_at dksX2_pair_2 11 rfl rfl)
theorem dX2_pair_59 : decode cX2_pair 59 = .ok (.iconst 4, 1) := dk_7 (dk_at dksX2_pair_2 12 rfl rfl)
theorem dX2_pair_60 : decode cX2_pair 60 = .ok (.idiv, 1) := dk_108 (dk_at dksX2_pair_2 13 rfl rfl)
theorem dX2_pair_61 : decode cX2_pair 61 = .ok (.iload 4, 2) := dk_21 4 (dk_at dksX2_pair_2 14 rfl rfl)
theorem dX2_pair_63 : decode cX2_pair 63 = .ok (.iconst 4, 1) := dk_7 (dk_at dksX2_pair_2 16 rfl rfl)
theorem dX2_pair_64 : decode cX2_pair 64 = .ok (.idiv, 1) := dk_108 (dk_at dksX2_pair_2 17 rfl rfl)
theorem dX2_pair_65 : decode cX2_pair 65 = .ok (.if_icmp .ne 7, 3) := dk_160 0 7 (dk_at dksX2_pair_2 18 rfl rfl)
theorem dX2_pair_68 : decode cX2_pair 68 = .ok (.iload_n 2, 1) := dk_28 (dk_at dksX2_pair_2 21 rfl rfl)
theorem dX2_pair_69 : decode cX2_pair 69 = .ok (.goto 4, 3) := dk_167 0 4 (dk_at dksX2_pair_3 0 rfl rfl)
theorem dX2_pair_72 : decode cX2_pair 72 = .ok (.iconst 0, 1) := dk_3 (dk_at dksX2_pair_3 3 rfl rfl)
theorem dX2_pair_73 : decode cX2_pair 73 = .ok (.istore 6, 2) := dk_54 6 (dk_at dksX2_pair_3 4 rfl rfl)
theorem dX2_pair_75 : decode cX2_pair 75 = .ok (.iload 5, 2) := dk_21 5 (dk_at dksX2_pair_3 6 rfl rfl)
theorem dX2_pair_77 : decode cX2_pair 77 = .ok (.ifCond .ne 47, 3) := dk_154 0 47 (dk_at dksX2_pair_3 8 rfl rfl)
theorem dX2_pair_80 : decode cX2_pair 80 = .ok (.iload 6, 2) := dk_21 6 (dk_at dksX2_pair_3 11 rfl rfl)
theorem dX2_pair_82 : decode cX2_pair 82 = .ok (.ifCond .ne 42, 3) := dk_154 0 42 (dk_at dksX2_pair_3 13 rfl rfl)
theorem dX2_pair_85 : decode cX2_pair 85 = .ok (.aload_n 0, 1) := dk_42 (dk_at dksX2_pair_3 16 rfl rfl)
theorem dX2_pair_86 : decode cX2_pair 86 = .ok (.getfield 26, 3) := dk_180 0 26 (dk_at dksX2_pair_3 17 rfl rfl)
theorem dX2_pair_89 : decode cX2_pair 89 = .ok (.iload_n 1, 1) := dk_27 (dk_at dksX2_pair_3 20 rfl rfl)
theorem dX2_pair_90 : decode cX2_pair 90 = .ok (.aload_n 0, 1) := dk_42 (dk_at dksX2_pair_3 21 rfl rfl)
theorem dX2_pair_91 : decode cX2_pair 91 = .ok (.iload_n 3, 1) := dk_29 (dk_at dksX2_pair_3 22 rfl rfl)
theorem dX2_pair_92 : decode cX2_pair 92 = .ok (.iconst 4, 1) := dk_7 (dk_at dksX2_pair_3 23 rfl rfl)
theorem dX2_pair_93 : decode cX2_pair 93 = .ok (.idiv, 1) := dk_108 (dk_at dksX2_pair_4 0 rfl rfl)
theorem dX2_pair_94 : decode cX2_pair 94 = .ok (.iload 4, 2) := dk_21 4 (dk_at dksX2_pair_4 1 rfl rfl)
theorem dX2_pair_96 : decode cX2_pair 96 = .ok (.iconst 4, 1) := dk_7 (dk_at dksX2_pair_4 3 rfl rfl)
theorem dX2_pair_97 : decode cX2_pair 97 = .ok (.irem, 1) := dk_112 (dk_at dksX2_pair_4 4 rfl rfl)
theorem dX2_pair_98 : decode cX2_pair 98 = .ok (.invokevirtual 70, 3) := dk_182 0 70 (dk_at dksX2_pair_4 5 rfl rfl)
theorem dX2_pair_101 : decode cX2_pair 101 = .ok (.iastore, 1) := dk_79 (dk_at dksX2_pair_4 8 rfl rfl)
theorem dX2_pair_102 : decode cX2_pair 102 = .ok (.aload_n 0, 1) := dk_42 (dk_at dksX2_pair_4 9 rfl rfl)
theorem dX2_pair_103 : decode cX2_pair 103 = .ok (.getfield 26, 3) := dk_180 0 26 (dk_at dksX2_pair_4 10 rfl rfl)
theorem dX2_pair_106 : decode cX2_pair 106 = .ok (.iload_n 1, 1) := dk_27 (dk_at dksX2_pair_4 13 rfl rfl)
theorem dX2_pair_107 : decode cX2_pair 107 = .ok (.iconst 1, 1) := dk_4 (dk_at dksX2_pair_4 14 rfl rfl)
theorem dX2_pair_108 : decode cX2_pair 108 = .ok (.iadd, 1) := dk_96 (dk_at dksX2_pair_4 15 rfl rfl)
theorem dX2_pair_109 : decode cX2_pair 109 = .ok (.aload_n 0, 1) := dk_42 (dk_at dksX2_pair_4 16 rfl rfl)
theorem dX2_pair_110 : decode cX2_pair 110 = .ok (.iload 4, 2) := dk_21 4 (dk_at dksX2_pair_4 17 rfl rfl)
theorem dX2_pair_112 : decode cX2_pair 112 = .ok (.iconst 4, 1) := dk_7 (dk_at dksX2_pair_4 19 rfl rfl)
theorem dX2_pair_113 : decode cX2_pair 113 = .ok (.idiv, 1) := dk_108 (dk_at dksX2_pair_4 20 rfl rfl)
theorem dX2_pair_114 : decode cX2_pair 114 = .ok (.iload_n 3, 1) := dk_29 (dk_at dksX2_pair_4 21 rfl rfl)
theorem dX2_pair_115 : decode cX2_pair 115 = .ok (.iconst 4, 1) := dk_7 (dk_at dksX2_pair_4 22 rfl rfl)
theorem dX2_pair_116 : decode cX2_pair 116 = .ok (.irem, 1) := dk_112 (dk_at dksX2_pair_4 23 rfl rfl)
theorem dX2_pair_117 : decode cX2_pair 117 = .ok (.invokevirtual 70, 3) := dk_182 0 70 (dk_at dksX2_pair_5 0 rfl rfl)
theorem dX2_pair_120 : decode cX2_pair 120 = .ok (.iastore, 1) := dk_79 (dk_at dksX2_pair_5 3 rfl rfl)
theorem dX2_pair_121 : decode cX2_pair 121 = .ok (.goto 51, 3) := dk_167 0 51 (dk_at dksX2_pair_5 4 rfl rfl)
theorem dX2_pair_124 : decode cX2_pair 124 = .ok (.aload_n 0, 1) := dk_42 (dk_at dksX2_pair_5 7 rfl rfl)
theorem dX2_pair_125 : decode cX2_pair 125 = .ok (.getfield 26, 3) := dk_180 0 26 (dk_at dksX2_pair_5 8 rfl rfl)
theorem dX2_pair_128 : decode cX2_pair 128 = .ok (.iload_n 1, 1) := dk_27 (dk_at dksX2_pair_5 11 rfl rfl)
theorem dX2_pair_129 : decode cX2_pair 129 = .ok (.aload_n 0, 1) := dk_42 (dk_at dksX2_pair_5 12 rfl rfl)
theorem dX2_pair_130 : decode cX2_pair 130 = .ok (.iload_n 3, 1) := dk_29 (dk_at dksX2_pair_5 13 rfl rfl)
theorem dX2_pair_131 : decode cX2_pair 131 = .ok (.iconst 4, 1) := dk_7 (dk_at dksX2_pair_5 14 rfl rfl)
theorem dX2_pair_132 : decode cX2_pair 132 = .ok (.idiv, 1) := dk_108 (dk_at dksX2_pair_5 15 rfl rfl)
theorem dX2_pair_133 : decode cX2_pair 133 = .ok (.iload 5, 2) := dk_21 5 (dk_at dksX2_pair_5 16 rfl rfl)
theorem dX2_pair_135 : decode cX2_pair 135 = .ok (.iadd, 1) := dk_96 (dk_at dksX2_pair_5 18 rfl rfl)
theorem dX2_pair_136 : decode cX2_pair 136 = .ok (.iload_n 3, 1) := dk_29 (dk_at dksX2_pair_5 19 rfl rfl)
theorem dX2_pair_137 : decode cX2_pair 137 = .ok (.iconst 4, 1) := dk_7 (dk_at dksX2_pair_5 20 rfl rfl)
theorem dX2_pair_138 : decode cX2_pair 138 = .ok (.irem, 1) := dk_112 (dk_at dksX2_pair_5 21 rfl rfl)
theorem dX2_pair_139 : decode cX2_pair 139 = .ok (.iload 6, 2) := dk_21 6 (dk_at dksX2_pair_5 22 rfl rfl)
theorem dX2_pair_141 : decode cX2_pair 141 = .ok (.iadd, 1) := dk_96 (dk_at dksX2_pair_6 0 rfl rfl)
theorem dX2_pair_142 : decode cX2_pair 142 = .ok (.invokevirtual 70, 3) := dk_182 0 70 (dk_at dksX2_pair_6 1 rfl rfl)
theorem dX2_pair_145 : decode cX2_pair 145 = .ok (.iastore, 1) := dk_79 (dk_at dksX2_pair_6 4 rfl rfl)
theorem dX2_pair_146 : decode cX2_pair 146 = .ok (.aload_n 0, 1) := dk_42 (dk_at dksX2_pair_6 5 rfl rfl)
theorem dX2_pair_147 : decode cX2_pair 147 = .ok (.getfield 26, 3) := dk_180 0 26 (dk_at dksX2_pair_6 6 rfl rfl)
theorem dX2_pair_150 : decode cX2_pair 150 = .ok (.iload_n 1, 1) := dk_27 (dk_at dksX2_pair_6 9 rfl rfl)
theorem dX2_pair_151 : decode cX2_pair 151 = .ok (.iconst 1, 1) := dk_4 (dk_at dksX2_pair_6 10 rfl rfl)
theorem dX2_pair_152 : decode cX2_pair 152 = .ok (.iadd, 1) := dk_96 (dk_at dksX2_pair_6 11 rfl rfl)
theorem dX2_pair_153 : decode cX2_pair 153 = .ok (.aload_n 0, 1) := dk_42 (dk_at dksX2_pair_6 12 rfl rfl)
theorem dX2_pair_154 : decode cX2_pair 154 = .ok (.iload 4, 2) := dk_21 4 (dk_at dksX2_pair_6 13 rfl rfl)
theorem dX2_pair_156 : decode cX2_pair 156 = .ok (.iconst 4, 1) := dk_7 (dk_at dksX2_pair_6 15 rfl rfl)
theorem dX2_pair_157 : decode cX2_pair 157 = .ok (.idiv, 1) := dk_108 (dk_at dksX2_pair_6 16 rfl rfl)
theorem dX2_pair_158 : decode cX2_pair 158 = .ok (.iload 5, 2) := dk_21 5 (dk_at dksX2_pair_6 17 rfl rfl)
theorem dX2_pair_160 : decode cX2_pair 160 = .ok (.iadd, 1) := dk_96 (dk_at dksX2_pair_6 19 rfl rfl)
theorem dX2_pair_161 : decode cX2_pair 161 = .ok (.iload 4, 2) := dk_21 4 (dk_at dksX2_pair_6 20 rfl rfl)
theorem dX2_pair_163 : decode cX2_pair 163 = .ok (.iconst 4, 1) := dk_7 (dk_at dksX2_pair_6 22 rfl rfl)
theorem dX2_pair_164 : decode cX2_pair 164 = .ok (.irem, 1) := dk_112 (dk_at dksX2_pair_6 23 rfl rfl)
theorem dX2_pair_165 : decode cX2_pair 165 = .ok (.iload 6, 2) := dk_21 6 (dk_at dksX2_pair_7 0 rfl rfl)
theorem dX2_pair_167 : decode cX2_pair 167 = .ok (.iadd, 1) := dk_96 (dk_at dksX2_pair_7 2 rfl rfl)
theorem dX2_pair_168 : decode cX2_pair 168 = .ok (.invokevirtual 70, 3) := dk_182 0 70 (dk_at dksX2_pair_7 3 rfl rfl)
theorem dX2_pair_171 : decode cX2_pair 171 = .ok (.iastore, 1) := dk_79 (dk_at dksX2_pair_7 6 rfl rfl)
theorem dX2_pair_172 : decode cX2_pair 172 = .ok (.return_, 1) := dk_177 (dk_at dksX2_pair_7 7 rfl rfl)
abbrev cX2_placeOf : ByteArray := prog_4_method_12_code
def yX2_placeOf : MethodName := ⟨RX2, "placeOf", "(I)I"⟩
def dkwX2_placeOf_0 : List UInt8 := [3, 61, 42, 180, 0, 29, 28, 46, 27, 159, 0, 9, 132, 2, 1, 167, 255, 243, 28, 172]
abbrev dktX2_placeOf_0 : List UInt8 := dkwX2_placeOf_0 ++ []
theorem dksX2_placeOf_0 : cX2_placeOf.data.toList.drop 0 = dktX2_placeOf_0 := by decide +kernel
theorem dX2_placeOf_0 : decode cX2_placeOf 0 = .ok (.iconst 0, 1) := dk_3 (dk_at dksX2_placeOf_0 0 rfl rfl)
theorem dX2_placeOf_1 : decode cX2_placeOf 1 = .ok (.istore_n 2, 1) := dk_61 (dk_at dksX2_placeOf_0 1 rfl rfl)
theorem dX2_placeOf_2 : decode cX2_placeOf 2 = .ok (.aload_n 0, 1) := dk_42 (dk_at dksX2_placeOf_0 2 rfl rfl)
theorem dX2_placeOf_3 : decode cX2_placeOf 3 = .ok (.getfield 29, 3) := dk_180 0 29 (dk_at dksX2_placeOf_0 3 rfl rfl)
theorem dX2_placeOf_6 : decode cX2_placeOf 6 = .ok (.iload_n 2, 1) := dk_28 (dk_at dksX2_placeOf_0 6 rfl rfl)
theorem dX2_placeOf_7 : decode cX2_placeOf 7 = .ok (.iaload, 1) := dk_46 (dk_at dksX2_placeOf_0 7 rfl rfl)
theorem dX2_placeOf_8 : decode cX2_placeOf 8 = .ok (.iload_n 1, 1) := dk_27 (dk_at dksX2_placeOf_0 8 rfl rfl)
theorem dX2_placeOf_9 : decode cX2_placeOf 9 = .ok (.if_icmp .eq 9, 3) := dk_159 0 9 (dk_at dksX2_placeOf_0 9 rfl rfl)
theorem dX2_placeOf_12 : decode cX2_placeOf 12 = .ok (.iinc 2 1, 3) := dk_132 2 1 (dk_at dksX2_placeOf_0 12 rfl rfl)
theorem dX2_placeOf_15 : decode cX2_placeOf 15 = .ok (.goto (-13), 3) := dk_167 255 243 (dk_at dksX2_placeOf_0 15 rfl rfl)
theorem dX2_placeOf_18 : decode cX2_placeOf 18 = .ok (.iload_n 2, 1) := dk_28 (dk_at dksX2_placeOf_0 18 rfl rfl)
theorem dX2_placeOf_19 : decode cX2_placeOf 19 = .ok (.ireturn, 1) := dk_172 (dk_at dksX2_placeOf_0 19 rfl rfl)
abbrev cX2_atSquare : ByteArray := prog_4_method_16_code
def yX2_atSquare : MethodName := ⟨RX2, "atSquare", "(II)I"⟩
def dkwX2_atSquare_0 : List UInt8 := [42, 180, 0, 29, 7, 27, 184, 0, 63, 104, 28, 184, 0, 63, 96, 46, 172]
abbrev dktX2_atSquare_0 : List UInt8 := dkwX2_atSquare_0 ++ []
theorem dksX2_atSquare_0 : cX2_atSquare.data.toList.drop 0 = dktX2_atSquare_0 := by decide +kernel
theorem dX2_atSquare_0 : decode cX2_atSquare 0 = .ok (.aload_n 0, 1) := dk_42 (dk_at dksX2_atSquare_0 0 rfl rfl)
theorem dX2_atSquare_1 : decode cX2_atSquare 1 = .ok (.getfield 29, 3) := dk_180 0 29 (dk_at dksX2_atSquare_0 1 rfl rfl)
theorem dX2_atSquare_4 : decode cX2_atSquare 4 = .ok (.iconst 4, 1) := dk_7 (dk_at dksX2_atSquare_0 4 rfl rfl)
theorem dX2_atSquare_5 : decode cX2_atSquare 5 = .ok (.iload_n 1, 1) := dk_27 (dk_at dksX2_atSquare_0 5 rfl rfl)
theorem dX2_atSquare_6 : decode cX2_atSquare 6 = .ok (.invokestatic 63, 3) := dk_184 0 63 (dk_at dksX2_atSquare_0 6 rfl rfl)
theorem dX2_atSquare_9 : decode cX2_atSquare 9 = .ok (.imul, 1) := dk_104 (dk_at dksX2_atSquare_0 9 rfl rfl)
theorem dX2_atSquare_10 : decode cX2_atSquare 10 = .ok (.iload_n 2, 1) := dk_28 (dk_at dksX2_atSquare_0 10 rfl rfl)
theorem dX2_atSquare_11 : decode cX2_atSquare 11 = .ok (.invokestatic 63, 3) := dk_184 0 63 (dk_at dksX2_atSquare_0 11 rfl rfl)
theorem dX2_atSquare_14 : decode cX2_atSquare 14 = .ok (.iadd, 1) := dk_96 (dk_at dksX2_atSquare_0 14 rfl rfl)
theorem dX2_atSquare_15 : decode cX2_atSquare 15 = .ok (.iaload, 1) := dk_46 (dk_at dksX2_atSquare_0 15 rfl rfl)
theorem dX2_atSquare_16 : decode cX2_atSquare 16 = .ok (.ireturn, 1) := dk_172 (dk_at dksX2_atSquare_0 16 rfl rfl)
abbrev cX2_round : ByteArray := prog_4_method_15_code
def yX2_round : MethodName := ⟨RX2, "round", "(I)I"⟩
def dkwX2_round_0 : List UInt8 := [26, 7, 96, 7, 112, 172]
abbrev dktX2_round_0 : List UInt8 := dkwX2_round_0 ++ []
theorem dksX2_round_0 : cX2_round.data.toList.drop 0 = dktX2_round_0 := by decide +kernel
theorem dX2_round_0 : decode cX2_round 0 = .ok (.iload_n 0, 1) := dk_26 (dk_at dksX2_round_0 0 rfl rfl)
theorem dX2_round_1 : decode cX2_round 1 = .ok (.iconst 4, 1) := dk_7 (dk_at dksX2_round_0 1 rfl rfl)
theorem dX2_round_2 : decode cX2_round 2 = .ok (.iadd, 1) := dk_96 (dk_at dksX2_round_0 2 rfl rfl)
theorem dX2_round_3 : decode cX2_round 3 = .ok (.iconst 4, 1) := dk_7 (dk_at dksX2_round_0 3 rfl rfl)
theorem dX2_round_4 : decode cX2_round 4 = .ok (.irem, 1) := dk_112 (dk_at dksX2_round_0 4 rfl rfl)
theorem dX2_round_5 : decode cX2_round 5 = .ok (.ireturn, 1) := dk_172 (dk_at dksX2_round_0 5 rfl rfl)
abbrev cX2_layKeyOrder : ByteArray := prog_4_method_19_code
def yX2_layKeyOrder : MethodName := ⟨RX2, "layKeyOrder", "()V"⟩
def dkwX2_layKeyOrder_4 : List UInt8 := [79, 132, 1, 1, 167, 255, 159, 177]
abbrev dktX2_layKeyOrder_4 : List UInt8 := dkwX2_layKeyOrder_4 ++ []
def dkwX2_layKeyOrder_3 : List UInt8 := [29, 27, 162, 0, 7, 4, 167, 0, 4, 3, 96, 61, 132, 3, 1, 167, 255, 187, 42, 180, 0, 32, 28, 27]
abbrev dktX2_layKeyOrder_3 : List UInt8 := dkwX2_layKeyOrder_3 ++ dktX2_layKeyOrder_4
def dkwX2_layKeyOrder_2 : List UInt8 := [161, 0, 29, 42, 180, 0, 7, 16, 49, 29, 96, 46, 42, 180, 0, 7, 16, 49, 27, 96, 46, 160, 0, 12]
abbrev dktX2_layKeyOrder_2 : List UInt8 := dkwX2_layKeyOrder_2 ++ dktX2_layKeyOrder_3
def dkwX2_layKeyOrder_1 : List UInt8 := [46, 162, 0, 64, 28, 42, 180, 0, 7, 16, 49, 29, 96, 46, 42, 180, 0, 7, 16, 49, 27, 96, 46]
abbrev dktX2_layKeyOrder_1 : List UInt8 := dkwX2_layKeyOrder_1 ++ dktX2_layKeyOrder_2
def dkwX2_layKeyOrder_0 : List UInt8 := [3, 60, 27, 42, 180, 0, 7, 16, 55, 46, 162, 0, 92, 3, 61, 3, 62, 29, 42, 180, 0, 7, 16, 55]
abbrev dktX2_layKeyOrder_0 : List UInt8 := dkwX2_layKeyOrder_0 ++ dktX2_layKeyOrder_1
theorem dksX2_layKeyOrder_0 : cX2_layKeyOrder.data.toList.drop 0 = dktX2_layKeyOrder_0 := by decide +kernel
theorem dksX2_layKeyOrder_1 : cX2_layKeyOrder.data.toList.drop 24 = dktX2_layKeyOrder_1 := dk_seg dksX2_layKeyOrder_0 24 rfl rfl
theorem dksX2_layKeyOrder_2 : cX2_layKeyOrder.data.toList.drop 47 = dktX2_layKeyOrder_2 := dk_seg dksX2_layKeyOrder_1 23 rfl rfl
theorem dksX2_layKeyOrder_3 : cX2_layKeyOrder.data.toList.drop 71 = dktX2_layKeyOrder_3 := dk_seg dksX2_layKeyOrder_2 24 rfl rfl
theorem dksX2_layKeyOrder_4 : cX2_layKeyOrder.data.toList.drop 95 = dktX2_layKeyOrder_4 := dk_seg dksX2_layKeyOrder_3 24 rfl rfl
theorem dX2_layKeyOrder_0 : decode cX2_layKeyOrder 0 = .ok (.iconst 0, 1) := dk_3 (dk_at dksX2_layKeyOrder_0 0 rfl rfl)
theorem dX2_layKeyOrder_1 : decode cX2_layKeyOrder 1 = .ok (.istore_n 1, 1) := dk_60 (dk_at dksX2_layKeyOrder_0 1 rfl rfl)
theorem dX2_layKeyOrder_2 : decode cX2_layKeyOrder 2 = .ok (.iload_n 1, 1) := dk_27 (dk_at dksX2_layKeyOrder_0 2 rfl rfl)
theorem dX2_layKeyOrder_3 : decode cX2_layKeyOrder 3 = .ok (.aload_n 0, 1) := dk_42 (dk_at dksX2_layKeyOrder_0 3 rfl rfl)
theorem dX2_layKeyOrder_4 : decode cX2_layKeyOrder 4 = .ok (.getfield 7, 3) := dk_180 0 7 (dk_at dksX2_layKeyOrder_0 4 rfl rfl)
theorem dX2_layKeyOrder_7 : decode cX2_layKeyOrder 7 = .ok (.bipush 55, 2) := dk_16 55 (dk_at dksX2_layKeyOrder_0 7 rfl rfl)
theorem dX2_layKeyOrder_9 : decode cX2_layKeyOrder 9 = .ok (.iaload, 1) := dk_46 (dk_at dksX2_layKeyOrder_0 9 rfl rfl)
theorem dX2_layKeyOrder_10 : decode cX2_layKeyOrder 10 = .ok (.if_icmp .ge 92, 3) := dk_162 0 92 (dk_at dksX2_layKeyOrder_0 10 rfl rfl)
theorem dX2_layKeyOrder_13 : decode cX2_layKeyOrder 13 = .ok (.iconst 0, 1) := dk_3 (dk_at dksX2_layKeyOrder_0 13 rfl rfl)
theorem dX2_layKeyOrder_14 : decode cX2_layKeyOrder 14 = .ok (.istore_n 2, 1) := dk_61 (dk_at dksX2_layKeyOrder_0 14 rfl rfl)
theorem dX2_layKeyOrder_15 : decode cX2_layKeyOrder 15 = .ok (.iconst 0, 1) := dk_3 (dk_at dksX2_layKeyOrder_0 15 rfl rfl)
theorem dX2_layKeyOrder_16 : decode cX2_layKeyOrder 16 = .ok (.istore_n 3, 1) := dk_62 (dk_at dksX2_layKeyOrder_0 16 rfl rfl)
theorem dX2_layKeyOrder_17 : decode cX2_layKeyOrder 17 = .ok (.iload_n 3, 1) := dk_29 (dk_at dksX2_layKeyOrder_0 17 rfl rfl)
theorem dX2_layKeyOrder_18 : decode cX2_layKeyOrder 18 = .ok (.aload_n 0, 1) := dk_42 (dk_at dksX2_layKeyOrder_0 18 rfl rfl)
theorem dX2_layKeyOrder_19 : decode cX2_layKeyOrder 19 = .ok (.getfield 7, 3) := dk_180 0 7 (dk_at dksX2_layKeyOrder_0 19 rfl rfl)
theorem dX2_layKeyOrder_22 : decode cX2_layKeyOrder 22 = .ok (.bipush 55, 2) := dk_16 55 (dk_at dksX2_layKeyOrder_0 22 rfl rfl)
theorem dX2_layKeyOrder_24 : decode cX2_layKeyOrder 24 = .ok (.iaload, 1) := dk_46 (dk_at dksX2_layKeyOrder_1 0 rfl rfl)
theorem dX2_layKeyOrder_25 : decode cX2_layKeyOrder 25 = .ok (.if_icmp .ge 64, 3) := dk_162 0 64 (dk_at dksX2_layKeyOrder_1 1 rfl rfl)
theorem dX2_layKeyOrder_28 : decode cX2_layKeyOrder 28 = .ok (.iload_n 2, 1) := dk_28 (dk_at dksX2_layKeyOrder_1 4 rfl rfl)
theorem dX2_layKeyOrder_29 : decode cX2_layKeyOrder 29 = .ok (.aload_n 0, 1) := dk_42 (dk_at dksX2_layKeyOrder_1 5 rfl rfl)
theorem dX2_layKeyOrder_30 : decode cX2_layKeyOrder 30 = .ok (.getfield 7, 3) := dk_180 0 7 (dk_at dksX2_layKeyOrder_1 6 rfl rfl)
theorem dX2_layKeyOrder_33 : decode cX2_layKeyOrder 33 = .ok (.bipush 49, 2) := dk_16 49 (dk_at dksX2_layKeyOrder_1 9 rfl rfl)
theorem dX2_layKeyOrder_35 : decode cX2_layKeyOrder 35 = .ok (.iload_n 3, 1) := dk_29 (dk_at dksX2_layKeyOrder_1 11 rfl rfl)
theorem dX2_layKeyOrder_36 : decode cX2_layKeyOrder 36 = .ok (.iadd, 1) := dk_96 (dk_at dksX2_layKeyOrder_1 12 rfl rfl)
theorem dX2_layKeyOrder_37 : decode cX2_layKeyOrder 37 = .ok (.iaload, 1) := dk_46 (dk_at dksX2_layKeyOrder_1 13 rfl rfl)
theorem dX2_layKeyOrder_38 : decode cX2_layKeyOrder 38 = .ok (.aload_n 0, 1) := dk_42 (dk_at dksX2_layKeyOrder_1 14 rfl rfl)
theorem dX2_layKeyOrder_39 : decode cX2_layKeyOrder 39 = .ok (.getfield 7, 3) := dk_180 0 7 (dk_at dksX2_layKeyOrder_1 15 rfl rfl)
theorem dX2_layKeyOrder_42 : decode cX2_layKeyOrder 42 = .ok (.bipush 49, 2) := dk_16 49 (dk_at dksX2_layKeyOrder_1 18 rfl rfl)
theorem dX2_layKeyOrder_44 : decode cX2_layKeyOrder 44 = .ok (.iload_n 1, 1) := dk_27 (dk_at dksX2_layKeyOrder_1 20 rfl rfl)
theorem dX2_layKeyOrder_45 : decode cX2_layKeyOrder 45 = .ok (.iadd, 1) := dk_96 (dk_at dksX2_layKeyOrder_1 21 rfl rfl)
theorem dX2_layKeyOrder_46 : decode cX2_layKeyOrder 46 = .ok (.iaload, 1) := dk_46 (dk_at dksX2_layKeyOrder_1 22 rfl rfl)
theorem dX2_layKeyOrder_47 : decode cX2_layKeyOrder 47 = .ok (.if_icmp .lt 29, 3) := dk_161 0 29 (dk_at dksX2_layKeyOrder_2 0 rfl rfl)
theorem dX2_layKeyOrder_50 : decode cX2_layKeyOrder 50 = .ok (.aload_n 0, 1) := dk_42 (dk_at dksX2_layKeyOrder_2 3 rfl rfl)
theorem dX2_layKeyOrder_51 : decode cX2_layKeyOrder 51 = .ok (.getfield 7, 3) := dk_180 0 7 (dk_at dksX2_layKeyOrder_2 4 rfl rfl)
theorem dX2_layKeyOrder_54 : decode cX2_layKeyOrder 54 = .ok (.bipush 49, 2) := dk_16 49 (dk_at dksX2_layKeyOrder_2 7 rfl rfl)
theorem dX2_layKeyOrder_56 : decode cX2_layKeyOrder 56 = .ok (.iload_n 3, 1) := dk_29 (dk_at dksX2_layKeyOrder_2 9 rfl rfl)
theorem dX2_layKeyOrder_57 : decode cX2_layKeyOrder 57 = .ok (.iadd, 1) := dk_96 (dk_at dksX2_layKeyOrder_2 10 rfl rfl)
theorem dX2_layKeyOrder_58 : decode cX2_layKeyOrder 58 = .ok (.iaload, 1) := dk_46 (dk_at dksX2_layKeyOrder_2 11 rfl rfl)
theorem dX2_layKeyOrder_59 : decode cX2_layKeyOrder 59 = .ok (.aload_n 0, 1) := dk_42 (dk_at dksX2_layKeyOrder_2 12 rfl rfl)
theorem dX2_layKeyOrder_60 : decode cX2_layKeyOrder 60 = .ok (.getfield 7, 3) := dk_180 0 7 (dk_at dksX2_layKeyOrder_2 13 rfl rfl)
theorem dX2_layKeyOrder_63 : decode cX2_layKeyOrder 63 = .ok (.bipush 49, 2) := dk_16 49 (dk_at dksX2_layKeyOrder_2 16 rfl rfl)
theorem dX2_layKeyOrder_65 : decode cX2_layKeyOrder 65 = .ok (.iload_n 1, 1) := dk_27 (dk_at dksX2_layKeyOrder_2 18 rfl rfl)
theorem dX2_layKeyOrder_66 : decode cX2_layKeyOrder 66 = .ok (.iadd, 1) := dk_96 (dk_at dksX2_layKeyOrder_2 19 rfl rfl)
theorem dX2_layKeyOrder_67 : decode cX2_layKeyOrder 67 = .ok (.iaload, 1) := dk_46 (dk_at dksX2_layKeyOrder_2 20 rfl rfl)
theorem dX2_layKeyOrder_68 : decode cX2_layKeyOrder 68 = .ok (.if_icmp .ne 12, 3) := dk_160 0 12 (dk_at dksX2_layKeyOrder_2 21 rfl rfl)
theorem dX2_layKeyOrder_71 : decode cX2_layKeyOrder 71 = .ok (.iload_n 3, 1) := dk_29 (dk_at dksX2_layKeyOrder_3 0 rfl rfl)
theorem dX2_layKeyOrder_72 : decode cX2_layKeyOrder 72 = .ok (.iload_n 1, 1) := dk_27 (dk_at dksX2_layKeyOrder_3 1 rfl rfl)
theorem dX2_layKeyOrder_73 : decode cX2_layKeyOrder 73 = .ok (.if_icmp .ge 7, 3) := dk_162 0 7 (dk_at dksX2_layKeyOrder_3 2 rfl rfl)
theorem dX2_layKeyOrder_76 : decode cX2_layKeyOrder 76 = .ok (.iconst 1, 1) := dk_4 (dk_at dksX2_layKeyOrder_3 5 rfl rfl)
theorem dX2_layKeyOrder_77 : decode cX2_layKeyOrder 77 = .ok (.goto 4, 3) := dk_167 0 4 (dk_at dksX2_layKeyOrder_3 6 rfl rfl)
theorem dX2_layKeyOrder_80 : decode cX2_layKeyOrder 80 = .ok (.iconst 0, 1) := dk_3 (dk_at dksX2_layKeyOrder_3 9 rfl rfl)
theorem dX2_layKeyOrder_81 : decode cX2_layKeyOrder 81 = .ok (.iadd, 1) := dk_96 (dk_at dksX2_layKeyOrder_3 10 rfl rfl)
theorem dX2_layKeyOrder_82 : decode cX2_layKeyOrder 82 = .ok (.istore_n 2, 1) := dk_61 (dk_at dksX2_layKeyOrder_3 11 rfl rfl)
theorem dX2_layKeyOrder_83 : decode cX2_layKeyOrder 83 = .ok (.iinc 3 1, 3) := dk_132 3 1 (dk_at dksX2_layKeyOrder_3 12 rfl rfl)
theorem dX2_layKeyOrder_86 : decode cX2_layKeyOrder 86 = .ok (.goto (-69), 3) := dk_167 255 187 (dk_at dksX2_layKeyOrder_3 15 rfl rfl)
theorem dX2_layKeyOrder_89 : decode cX2_layKeyOrder 89 = .ok (.aload_n 0, 1) := dk_42 (dk_at dksX2_layKeyOrder_3 18 rfl rfl)
theorem dX2_layKeyOrder_90 : decode cX2_layKeyOrder 90 = .ok (.getfield 32, 3) := dk_180 0 32 (dk_at dksX2_layKeyOrder_3 19 rfl rfl)
theorem dX2_layKeyOrder_93 : decode cX2_layKeyOrder 93 = .ok (.iload_n 2, 1) := dk_28 (dk_at dksX2_layKeyOrder_3 22 rfl rfl)
theorem dX2_layKeyOrder_94 : decode cX2_layKeyOrder 94 = .ok (.iload_n 1, 1) := dk_27 (dk_at dksX2_layKeyOrder_3 23 rfl rfl)
theorem dX2_layKeyOrder_95 : decode cX2_layKeyOrder 95 = .ok (.iastore, 1) := dk_79 (dk_at dksX2_layKeyOrder_4 0 rfl rfl)
theorem dX2_layKeyOrder_96 : decode cX2_layKeyOrder 96 = .ok (.iinc 1 1, 3) := dk_132 1 1 (dk_at dksX2_layKeyOrder_4 1 rfl rfl)
theorem dX2_layKeyOrder_99 : decode cX2_layKeyOrder 99 = .ok (.goto (-97), 3) := dk_167 255 159 (dk_at dksX2_layKeyOrder_4 4 rfl rfl)
theorem dX2_layKeyOrder_102 : decode cX2_layKeyOrder 102 = .ok (.return_, 1) := dk_177 (dk_at dksX2_layKeyOrder_4 7 rfl rfl)
abbrev cX2_layColumns : ByteArray := prog_4_method_20_code
def yX2_layColumns : MethodName := ⟨RX2, "layColumns", "(I)V"⟩
def dkwX2_layColumns_2 : List UInt8 := [132, 3, 1, 167, 255, 211, 177]
abbrev dktX2_layColumns_2 : List UInt8 := dkwX2_layColumns_2 ++ []
def dkwX2_layColumns_1 : List UInt8 := [162, 0, 23, 42, 180, 0, 35, 28, 21, 4, 79, 132, 2, 1, 21, 4, 27, 96, 54, 4, 167, 255, 230]
abbrev dktX2_layColumns_1 : List UInt8 := dkwX2_layColumns_1 ++ dktX2_layColumns_2
def dkwX2_layColumns_0 : List UInt8 := [3, 61, 3, 62, 29, 27, 162, 0, 46, 42, 180, 0, 32, 29, 46, 54, 4, 21, 4, 42, 182, 0, 57]
abbrev dktX2_layColumns_0 : List UInt8 := dkwX2_layColumns_0 ++ dktX2_layColumns_1
theorem dksX2_layColumns_0 : cX2_layColumns.data.toList.drop 0 = dktX2_layColumns_0 := by decide +kernel
theorem dksX2_layColumns_1 : cX2_layColumns.data.toList.drop 23 = dktX2_layColumns_1 := dk_seg dksX2_layColumns_0 23 rfl rfl
theorem dksX2_layColumns_2 : cX2_layColumns.data.toList.drop 46 = dktX2_layColumns_2 := dk_seg dksX2_layColumns_1 23 rfl rfl
theorem dX2_layColumns_0 : decode cX2_layColumns 0 = .ok (.iconst 0, 1) := dk_3 (dk_at dksX2_layColumns_0 0 rfl rfl)
theorem dX2_layColumns_1 : decode cX2_layColumns 1 = .ok (.istore_n 2, 1) := dk_61 (dk_at dksX2_layColumns_0 1 rfl rfl)
theorem dX2_layColumns_2 : decode cX2_layColumns 2 = .ok (.iconst 0, 1) := dk_3 (dk_at dksX2_layColumns_0 2 rfl rfl)
theorem dX2_layColumns_3 : decode cX2_layColumns 3 = .ok (.istore_n 3, 1) := dk_62 (dk_at dksX2_layColumns_0 3 rfl rfl)
theorem dX2_layColumns_4 : decode cX2_layColumns 4 = .ok (.iload_n 3, 1) := dk_29 (dk_at dksX2_layColumns_0 4 rfl rfl)
theorem dX2_layColumns_5 : decode cX2_layColumns 5 = .ok (.iload_n 1, 1) := dk_27 (dk_at dksX2_layColumns_0 5 rfl rfl)
theorem dX2_layColumns_6 : decode cX2_layColumns 6 = .ok (.if_icmp .ge 46, 3) := dk_162 0 46 (dk_at dksX2_layColumns_0 6 rfl rfl)
theorem dX2_layColumns_9 : decode cX2_layColumns 9 = .ok (.aload_n 0, 1) := dk_42 (dk_at dksX2_layColumns_0 9 rfl rfl)
theorem dX2_layColumns_10 : decode cX2_layColumns 10 = .ok (.getfield 32, 3) := dk_180 0 32 (dk_at dksX2_layColumns_0 10 rfl rfl)
theorem dX2_layColumns_13 : decode cX2_layColumns 13 = .ok (.iload_n 3, 1) := dk_29 (dk_at dksX2_layColumns_0 13 rfl rfl)
theorem dX2_layColumns_14 : decode cX2_layColumns 14 = .ok (.iaload, 1) := dk_46 (dk_at dksX2_layColumns_0 14 rfl rfl)
theorem dX2_layColumns_15 : decode cX2_layColumns 15 = .ok (.istore 4, 2) := dk_54 4 (dk_at dksX2_layColumns_0 15 rfl rfl)
theorem dX2_layColumns_17 : decode cX2_layColumns 17 = .ok (.iload 4, 2) := dk_21 4 (dk_at dksX2_layColumns_0 17 rfl rfl)
theorem dX2_layColumns_19 : decode cX2_layColumns 19 = .ok (.aload_n 0, 1) := dk_42 (dk_at dksX2_layColumns_0 19 rfl rfl)
theorem dX2_layColumns_20 : decode cX2_layColumns 20 = .ok (.invokevirtual 57, 3) := dk_182 0 57 (dk_at dksX2_layColumns_0 20 rfl rfl)
theorem dX2_layColumns_23 : decode cX2_layColumns 23 = .ok (.if_icmp .ge 23, 3) := dk_162 0 23 (dk_at dksX2_layColumns_1 0 rfl rfl)
theorem dX2_layColumns_26 : decode cX2_layColumns 26 = .ok (.aload_n 0, 1) := dk_42 (dk_at dksX2_layColumns_1 3 rfl rfl)
theorem dX2_layColumns_27 : decode cX2_layColumns 27 = .ok (.getfield 35, 3) := dk_180 0 35 (dk_at dksX2_layColumns_1 4 rfl rfl)
theorem dX2_layColumns_30 : decode cX2_layColumns 30 = .ok (.iload_n 2, 1) := dk_28 (dk_at dksX2_layColumns_1 7 rfl rfl)
theorem dX2_layColumns_31 : decode cX2_layColumns 31 = .ok (.iload 4, 2) := dk_21 4 (dk_at dksX2_layColumns_1 8 rfl rfl)
theorem dX2_layColumns_33 : decode cX2_layColumns 33 = .ok (.iastore, 1) := dk_79 (dk_at dksX2_layColumns_1 10 rfl rfl)
theorem dX2_layColumns_34 : decode cX2_layColumns 34 = .ok (.iinc 2 1, 3) := dk_132 2 1 (dk_at dksX2_layColumns_1 11 rfl rfl)
theorem dX2_layColumns_37 : decode cX2_layColumns 37 = .ok (.iload 4, 2) := dk_21 4 (dk_at dksX2_layColumns_1 14 rfl rfl)
theorem dX2_layColumns_39 : decode cX2_layColumns 39 = .ok (.iload_n 1, 1) := dk_27 (dk_at dksX2_layColumns_1 16 rfl rfl)
theorem dX2_layColumns_40 : decode cX2_layColumns 40 = .ok (.iadd, 1) := dk_96 (dk_at dksX2_layColumns_1 17 rfl rfl)
theorem dX2_layColumns_41 : decode cX2_layColumns 41 = .ok (.istore 4, 2) := dk_54 4 (dk_at dksX2_layColumns_1 18 rfl rfl)
theorem dX2_layColumns_43 : decode cX2_layColumns 43 = .ok (.goto (-26), 3) := dk_167 255 230 (dk_at dksX2_layColumns_1 20 rfl rfl)
theorem dX2_layColumns_46 : decode cX2_layColumns 46 = .ok (.iinc 3 1, 3) := dk_132 3 1 (dk_at dksX2_layColumns_2 0 rfl rfl)
theorem dX2_layColumns_49 : decode cX2_layColumns 49 = .ok (.goto (-45), 3) := dk_167 255 211 (dk_at dksX2_layColumns_2 3 rfl rfl)
theorem dX2_layColumns_52 : decode cX2_layColumns 52 = .ok (.return_, 1) := dk_177 (dk_at dksX2_layColumns_2 6 rfl rfl)
abbrev cX2_readBy : ByteArray := prog_4_method_22_code
def yX2_readBy : MethodName := ⟨RX2, "readBy", "(I)V"⟩
def dkwX2_readBy_2 : List UInt8 := [28, 46, 79, 132, 2, 1, 167, 255, 204, 177]
abbrev dktX2_readBy_2 : List UInt8 := dkwX2_readBy_2 ++ []
def dkwX2_readBy_1 : List UInt8 := [180, 0, 35, 28, 46, 46, 79, 167, 0, 20, 42, 180, 0, 26, 42, 180, 0, 35, 28, 46, 42, 180, 0, 23]
abbrev dktX2_readBy_1 : List UInt8 := dkwX2_readBy_1 ++ dktX2_readBy_2
def dkwX2_readBy_0 : List UInt8 := [3, 61, 28, 42, 182, 0, 57, 162, 0, 50, 27, 158, 0, 23, 42, 180, 0, 26, 28, 42, 180, 0, 23, 42]
abbrev dktX2_readBy_0 : List UInt8 := dkwX2_readBy_0 ++ dktX2_readBy_1
theorem dksX2_readBy_0 : cX2_readBy.data.toList.drop 0 = dktX2_readBy_0 := by decide +kernel
theorem dksX2_readBy_1 : cX2_readBy.data.toList.drop 24 = dktX2_readBy_1 := dk_seg dksX2_readBy_0 24 rfl rfl
theorem dksX2_readBy_2 : cX2_readBy.data.toList.drop 48 = dktX2_readBy_2 := dk_seg dksX2_readBy_1 24 rfl rfl
theorem dX2_readBy_0 : decode cX2_readBy 0 = .ok (.iconst 0, 1) := dk_3 (dk_at dksX2_readBy_0 0 rfl rfl)
theorem dX2_readBy_1 : decode cX2_readBy 1 = .ok (.istore_n 2, 1) := dk_61 (dk_at dksX2_readBy_0 1 rfl rfl)
theorem dX2_readBy_2 : decode cX2_readBy 2 = .ok (.iload_n 2, 1) := dk_28 (dk_at dksX2_readBy_0 2 rfl rfl)
theorem dX2_readBy_3 : decode cX2_readBy 3 = .ok (.aload_n 0, 1) := dk_42 (dk_at dksX2_readBy_0 3 rfl rfl)
theorem dX2_readBy_4 : decode cX2_readBy 4 = .ok (.invokevirtual 57, 3) := dk_182 0 57 (dk_at dksX2_readBy_0 4 rfl rfl)
theorem dX2_readBy_7 : decode cX2_readBy 7 = .ok (.if_icmp .ge 50, 3) := dk_162 0 50 (dk_at dksX2_readBy_0 7 rfl rfl)
theorem dX2_readBy_10 : decode cX2_readBy 10 = .ok (.iload_n 1, 1) := dk_27 (dk_at dksX2_readBy_0 10 rfl rfl)
theorem dX2_readBy_11 : decode cX2_readBy 11 = .ok (.ifCond .le 23, 3) := dk_158 0 23 (dk_at dksX2_readBy_0 11 rfl rfl)
theorem dX2_readBy_14 : decode cX2_readBy 14 = .ok (.aload_n 0, 1) := dk_42 (dk_at dksX2_readBy_0 14 rfl rfl)
theorem dX2_readBy_15 : decode cX2_readBy 15 = .ok (.getfield 26, 3) := dk_180 0 26 (dk_at dksX2_readBy_0 15 rfl rfl)
theorem dX2_readBy_18 : decode cX2_readBy 18 = .ok (.iload_n 2, 1) := dk_28 (dk_at dksX2_readBy_0 18 rfl rfl)
theorem dX2_readBy_19 : decode cX2_readBy 19 = .ok (.aload_n 0, 1) := dk_42 (dk_at dksX2_readBy_0 19 rfl rfl)
theorem dX2_readBy_20 : decode cX2_readBy 20 = .ok (.getfield 23, 3) := dk_180 0 23 (dk_at dksX2_readBy_0 20 rfl rfl)
theorem dX2_readBy_23 : decode cX2_readBy 23 = .ok (.aload_n 0, 1) := dk_42 (dk_at dksX2_readBy_0 23 rfl rfl)
theorem dX2_readBy_24 : decode cX2_readBy 24 = .ok (.getfield 35, 3) := dk_180 0 35 (dk_at dksX2_readBy_1 0 rfl rfl)
theorem dX2_readBy_27 : decode cX2_readBy 27 = .ok (.iload_n 2, 1) := dk_28 (dk_at dksX2_readBy_1 3 rfl rfl)
theorem dX2_readBy_28 : decode cX2_readBy 28 = .ok (.iaload, 1) := dk_46 (dk_at dksX2_readBy_1 4 rfl rfl)
theorem dX2_readBy_29 : decode cX2_readBy 29 = .ok (.iaload, 1) := dk_46 (dk_at dksX2_readBy_1 5 rfl rfl)
theorem dX2_readBy_30 : decode cX2_readBy 30 = .ok (.iastore, 1) := dk_79 (dk_at dksX2_readBy_1 6 rfl rfl)
theorem dX2_readBy_31 : decode cX2_readBy 31 = .ok (.goto 20, 3) := dk_167 0 20 (dk_at dksX2_readBy_1 7 rfl rfl)
theorem dX2_readBy_34 : decode cX2_readBy 34 = .ok (.aload_n 0, 1) := dk_42 (dk_at dksX2_readBy_1 10 rfl rfl)
theorem dX2_readBy_35 : decode cX2_readBy 35 = .ok (.getfield 26, 3) := dk_180 0 26 (dk_at dksX2_readBy_1 11 rfl rfl)
theorem dX2_readBy_38 : decode cX2_readBy 38 = .ok (.aload_n 0, 1) := dk_42 (dk_at dksX2_readBy_1 14 rfl rfl)
theorem dX2_readBy_39 : decode cX2_readBy 39 = .ok (.getfield 35, 3) := dk_180 0 35 (dk_at dksX2_readBy_1 15 rfl rfl)
theorem dX2_readBy_42 : decode cX2_readBy 42 = .ok (.iload_n 2, 1) := dk_28 (dk_at dksX2_readBy_1 18 rfl rfl)
theorem dX2_readBy_43 : decode cX2_readBy 43 = .ok (.iaload, 1) := dk_46 (dk_at dksX2_readBy_1 19 rfl rfl)
theorem dX2_readBy_44 : decode cX2_readBy 44 = .ok (.aload_n 0, 1) := dk_42 (dk_at dksX2_readBy_1 20 rfl rfl)
theorem dX2_readBy_45 : decode cX2_readBy 45 = .ok (.getfield 23, 3) := dk_180 0 23 (dk_at dksX2_readBy_1 21 rfl rfl)
theorem dX2_readBy_48 : decode cX2_readBy 48 = .ok (.iload_n 2, 1) := dk_28 (dk_at dksX2_readBy_2 0 rfl rfl)
theorem dX2_readBy_49 : decode cX2_readBy 49 = .ok (.iaload, 1) := dk_46 (dk_at dksX2_readBy_2 1 rfl rfl)
theorem dX2_readBy_50 : decode cX2_readBy 50 = .ok (.iastore, 1) := dk_79 (dk_at dksX2_readBy_2 2 rfl rfl)
theorem dX2_readBy_51 : decode cX2_readBy 51 = .ok (.iinc 2 1, 3) := dk_132 2 1 (dk_at dksX2_readBy_2 3 rfl rfl)
theorem dX2_readBy_54 : decode cX2_readBy 54 = .ok (.goto (-52), 3) := dk_167 255 204 (dk_at dksX2_readBy_2 6 rfl rfl)
theorem dX2_readBy_57 : decode cX2_readBy 57 = .ok (.return_, 1) := dk_177 (dk_at dksX2_readBy_2 9 rfl rfl)
abbrev cX2_layRails : ByteArray := prog_4_method_21_code
def yX2_layRails : MethodName := ⟨RX2, "layRails", "(I)V"⟩
def dkwX2_layRails_3 : List UInt8 := [167, 255, 207, 132, 4, 1, 167, 255, 192, 177]
abbrev dktX2_layRails_3 : List UInt8 := dkwX2_layRails_3 ++ []
def dkwX2_layRails_2 : List UInt8 := [21, 6, 100, 21, 4, 160, 0, 14, 42, 180, 0, 35, 28, 21, 5, 79, 132, 2, 1, 132, 5, 1]
abbrev dktX2_layRails_2 : List UInt8 := dkwX2_layRails_2 ++ dktX2_layRails_3
def dkwX2_layRails_1 : List UInt8 := [182, 0, 57, 162, 0, 46, 21, 5, 29, 112, 54, 6, 21, 6, 27, 162, 0, 8, 21, 6, 167, 0, 7, 29]
abbrev dktX2_layRails_1 : List UInt8 := dkwX2_layRails_1 ++ dktX2_layRails_2
def dkwX2_layRails_0 : List UInt8 := [3, 61, 5, 27, 4, 100, 104, 62, 3, 54, 4, 21, 4, 27, 162, 0, 64, 3, 54, 5, 21, 5, 42]
abbrev dktX2_layRails_0 : List UInt8 := dkwX2_layRails_0 ++ dktX2_layRails_1
theorem dksX2_layRails_0 : cX2_layRails.data.toList.drop 0 = dktX2_layRails_0 := by decide +kernel
theorem dksX2_layRails_1 : cX2_layRails.data.toList.drop 23 = dktX2_layRails_1 := dk_seg dksX2_layRails_0 23 rfl rfl
theorem dksX2_layRails_2 : cX2_layRails.data.toList.drop 47 = dktX2_layRails_2 := dk_seg dksX2_layRails_1 24 rfl rfl
theorem dksX2_layRails_3 : cX2_layRails.data.toList.drop 69 = dktX2_layRails_3 := dk_seg dksX2_layRails_2 22 rfl rfl
theorem dX2_layRails_0 : decode cX2_layRails 0 = .ok (.iconst 0, 1) := dk_3 (dk_at dksX2_layRails_0 0 rfl rfl)
theorem dX2_layRails_1 : decode cX2_layRails 1 = .ok (.istore_n 2, 1) := dk_61 (dk_at dksX2_layRails_0 1 rfl rfl)
theorem dX2_layRails_2 : decode cX2_layRails 2 = .ok (.iconst 2, 1) := dk_5 (dk_at dksX2_layRails_0 2 rfl rfl)
theorem dX2_layRails_3 : decode cX2_layRails 3 = .ok (.iload_n 1, 1) := dk_27 (dk_at dksX2_layRails_0 3 rfl rfl)
theorem dX2_layRails_4 : decode cX2_layRails 4 = .ok (.iconst 1, 1) := dk_4 (dk_at dksX2_layRails_0 4 rfl rfl)
theorem dX2_layRails_5 : decode cX2_layRails 5 = .ok (.isub, 1) := dk_100 (dk_at dksX2_layRails_0 5 rfl rfl)
theorem dX2_layRails_6 : decode cX2_layRails 6 = .ok (.imul, 1) := dk_104 (dk_at dksX2_layRails_0 6 rfl rfl)
theorem dX2_layRails_7 : decode cX2_layRails 7 = .ok (.istore_n 3, 1) := dk_62 (dk_at dksX2_layRails_0 7 rfl rfl)
theorem dX2_layRails_8 : decode cX2_layRails 8 = .ok (.iconst 0, 1) := dk_3 (dk_at dksX2_layRails_0 8 rfl rfl)
theorem dX2_layRails_9 : decode cX2_layRails 9 = .ok (.istore 4, 2) := dk_54 4 (dk_at dksX2_layRails_0 9 rfl rfl)
theorem dX2_layRails_11 : decode cX2_layRails 11 = .ok (.iload 4, 2) := dk_21 4 (dk_at dksX2_layRails_0 11 rfl rfl)
theorem dX2_layRails_13 : decode cX2_layRails 13 = .ok (.iload_n 1, 1) := dk_27 (dk_at dksX2_layRails_0 13 rfl rfl)
theorem dX2_layRails_14 : decode cX2_layRails 14 = .ok (.if_icmp .ge 64, 3) := dk_162 0 64 (dk_at dksX2_layRails_0 14 rfl rfl)
theorem dX2_layRails_17 : decode cX2_layRails 17 = .ok (.iconst 0, 1) := dk_3 (dk_at dksX2_layRails_0 17 rfl rfl)
theorem dX2_layRails_18 : decode cX2_layRails 18 = .ok (.istore 5, 2) := dk_54 5 (dk_at dksX2_layRails_0 18 rfl rfl)
theorem dX2_layRails_20 : decode cX2_layRails 20 = .ok (.iload 5, 2) := dk_21 5 (dk_at dksX2_layRails_0 20 rfl rfl)
theorem dX2_layRails_22 : decode cX2_layRails 22 = .ok (.aload_n 0, 1) := dk_42 (dk_at dksX2_layRails_0 22 rfl rfl)
theorem dX2_layRails_23 : decode cX2_layRails 23 = .ok (.invokevirtual 57, 3) := dk_182 0 57 (dk_at dksX2_layRails_1 0 rfl rfl)
theorem dX2_layRails_26 : decode cX2_layRails 26 = .ok (.if_icmp .ge 46, 3) := dk_162 0 46 (dk_at dksX2_layRails_1 3 rfl rfl)
theorem dX2_layRails_29 : decode cX2_layRails 29 = .ok (.iload 5, 2) := dk_21 5 (dk_at dksX2_layRails_1 6 rfl rfl)
theorem dX2_layRails_31 : decode cX2_layRails 31 = .ok (.iload_n 3, 1) := dk_29 (dk_at dksX2_layRails_1 8 rfl rfl)
theorem dX2_layRails_32 : decode cX2_layRails 32 = .ok (.irem, 1) := dk_112 (dk_at dksX2_layRails_1 9 rfl rfl)
theorem dX2_layRails_33 : decode cX2_layRails 33 = .ok (.istore 6, 2) := dk_54 6 (dk_at dksX2_layRails_1 10 rfl rfl)
theorem dX2_layRails_35 : decode cX2_layRails 35 = .ok (.iload 6, 2) := dk_21 6 (dk_at dksX2_layRails_1 12 rfl rfl)
theorem dX2_layRails_37 : decode cX2_layRails 37 = .ok (.iload_n 1, 1) := dk_27 (dk_at dksX2_layRails_1 14 rfl rfl)
theorem dX2_layRails_38 : decode cX2_layRails 38 = .ok (.if_icmp .ge 8, 3) := dk_162 0 8 (dk_at dksX2_layRails_1 15 rfl rfl)
theorem dX2_layRails_41 : decode cX2_layRails 41 = .ok (.iload 6, 2) := dk_21 6 (dk_at dksX2_layRails_1 18 rfl rfl)
theorem dX2_layRails_43 : decode cX2_layRails 43 = .ok (.goto 7, 3) := dk_167 0 7 (dk_at dksX2_layRails_1 20 rfl rfl)
theorem dX2_layRails_46 : decode cX2_layRails 46 = .ok (.iload_n 3, 1) := dk_29 (dk_at dksX2_layRails_1 23 rfl rfl)
theorem dX2_layRails_47 : decode cX2_layRails 47 = .ok (.iload 6, 2) := dk_21 6 (dk_at dksX2_layRails_2 0 rfl rfl)
theorem dX2_layRails_49 : decode cX2_layRails 49 = .ok (.isub, 1) := dk_100 (dk_at dksX2_layRails_2 2 rfl rfl)
theorem dX2_layRails_50 : decode cX2_layRails 50 = .ok (.iload 4, 2) := dk_21 4 (dk_at dksX2_layRails_2 3 rfl rfl)
theorem dX2_layRails_52 : decode cX2_layRails 52 = .ok (.if_icmp .ne 14, 3) := dk_160 0 14 (dk_at dksX2_layRails_2 5 rfl rfl)
theorem dX2_layRails_55 : decode cX2_layRails 55 = .ok (.aload_n 0, 1) := dk_42 (dk_at dksX2_layRails_2 8 rfl rfl)
theorem dX2_layRails_56 : decode cX2_layRails 56 = .ok (.getfield 35, 3) := dk_180 0 35 (dk_at dksX2_layRails_2 9 rfl rfl)
theorem dX2_layRails_59 : decode cX2_layRails 59 = .ok (.iload_n 2, 1) := dk_28 (dk_at dksX2_layRails_2 12 rfl rfl)
theorem dX2_layRails_60 : decode cX2_layRails 60 = .ok (.iload 5, 2) := dk_21 5 (dk_at dksX2_layRails_2 13 rfl rfl)
theorem dX2_layRails_62 : decode cX2_layRails 62 = .ok (.iastore, 1) := dk_79 (dk_at dksX2_layRails_2 15 rfl rfl)
theorem dX2_layRails_63 : decode cX2_layRails 63 = .ok (.iinc 2 1, 3) := dk_132 2 1 (dk_at dksX2_layRails_2 16 rfl rfl)
theorem dX2_layRails_66 : decode cX2_layRails 66 = .ok (.iinc 5 1, 3) := dk_132 5 1 (dk_at dksX2_layRails_2 19 rfl rfl)
theorem dX2_layRails_69 : decode cX2_layRails 69 = .ok (.goto (-49), 3) := dk_167 255 207 (dk_at dksX2_layRails_3 0 rfl rfl)
theorem dX2_layRails_72 : decode cX2_layRails 72 = .ok (.iinc 4 1, 3) := dk_132 4 1 (dk_at dksX2_layRails_3 3 rfl rfl)
theorem dX2_layRails_75 : decode cX2_layRails 75 = .ok (.goto (-64), 3) := dk_167 255 192 (dk_at dksX2_layRails_3 6 rfl rfl)
theorem dX2_layRails_78 : decode cX2_layRails 78 = .ok (.return_, 1) := dk_177 (dk_at dksX2_layRails_3 9 rfl rfl)
abbrev cX2_apart : ByteArray := prog_4_method_23_code
def yX2_apart : MethodName := ⟨RX2, "apart", "(I)V"⟩
def dkwX2_apart_6 : List UInt8 := [132, 3, 1, 167, 255, 187, 177]
abbrev dktX2_apart_6 : List UInt8 := dkwX2_apart_6 ++ []
def dkwX2_apart_5 : List UInt8 := [42, 180, 0, 29, 7, 42, 180, 0, 38, 29, 46, 104, 42, 180, 0, 38, 28, 29, 96, 46, 96, 46, 79]
abbrev dktX2_apart_5 : List UInt8 := dkwX2_apart_5 ++ dktX2_apart_6
def dkwX2_apart_4 : List UInt8 := [42, 180, 0, 38, 5, 29, 104, 46, 104, 42, 180, 0, 38, 5, 29, 104, 4, 96, 46, 96, 46, 167, 0, 25]
abbrev dktX2_apart_4 : List UInt8 := dkwX2_apart_4 ++ dktX2_apart_5
def dkwX2_apart_3 : List UInt8 := [167, 255, 192, 3, 62, 29, 28, 162, 0, 70, 42, 180, 0, 26, 29, 27, 158, 0, 32, 42, 180, 0, 29, 7]
abbrev dktX2_apart_3 : List UInt8 := dkwX2_apart_3 ++ dktX2_apart_4
def dkwX2_apart_2 : List UInt8 := [27, 158, 0, 9, 28, 29, 96, 167, 0, 8, 5, 29, 104, 4, 96, 21, 4, 7, 112, 79, 132, 3, 1]
abbrev dktX2_apart_2 : List UInt8 := dkwX2_apart_2 ++ dktX2_apart_3
def dkwX2_apart_1 : List UInt8 := [42, 180, 0, 38, 27, 158, 0, 7, 29, 167, 0, 6, 5, 29, 104, 21, 4, 7, 108, 79, 42, 180, 0, 38]
abbrev dktX2_apart_1 : List UInt8 := dkwX2_apart_1 ++ dktX2_apart_2
def dkwX2_apart_0 : List UInt8 := [42, 182, 0, 57, 61, 3, 62, 29, 28, 162, 0, 65, 42, 42, 180, 0, 23, 29, 46, 182, 0, 67, 54, 4]
abbrev dktX2_apart_0 : List UInt8 := dkwX2_apart_0 ++ dktX2_apart_1
theorem dksX2_apart_0 : cX2_apart.data.toList.drop 0 = dktX2_apart_0 := by decide +kernel
theorem dksX2_apart_1 : cX2_apart.data.toList.drop 24 = dktX2_apart_1 := dk_seg dksX2_apart_0 24 rfl rfl
theorem dksX2_apart_2 : cX2_apart.data.toList.drop 48 = dktX2_apart_2 := dk_seg dksX2_apart_1 24 rfl rfl
theorem dksX2_apart_3 : cX2_apart.data.toList.drop 71 = dktX2_apart_3 := dk_seg dksX2_apart_2 23 rfl rfl
theorem dksX2_apart_4 : cX2_apart.data.toList.drop 95 = dktX2_apart_4 := dk_seg dksX2_apart_3 24 rfl rfl
theorem dksX2_apart_5 : cX2_apart.data.toList.drop 119 = dktX2_apart_5 := dk_seg dksX2_apart_4 24 rfl rfl
theorem dksX2_apart_6 : cX2_apart.data.toList.drop 142 = dktX2_apart_6 := dk_seg dksX2_apart_5 23 rfl rfl
theorem dX2_apart_0 : decode cX2_apart 0 = .ok (.aload_n 0, 1) := dk_42 (dk_at dksX2_apart_0 0 rfl rfl)
theorem dX2_apart_1 : decode cX2_apart 1 = .ok (.invokevirtual 57, 3) := dk_182 0 57 (dk_at dksX2_apart_0 1 rfl rfl)
theorem dX2_apart_4 : decode cX2_apart 4 = .ok (.istore_n 2, 1) := dk_61 (dk_at dksX2_apart_0 4 rfl rfl)
theorem dX2_apart_5 : decode cX2_apart 5 = .ok (.iconst 0, 1) := dk_3 (dk_at dksX2_apart_0 5 rfl rfl)
theorem dX2_apart_6 : decode cX2_apart 6 = .ok (.istore_n 3, 1) := dk_62 (dk_at dksX2_apart_0 6 rfl rfl)
theorem dX2_apart_7 : decode cX2_apart 7 = .ok (.iload_n 3, 1) := dk_29 (dk_at dksX2_apart_0 7 rfl rfl)
theorem dX2_apart_8 : decode cX2_apart 8 = .ok (.iload_n 2, 1) := dk_28 (dk_at dksX2_apart_0 8 rfl rfl)
theorem dX2_apart_9 : decode cX2_apart 9 = .ok (.if_icmp .ge 65, 3) := dk_162 0 65 (dk_at dksX2_apart_0 9 rfl rfl)
theorem dX2_apart_12 : decode cX2_apart 12 = .ok (.aload_n 0, 1) := dk_42 (dk_at dksX2_apart_0 12 rfl rfl)
theorem dX2_apart_13 : decode cX2_apart 13 = .ok (.aload_n 0, 1) := dk_42 (dk_at dksX2_apart_0 13 rfl rfl)
theorem dX2_apart_14 : decode cX2_apart 14 = .ok (.getfield 23, 3) := dk_180 0 23 (dk_at dksX2_apart_0 14 rfl rfl)
theorem dX2_apart_17 : decode cX2_apart 17 = .ok (.iload_n 3, 1) := dk_29 (dk_at dksX2_apart_0 17 rfl rfl)
theorem dX2_apart_18 : decode cX2_apart 18 = .ok (.iaload, 1) := dk_46 (dk_at dksX2_apart_0 18 rfl rfl)
theorem dX2_apart_19 : decode cX2_apart 19 = .ok (.invokevirtual 67, 3) := dk_182 0 67 (dk_at dksX2_apart_0 19 rfl rfl)
theorem dX2_apart_22 : decode cX2_apart 22 = .ok (.istore 4, 2) := dk_54 4 (dk_at dksX2_apart_0 22 rfl rfl)
theorem dX2_apart_24 : decode cX2_apart 24 = .ok (.aload_n 0, 1) := dk_42 (dk_at dksX2_apart_1 0 rfl rfl)
theorem dX2_apart_25 : decode cX2_apart 25 = .ok (.getfield 38, 3) := dk_180 0 38 (dk_at dksX2_apart_1 1 rfl rfl)
theorem dX2_apart_28 : decode cX2_apart 28 = .ok (.iload_n 1, 1) := dk_27 (dk_at dksX2_apart_1 4 rfl rfl)
theorem dX2_apart_29 : decode cX2_apart 29 = .ok (.ifCond .le 7, 3) := dk_158 0 7 (dk_at dksX2_apart_1 5 rfl rfl)
theorem dX2_apart_32 : decode cX2_apart 32 = .ok (.iload_n 3, 1) := dk_29 (dk_at dksX2_apart_1 8 rfl rfl)
theorem dX2_apart_33 : decode cX2_apart 33 = .ok (.goto 6, 3) := dk_167 0 6 (dk_at dksX2_apart_1 9 rfl rfl)
theorem dX2_apart_36 : decode cX2_apart 36 = .ok (.iconst 2, 1) := dk_5 (dk_at dksX2_apart_1 12 rfl rfl)
theorem dX2_apart_37 : decode cX2_apart 37 = .ok (.iload_n 3, 1) := dk_29 (dk_at dksX2_apart_1 13 rfl rfl)
theorem dX2_apart_38 : decode cX2_apart 38 = .ok (.imul, 1) := dk_104 (dk_at dksX2_apart_1 14 rfl rfl)
theorem dX2_apart_39 : decode cX2_apart 39 = .ok (.iload 4, 2) := dk_21 4 (dk_at dksX2_apart_1 15 rfl rfl)
theorem dX2_apart_41 : decode cX2_apart 41 = .ok (.iconst 4, 1) := dk_7 (dk_at dksX2_apart_1 17 rfl rfl)
theorem dX2_apart_42 : decode cX2_apart 42 = .ok (.idiv, 1) := dk_108 (dk_at dksX2_apart_1 18 rfl rfl)
theorem dX2_apart_43 : decode cX2_apart 43 = .ok (.iastore, 1) := dk_79 (dk_at dksX2_apart_1 19 rfl rfl)
theorem dX2_apart_44 : decode cX2_apart 44 = .ok (.aload_n 0, 1) := dk_42 (dk_at dksX2_apart_1 20 rfl rfl)
theorem dX2_apart_45 : decode cX2_apart 45 = .ok (.getfield 38, 3) := dk_180 0 38 (dk_at dksX2_apart_1 21 rfl rfl)
theorem dX2_apart_48 : decode cX2_apart 48 = .ok (.iload_n 1, 1) := dk_27 (dk_at dksX2_apart_2 0 rfl rfl)
theorem dX2_apart_49 : decode cX2_apart 49 = .ok (.ifCond .le 9, 3) := dk_158 0 9 (dk_at dksX2_apart_2 1 rfl rfl)
theorem dX2_apart_52 : decode cX2_apart 52 = .ok (.iload_n 2, 1) := dk_28 (dk_at dksX2_apart_2 4 rfl rfl)
theorem dX2_apart_53 : decode cX2_apart 53 = .ok (.iload_n 3, 1) := dk_29 (dk_at dksX2_apart_2 5 rfl rfl)
theorem dX2_apart_54 : decode cX2_apart 54 = .ok (.iadd, 1) := dk_96 (dk_at dksX2_apart_2 6 rfl rfl)
theorem dX2_apart_55 : decode cX2_apart 55 = .ok (.goto 8, 3) := dk_167 0 8 (dk_at dksX2_apart_2 7 rfl rfl)
theorem dX2_apart_58 : decode cX2_apart 58 = .ok (.iconst 2, 1) := dk_5 (dk_at dksX2_apart_2 10 rfl rfl)
theorem dX2_apart_59 : decode cX2_apart 59 = .ok (.iload_n 3, 1) := dk_29 (dk_at dksX2_apart_2 11 rfl rfl)
theorem dX2_apart_60 : decode cX2_apart 60 = .ok (.imul, 1) := dk_104 (dk_at dksX2_apart_2 12 rfl rfl)
theorem dX2_apart_61 : decode cX2_apart 61 = .ok (.iconst 1, 1) := dk_4 (dk_at dksX2_apart_2 13 rfl rfl)
theorem dX2_apart_62 : decode cX2_apart 62 = .ok (.iadd, 1) := dk_96 (dk_at dksX2_apart_2 14 rfl rfl)
theorem dX2_apart_63 : decode cX2_apart 63 = .ok (.iload 4, 2) := dk_21 4 (dk_at dksX2_apart_2 15 rfl rfl)
theorem dX2_apart_65 : decode cX2_apart 65 = .ok (.iconst 4, 1) := dk_7 (dk_at dksX2_apart_2 17 rfl rfl)
theorem dX2_apart_66 : decode cX2_apart 66 = .ok (.irem, 1) := dk_112 (dk_at dksX2_apart_2 18 rfl rfl)
theorem dX2_apart_67 : decode cX2_apart 67 = .ok (.iastore, 1) := dk_79 (dk_at dksX2_apart_2 19 rfl rfl)
theorem dX2_apart_68 : decode cX2_apart 68 = .ok (.iinc 3 1, 3) := dk_132 3 1 (dk_at dksX2_apart_2 20 rfl rfl)
theorem dX2_apart_71 : decode cX2_apart 71 = .ok (.goto (-64), 3) := dk_167 255 192 (dk_at dksX2_apart_3 0 rfl rfl)
theorem dX2_apart_74 : decode cX2_apart 74 = .ok (.iconst 0, 1) := dk_3 (dk_at dksX2_apart_3 3 rfl rfl)
theorem dX2_apart_75 : decode cX2_apart 75 = .ok (.istore_n 3, 1) := dk_62 (dk_at dksX2_apart_3 4 rfl rfl)
theorem dX2_apart_76 : decode cX2_apart 76 = .ok (.iload_n 3, 1) := dk_29 (dk_at dksX2_apart_3 5 rfl rfl)
theorem dX2_apart_77 : decode cX2_apart 77 = .ok (.iload_n 2, 1) := dk_28 (dk_at dksX2_apart_3 6 rfl rfl)
theorem dX2_apart_78 : decode cX2_apart 78 = .ok (.if_icmp .ge 70, 3) := dk_162 0 70 (dk_at dksX2_apart_3 7 rfl rfl)
theorem dX2_apart_81 : decode cX2_apart 81 = .ok (.aload_n 0, 1) := dk_42 (dk_at dksX2_apart_3 10 rfl rfl)
theorem dX2_apart_82 : decode cX2_apart 82 = .ok (.getfield 26, 3) := dk_180 0 26 (dk_at dksX2_apart_3 11 rfl rfl)
theorem dX2_apart_85 : decode cX2_apart 85 = .ok (.iload_n 3, 1) := dk_29 (dk_at dksX2_apart_3 14 rfl rfl)
theorem dX2_apart_86 : decode cX2_apart 86 = .ok (.iload_n 1, 1) := dk_27 (dk_at dksX2_apart_3 15 rfl rfl)
theorem dX2_apart_87 : decode cX2_apart 87 = .ok (.ifCond .le 32, 3) := dk_158 0 32 (dk_at dksX2_apart_3 16 rfl rfl)
theorem dX2_apart_90 : decode cX2_apart 90 = .ok (.aload_n 0, 1) := dk_42 (dk_at dksX2_apart_3 19 rfl rfl)
theorem dX2_apart_91 : decode cX2_apart 91 = .ok (.getfield 29, 3) := dk_180 0 29 (dk_at dksX2_apart_3 20 rfl rfl)
theorem dX2_apart_94 : decode cX2_apart 94 = .ok (.iconst 4, 1) := dk_7 (dk_at dksX2_apart_3 23 rfl rfl)
theorem dX2_apart_95 : decode cX2_apart 95 = .ok (.aload_n 0, 1) := dk_42 (dk_at dksX2_apart_4 0 rfl rfl)
theorem dX2_apart_96 : decode cX2_apart 96 = .ok (.getfield 38, 3) := dk_180 0 38 (dk_at dksX2_apart_4 1 rfl rfl)
theorem dX2_apart_99 : decode cX2_apart 99 = .ok (.iconst 2, 1) := dk_5 (dk_at dksX2_apart_4 4 rfl rfl)
theorem dX2_apart_100 : decode cX2_apart 100 = .ok (.iload_n 3, 1) := dk_29 (dk_at dksX2_apart_4 5 rfl rfl)
theorem dX2_apart_101 : decode cX2_apart 101 = .ok (.imul, 1) := dk_104 (dk_at dksX2_apart_4 6 rfl rfl)
theorem dX2_apart_102 : decode cX2_apart 102 = .ok (.iaload, 1) := dk_46 (dk_at dksX2_apart_4 7 rfl rfl)
theorem dX2_apart_103 : decode cX2_apart 103 = .ok (.imul, 1) := dk_104 (dk_at dksX2_apart_4 8 rfl rfl)
theorem dX2_apart_104 : decode cX2_apart 104 = .ok (.aload_n 0, 1) := dk_42 (dk_at dksX2_apart_4 9 rfl rfl)
theorem dX2_apart_105 : decode cX2_apart 105 = .ok (.getfield 38, 3) := dk_180 0 38 (dk_at dksX2_apart_4 10 rfl rfl)
theorem dX2_apart_108 : decode cX2_apart 108 = .ok (.iconst 2, 1) := dk_5 (dk_at dksX2_apart_4 13 rfl rfl)
theorem dX2_apart_109 : decode cX2_apart 109 = .ok (.iload_n 3, 1) := dk_29 (dk_at dksX2_apart_4 14 rfl rfl)
theorem dX2_apart_110 : decode cX2_apart 110 = .ok (.imul, 1) := dk_104 (dk_at dksX2_apart_4 15 rfl rfl)
theorem dX2_apart_111 : decode cX2_apart 111 = .ok (.iconst 1, 1) := dk_4 (dk_at dksX2_apart_4 16 rfl rfl)
theorem dX2_apart_112 : decode cX2_apart 112 = .ok (.iadd, 1) := dk_96 (dk_at dksX2_apart_4 17 rfl rfl)
theorem dX2_apart_113 : decode cX2_apart 113 = .ok (.iaload, 1) := dk_46 (dk_at dksX2_apart_4 18 rfl rfl)
theorem dX2_apart_114 : decode cX2_apart 114 = .ok (.iadd, 1) := dk_96 (dk_at dksX2_apart_4 19 rfl rfl)
theorem dX2_apart_115 : decode cX2_apart 115 = .ok (.iaload, 1) := dk_46 (dk_at dksX2_apart_4 20 rfl rfl)
theorem dX2_apart_116 : decode cX2_apart 116 = .ok (.goto 25, 3) := dk_167 0 25 (dk_at dksX2_apart_4 21 rfl rfl)
theorem dX2_apart_119 : decode cX2_apart 119 = .ok (.aload_n 0, 1) := dk_42 (dk_at dksX2_apart_5 0 rfl rfl)
theorem dX2_apart_120 : decode cX2_apart 120 = .ok (.getfield 29, 3) := dk_180 0 29 (dk_at dksX2_apart_5 1 rfl rfl)
theorem dX2_apart_123 : decode cX2_apart 123 = .ok (.iconst 4, 1) := dk_7 (dk_at dksX2_apart_5 4 rfl rfl)
theorem dX2_apart_124 : decode cX2_apart 124 = .ok (.aload_n 0, 1) := dk_42 (dk_at dksX2_apart_5 5 rfl rfl)
theorem dX2_apart_125 : decode cX2_apart 125 = .ok (.getfield 38, 3) := dk_180 0 38 (dk_at dksX2_apart_5 6 rfl rfl)
theorem dX2_apart_128 : decode cX2_apart 128 = .ok (.iload_n 3, 1) := dk_29 (dk_at dksX2_apart_5 9 rfl rfl)
theorem dX2_apart_129 : decode cX2_apart 129 = .ok (.iaload, 1) := dk_46 (dk_at dksX2_apart_5 10 rfl rfl)
theorem dX2_apart_130 : decode cX2_apart 130 = .ok (.imul, 1) := dk_104 (dk_at dksX2_apart_5 11 rfl rfl)
theorem dX2_apart_131 : decode cX2_apart 131 = .ok (.aload_n 0, 1) := dk_42 (dk_at dksX2_apart_5 12 rfl rfl)
theorem dX2_apart_132 : decode cX2_apart 132 = .ok (.getfield 38, 3) := dk_180 0 38 (dk_at dksX2_apart_5 13 rfl rfl)
theorem dX2_apart_135 : decode cX2_apart 135 = .ok (.iload_n 2, 1) := dk_28 (dk_at dksX2_apart_5 16 rfl rfl)
theorem dX2_apart_136 : decode cX2_apart 136 = .ok (.iload_n 3, 1) := dk_29 (dk_at dksX2_apart_5 17 rfl rfl)
theorem dX2_apart_137 : decode cX2_apart 137 = .ok (.iadd, 1) := dk_96 (dk_at dksX2_apart_5 18 rfl rfl)
theorem dX2_apart_138 : decode cX2_apart 138 = .ok (.iaload, 1) := dk_46 (dk_at dksX2_apart_5 19 rfl rfl)
theorem dX2_apart_139 : decode cX2_apart 139 = .ok (.iadd, 1) := dk_96 (dk_at dksX2_apart_5 20 rfl rfl)
theorem dX2_apart_140 : decode cX2_apart 140 = .ok (.iaload, 1) := dk_46 (dk_at dksX2_apart_5 21 rfl rfl)
theorem dX2_apart_141 : decode cX2_apart 141 = .ok (.iastore, 1) := dk_79 (dk_at dksX2_apart_5 22 rfl rfl)
theorem dX2_apart_142 : decode cX2_apart 142 = .ok (.iinc 3 1, 3) := dk_132 3 1 (dk_at dksX2_apart_6 0 rfl rfl)
theorem dX2_apart_145 : decode cX2_apart 145 = .ok (.goto (-69), 3) := dk_167 255 187 (dk_at dksX2_apart_6 3 rfl rfl)
theorem dX2_apart_148 : decode cX2_apart 148 = .ok (.return_, 1) := dk_177 (dk_at dksX2_apart_6 6 rfl rfl)
abbrev cX2_keepStep : ByteArray := prog_4_method_25_code
def yX2_keepStep : MethodName := ⟨RX2, "keepStep", "()V"⟩
def dkwX2_keepStep_4 : List UInt8 := [3, 27, 96, 46, 79, 132, 1, 1, 167, 255, 217, 42, 180, 0, 7, 17, 1, 72, 92, 46, 4, 96, 79, 177]
abbrev dktX2_keepStep_4 : List UInt8 := dkwX2_keepStep_4 ++ []
def dkwX2_keepStep_3 : List UInt8 := [180, 0, 7, 17, 1, 73, 16, 49, 42, 180, 0, 7, 17, 1, 72, 46, 104, 96, 27, 96, 42, 180, 0, 7]
abbrev dktX2_keepStep_3 : List UInt8 := dkwX2_keepStep_3 ++ dktX2_keepStep_4
def dkwX2_keepStep_2 : List UInt8 := [167, 255, 226, 42, 180, 0, 7, 17, 1, 72, 92, 46, 4, 100, 79, 3, 60, 27, 16, 49, 162, 0, 39, 42]
abbrev dktX2_keepStep_2 : List UInt8 := dkwX2_keepStep_2 ++ dktX2_keepStep_3
def dkwX2_keepStep_1 : List UInt8 := [180, 0, 7, 17, 1, 73, 27, 96, 42, 180, 0, 7, 17, 1, 122, 27, 96, 46, 79, 132, 1, 1]
abbrev dktX2_keepStep_1 : List UInt8 := dkwX2_keepStep_1 ++ dktX2_keepStep_2
def dkwX2_keepStep_0 : List UInt8 := [42, 180, 0, 7, 17, 1, 72, 46, 16, 10, 160, 0, 50, 3, 60, 27, 17, 1, 185, 162, 0, 29, 42]
abbrev dktX2_keepStep_0 : List UInt8 := dkwX2_keepStep_0 ++ dktX2_keepStep_1
theorem dksX2_keepStep_0 : cX2_keepStep.data.toList.drop 0 = dktX2_keepStep_0 := by decide +kernel
theorem dksX2_keepStep_1 : cX2_keepStep.data.toList.drop 23 = dktX2_keepStep_1 := dk_seg dksX2_keepStep_0 23 rfl rfl
theorem dksX2_keepStep_2 : cX2_keepStep.data.toList.drop 45 = dktX2_keepStep_2 := dk_seg dksX2_keepStep_1 22 rfl rfl
theorem dksX2_keepStep_3 : cX2_keepStep.data.toList.drop 69 = dktX2_keepStep_3 := dk_seg dksX2_keepStep_2 24 rfl rfl
theorem dksX2_keepStep_4 : cX2_keepStep.data.toList.drop 93 = dktX2_keepStep_4 := dk_seg dksX2_keepStep_3 24 rfl rfl
theorem dX2_keepStep_0 : decode cX2_keepStep 0 = .ok (.aload_n 0, 1) := dk_42 (dk_at dksX2_keepStep_0 0 rfl rfl)
theorem dX2_keepStep_1 : decode cX2_keepStep 1 = .ok (.getfield 7, 3) := dk_180 0 7 (dk_at dksX2_keepStep_0 1 rfl rfl)
theorem dX2_keepStep_4 : decode cX2_keepStep 4 = .ok (.sipush 328, 3) := dk_17 1 72 (dk_at dksX2_keepStep_0 4 rfl rfl)
theorem dX2_keepStep_7 : decode cX2_keepStep 7 = .ok (.iaload, 1) := dk_46 (dk_at dksX2_keepStep_0 7 rfl rfl)
theorem dX2_keepStep_8 : decode cX2_keepStep 8 = .ok (.bipush 10, 2) := dk_16 10 (dk_at dksX2_keepStep_0 8 rfl rfl)
theorem dX2_keepStep_10 : decode cX2_keepStep 10 = .ok (.if_icmp .ne 50, 3) := dk_160 0 50 (dk_at dksX2_keepStep_0 10 rfl rfl)
theorem dX2_keepStep_13 : decode cX2_keepStep 13 = .ok (.iconst 0, 1) := dk_3 (dk_at dksX2_keepStep_0 13 rfl rfl)
theorem dX2_keepStep_14 : decode cX2_keepStep 14 = .ok (.istore_n 1, 1) := dk_60 (dk_at dksX2_keepStep_0 14 rfl rfl)
theorem dX2_keepStep_15 : decode cX2_keepStep 15 = .ok (.iload_n 1, 1) := dk_27 (dk_at dksX2_keepStep_0 15 rfl rfl)
theorem dX2_keepStep_16 : decode cX2_keepStep 16 = .ok (.sipush 441, 3) := dk_17 1 185 (dk_at dksX2_keepStep_0 16 rfl rfl)
theorem dX2_keepStep_19 : decode cX2_keepStep 19 = .ok (.if_icmp .ge 29, 3) := dk_162 0 29 (dk_at dksX2_keepStep_0 19 rfl rfl)
theorem dX2_keepStep_22 : decode cX2_keepStep 22 = .ok (.aload_n 0, 1) := dk_42 (dk_at dksX2_keepStep_0 22 rfl rfl)
theorem dX2_keepStep_23 : decode cX2_keepStep 23 = .ok (.getfield 7, 3) := dk_180 0 7 (dk_at dksX2_keepStep_1 0 rfl rfl)
theorem dX2_keepStep_26 : decode cX2_keepStep 26 = .ok (.sipush 329, 3) := dk_17 1 73 (dk_at dksX2_keepStep_1 3 rfl rfl)
theorem dX2_keepStep_29 : decode cX2_keepStep 29 = .ok (.iload_n 1, 1) := dk_27 (dk_at dksX2_keepStep_1 6 rfl rfl)
theorem dX2_keepStep_30 : decode cX2_keepStep 30 = .ok (.iadd, 1) := dk_96 (dk_at dksX2_keepStep_1 7 rfl rfl)
theorem dX2_keepStep_31 : decode cX2_keepStep 31 = .ok (.aload_n 0, 1) := dk_42 (dk_at dksX2_keepStep_1 8 rfl rfl)
theorem dX2_keepStep_32 : decode cX2_keepStep 32 = .ok (.getfield 7, 3) := dk_180 0 7 (dk_at dksX2_keepStep_1 9 rfl rfl)
theorem dX2_keepStep_35 : decode cX2_keepStep 35 = .ok (.sipush 378, 3) := dk_17 1 122 (dk_at dksX2_keepStep_1 12 rfl rfl)
theorem dX2_keepStep_38 : decode cX2_keepStep 38 = .ok (.iload_n 1, 1) := dk_27 (dk_at dksX2_keepStep_1 15 rfl rfl)
theorem dX2_keepStep_39 : decode cX2_keepStep 39 = .ok (.iadd, 1) := dk_96 (dk_at dksX2_keepStep_1 16 rfl rfl)
theorem dX2_keepStep_40 : decode cX2_keepStep 40 = .ok (.iaload, 1) := dk_46 (dk_at dksX2_keepStep_1 17 rfl rfl)
theorem dX2_keepStep_41 : decode cX2_keepStep 41 = .ok (.iastore, 1) := dk_79 (dk_at dksX2_keepStep_1 18 rfl rfl)
theorem dX2_keepStep_42 : decode cX2_keepStep 42 = .ok (.iinc 1 1, 3) := dk_132 1 1 (dk_at dksX2_keepStep_1 19 rfl rfl)
theorem dX2_keepStep_45 : decode cX2_keepStep 45 = .ok (.goto (-30), 3) := dk_167 255 226 (dk_at dksX2_keepStep_2 0 rfl rfl)
theorem dX2_keepStep_48 : decode cX2_keepStep 48 = .ok (.aload_n 0, 1) := dk_42 (dk_at dksX2_keepStep_2 3 rfl rfl)
theorem dX2_keepStep_49 : decode cX2_keepStep 49 = .ok (.getfield 7, 3) := dk_180 0 7 (dk_at dksX2_keepStep_2 4 rfl rfl)
theorem dX2_keepStep_52 : decode cX2_keepStep 52 = .ok (.sipush 328, 3) := dk_17 1 72 (dk_at dksX2_keepStep_2 7 rfl rfl)
theorem dX2_keepStep_55 : decode cX2_keepStep 55 = .ok (.dup2, 1) := dk_92 (dk_at dksX2_keepStep_2 10 rfl rfl)
theorem dX2_keepStep_56 : decode cX2_keepStep 56 = .ok (.iaload, 1) := dk_46 (dk_at dksX2_keepStep_2 11 rfl rfl)
theorem dX2_keepStep_57 : decode cX2_keepStep 57 = .ok (.iconst 1, 1) := dk_4 (dk_at dksX2_keepStep_2 12 rfl rfl)
theorem dX2_keepStep_58 : decode cX2_keepStep 58 = .ok (.isub, 1) := dk_100 (dk_at dksX2_keepStep_2 13 rfl rfl)
theorem dX2_keepStep_59 : decode cX2_keepStep 59 = .ok (.iastore, 1) := dk_79 (dk_at dksX2_keepStep_2 14 rfl rfl)
theorem dX2_keepStep_60 : decode cX2_keepStep 60 = .ok (.iconst 0, 1) := dk_3 (dk_at dksX2_keepStep_2 15 rfl rfl)
theorem dX2_keepStep_61 : decode cX2_keepStep 61 = .ok (.istore_n 1, 1) := dk_60 (dk_at dksX2_keepStep_2 16 rfl rfl)
theorem dX2_keepStep_62 : decode cX2_keepStep 62 = .ok (.iload_n 1, 1) := dk_27 (dk_at dksX2_keepStep_2 17 rfl rfl)
theorem dX2_keepStep_63 : decode cX2_keepStep 63 = .ok (.bipush 49, 2) := dk_16 49 (dk_at dksX2_keepStep_2 18 rfl rfl)
theorem dX2_keepStep_65 : decode cX2_keepStep 65 = .ok (.if_icmp .ge 39, 3) := dk_162 0 39 (dk_at dksX2_keepStep_2 20 rfl rfl)
theorem dX2_keepStep_68 : decode cX2_keepStep 68 = .ok (.aload_n 0, 1) := dk_42 (dk_at dksX2_keepStep_2 23 rfl rfl)
theorem dX2_keepStep_69 : decode cX2_keepStep 69 = .ok (.getfield 7, 3) := dk_180 0 7 (dk_at dksX2_keepStep_3 0 rfl rfl)
theorem dX2_keepStep_72 : decode cX2_keepStep 72 = .ok (.sipush 329, 3) := dk_17 1 73 (dk_at dksX2_keepStep_3 3 rfl rfl)
theorem dX2_keepStep_75 : decode cX2_keepStep 75 = .ok (.bipush 49, 2) := dk_16 49 (dk_at dksX2_keepStep_3 6 rfl rfl)
theorem dX2_keepStep_77 : decode cX2_keepStep 77 = .ok (.aload_n 0, 1) := dk_42 (dk_at dksX2_keepStep_3 8 rfl rfl)
theorem dX2_keepStep_78 : decode cX2_keepStep 78 = .ok (.getfield 7, 3) := dk_180 0 7 (dk_at dksX2_keepStep_3 9 rfl rfl)
theorem dX2_keepStep_81 : decode cX2_keepStep 81 = .ok (.sipush 328, 3) := dk_17 1 72 (dk_at dksX2_keepStep_3 12 rfl rfl)
theorem dX2_keepStep_84 : decode cX2_keepStep 84 = .ok (.iaload, 1) := dk_46 (dk_at dksX2_keepStep_3 15 rfl rfl)
theorem dX2_keepStep_85 : decode cX2_keepStep 85 = .ok (.imul, 1) := dk_104 (dk_at dksX2_keepStep_3 16 rfl rfl)
theorem dX2_keepStep_86 : decode cX2_keepStep 86 = .ok (.iadd, 1) := dk_96 (dk_at dksX2_keepStep_3 17 rfl rfl)
theorem dX2_keepStep_87 : decode cX2_keepStep 87 = .ok (.iload_n 1, 1) := dk_27 (dk_at dksX2_keepStep_3 18 rfl rfl)
theorem dX2_keepStep_88 : decode cX2_keepStep 88 = .ok (.iadd, 1) := dk_96 (dk_at dksX2_keepStep_3 19 rfl rfl)
theorem dX2_keepStep_89 : decode cX2_keepStep 89 = .ok (.aload_n 0, 1) := dk_42 (dk_at dksX2_keepStep_3 20 rfl rfl)
theorem dX2_keepStep_90 : decode cX2_keepStep 90 = .ok (.getfield 7, 3) := dk_180 0 7 (dk_at dksX2_keepStep_3 21 rfl rfl)
theorem dX2_keepStep_93 : decode cX2_keepStep 93 = .ok (.iconst 0, 1) := dk_3 (dk_at dksX2_keepStep_4 0 rfl rfl)
theorem dX2_keepStep_94 : decode cX2_keepStep 94 = .ok (.iload_n 1, 1) := dk_27 (dk_at dksX2_keepStep_4 1 rfl rfl)
theorem dX2_keepStep_95 : decode cX2_keepStep 95 = .ok (.iadd, 1) := dk_96 (dk_at dksX2_keepStep_4 2 rfl rfl)
theorem dX2_keepStep_96 : decode cX2_keepStep 96 = .ok (.iaload, 1) := dk_46 (dk_at dksX2_keepStep_4 3 rfl rfl)
theorem dX2_keepStep_97 : decode cX2_keepStep 97 = .ok (.iastore, 1) := dk_79 (dk_at dksX2_keepStep_4 4 rfl rfl)
theorem dX2_keepStep_98 : decode cX2_keepStep 98 = .ok (.iinc 1 1, 3) := dk_132 1 1 (dk_at dksX2_keepStep_4 5 rfl rfl)
theorem dX2_keepStep_101 : decode cX2_keepStep 101 = .ok (.goto (-39), 3) := dk_167 255 217 (dk_at dksX2_keepStep_4 8 rfl rfl)
theorem dX2_keepStep_104 : decode cX2_keepStep 104 = .ok (.aload_n 0, 1) := dk_42 (dk_at dksX2_keepStep_4 11 rfl rfl)
theorem dX2_keepStep_105 : decode cX2_keepStep 105 = .ok (.getfield 7, 3) := dk_180 0 7 (dk_at dksX2_keepStep_4 12 rfl rfl)
theorem dX2_keepStep_108 : decode cX2_keepStep 108 = .ok (.sipush 328, 3) := dk_17 1 72 (dk_at dksX2_keepStep_4 15 rfl rfl)
theorem dX2_keepStep_111 : decode cX2_keepStep 111 = .ok (.dup2, 1) := dk_92 (dk_at dksX2_keepStep_4 18 rfl rfl)
theorem dX2_keepStep_112 : decode cX2_keepStep 112 = .ok (.iaload, 1) := dk_46 (dk_at dksX2_keepStep_4 19 rfl rfl)
theorem dX2_keepStep_113 : decode cX2_keepStep 113 = .ok (.iconst 1, 1) := dk_4 (dk_at dksX2_keepStep_4 20 rfl rfl)
theorem dX2_keepStep_114 : decode cX2_keepStep 114 = .ok (.iadd, 1) := dk_96 (dk_at dksX2_keepStep_4 21 rfl rfl)
theorem dX2_keepStep_115 : decode cX2_keepStep 115 = .ok (.iastore, 1) := dk_79 (dk_at dksX2_keepStep_4 22 rfl rfl)
theorem dX2_keepStep_116 : decode cX2_keepStep 116 = .ok (.return_, 1) := dk_177 (dk_at dksX2_keepStep_4 23 rfl rfl)
abbrev cX2_find : ByteArray := prog_4_method_28_code
def yX2_find : MethodName := ⟨RX2, "find", "(I)I"⟩
def dkwX2_find_0 : List UInt8 := [42, 27, 2, 182, 0, 107, 172]
abbrev dktX2_find_0 : List UInt8 := dkwX2_find_0 ++ []
theorem dksX2_find_0 : cX2_find.data.toList.drop 0 = dktX2_find_0 := by decide +kernel
theorem dX2_find_0 : decode cX2_find 0 = .ok (.aload_n 0, 1) := dk_42 (dk_at dksX2_find_0 0 rfl rfl)
theorem dX2_find_1 : decode cX2_find 1 = .ok (.iload_n 1, 1) := dk_27 (dk_at dksX2_find_0 1 rfl rfl)
theorem dX2_find_2 : decode cX2_find 2 = .ok (.iconst (-1), 1) := dk_2 (dk_at dksX2_find_0 2 rfl rfl)
theorem dX2_find_3 : decode cX2_find 3 = .ok (.invokevirtual 107, 3) := dk_182 0 107 (dk_at dksX2_find_0 3 rfl rfl)
theorem dX2_find_6 : decode cX2_find 6 = .ok (.ireturn, 1) := dk_172 (dk_at dksX2_find_0 6 rfl rfl)
abbrev cX2_undo : ByteArray := prog_4_method_29_code
def yX2_undo : MethodName := ⟨RX2, "undo", "()I"⟩
def dkwX2_undo_3 : List UInt8 := [180, 0, 7, 17, 1, 72, 46, 172]
abbrev dktX2_undo_3 : List UInt8 := dkwX2_undo_3 ++ []
def dkwX2_undo_2 : List UInt8 := [16, 49, 42, 180, 0, 7, 17, 1, 72, 46, 104, 96, 27, 96, 46, 79, 132, 1, 1, 167, 255, 217, 42]
abbrev dktX2_undo_2 : List UInt8 := dkwX2_undo_2 ++ dktX2_undo_3
def dkwX2_undo_1 : List UInt8 := [100, 79, 3, 60, 27, 16, 49, 162, 0, 39, 42, 180, 0, 7, 3, 27, 96, 42, 180, 0, 7, 17, 1, 73]
abbrev dktX2_undo_1 : List UInt8 := dkwX2_undo_1 ++ dktX2_undo_2
def dkwX2_undo_0 : List UInt8 := [42, 180, 0, 7, 17, 1, 72, 46, 154, 0, 6, 16, 253, 172, 42, 180, 0, 7, 17, 1, 72, 92, 46, 4]
abbrev dktX2_undo_0 : List UInt8 := dkwX2_undo_0 ++ dktX2_undo_1
theorem dksX2_undo_0 : cX2_undo.data.toList.drop 0 = dktX2_undo_0 := by decide +kernel
theorem dksX2_undo_1 : cX2_undo.data.toList.drop 24 = dktX2_undo_1 := dk_seg dksX2_undo_0 24 rfl rfl
theorem dksX2_undo_2 : cX2_undo.data.toList.drop 48 = dktX2_undo_2 := dk_seg dksX2_undo_1 24 rfl rfl
theorem dksX2_undo_3 : cX2_undo.data.toList.drop 71 = dktX2_undo_3 := dk_seg dksX2_undo_2 23 rfl rfl
theorem dX2_undo_0 : decode cX2_undo 0 = .ok (.aload_n 0, 1) := dk_42 (dk_at dksX2_undo_0 0 rfl rfl)
theorem dX2_undo_1 : decode cX2_undo 1 = .ok (.getfield 7, 3) := dk_180 0 7 (dk_at dksX2_undo_0 1 rfl rfl)
theorem dX2_undo_4 : decode cX2_undo 4 = .ok (.sipush 328, 3) := dk_17 1 72 (dk_at dksX2_undo_0 4 rfl rfl)
theorem dX2_undo_7 : decode cX2_undo 7 = .ok (.iaload, 1) := dk_46 (dk_at dksX2_undo_0 7 rfl rfl)
theorem dX2_undo_8 : decode cX2_undo 8 = .ok (.ifCond .ne 6, 3) := dk_154 0 6 (dk_at dksX2_undo_0 8 rfl rfl)
theorem dX2_undo_11 : decode cX2_undo 11 = .ok (.bipush (-3), 2) := dk_16 253 (dk_at dksX2_undo_0 11 rfl rfl)
theorem dX2_undo_13 : decode cX2_undo 13 = .ok (.ireturn, 1) := dk_172 (dk_at dksX2_undo_0 13 rfl rfl)
theorem dX2_undo_14 : decode cX2_undo 14 = .ok (.aload_n 0, 1) := dk_42 (dk_at dksX2_undo_0 14 rfl rfl)
theorem dX2_undo_15 : decode cX2_undo 15 = .ok (.getfield 7, 3) := dk_180 0 7 (dk_at dksX2_undo_0 15 rfl rfl)
theorem dX2_undo_18 : decode cX2_undo 18 = .ok (.sipush 328, 3) := dk_17 1 72 (dk_at dksX2_undo_0 18 rfl rfl)
theorem dX2_undo_21 : decode cX2_undo 21 = .ok (.dup2, 1) := dk_92 (dk_at dksX2_undo_0 21 rfl rfl)
theorem dX2_undo_22 : decode cX2_undo 22 = .ok (.iaload, 1) := dk_46 (dk_at dksX2_undo_0 22 rfl rfl)
theorem dX2_undo_23 : decode cX2_undo 23 = .ok (.iconst 1, 1) := dk_4 (dk_at dksX2_undo_0 23 rfl rfl)
theorem dX2_undo_24 : decode cX2_undo 24 = .ok (.isub, 1) := dk_100 (dk_at dksX2_undo_1 0 rfl rfl)
theorem dX2_undo_25 : decode cX2_undo 25 = .ok (.iastore, 1) := dk_79 (dk_at dksX2_undo_1 1 rfl rfl)
theorem dX2_undo_26 : decode cX2_undo 26 = .ok (.iconst 0, 1) := dk_3 (dk_at dksX2_undo_1 2 rfl rfl)
theorem dX2_undo_27 : decode cX2_undo 27 = .ok (.istore_n 1, 1) := dk_60 (dk_at dksX2_undo_1 3 rfl rfl)
theorem dX2_undo_28 : decode cX2_undo 28 = .ok (.iload_n 1, 1) := dk_27 (dk_at dksX2_undo_1 4 rfl rfl)
theorem dX2_undo_29 : decode cX2_undo 29 = .ok (.bipush 49, 2) := dk_16 49 (dk_at dksX2_undo_1 5 rfl rfl)
theorem dX2_undo_31 : decode cX2_undo 31 = .ok (.if_icmp .ge 39, 3) := dk_162 0 39 (dk_at dksX2_undo_1 7 rfl rfl)
theorem dX2_undo_34 : decode cX2_undo 34 = .ok (.aload_n 0, 1) := dk_42 (dk_at dksX2_undo_1 10 rfl rfl)
theorem dX2_undo_35 : decode cX2_undo 35 = .ok (.getfield 7, 3) := dk_180 0 7 (dk_at dksX2_undo_1 11 rfl rfl)
theorem dX2_undo_38 : decode cX2_undo 38 = .ok (.iconst 0, 1) := dk_3 (dk_at dksX2_undo_1 14 rfl rfl)
theorem dX2_undo_39 : decode cX2_undo 39 = .ok (.iload_n 1, 1) := dk_27 (dk_at dksX2_undo_1 15 rfl rfl)
theorem dX2_undo_40 : decode cX2_undo 40 = .ok (.iadd, 1) := dk_96 (dk_at dksX2_undo_1 16 rfl rfl)
theorem dX2_undo_41 : decode cX2_undo 41 = .ok (.aload_n 0, 1) := dk_42 (dk_at dksX2_undo_1 17 rfl rfl)
theorem dX2_undo_42 : decode cX2_undo 42 = .ok (.getfield 7, 3) := dk_180 0 7 (dk_at dksX2_undo_1 18 rfl rfl)
theorem dX2_undo_45 : decode cX2_undo 45 = .ok (.sipush 329, 3) := dk_17 1 73 (dk_at dksX2_undo_1 21 rfl rfl)
theorem dX2_undo_48 : decode cX2_undo 48 = .ok (.bipush 49, 2) := dk_16 49 (dk_at dksX2_undo_2 0 rfl rfl)
theorem dX2_undo_50 : decode cX2_undo 50 = .ok (.aload_n 0, 1) := dk_42 (dk_at dksX2_undo_2 2 rfl rfl)
theorem dX2_undo_51 : decode cX2_undo 51 = .ok (.getfield 7, 3) := dk_180 0 7 (dk_at dksX2_undo_2 3 rfl rfl)
theorem dX2_undo_54 : decode cX2_undo 54 = .ok (.sipush 328, 3) := dk_17 1 72 (dk_at dksX2_undo_2 6 rfl rfl)
theorem dX2_undo_57 : decode cX2_undo 57 = .ok (.iaload, 1) := dk_46 (dk_at dksX2_undo_2 9 rfl rfl)
theorem dX2_undo_58 : decode cX2_undo 58 = .ok (.imul, 1) := dk_104 (dk_at dksX2_undo_2 10 rfl rfl)
theorem dX2_undo_59 : decode cX2_undo 59 = .ok (.iadd, 1) := dk_96 (dk_at dksX2_undo_2 11 rfl rfl)
theorem dX2_undo_60 : decode cX2_undo 60 = .ok (.iload_n 1, 1) := dk_27 (dk_at dksX2_undo_2 12 rfl rfl)
theorem dX2_undo_61 : decode cX2_undo 61 = .ok (.iadd, 1) := dk_96 (dk_at dksX2_undo_2 13 rfl rfl)
theorem dX2_undo_62 : decode cX2_undo 62 = .ok (.iaload, 1) := dk_46 (dk_at dksX2_undo_2 14 rfl rfl)
theorem dX2_undo_63 : decode cX2_undo 63 = .ok (.iastore, 1) := dk_79 (dk_at dksX2_undo_2 15 rfl rfl)
theorem dX2_undo_64 : decode cX2_undo 64 = .ok (.iinc 1 1, 3) := dk_132 1 1 (dk_at dksX2_undo_2 16 rfl rfl)
theorem dX2_undo_67 : decode cX2_undo 67 = .ok (.goto (-39), 3) := dk_167 255 217 (dk_at dksX2_undo_2 19 rfl rfl)
theorem dX2_undo_70 : decode cX2_undo 70 = .ok (.aload_n 0, 1) := dk_42 (dk_at dksX2_undo_2 22 rfl rfl)
theorem dX2_undo_71 : decode cX2_undo 71 = .ok (.getfield 7, 3) := dk_180 0 7 (dk_at dksX2_undo_3 0 rfl rfl)
theorem dX2_undo_74 : decode cX2_undo 74 = .ok (.sipush 328, 3) := dk_17 1 72 (dk_at dksX2_undo_3 3 rfl rfl)
theorem dX2_undo_77 : decode cX2_undo 77 = .ok (.iaload, 1) := dk_46 (dk_at dksX2_undo_3 6 rfl rfl)
theorem dX2_undo_78 : decode cX2_undo 78 = .ok (.ireturn, 1) := dk_172 (dk_at dksX2_undo_3 7 rfl rfl)
abbrev cX2_times : ByteArray := prog_4_method_30_code
def yX2_times : MethodName := ⟨RX2, "times", "(I)I"⟩
def dkwX2_times_2 : List UInt8 := [28, 172]
abbrev dktX2_times_2 : List UInt8 := dkwX2_times_2 ++ []
def dkwX2_times_1 : List UInt8 := [180, 0, 7, 3, 29, 96, 46, 27, 160, 0, 7, 4, 167, 0, 4, 3, 96, 61, 132, 3, 1, 167, 255, 225]
abbrev dktX2_times_1 : List UInt8 := dkwX2_times_1 ++ dktX2_times_2
def dkwX2_times_0 : List UInt8 := [27, 184, 0, 49, 154, 0, 6, 16, 254, 172, 3, 61, 3, 62, 29, 42, 182, 0, 57, 162, 0, 29, 28, 42]
abbrev dktX2_times_0 : List UInt8 := dkwX2_times_0 ++ dktX2_times_1
theorem dksX2_times_0 : cX2_times.data.toList.drop 0 = dktX2_times_0 := by decide +kernel
theorem dksX2_times_1 : cX2_times.data.toList.drop 24 = dktX2_times_1 := dk_seg dksX2_times_0 24 rfl rfl
theorem dksX2_times_2 : cX2_times.data.toList.drop 48 = dktX2_times_2 := dk_seg dksX2_times_1 24 rfl rfl
theorem dX2_times_0 : decode cX2_times 0 = .ok (.iload_n 1, 1) := dk_27 (dk_at dksX2_times_0 0 rfl rfl)
theorem dX2_times_1 : decode cX2_times 1 = .ok (.invokestatic 49, 3) := dk_184 0 49 (dk_at dksX2_times_0 1 rfl rfl)
theorem dX2_times_4 : decode cX2_times 4 = .ok (.ifCond .ne 6, 3) := dk_154 0 6 (dk_at dksX2_times_0 4 rfl rfl)
theorem dX2_times_7 : decode cX2_times 7 = .ok (.bipush (-2), 2) := dk_16 254 (dk_at dksX2_times_0 7 rfl rfl)
theorem dX2_times_9 : decode cX2_times 9 = .ok (.ireturn, 1) := dk_172 (dk_at dksX2_times_0 9 rfl rfl)
theorem dX2_times_10 : decode cX2_times 10 = .ok (.iconst 0, 1) := dk_3 (dk_at dksX2_times_0 10 rfl rfl)
theorem dX2_times_11 : decode cX2_times 11 = .ok (.istore_n 2, 1) := dk_61 (dk_at dksX2_times_0 11 rfl rfl)
theorem dX2_times_12 : decode cX2_times 12 = .ok (.iconst 0, 1) := dk_3 (dk_at dksX2_times_0 12 rfl rfl)
theorem dX2_times_13 : decode cX2_times 13 = .ok (.istore_n 3, 1) := dk_62 (dk_at dksX2_times_0 13 rfl rfl)
theorem dX2_times_14 : decode cX2_times 14 = .ok (.iload_n 3, 1) := dk_29 (dk_at dksX2_times_0 14 rfl rfl)
theorem dX2_times_15 : decode cX2_times 15 = .ok (.aload_n 0, 1) := dk_42 (dk_at dksX2_times_0 15 rfl rfl)
theorem dX2_times_16 : decode cX2_times 16 = .ok (.invokevirtual 57, 3) := dk_182 0 57 (dk_at dksX2_times_0 16 rfl rfl)
theorem dX2_times_19 : decode cX2_times 19 = .ok (.if_icmp .ge 29, 3) := dk_162 0 29 (dk_at dksX2_times_0 19 rfl rfl)
theorem dX2_times_22 : decode cX2_times 22 = .ok (.iload_n 2, 1) := dk_28 (dk_at dksX2_times_0 22 rfl rfl)
theorem dX2_times_23 : decode cX2_times 23 = .ok (.aload_n 0, 1) := dk_42 (dk_at dksX2_times_0 23 rfl rfl)
theorem dX2_times_24 : decode cX2_times 24 = .ok (.getfield 7, 3) := dk_180 0 7 (dk_at dksX2_times_1 0 rfl rfl)
theorem dX2_times_27 : decode cX2_times 27 = .ok (.iconst 0, 1) := dk_3 (dk_at dksX2_times_1 3 rfl rfl)
theorem dX2_times_28 : decode cX2_times 28 = .ok (.iload_n 3, 1) := dk_29 (dk_at dksX2_times_1 4 rfl rfl)
theorem dX2_times_29 : decode cX2_times 29 = .ok (.iadd, 1) := dk_96 (dk_at dksX2_times_1 5 rfl rfl)
theorem dX2_times_30 : decode cX2_times 30 = .ok (.iaload, 1) := dk_46 (dk_at dksX2_times_1 6 rfl rfl)
theorem dX2_times_31 : decode cX2_times 31 = .ok (.iload_n 1, 1) := dk_27 (dk_at dksX2_times_1 7 rfl rfl)
theorem dX2_times_32 : decode cX2_times 32 = .ok (.if_icmp .ne 7, 3) := dk_160 0 7 (dk_at dksX2_times_1 8 rfl rfl)
theorem dX2_times_35 : decode cX2_times 35 = .ok (.iconst 1, 1) := dk_4 (dk_at dksX2_times_1 11 rfl rfl)
theorem dX2_times_36 : decode cX2_times 36 = .ok (.goto 4, 3) := dk_167 0 4 (dk_at dksX2_times_1 12 rfl rfl)
theorem dX2_times_39 : decode cX2_times 39 = .ok (.iconst 0, 1) := dk_3 (dk_at dksX2_times_1 15 rfl rfl)
theorem dX2_times_40 : decode cX2_times 40 = .ok (.iadd, 1) := dk_96 (dk_at dksX2_times_1 16 rfl rfl)
theorem dX2_times_41 : decode cX2_times 41 = .ok (.istore_n 2, 1) := dk_61 (dk_at dksX2_times_1 17 rfl rfl)
theorem dX2_times_42 : decode cX2_times 42 = .ok (.iinc 3 1, 3) := dk_132 3 1 (dk_at dksX2_times_1 18 rfl rfl)
theorem dX2_times_45 : decode cX2_times 45 = .ok (.goto (-31), 3) := dk_167 255 225 (dk_at dksX2_times_1 21 rfl rfl)
theorem dX2_times_48 : decode cX2_times 48 = .ok (.iload_n 2, 1) := dk_28 (dk_at dksX2_times_2 0 rfl rfl)
theorem dX2_times_49 : decode cX2_times 49 = .ok (.ireturn, 1) := dk_172 (dk_at dksX2_times_2 1 rfl rfl)
abbrev cX2_same : ByteArray := prog_4_method_32_code
def yX2_same : MethodName := ⟨RX2, "same", "(I)I"⟩
def dkwX2_same_0 : List UInt8 := [27, 4, 16, 47, 184, 0, 41, 153, 0, 11, 42, 27, 182, 0, 110, 167, 0, 5, 16, 254, 172]
abbrev dktX2_same_0 : List UInt8 := dkwX2_same_0 ++ []
theorem dksX2_same_0 : cX2_same.data.toList.drop 0 = dktX2_same_0 := by decide +kernel
theorem dX2_same_0 : decode cX2_same 0 = .ok (.iload_n 1, 1) := dk_27 (dk_at dksX2_same_0 0 rfl rfl)
theorem dX2_same_1 : decode cX2_same 1 = .ok (.iconst 1, 1) := dk_4 (dk_at dksX2_same_0 1 rfl rfl)
theorem dX2_same_2 : decode cX2_same 2 = .ok (.bipush 47, 2) := dk_16 47 (dk_at dksX2_same_0 2 rfl rfl)
theorem dX2_same_4 : decode cX2_same 4 = .ok (.invokestatic 41, 3) := dk_184 0 41 (dk_at dksX2_same_0 4 rfl rfl)
theorem dX2_same_7 : decode cX2_same 7 = .ok (.ifCond .eq 11, 3) := dk_153 0 11 (dk_at dksX2_same_0 7 rfl rfl)
theorem dX2_same_10 : decode cX2_same 10 = .ok (.aload_n 0, 1) := dk_42 (dk_at dksX2_same_0 10 rfl rfl)
theorem dX2_same_11 : decode cX2_same 11 = .ok (.iload_n 1, 1) := dk_27 (dk_at dksX2_same_0 11 rfl rfl)
theorem dX2_same_12 : decode cX2_same 12 = .ok (.invokevirtual 110, 3) := dk_182 0 110 (dk_at dksX2_same_0 12 rfl rfl)
theorem dX2_same_15 : decode cX2_same 15 = .ok (.goto 5, 3) := dk_167 0 5 (dk_at dksX2_same_0 15 rfl rfl)
theorem dX2_same_18 : decode cX2_same 18 = .ok (.bipush (-2), 2) := dk_16 254 (dk_at dksX2_same_0 18 rfl rfl)
theorem dX2_same_20 : decode cX2_same 20 = .ok (.ireturn, 1) := dk_172 (dk_at dksX2_same_0 20 rfl rfl)
abbrev cX2_sameAt : ByteArray := prog_4_method_31_code
def yX2_sameAt : MethodName := ⟨RX2, "sameAt", "(I)I"⟩
def dkwX2_sameAt_2 : List UInt8 := [167, 255, 214, 28, 172]
abbrev dktX2_sameAt_2 : List UInt8 := dkwX2_sameAt_2 ++ []
def dkwX2_sameAt_1 : List UInt8 := [180, 0, 7, 3, 29, 96, 27, 96, 46, 160, 0, 7, 4, 167, 0, 4, 3, 96, 61, 132, 3, 1]
abbrev dktX2_sameAt_1 : List UInt8 := dkwX2_sameAt_1 ++ dktX2_sameAt_2
def dkwX2_sameAt_0 : List UInt8 := [3, 61, 3, 62, 29, 27, 96, 42, 182, 0, 57, 162, 0, 38, 28, 42, 180, 0, 7, 3, 29, 96, 46, 42]
abbrev dktX2_sameAt_0 : List UInt8 := dkwX2_sameAt_0 ++ dktX2_sameAt_1
theorem dksX2_sameAt_0 : cX2_sameAt.data.toList.drop 0 = dktX2_sameAt_0 := by decide +kernel
theorem dksX2_sameAt_1 : cX2_sameAt.data.toList.drop 24 = dktX2_sameAt_1 := dk_seg dksX2_sameAt_0 24 rfl rfl
theorem dksX2_sameAt_2 : cX2_sameAt.data.toList.drop 46 = dktX2_sameAt_2 := dk_seg dksX2_sameAt_1 22 rfl rfl
theorem dX2_sameAt_0 : decode cX2_sameAt 0 = .ok (.iconst 0, 1) := dk_3 (dk_at dksX2_sameAt_0 0 rfl rfl)
theorem dX2_sameAt_1 : decode cX2_sameAt 1 = .ok (.istore_n 2, 1) := dk_61 (dk_at dksX2_sameAt_0 1 rfl rfl)
theorem dX2_sameAt_2 : decode cX2_sameAt 2 = .ok (.iconst 0, 1) := dk_3 (dk_at dksX2_sameAt_0 2 rfl rfl)
theorem dX2_sameAt_3 : decode cX2_sameAt 3 = .ok (.istore_n 3, 1) := dk_62 (dk_at dksX2_sameAt_0 3 rfl rfl)
theorem dX2_sameAt_4 : decode cX2_sameAt 4 = .ok (.iload_n 3, 1) := dk_29 (dk_at dksX2_sameAt_0 4 rfl rfl)
theorem dX2_sameAt_5 : decode cX2_sameAt 5 = .ok (.iload_n 1, 1) := dk_27 (dk_at dksX2_sameAt_0 5 rfl rfl)
theorem dX2_sameAt_6 : decode cX2_sameAt 6 = .ok (.iadd, 1) := dk_96 (dk_at dksX2_sameAt_0 6 rfl rfl)
theorem dX2_sameAt_7 : decode cX2_sameAt 7 = .ok (.aload_n 0, 1) := dk_42 (dk_at dksX2_sameAt_0 7 rfl rfl)
theorem dX2_sameAt_8 : decode cX2_sameAt 8 = .ok (.invokevirtual 57, 3) := dk_182 0 57 (dk_at dksX2_sameAt_0 8 rfl rfl)
theorem dX2_sameAt_11 : decode cX2_sameAt 11 = .ok (.if_icmp .ge 38, 3) := dk_162 0 38 (dk_at dksX2_sameAt_0 11 rfl rfl)
theorem dX2_sameAt_14 : decode cX2_sameAt 14 = .ok (.iload_n 2, 1) := dk_28 (dk_at dksX2_sameAt_0 14 rfl rfl)
theorem dX2_sameAt_15 : decode cX2_sameAt 15 = .ok (.aload_n 0, 1) := dk_42 (dk_at dksX2_sameAt_0 15 rfl rfl)
theorem dX2_sameAt_16 : decode cX2_sameAt 16 = .ok (.getfield 7, 3) := dk_180 0 7 (dk_at dksX2_sameAt_0 16 rfl rfl)
theorem dX2_sameAt_19 : decode cX2_sameAt 19 = .ok (.iconst 0, 1) := dk_3 (dk_at dksX2_sameAt_0 19 rfl rfl)
theorem dX2_sameAt_20 : decode cX2_sameAt 20 = .ok (.iload_n 3, 1) := dk_29 (dk_at dksX2_sameAt_0 20 rfl rfl)
theorem dX2_sameAt_21 : decode cX2_sameAt 21 = .ok (.iadd, 1) := dk_96 (dk_at dksX2_sameAt_0 21 rfl rfl)
theorem dX2_sameAt_22 : decode cX2_sameAt 22 = .ok (.iaload, 1) := dk_46 (dk_at dksX2_sameAt_0 22 rfl rfl)
theorem dX2_sameAt_23 : decode cX2_sameAt 23 = .ok (.aload_n 0, 1) := dk_42 (dk_at dksX2_sameAt_0 23 rfl rfl)
theorem dX2_sameAt_24 : decode cX2_sameAt 24 = .ok (.getfield 7, 3) := dk_180 0 7 (dk_at dksX2_sameAt_1 0 rfl rfl)
theorem dX2_sameAt_27 : decode cX2_sameAt 27 = .ok (.iconst 0, 1) := dk_3 (dk_at dksX2_sameAt_1 3 rfl rfl)
theorem dX2_sameAt_28 : decode cX2_sameAt 28 = .ok (.iload_n 3, 1) := dk_29 (dk_at dksX2_sameAt_1 4 rfl rfl)
theorem dX2_sameAt_29 : decode cX2_sameAt 29 = .ok (.iadd, 1) := dk_96 (dk_at dksX2_sameAt_1 5 rfl rfl)
theorem dX2_sameAt_30 : decode cX2_sameAt 30 = .ok (.iload_n 1, 1) := dk_27 (dk_at dksX2_sameAt_1 6 rfl rfl)
theorem dX2_sameAt_31 : decode cX2_sameAt 31 = .ok (.iadd, 1) := dk_96 (dk_at dksX2_sameAt_1 7 rfl rfl)
theorem dX2_sameAt_32 : decode cX2_sameAt 32 = .ok (.iaload, 1) := dk_46 (dk_at dksX2_sameAt_1 8 rfl rfl)
theorem dX2_sameAt_33 : decode cX2_sameAt 33 = .ok (.if_icmp .ne 7, 3) := dk_160 0 7 (dk_at dksX2_sameAt_1 9 rfl rfl)
theorem dX2_sameAt_36 : decode cX2_sameAt 36 = .ok (.iconst 1, 1) := dk_4 (dk_at dksX2_sameAt_1 12 rfl rfl)
theorem dX2_sameAt_37 : decode cX2_sameAt 37 = .ok (.goto 4, 3) := dk_167 0 4 (dk_at dksX2_sameAt_1 13 rfl rfl)
theorem dX2_sameAt_40 : decode cX2_sameAt 40 = .ok (.iconst 0, 1) := dk_3 (dk_at dksX2_sameAt_1 16 rfl rfl)
theorem dX2_sameAt_41 : decode cX2_sameAt 41 = .ok (.iadd, 1) := dk_96 (dk_at dksX2_sameAt_1 17 rfl rfl)
theorem dX2_sameAt_42 : decode cX2_sameAt 42 = .ok (.istore_n 2, 1) := dk_61 (dk_at dksX2_sameAt_1 18 rfl rfl)
theorem dX2_sameAt_43 : decode cX2_sameAt 43 = .ok (.iinc 3 1, 3) := dk_132 3 1 (dk_at dksX2_sameAt_1 19 rfl rfl)
theorem dX2_sameAt_46 : decode cX2_sameAt 46 = .ok (.goto (-42), 3) := dk_167 255 214 (dk_at dksX2_sameAt_2 0 rfl rfl)
theorem dX2_sameAt_49 : decode cX2_sameAt 49 = .ok (.iload_n 2, 1) := dk_28 (dk_at dksX2_sameAt_2 3 rfl rfl)
theorem dX2_sameAt_50 : decode cX2_sameAt 50 = .ok (.ireturn, 1) := dk_172 (dk_at dksX2_sameAt_2 4 rfl rfl)
abbrev cX2_length : ByteArray := prog_4_method_33_code
def yX2_length : MethodName := ⟨RX2, "length", "(I)I"⟩
def dkwX2_length_3 : List UInt8 := [153, 0, 7, 29, 167, 0, 4, 28, 61, 132, 3, 1, 167, 255, 191, 28, 172]
abbrev dktX2_length_3 : List UInt8 := dkwX2_length_3 ++ []
def dkwX2_length_2 : List UInt8 := [28, 182, 0, 110, 42, 182, 0, 57, 29, 100, 104, 164, 0, 7, 4, 167, 0, 4, 3, 54, 4, 21, 4]
abbrev dktX2_length_2 : List UInt8 := dkwX2_length_2 ++ dktX2_length_3
def dkwX2_length_1 : List UInt8 := [42, 182, 0, 57, 162, 0, 58, 28, 155, 0, 30, 42, 29, 182, 0, 110, 42, 182, 0, 57, 28, 100, 104, 42]
abbrev dktX2_length_1 : List UInt8 := dkwX2_length_1 ++ dktX2_length_2
def dkwX2_length_0 : List UInt8 := [27, 4, 16, 20, 184, 0, 41, 154, 0, 6, 16, 254, 172, 16, 250, 61, 4, 62, 29, 27, 163, 0, 66, 29]
abbrev dktX2_length_0 : List UInt8 := dkwX2_length_0 ++ dktX2_length_1
theorem dksX2_length_0 : cX2_length.data.toList.drop 0 = dktX2_length_0 := by decide +kernel
theorem dksX2_length_1 : cX2_length.data.toList.drop 24 = dktX2_length_1 := dk_seg dksX2_length_0 24 rfl rfl
theorem dksX2_length_2 : cX2_length.data.toList.drop 48 = dktX2_length_2 := dk_seg dksX2_length_1 24 rfl rfl
theorem dksX2_length_3 : cX2_length.data.toList.drop 71 = dktX2_length_3 := dk_seg dksX2_length_2 23 rfl rfl
theorem dX2_length_0 : decode cX2_length 0 = .ok (.iload_n 1, 1) := dk_27 (dk_at dksX2_length_0 0 rfl rfl)
theorem dX2_length_1 : decode cX2_length 1 = .ok (.iconst 1, 1) := dk_4 (dk_at dksX2_length_0 1 rfl rfl)
theorem dX2_length_2 : decode cX2_length 2 = .ok (.bipush 20, 2) := dk_16 20 (dk_at dksX2_length_0 2 rfl rfl)
theorem dX2_length_4 : decode cX2_length 4 = .ok (.invokestatic 41, 3) := dk_184 0 41 (dk_at dksX2_length_0 4 rfl rfl)
theorem dX2_length_7 : decode cX2_length 7 = .ok (.ifCond .ne 6, 3) := dk_154 0 6 (dk_at dksX2_length_0 7 rfl rfl)
theorem dX2_length_10 : decode cX2_length 10 = .ok (.bipush (-2), 2) := dk_16 254 (dk_at dksX2_length_0 10 rfl rfl)
theorem dX2_length_12 : decode cX2_length 12 = .ok (.ireturn, 1) := dk_172 (dk_at dksX2_length_0 12 rfl rfl)
theorem dX2_length_13 : decode cX2_length 13 = .ok (.bipush (-6), 2) := dk_16 250 (dk_at dksX2_length_0 13 rfl rfl)
theorem dX2_length_15 : decode cX2_length 15 = .ok (.istore_n 2, 1) := dk_61 (dk_at dksX2_length_0 15 rfl rfl)
theorem dX2_length_16 : decode cX2_length 16 = .ok (.iconst 1, 1) := dk_4 (dk_at dksX2_length_0 16 rfl rfl)
theorem dX2_length_17 : decode cX2_length 17 = .ok (.istore_n 3, 1) := dk_62 (dk_at dksX2_length_0 17 rfl rfl)
theorem dX2_length_18 : decode cX2_length 18 = .ok (.iload_n 3, 1) := dk_29 (dk_at dksX2_length_0 18 rfl rfl)
theorem dX2_length_19 : decode cX2_length 19 = .ok (.iload_n 1, 1) := dk_27 (dk_at dksX2_length_0 19 rfl rfl)
theorem dX2_length_20 : decode cX2_length 20 = .ok (.if_icmp .gt 66, 3) := dk_163 0 66 (dk_at dksX2_length_0 20 rfl rfl)
theorem dX2_length_23 : decode cX2_length 23 = .ok (.iload_n 3, 1) := dk_29 (dk_at dksX2_length_0 23 rfl rfl)
theorem dX2_length_24 : decode cX2_length 24 = .ok (.aload_n 0, 1) := dk_42 (dk_at dksX2_length_1 0 rfl rfl)
theorem dX2_length_25 : decode cX2_length 25 = .ok (.invokevirtual 57, 3) := dk_182 0 57 (dk_at dksX2_length_1 1 rfl rfl)
theorem dX2_length_28 : decode cX2_length 28 = .ok (.if_icmp .ge 58, 3) := dk_162 0 58 (dk_at dksX2_length_1 4 rfl rfl)
theorem dX2_length_31 : decode cX2_length 31 = .ok (.iload_n 2, 1) := dk_28 (dk_at dksX2_length_1 7 rfl rfl)
theorem dX2_length_32 : decode cX2_length 32 = .ok (.ifCond .lt 30, 3) := dk_155 0 30 (dk_at dksX2_length_1 8 rfl rfl)
theorem dX2_length_35 : decode cX2_length 35 = .ok (.aload_n 0, 1) := dk_42 (dk_at dksX2_length_1 11 rfl rfl)
theorem dX2_length_36 : decode cX2_length 36 = .ok (.iload_n 3, 1) := dk_29 (dk_at dksX2_length_1 12 rfl rfl)
theorem dX2_length_37 : decode cX2_length 37 = .ok (.invokevirtual 110, 3) := dk_182 0 110 (dk_at dksX2_length_1 13 rfl rfl)
theorem dX2_length_40 : decode cX2_length 40 = .ok (.aload_n 0, 1) := dk_42 (dk_at dksX2_length_1 16 rfl rfl)
theorem dX2_length_41 : decode cX2_length 41 = .ok (.invokevirtual 57, 3) := dk_182 0 57 (dk_at dksX2_length_1 17 rfl rfl)
theorem dX2_length_44 : decode cX2_length 44 = .ok (.iload_n 2, 1) := dk_28 (dk_at dksX2_length_1 20 rfl rfl)
theorem dX2_length_45 : decode cX2_length 45 = .ok (.isub, 1) := dk_100 (dk_at dksX2_length_1 21 rfl rfl)
theorem dX2_length_46 : decode cX2_length 46 = .ok (.imul, 1) := dk_104 (dk_at dksX2_length_1 22 rfl rfl)
theorem dX2_length_47 : decode cX2_length 47 = .ok (.aload_n 0, 1) := dk_42 (dk_at dksX2_length_1 23 rfl rfl)
theorem dX2_length_48 : decode cX2_length 48 = .ok (.iload_n 2, 1) := dk_28 (dk_at dksX2_length_2 0 rfl rfl)
theorem dX2_length_49 : decode cX2_length 49 = .ok (.invokevirtual 110, 3) := dk_182 0 110 (dk_at dksX2_length_2 1 rfl rfl)
theorem dX2_length_52 : decode cX2_length 52 = .ok (.aload_n 0, 1) := dk_42 (dk_at dksX2_length_2 4 rfl rfl)
theorem dX2_length_53 : decode cX2_length 53 = .ok (.invokevirtual 57, 3) := dk_182 0 57 (dk_at dksX2_length_2 5 rfl rfl)
theorem dX2_length_56 : decode cX2_length 56 = .ok (.iload_n 3, 1) := dk_29 (dk_at dksX2_length_2 8 rfl rfl)
theorem dX2_length_57 : decode cX2_length 57 = .ok (.isub, 1) := dk_100 (dk_at dksX2_length_2 9 rfl rfl)
theorem dX2_length_58 : decode cX2_length 58 = .ok (.imul, 1) := dk_104 (dk_at dksX2_length_2 10 rfl rfl)
theorem dX2_length_59 : decode cX2_length 59 = .ok (.if_icmp .le 7, 3) := dk_164 0 7 (dk_at dksX2_length_2 11 rfl rfl)
theorem dX2_length_62 : decode cX2_length 62 = .ok (.iconst 1, 1) := dk_4 (dk_at dksX2_length_2 14 rfl rfl)
theorem dX2_length_63 : decode cX2_length 63 = .ok (.goto 4, 3) := dk_167 0 4 (dk_at dksX2_length_2 15 rfl rfl)
theorem dX2_length_66 : decode cX2_length 66 = .ok (.iconst 0, 1) := dk_3 (dk_at dksX2_length_2 18 rfl rfl)
theorem dX2_length_67 : decode cX2_length 67 = .ok (.istore 4, 2) := dk_54 4 (dk_at dksX2_length_2 19 rfl rfl)
theorem dX2_length_69 : decode cX2_length 69 = .ok (.iload 4, 2) := dk_21 4 (dk_at dksX2_length_2 21 rfl rfl)
theorem dX2_length_71 : decode cX2_length 71 = .ok (.ifCond .eq 7, 3) := dk_153 0 7 (dk_at dksX2_length_3 0 rfl rfl)
theorem dX2_length_74 : decode cX2_length 74 = .ok (.iload_n 3, 1) := dk_29 (dk_at dksX2_length_3 3 rfl rfl)
theorem dX2_length_75 : decode cX2_length 75 = .ok (.goto 4, 3) := dk_167 0 4 (dk_at dksX2_length_3 4 rfl rfl)
theorem dX2_length_78 : decode cX2_length 78 = .ok (.iload_n 2, 1) := dk_28 (dk_at dksX2_length_3 7 rfl rfl)
theorem dX2_length_79 : decode cX2_length 79 = .ok (.istore_n 2, 1) := dk_61 (dk_at dksX2_length_3 8 rfl rfl)
theorem dX2_length_80 : decode cX2_length 80 = .ok (.iinc 3 1, 3) := dk_132 3 1 (dk_at dksX2_length_3 9 rfl rfl)
theorem dX2_length_83 : decode cX2_length 83 = .ok (.goto (-65), 3) := dk_167 255 191 (dk_at dksX2_length_3 12 rfl rfl)
theorem dX2_length_86 : decode cX2_length 86 = .ok (.iload_n 2, 1) := dk_28 (dk_at dksX2_length_3 15 rfl rfl)
theorem dX2_length_87 : decode cX2_length 87 = .ok (.ireturn, 1) := dk_172 (dk_at dksX2_length_3 16 rfl rfl)
abbrev cX2_shift : ByteArray := prog_4_method_36_code
def yX2_shift : MethodName := ⟨RX2, "shift", "(IIII)I"⟩
def dkwX2_shift_3 : List UInt8 := [21, 5, 167, 0, 11, 42, 27, 28, 21, 5, 182, 0, 113, 172]
abbrev dktX2_shift_3 : List UInt8 := dkwX2_shift_3 ++ []
def dkwX2_shift_2 : List UInt8 := [42, 27, 28, 21, 5, 182, 0, 117, 29, 159, 0, 9, 132, 5, 1, 167, 255, 241, 21, 4, 154, 0, 8]
abbrev dktX2_shift_2 : List UInt8 := dkwX2_shift_2 ++ dktX2_shift_3
def dkwX2_shift_1 : List UInt8 := [16, 15, 184, 0, 41, 153, 0, 13, 21, 4, 3, 4, 184, 0, 41, 154, 0, 6, 16, 254, 172, 3, 54, 5]
abbrev dktX2_shift_1 : List UInt8 := dkwX2_shift_1 ++ dktX2_shift_2
def dkwX2_shift_0 : List UInt8 := [27, 4, 16, 8, 184, 0, 41, 153, 0, 34, 28, 3, 27, 4, 100, 184, 0, 41, 153, 0, 23, 29, 3]
abbrev dktX2_shift_0 : List UInt8 := dkwX2_shift_0 ++ dktX2_shift_1
theorem dksX2_shift_0 : cX2_shift.data.toList.drop 0 = dktX2_shift_0 := by decide +kernel
theorem dksX2_shift_1 : cX2_shift.data.toList.drop 23 = dktX2_shift_1 := dk_seg dksX2_shift_0 23 rfl rfl
theorem dksX2_shift_2 : cX2_shift.data.toList.drop 47 = dktX2_shift_2 := dk_seg dksX2_shift_1 24 rfl rfl
theorem dksX2_shift_3 : cX2_shift.data.toList.drop 70 = dktX2_shift_3 := dk_seg dksX2_shift_2 23 rfl rfl
theorem dX2_shift_0 : decode cX2_shift 0 = .ok (.iload_n 1, 1) := dk_27 (dk_at dksX2_shift_0 0 rfl rfl)
theorem dX2_shift_1 : decode cX2_shift 1 = .ok (.iconst 1, 1) := dk_4 (dk_at dksX2_shift_0 1 rfl rfl)
theorem dX2_shift_2 : decode cX2_shift 2 = .ok (.bipush 8, 2) := dk_16 8 (dk_at dksX2_shift_0 2 rfl rfl)
theorem dX2_shift_4 : decode cX2_shift 4 = .ok (.invokestatic 41, 3) := dk_184 0 41 (dk_at dksX2_shift_0 4 rfl rfl)
theorem dX2_shift_7 : decode cX2_shift 7 = .ok (.ifCond .eq 34, 3) := dk_153 0 34 (dk_at dksX2_shift_0 7 rfl rfl)
theorem dX2_shift_10 : decode cX2_shift 10 = .ok (.iload_n 2, 1) := dk_28 (dk_at dksX2_shift_0 10 rfl rfl)
theorem dX2_shift_11 : decode cX2_shift 11 = .ok (.iconst 0, 1) := dk_3 (dk_at dksX2_shift_0 11 rfl rfl)
theorem dX2_shift_12 : decode cX2_shift 12 = .ok (.iload_n 1, 1) := dk_27 (dk_at dksX2_shift_0 12 rfl rfl)
theorem dX2_shift_13 : decode cX2_shift 13 = .ok (.iconst 1, 1) := dk_4 (dk_at dksX2_shift_0 13 rfl rfl)
theorem dX2_shift_14 : decode cX2_shift 14 = .ok (.isub, 1) := dk_100 (dk_at dksX2_shift_0 14 rfl rfl)
theorem dX2_shift_15 : decode cX2_shift 15 = .ok (.invokestatic 41, 3) := dk_184 0 41 (dk_at dksX2_shift_0 15 rfl rfl)
theorem dX2_shift_18 : decode cX2_shift 18 = .ok (.ifCond .eq 23, 3) := dk_153 0 23 (dk_at dksX2_shift_0 18 rfl rfl)
theorem dX2_shift_21 : decode cX2_shift 21 = .ok (.iload_n 3, 1) := dk_29 (dk_at dksX2_shift_0 21 rfl rfl)
theorem dX2_shift_22 : decode cX2_shift 22 = .ok (.iconst 0, 1) := dk_3 (dk_at dksX2_shift_0 22 rfl rfl)
theorem dX2_shift_23 : decode cX2_shift 23 = .ok (.bipush 15, 2) := dk_16 15 (dk_at dksX2_shift_1 0 rfl rfl)
theorem dX2_shift_25 : decode cX2_shift 25 = .ok (.invokestatic 41, 3) := dk_184 0 41 (dk_at dksX2_shift_1 2 rfl rfl)
theorem dX2_shift_28 : decode cX2_shift 28 = .ok (.ifCond .eq 13, 3) := dk_153 0 13 (dk_at dksX2_shift_1 5 rfl rfl)
theorem dX2_shift_31 : decode cX2_shift 31 = .ok (.iload 4, 2) := dk_21 4 (dk_at dksX2_shift_1 8 rfl rfl)
theorem dX2_shift_33 : decode cX2_shift 33 = .ok (.iconst 0, 1) := dk_3 (dk_at dksX2_shift_1 10 rfl rfl)
theorem dX2_shift_34 : decode cX2_shift 34 = .ok (.iconst 1, 1) := dk_4 (dk_at dksX2_shift_1 11 rfl rfl)
theorem dX2_shift_35 : decode cX2_shift 35 = .ok (.invokestatic 41, 3) := dk_184 0 41 (dk_at dksX2_shift_1 12 rfl rfl)
theorem dX2_shift_38 : decode cX2_shift 38 = .ok (.ifCond .ne 6, 3) := dk_154 0 6 (dk_at dksX2_shift_1 15 rfl rfl)
theorem dX2_shift_41 : decode cX2_shift 41 = .ok (.bipush (-2), 2) := dk_16 254 (dk_at dksX2_shift_1 18 rfl rfl)
theorem dX2_shift_43 : decode cX2_shift 43 = .ok (.ireturn, 1) := dk_172 (dk_at dksX2_shift_1 20 rfl rfl)
theorem dX2_shift_44 : decode cX2_shift 44 = .ok (.iconst 0, 1) := dk_3 (dk_at dksX2_shift_1 21 rfl rfl)
theorem dX2_shift_45 : decode cX2_shift 45 = .ok (.istore 5, 2) := dk_54 5 (dk_at dksX2_shift_1 22 rfl rfl)
theorem dX2_shift_47 : decode cX2_shift 47 = .ok (.aload_n 0, 1) := dk_42 (dk_at dksX2_shift_2 0 rfl rfl)
theorem dX2_shift_48 : decode cX2_shift 48 = .ok (.iload_n 1, 1) := dk_27 (dk_at dksX2_shift_2 1 rfl rfl)
theorem dX2_shift_49 : decode cX2_shift 49 = .ok (.iload_n 2, 1) := dk_28 (dk_at dksX2_shift_2 2 rfl rfl)
theorem dX2_shift_50 : decode cX2_shift 50 = .ok (.iload 5, 2) := dk_21 5 (dk_at dksX2_shift_2 3 rfl rfl)
theorem dX2_shift_52 : decode cX2_shift 52 = .ok (.invokevirtual 117, 3) := dk_182 0 117 (dk_at dksX2_shift_2 5 rfl rfl)
theorem dX2_shift_55 : decode cX2_shift 55 = .ok (.iload_n 3, 1) := dk_29 (dk_at dksX2_shift_2 8 rfl rfl)
theorem dX2_shift_56 : decode cX2_shift 56 = .ok (.if_icmp .eq 9, 3) := dk_159 0 9 (dk_at dksX2_shift_2 9 rfl rfl)
theorem dX2_shift_59 : decode cX2_shift 59 = .ok (.iinc 5 1, 3) := dk_132 5 1 (dk_at dksX2_shift_2 12 rfl rfl)
theorem dX2_shift_62 : decode cX2_shift 62 = .ok (.goto (-15), 3) := dk_167 255 241 (dk_at dksX2_shift_2 15 rfl rfl)
theorem dX2_shift_65 : decode cX2_shift 65 = .ok (.iload 4, 2) := dk_21 4 (dk_at dksX2_shift_2 18 rfl rfl)
theorem dX2_shift_67 : decode cX2_shift 67 = .ok (.ifCond .ne 8, 3) := dk_154 0 8 (dk_at dksX2_shift_2 20 rfl rfl)
theorem dX2_shift_70 : decode cX2_shift 70 = .ok (.iload 5, 2) := dk_21 5 (dk_at dksX2_shift_3 0 rfl rfl)
theorem dX2_shift_72 : decode cX2_shift 72 = .ok (.goto 11, 3) := dk_167 0 11 (dk_at dksX2_shift_3 2 rfl rfl)
theorem dX2_shift_75 : decode cX2_shift 75 = .ok (.aload_n 0, 1) := dk_42 (dk_at dksX2_shift_3 5 rfl rfl)
theorem dX2_shift_76 : decode cX2_shift 76 = .ok (.iload_n 1, 1) := dk_27 (dk_at dksX2_shift_3 6 rfl rfl)
theorem dX2_shift_77 : decode cX2_shift 77 = .ok (.iload_n 2, 1) := dk_28 (dk_at dksX2_shift_3 7 rfl rfl)
theorem dX2_shift_78 : decode cX2_shift 78 = .ok (.iload 5, 2) := dk_21 5 (dk_at dksX2_shift_3 8 rfl rfl)
theorem dX2_shift_80 : decode cX2_shift 80 = .ok (.invokevirtual 113, 3) := dk_182 0 113 (dk_at dksX2_shift_3 10 rfl rfl)
theorem dX2_shift_83 : decode cX2_shift 83 = .ok (.ireturn, 1) := dk_172 (dk_at dksX2_shift_3 13 rfl rfl)
abbrev cX2_rankOf : ByteArray := prog_4_method_35_code
def yX2_rankOf : MethodName := ⟨RX2, "rankOf", "(III)I"⟩
def dkwX2_rankOf_2 : List UInt8 := [21, 6, 29, 162, 0, 7, 4, 167, 0, 4, 3, 96, 54, 5, 132, 6, 1, 167, 255, 206, 21, 5, 172]
abbrev dktX2_rankOf_2 : List UInt8 := dkwX2_rankOf_2 ++ []
def dkwX2_rankOf_1 : List UInt8 := [28, 21, 6, 182, 0, 113, 54, 7, 21, 5, 21, 7, 21, 4, 163, 0, 16, 21, 7, 21, 4, 160, 0, 13]
abbrev dktX2_rankOf_1 : List UInt8 := dkwX2_rankOf_1 ++ dktX2_rankOf_2
def dkwX2_rankOf_0 : List UInt8 := [42, 27, 28, 29, 182, 0, 113, 54, 4, 3, 54, 5, 3, 54, 6, 21, 6, 16, 16, 162, 0, 49, 42, 27]
abbrev dktX2_rankOf_0 : List UInt8 := dkwX2_rankOf_0 ++ dktX2_rankOf_1
theorem dksX2_rankOf_0 : cX2_rankOf.data.toList.drop 0 = dktX2_rankOf_0 := by decide +kernel
theorem dksX2_rankOf_1 : cX2_rankOf.data.toList.drop 24 = dktX2_rankOf_1 := dk_seg dksX2_rankOf_0 24 rfl rfl
theorem dksX2_rankOf_2 : cX2_rankOf.data.toList.drop 48 = dktX2_rankOf_2 := dk_seg dksX2_rankOf_1 24 rfl rfl
theorem dX2_rankOf_0 : decode cX2_rankOf 0 = .ok (.aload_n 0, 1) := dk_42 (dk_at dksX2_rankOf_0 0 rfl rfl)
theorem dX2_rankOf_1 : decode cX2_rankOf 1 = .ok (.iload_n 1, 1) := dk_27 (dk_at dksX2_rankOf_0 1 rfl rfl)
theorem dX2_rankOf_2 : decode cX2_rankOf 2 = .ok (.iload_n 2, 1) := dk_28 (dk_at dksX2_rankOf_0 2 rfl rfl)
theorem dX2_rankOf_3 : decode cX2_rankOf 3 = .ok (.iload_n 3, 1) := dk_29 (dk_at dksX2_rankOf_0 3 rfl rfl)
theorem dX2_rankOf_4 : decode cX2_rankOf 4 = .ok (.invokevirtual 113, 3) := dk_182 0 113 (dk_at dksX2_rankOf_0 4 rfl rfl)
theorem dX2_rankOf_7 : decode cX2_rankOf 7 = .ok (.istore 4, 2) := dk_54 4 (dk_at dksX2_rankOf_0 7 rfl rfl)
theorem dX2_rankOf_9 : decode cX2_rankOf 9 = .ok (.iconst 0, 1) := dk_3 (dk_at dksX2_rankOf_0 9 rfl rfl)
theorem dX2_rankOf_10 : decode cX2_rankOf 10 = .ok (.istore 5, 2) := dk_54 5 (dk_at dksX2_rankOf_0 10 rfl rfl)
theorem dX2_rankOf_12 : decode cX2_rankOf 12 = .ok (.iconst 0, 1) := dk_3 (dk_at dksX2_rankOf_0 12 rfl rfl)
theorem dX2_rankOf_13 : decode cX2_rankOf 13 = .ok (.istore 6, 2) := dk_54 6 (dk_at dksX2_rankOf_0 13 rfl rfl)
theorem dX2_rankOf_15 : decode cX2_rankOf 15 = .ok (.iload 6, 2) := dk_21 6 (dk_at dksX2_rankOf_0 15 rfl rfl)
theorem dX2_rankOf_17 : decode cX2_rankOf 17 = .ok (.bipush 16, 2) := dk_16 16 (dk_at dksX2_rankOf_0 17 rfl rfl)
theorem dX2_rankOf_19 : decode cX2_rankOf 19 = .ok (.if_icmp .ge 49, 3) := dk_162 0 49 (dk_at dksX2_rankOf_0 19 rfl rfl)
theorem dX2_rankOf_22 : decode cX2_rankOf 22 = .ok (.aload_n 0, 1) := dk_42 (dk_at dksX2_rankOf_0 22 rfl rfl)
theorem dX2_rankOf_23 : decode cX2_rankOf 23 = .ok (.iload_n 1, 1) := dk_27 (dk_at dksX2_rankOf_0 23 rfl rfl)
theorem dX2_rankOf_24 : decode cX2_rankOf 24 = .ok (.iload_n 2, 1) := dk_28 (dk_at dksX2_rankOf_1 0 rfl rfl)
theorem dX2_rankOf_25 : decode cX2_rankOf 25 = .ok (.iload 6, 2) := dk_21 6 (dk_at dksX2_rankOf_1 1 rfl rfl)
theorem dX2_rankOf_27 : decode cX2_rankOf 27 = .ok (.invokevirtual 113, 3) := dk_182 0 113 (dk_at dksX2_rankOf_1 3 rfl rfl)
theorem dX2_rankOf_30 : decode cX2_rankOf 30 = .ok (.istore 7, 2) := dk_54 7 (dk_at dksX2_rankOf_1 6 rfl rfl)
theorem dX2_rankOf_32 : decode cX2_rankOf 32 = .ok (.iload 5, 2) := dk_21 5 (dk_at dksX2_rankOf_1 8 rfl rfl)
theorem dX2_rankOf_34 : decode cX2_rankOf 34 = .ok (.iload 7, 2) := dk_21 7 (dk_at dksX2_rankOf_1 10 rfl rfl)
theorem dX2_rankOf_36 : decode cX2_rankOf 36 = .ok (.iload 4, 2) := dk_21 4 (dk_at dksX2_rankOf_1 12 rfl rfl)
theorem dX2_rankOf_38 : decode cX2_rankOf 38 = .ok (.if_icmp .gt 16, 3) := dk_163 0 16 (dk_at dksX2_rankOf_1 14 rfl rfl)
theorem dX2_rankOf_41 : decode cX2_rankOf 41 = .ok (.iload 7, 2) := dk_21 7 (dk_at dksX2_rankOf_1 17 rfl rfl)
theorem dX2_rankOf_43 : decode cX2_rankOf 43 = .ok (.iload 4, 2) := dk_21 4 (dk_at dksX2_rankOf_1 19 rfl rfl)
theorem dX2_rankOf_45 : decode cX2_rankOf 45 = .ok (.if_icmp .ne 13, 3) := dk_160 0 13 (dk_at dksX2_rankOf_1 21 rfl rfl)
theorem dX2_rankOf_48 : decode cX2_rankOf 48 = .ok (.iload 6, 2) := dk_21 6 (dk_at dksX2_rankOf_2 0 rfl rfl)
theorem dX2_rankOf_50 : decode cX2_rankOf 50 = .ok (.iload_n 3, 1) := dk_29 (dk_at dksX2_rankOf_2 2 rfl rfl)
theorem dX2_rankOf_51 : decode cX2_rankOf 51 = .ok (.if_icmp .ge 7, 3) := dk_162 0 7 (dk_at dksX2_rankOf_2 3 rfl rfl)
theorem dX2_rankOf_54 : decode cX2_rankOf 54 = .ok (.iconst 1, 1) := dk_4 (dk_at dksX2_rankOf_2 6 rfl rfl)
theorem dX2_rankOf_55 : decode cX2_rankOf 55 = .ok (.goto 4, 3) := dk_167 0 4 (dk_at dksX2_rankOf_2 7 rfl rfl)
theorem dX2_rankOf_58 : decode cX2_rankOf 58 = .ok (.iconst 0, 1) := dk_3 (dk_at dksX2_rankOf_2 10 rfl rfl)
theorem dX2_rankOf_59 : decode cX2_rankOf 59 = .ok (.iadd, 1) := dk_96 (dk_at dksX2_rankOf_2 11 rfl rfl)
theorem dX2_rankOf_60 : decode cX2_rankOf 60 = .ok (.istore 5, 2) := dk_54 5 (dk_at dksX2_rankOf_2 12 rfl rfl)
theorem dX2_rankOf_62 : decode cX2_rankOf 62 = .ok (.iinc 6 1, 3) := dk_132 6 1 (dk_at dksX2_rankOf_2 14 rfl rfl)
theorem dX2_rankOf_65 : decode cX2_rankOf 65 = .ok (.goto (-50), 3) := dk_167 255 206 (dk_at dksX2_rankOf_2 17 rfl rfl)
theorem dX2_rankOf_68 : decode cX2_rankOf 68 = .ok (.iload 5, 2) := dk_21 5 (dk_at dksX2_rankOf_2 20 rfl rfl)
theorem dX2_rankOf_70 : decode cX2_rankOf 70 = .ok (.ireturn, 1) := dk_172 (dk_at dksX2_rankOf_2 22 rfl rfl)
abbrev cX2_score : ByteArray := prog_4_method_34_code
def yX2_score : MethodName := ⟨RX2, "score", "(III)I"⟩
def dkwX2_score_2 : List UInt8 := [96, 54, 5, 167, 255, 211, 21, 4, 172]
abbrev dktX2_score_2 : List UInt8 := dkwX2_score_2 ++ []
def dkwX2_score_1 : List UInt8 := [180, 0, 7, 3, 21, 5, 96, 46, 29, 100, 16, 16, 96, 16, 16, 112, 96, 46, 96, 54, 4, 21, 5, 27]
abbrev dktX2_score_1 : List UInt8 := dkwX2_score_1 ++ dktX2_score_2
def dkwX2_score_0 : List UInt8 := [3, 54, 4, 28, 54, 5, 21, 5, 42, 182, 0, 57, 162, 0, 42, 21, 4, 42, 180, 0, 7, 16, 56, 42]
abbrev dktX2_score_0 : List UInt8 := dkwX2_score_0 ++ dktX2_score_1
theorem dksX2_score_0 : cX2_score.data.toList.drop 0 = dktX2_score_0 := by decide +kernel
theorem dksX2_score_1 : cX2_score.data.toList.drop 24 = dktX2_score_1 := dk_seg dksX2_score_0 24 rfl rfl
theorem dksX2_score_2 : cX2_score.data.toList.drop 48 = dktX2_score_2 := dk_seg dksX2_score_1 24 rfl rfl
theorem dX2_score_0 : decode cX2_score 0 = .ok (.iconst 0, 1) := dk_3 (dk_at dksX2_score_0 0 rfl rfl)
theorem dX2_score_1 : decode cX2_score 1 = .ok (.istore 4, 2) := dk_54 4 (dk_at dksX2_score_0 1 rfl rfl)
theorem dX2_score_3 : decode cX2_score 3 = .ok (.iload_n 2, 1) := dk_28 (dk_at dksX2_score_0 3 rfl rfl)
theorem dX2_score_4 : decode cX2_score 4 = .ok (.istore 5, 2) := dk_54 5 (dk_at dksX2_score_0 4 rfl rfl)
theorem dX2_score_6 : decode cX2_score 6 = .ok (.iload 5, 2) := dk_21 5 (dk_at dksX2_score_0 6 rfl rfl)
theorem dX2_score_8 : decode cX2_score 8 = .ok (.aload_n 0, 1) := dk_42 (dk_at dksX2_score_0 8 rfl rfl)
theorem dX2_score_9 : decode cX2_score 9 = .ok (.invokevirtual 57, 3) := dk_182 0 57 (dk_at dksX2_score_0 9 rfl rfl)
theorem dX2_score_12 : decode cX2_score 12 = .ok (.if_icmp .ge 42, 3) := dk_162 0 42 (dk_at dksX2_score_0 12 rfl rfl)
theorem dX2_score_15 : decode cX2_score 15 = .ok (.iload 4, 2) := dk_21 4 (dk_at dksX2_score_0 15 rfl rfl)
theorem dX2_score_17 : decode cX2_score 17 = .ok (.aload_n 0, 1) := dk_42 (dk_at dksX2_score_0 17 rfl rfl)
theorem dX2_score_18 : decode cX2_score 18 = .ok (.getfield 7, 3) := dk_180 0 7 (dk_at dksX2_score_0 18 rfl rfl)
theorem dX2_score_21 : decode cX2_score 21 = .ok (.bipush 56, 2) := dk_16 56 (dk_at dksX2_score_0 21 rfl rfl)
theorem dX2_score_23 : decode cX2_score 23 = .ok (.aload_n 0, 1) := dk_42 (dk_at dksX2_score_0 23 rfl rfl)
theorem dX2_score_24 : decode cX2_score 24 = .ok (.getfield 7, 3) := dk_180 0 7 (dk_at dksX2_score_1 0 rfl rfl)
theorem dX2_score_27 : decode cX2_score 27 = .ok (.iconst 0, 1) := dk_3 (dk_at dksX2_score_1 3 rfl rfl)
theorem dX2_score_28 : decode cX2_score 28 = .ok (.iload 5, 2) := dk_21 5 (dk_at dksX2_score_1 4 rfl rfl)
theorem dX2_score_30 : decode cX2_score 30 = .ok (.iadd, 1) := dk_96 (dk_at dksX2_score_1 6 rfl rfl)
theorem dX2_score_31 : decode cX2_score 31 = .ok (.iaload, 1) := dk_46 (dk_at dksX2_score_1 7 rfl rfl)
theorem dX2_score_32 : decode cX2_score 32 = .ok (.iload_n 3, 1) := dk_29 (dk_at dksX2_score_1 8 rfl rfl)
theorem dX2_score_33 : decode cX2_score 33 = .ok (.isub, 1) := dk_100 (dk_at dksX2_score_1 9 rfl rfl)
theorem dX2_score_34 : decode cX2_score 34 = .ok (.bipush 16, 2) := dk_16 16 (dk_at dksX2_score_1 10 rfl rfl)
theorem dX2_score_36 : decode cX2_score 36 = .ok (.iadd, 1) := dk_96 (dk_at dksX2_score_1 12 rfl rfl)
theorem dX2_score_37 : decode cX2_score 37 = .ok (.bipush 16, 2) := dk_16 16 (dk_at dksX2_score_1 13 rfl rfl)
theorem dX2_score_39 : decode cX2_score 39 = .ok (.irem, 1) := dk_112 (dk_at dksX2_score_1 15 rfl rfl)
theorem dX2_score_40 : decode cX2_score 40 = .ok (.iadd, 1) := dk_96 (dk_at dksX2_score_1 16 rfl rfl)
theorem dX2_score_41 : decode cX2_score 41 = .ok (.iaload, 1) := dk_46 (dk_at dksX2_score_1 17 rfl rfl)
theorem dX2_score_42 : decode cX2_score 42 = .ok (.iadd, 1) := dk_96 (dk_at dksX2_score_1 18 rfl rfl)
theorem dX2_score_43 : decode cX2_score 43 = .ok (.istore 4, 2) := dk_54 4 (dk_at dksX2_score_1 19 rfl rfl)
theorem dX2_score_45 : decode cX2_score 45 = .ok (.iload 5, 2) := dk_21 5 (dk_at dksX2_score_1 21 rfl rfl)
theorem dX2_score_47 : decode cX2_score 47 = .ok (.iload_n 1, 1) := dk_27 (dk_at dksX2_score_1 23 rfl rfl)
theorem dX2_score_48 : decode cX2_score 48 = .ok (.iadd, 1) := dk_96 (dk_at dksX2_score_2 0 rfl rfl)
theorem dX2_score_49 : decode cX2_score 49 = .ok (.istore 5, 2) := dk_54 5 (dk_at dksX2_score_2 1 rfl rfl)
theorem dX2_score_51 : decode cX2_score 51 = .ok (.goto (-45), 3) := dk_167 255 211 (dk_at dksX2_score_2 3 rfl rfl)
theorem dX2_score_54 : decode cX2_score 54 = .ok (.iload 4, 2) := dk_21 4 (dk_at dksX2_score_2 6 rfl rfl)
theorem dX2_score_56 : decode cX2_score 56 = .ok (.ireturn, 1) := dk_172 (dk_at dksX2_score_2 8 rfl rfl)
abbrev cX2_good : ByteArray := prog_4_method_39_code
def yX2_good : MethodName := ⟨RX2, "good", "()I"⟩
def dkwX2_good_0 : List UInt8 := [42, 182, 0, 120, 42, 42, 180, 0, 23, 182, 0, 123, 172]
abbrev dktX2_good_0 : List UInt8 := dkwX2_good_0 ++ []
theorem dksX2_good_0 : cX2_good.data.toList.drop 0 = dktX2_good_0 := by decide +kernel
theorem dX2_good_0 : decode cX2_good 0 = .ok (.aload_n 0, 1) := dk_42 (dk_at dksX2_good_0 0 rfl rfl)
theorem dX2_good_1 : decode cX2_good 1 = .ok (.invokevirtual 120, 3) := dk_182 0 120 (dk_at dksX2_good_0 1 rfl rfl)
theorem dX2_good_4 : decode cX2_good 4 = .ok (.aload_n 0, 1) := dk_42 (dk_at dksX2_good_0 4 rfl rfl)
theorem dX2_good_5 : decode cX2_good 5 = .ok (.aload_n 0, 1) := dk_42 (dk_at dksX2_good_0 5 rfl rfl)
theorem dX2_good_6 : decode cX2_good 6 = .ok (.getfield 23, 3) := dk_180 0 23 (dk_at dksX2_good_0 6 rfl rfl)
theorem dX2_good_9 : decode cX2_good 9 = .ok (.invokevirtual 123, 3) := dk_182 0 123 (dk_at dksX2_good_0 9 rfl rfl)
theorem dX2_good_12 : decode cX2_good 12 = .ok (.ireturn, 1) := dk_172 (dk_at dksX2_good_0 12 rfl rfl)
abbrev cX2_layText : ByteArray := prog_4_method_38_code
def yX2_layText : MethodName := ⟨RX2, "layText", "()V"⟩
def dkwX2_layText_1 : List UInt8 := [132, 1, 1, 167, 255, 231, 177]
abbrev dktX2_layText_1 : List UInt8 := dkwX2_layText_1 ++ []
def dkwX2_layText_0 : List UInt8 := [3, 60, 27, 42, 182, 0, 57, 162, 0, 23, 42, 180, 0, 23, 27, 42, 180, 0, 7, 3, 27, 96, 46, 79]
abbrev dktX2_layText_0 : List UInt8 := dkwX2_layText_0 ++ dktX2_layText_1
theorem dksX2_layText_0 : cX2_layText.data.toList.drop 0 = dktX2_layText_0 := by decide +kernel
theorem dksX2_layText_1 : cX2_layText.data.toList.drop 24 = dktX2_layText_1 := dk_seg dksX2_layText_0 24 rfl rfl
theorem dX2_layText_0 : decode cX2_layText 0 = .ok (.iconst 0, 1) := dk_3 (dk_at dksX2_layText_0 0 rfl rfl)
theorem dX2_layText_1 : decode cX2_layText 1 = .ok (.istore_n 1, 1) := dk_60 (dk_at dksX2_layText_0 1 rfl rfl)
theorem dX2_layText_2 : decode cX2_layText 2 = .ok (.iload_n 1, 1) := dk_27 (dk_at dksX2_layText_0 2 rfl rfl)
theorem dX2_layText_3 : decode cX2_layText 3 = .ok (.aload_n 0, 1) := dk_42 (dk_at dksX2_layText_0 3 rfl rfl)
theorem dX2_layText_4 : decode cX2_layText 4 = .ok (.invokevirtual 57, 3) := dk_182 0 57 (dk_at dksX2_layText_0 4 rfl rfl)
theorem dX2_layText_7 : decode cX2_layText 7 = .ok (.if_icmp .ge 23, 3) := dk_162 0 23 (dk_at dksX2_layText_0 7 rfl rfl)
theorem dX2_layText_10 : decode cX2_layText 10 = .ok (.aload_n 0, 1) := dk_42 (dk_at dksX2_layText_0 10 rfl rfl)
theorem dX2_layText_11 : decode cX2_layText 11 = .ok (.getfield 23, 3) := dk_180 0 23 (dk_at dksX2_layText_0 11 rfl rfl)
theorem dX2_layText_14 : decode cX2_layText 14 = .ok (.iload_n 1, 1) := dk_27 (dk_at dksX2_layText_0 14 rfl rfl)
theorem dX2_layText_15 : decode cX2_layText 15 = .ok (.aload_n 0, 1) := dk_42 (dk_at dksX2_layText_0 15 rfl rfl)
theorem dX2_layText_16 : decode cX2_layText 16 = .ok (.getfield 7, 3) := dk_180 0 7 (dk_at dksX2_layText_0 16 rfl rfl)
theorem dX2_layText_19 : decode cX2_layText 19 = .ok (.iconst 0, 1) := dk_3 (dk_at dksX2_layText_0 19 rfl rfl)
theorem dX2_layText_20 : decode cX2_layText 20 = .ok (.iload_n 1, 1) := dk_27 (dk_at dksX2_layText_0 20 rfl rfl)
theorem dX2_layText_21 : decode cX2_layText 21 = .ok (.iadd, 1) := dk_96 (dk_at dksX2_layText_0 21 rfl rfl)
theorem dX2_layText_22 : decode cX2_layText 22 = .ok (.iaload, 1) := dk_46 (dk_at dksX2_layText_0 22 rfl rfl)
theorem dX2_layText_23 : decode cX2_layText 23 = .ok (.iastore, 1) := dk_79 (dk_at dksX2_layText_0 23 rfl rfl)
theorem dX2_layText_24 : decode cX2_layText 24 = .ok (.iinc 1 1, 3) := dk_132 1 1 (dk_at dksX2_layText_1 0 rfl rfl)
theorem dX2_layText_27 : decode cX2_layText 27 = .ok (.goto (-25), 3) := dk_167 255 231 (dk_at dksX2_layText_1 3 rfl rfl)
theorem dX2_layText_30 : decode cX2_layText 30 = .ok (.return_, 1) := dk_177 (dk_at dksX2_layText_1 6 rfl rfl)
abbrev cX2_goodOf : ByteArray := prog_4_method_37_code
def yX2_goodOf : MethodName := ⟨RX2, "goodOf", "([I)I"⟩
def dkwX2_goodOf_1 : List UInt8 := [29, 46, 104, 96, 43, 29, 4, 96, 46, 96, 46, 96, 61, 132, 3, 1, 167, 255, 220, 28, 172]
abbrev dktX2_goodOf_1 : List UInt8 := dkwX2_goodOf_1 ++ []
def dkwX2_goodOf_0 : List UInt8 := [3, 61, 3, 62, 29, 4, 96, 42, 182, 0, 57, 162, 0, 32, 28, 42, 180, 0, 7, 16, 72, 16, 16, 43]
abbrev dktX2_goodOf_0 : List UInt8 := dkwX2_goodOf_0 ++ dktX2_goodOf_1
theorem dksX2_goodOf_0 : cX2_goodOf.data.toList.drop 0 = dktX2_goodOf_0 := by decide +kernel
theorem dksX2_goodOf_1 : cX2_goodOf.data.toList.drop 24 = dktX2_goodOf_1 := dk_seg dksX2_goodOf_0 24 rfl rfl
theorem dX2_goodOf_0 : decode cX2_goodOf 0 = .ok (.iconst 0, 1) := dk_3 (dk_at dksX2_goodOf_0 0 rfl rfl)
theorem dX2_goodOf_1 : decode cX2_goodOf 1 = .ok (.istore_n 2, 1) := dk_61 (dk_at dksX2_goodOf_0 1 rfl rfl)
theorem dX2_goodOf_2 : decode cX2_goodOf 2 = .ok (.iconst 0, 1) := dk_3 (dk_at dksX2_goodOf_0 2 rfl rfl)
theorem dX2_goodOf_3 : decode cX2_goodOf 3 = .ok (.istore_n 3, 1) := dk_62 (dk_at dksX2_goodOf_0 3 rfl rfl)
theorem dX2_goodOf_4 : decode cX2_goodOf 4 = .ok (.iload_n 3, 1) := dk_29 (dk_at dksX2_goodOf_0 4 rfl rfl)
theorem dX2_goodOf_5 : decode cX2_goodOf 5 = .ok (.iconst 1, 1) := dk_4 (dk_at dksX2_goodOf_0 5 rfl rfl)
theorem dX2_goodOf_6 : decode cX2_goodOf 6 = .ok (.iadd, 1) := dk_96 (dk_at dksX2_goodOf_0 6 rfl rfl)
theorem dX2_goodOf_7 : decode cX2_goodOf 7 = .ok (.aload_n 0, 1) := dk_42 (dk_at dksX2_goodOf_0 7 rfl rfl)
theorem dX2_goodOf_8 : decode cX2_goodOf 8 = .ok (.invokevirtual 57, 3) := dk_182 0 57 (dk_at dksX2_goodOf_0 8 rfl rfl)
theorem dX2_goodOf_11 : decode cX2_goodOf 11 = .ok (.if_icmp .ge 32, 3) := dk_162 0 32 (dk_at dksX2_goodOf_0 11 rfl rfl)
theorem dX2_goodOf_14 : decode cX2_goodOf 14 = .ok (.iload_n 2, 1) := dk_28 (dk_at dksX2_goodOf_0 14 rfl rfl)
theorem dX2_goodOf_15 : decode cX2_goodOf 15 = .ok (.aload_n 0, 1) := dk_42 (dk_at dksX2_goodOf_0 15 rfl rfl)
theorem dX2_goodOf_16 : decode cX2_goodOf 16 = .ok (.getfield 7, 3) := dk_180 0 7 (dk_at dksX2_goodOf_0 16 rfl rfl)
theorem dX2_goodOf_19 : decode cX2_goodOf 19 = .ok (.bipush 72, 2) := dk_16 72 (dk_at dksX2_goodOf_0 19 rfl rfl)
theorem dX2_goodOf_21 : decode cX2_goodOf 21 = .ok (.bipush 16, 2) := dk_16 16 (dk_at dksX2_goodOf_0 21 rfl rfl)
theorem dX2_goodOf_23 : decode cX2_goodOf 23 = .ok (.aload_n 1, 1) := dk_43 (dk_at dksX2_goodOf_0 23 rfl rfl)
theorem dX2_goodOf_24 : decode cX2_goodOf 24 = .ok (.iload_n 3, 1) := dk_29 (dk_at dksX2_goodOf_1 0 rfl rfl)
theorem dX2_goodOf_25 : decode cX2_goodOf 25 = .ok (.iaload, 1) := dk_46 (dk_at dksX2_goodOf_1 1 rfl rfl)
theorem dX2_goodOf_26 : decode cX2_goodOf 26 = .ok (.imul, 1) := dk_104 (dk_at dksX2_goodOf_1 2 rfl rfl)
theorem dX2_goodOf_27 : decode cX2_goodOf 27 = .ok (.iadd, 1) := dk_96 (dk_at dksX2_goodOf_1 3 rfl rfl)
theorem dX2_goodOf_28 : decode cX2_goodOf 28 = .ok (.aload_n 1, 1) := dk_43 (dk_at dksX2_goodOf_1 4 rfl rfl)
theorem dX2_goodOf_29 : decode cX2_goodOf 29 = .ok (.iload_n 3, 1) := dk_29 (dk_at dksX2_goodOf_1 5 rfl rfl)
theorem dX2_goodOf_30 : decode cX2_goodOf 30 = .ok (.iconst 1, 1) := dk_4 (dk_at dksX2_goodOf_1 6 rfl rfl)
theorem dX2_goodOf_31 : decode cX2_goodOf 31 = .ok (.iadd, 1) := dk_96 (dk_at dksX2_goodOf_1 7 rfl rfl)
theorem dX2_goodOf_32 : decode cX2_goodOf 32 = .ok (.iaload, 1) := dk_46 (dk_at dksX2_goodOf_1 8 rfl rfl)
theorem dX2_goodOf_33 : decode cX2_goodOf 33 = .ok (.iadd, 1) := dk_96 (dk_at dksX2_goodOf_1 9 rfl rfl)
theorem dX2_goodOf_34 : decode cX2_goodOf 34 = .ok (.iaload, 1) := dk_46 (dk_at dksX2_goodOf_1 10 rfl rfl)
theorem dX2_goodOf_35 : decode cX2_goodOf 35 = .ok (.iadd, 1) := dk_96 (dk_at dksX2_goodOf_1 11 rfl rfl)
theorem dX2_goodOf_36 : decode cX2_goodOf 36 = .ok (.istore_n 2, 1) := dk_61 (dk_at dksX2_goodOf_1 12 rfl rfl)
theorem dX2_goodOf_37 : decode cX2_goodOf 37 = .ok (.iinc 3 1, 3) := dk_132 3 1 (dk_at dksX2_goodOf_1 13 rfl rfl)
theorem dX2_goodOf_40 : decode cX2_goodOf 40 = .ok (.goto (-36), 3) := dk_167 255 220 (dk_at dksX2_goodOf_1 16 rfl rfl)
theorem dX2_goodOf_43 : decode cX2_goodOf 43 = .ok (.iload_n 2, 1) := dk_28 (dk_at dksX2_goodOf_1 19 rfl rfl)
theorem dX2_goodOf_44 : decode cX2_goodOf 44 = .ok (.ireturn, 1) := dk_172 (dk_at dksX2_goodOf_1 20 rfl rfl)
abbrev cX2_order : ByteArray := prog_4_method_43_code
def yX2_order : MethodName := ⟨RX2, "order", "(II)I"⟩
def dkwX2_order_6 : List UInt8 := [160, 0, 8, 21, 5, 167, 0, 9, 42, 180, 0, 32, 28, 46, 172]
abbrev dktX2_order_6 : List UInt8 := dkwX2_order_6 ++ []
def dkwX2_order_5 : List UInt8 := [167, 255, 176, 42, 29, 27, 182, 0, 127, 28, 2, 160, 0, 8, 21, 4, 167, 0, 20, 28, 16, 254]
abbrev dktX2_order_5 : List UInt8 := dkwX2_order_5 ++ dktX2_order_6
def dkwX2_order_4 : List UInt8 := [21, 5, 54, 5, 21, 7, 21, 4, 164, 0, 8, 21, 7, 167, 0, 5, 21, 4, 54, 4, 132, 6, 1]
abbrev dktX2_order_4 : List UInt8 := dkwX2_order_4 ++ dktX2_order_5
def dkwX2_order_3 : List UInt8 := [21, 4, 164, 0, 7, 4, 167, 0, 19, 21, 7, 21, 4, 160, 0, 10, 21, 5, 4, 96, 167, 0, 5]
abbrev dktX2_order_3 : List UInt8 := dkwX2_order_3 ++ dktX2_order_4
def dkwX2_order_2 : List UInt8 := [21, 6, 27, 182, 0, 133, 54, 7, 21, 7, 21, 4, 164, 0, 8, 21, 6, 167, 0, 4, 29, 62, 21, 7]
abbrev dktX2_order_2 : List UInt8 := dkwX2_order_2 ++ dktX2_order_3
def dkwX2_order_1 : List UInt8 := [172, 16, 250, 62, 2, 54, 4, 3, 54, 5, 3, 54, 6, 21, 6, 27, 184, 0, 130, 162, 0, 77, 42]
abbrev dktX2_order_1 : List UInt8 := dkwX2_order_1 ++ dktX2_order_2
def dkwX2_order_0 : List UInt8 := [27, 5, 16, 6, 184, 0, 41, 153, 0, 15, 28, 16, 254, 27, 4, 100, 184, 0, 41, 154, 0, 6, 16, 254]
abbrev dktX2_order_0 : List UInt8 := dkwX2_order_0 ++ dktX2_order_1
theorem dksX2_order_0 : cX2_order.data.toList.drop 0 = dktX2_order_0 := by decide +kernel
theorem dksX2_order_1 : cX2_order.data.toList.drop 24 = dktX2_order_1 := dk_seg dksX2_order_0 24 rfl rfl
theorem dksX2_order_2 : cX2_order.data.toList.drop 47 = dktX2_order_2 := dk_seg dksX2_order_1 23 rfl rfl
theorem dksX2_order_3 : cX2_order.data.toList.drop 71 = dktX2_order_3 := dk_seg dksX2_order_2 24 rfl rfl
theorem dksX2_order_4 : cX2_order.data.toList.drop 94 = dktX2_order_4 := dk_seg dksX2_order_3 23 rfl rfl
theorem dksX2_order_5 : cX2_order.data.toList.drop 117 = dktX2_order_5 := dk_seg dksX2_order_4 23 rfl rfl
theorem dksX2_order_6 : cX2_order.data.toList.drop 139 = dktX2_order_6 := dk_seg dksX2_order_5 22 rfl rfl
theorem dX2_order_0 : decode cX2_order 0 = .ok (.iload_n 1, 1) := dk_27 (dk_at dksX2_order_0 0 rfl rfl)
theorem dX2_order_1 : decode cX2_order 1 = .ok (.iconst 2, 1) := dk_5 (dk_at dksX2_order_0 1 rfl rfl)
theorem dX2_order_2 : decode cX2_order 2 = .ok (.bipush 6, 2) := dk_16 6 (dk_at dksX2_order_0 2 rfl rfl)
theorem dX2_order_4 : decode cX2_order 4 = .ok (.invokestatic 41, 3) := dk_184 0 41 (dk_at dksX2_order_0 4 rfl rfl)
theorem dX2_order_7 : decode cX2_order 7 = .ok (.ifCond .eq 15, 3) := dk_153 0 15 (dk_at dksX2_order_0 7 rfl rfl)
theorem dX2_order_10 : decode cX2_order 10 = .ok (.iload_n 2, 1) := dk_28 (dk_at dksX2_order_0 10 rfl rfl)
theorem dX2_order_11 : decode cX2_order 11 = .ok (.bipush (-2), 2) := dk_16 254 (dk_at dksX2_order_0 11 rfl rfl)
theorem dX2_order_13 : decode cX2_order 13 = .ok (.iload_n 1, 1) := dk_27 (dk_at dksX2_order_0 13 rfl rfl)
theorem dX2_order_14 : decode cX2_order 14 = .ok (.iconst 1, 1) := dk_4 (dk_at dksX2_order_0 14 rfl rfl)
theorem dX2_order_15 : decode cX2_order 15 = .ok (.isub, 1) := dk_100 (dk_at dksX2_order_0 15 rfl rfl)
theorem dX2_order_16 : decode cX2_order 16 = .ok (.invokestatic 41, 3) := dk_184 0 41 (dk_at dksX2_order_0 16 rfl rfl)
theorem dX2_order_19 : decode cX2_order 19 = .ok (.ifCond .ne 6, 3) := dk_154 0 6 (dk_at dksX2_order_0 19 rfl rfl)
theorem dX2_order_22 : decode cX2_order 22 = .ok (.bipush (-2), 2) := dk_16 254 (dk_at dksX2_order_0 22 rfl rfl)
theorem dX2_order_24 : decode cX2_order 24 = .ok (.ireturn, 1) := dk_172 (dk_at dksX2_order_1 0 rfl rfl)
theorem dX2_order_25 : decode cX2_order 25 = .ok (.bipush (-6), 2) := dk_16 250 (dk_at dksX2_order_1 1 rfl rfl)
theorem dX2_order_27 : decode cX2_order 27 = .ok (.istore_n 3, 1) := dk_62 (dk_at dksX2_order_1 3 rfl rfl)
theorem dX2_order_28 : decode cX2_order 28 = .ok (.iconst (-1), 1) := dk_2 (dk_at dksX2_order_1 4 rfl rfl)
theorem dX2_order_29 : decode cX2_order 29 = .ok (.istore 4, 2) := dk_54 4 (dk_at dksX2_order_1 5 rfl rfl)
theorem dX2_order_31 : decode cX2_order 31 = .ok (.iconst 0, 1) := dk_3 (dk_at dksX2_order_1 7 rfl rfl)
theorem dX2_order_32 : decode cX2_order 32 = .ok (.istore 5, 2) := dk_54 5 (dk_at dksX2_order_1 8 rfl rfl)
theorem dX2_order_34 : decode cX2_order 34 = .ok (.iconst 0, 1) := dk_3 (dk_at dksX2_order_1 10 rfl rfl)
theorem dX2_order_35 : decode cX2_order 35 = .ok (.istore 6, 2) := dk_54 6 (dk_at dksX2_order_1 11 rfl rfl)
theorem dX2_order_37 : decode cX2_order 37 = .ok (.iload 6, 2) := dk_21 6 (dk_at dksX2_order_1 13 rfl rfl)
theorem dX2_order_39 : decode cX2_order 39 = .ok (.iload_n 1, 1) := dk_27 (dk_at dksX2_order_1 15 rfl rfl)
theorem dX2_order_40 : decode cX2_order 40 = .ok (.invokestatic 130, 3) := dk_184 0 130 (dk_at dksX2_order_1 16 rfl rfl)
theorem dX2_order_43 : decode cX2_order 43 = .ok (.if_icmp .ge 77, 3) := dk_162 0 77 (dk_at dksX2_order_1 19 rfl rfl)
theorem dX2_order_46 : decode cX2_order 46 = .ok (.aload_n 0, 1) := dk_42 (dk_at dksX2_order_1 22 rfl rfl)
theorem dX2_order_47 : decode cX2_order 47 = .ok (.iload 6, 2) := dk_21 6 (dk_at dksX2_order_2 0 rfl rfl)
theorem dX2_order_49 : decode cX2_order 49 = .ok (.iload_n 1, 1) := dk_27 (dk_at dksX2_order_2 2 rfl rfl)
theorem dX2_order_50 : decode cX2_order 50 = .ok (.invokevirtual 133, 3) := dk_182 0 133 (dk_at dksX2_order_2 3 rfl rfl)
theorem dX2_order_53 : decode cX2_order 53 = .ok (.istore 7, 2) := dk_54 7 (dk_at dksX2_order_2 6 rfl rfl)
theorem dX2_order_55 : decode cX2_order 55 = .ok (.iload 7, 2) := dk_21 7 (dk_at dksX2_order_2 8 rfl rfl)
theorem dX2_order_57 : decode cX2_order 57 = .ok (.iload 4, 2) := dk_21 4 (dk_at dksX2_order_2 10 rfl rfl)
theorem dX2_order_59 : decode cX2_order 59 = .ok (.if_icmp .le 8, 3) := dk_164 0 8 (dk_at dksX2_order_2 12 rfl rfl)
theorem dX2_order_62 : decode cX2_order 62 = .ok (.iload 6, 2) := dk_21 6 (dk_at dksX2_order_2 15 rfl rfl)
theorem dX2_order_64 : decode cX2_order 64 = .ok (.goto 4, 3) := dk_167 0 4 (dk_at dksX2_order_2 17 rfl rfl)
theorem dX2_order_67 : decode cX2_order 67 = .ok (.iload_n 3, 1) := dk_29 (dk_at dksX2_order_2 20 rfl rfl)
theorem dX2_order_68 : decode cX2_order 68 = .ok (.istore_n 3, 1) := dk_62 (dk_at dksX2_order_2 21 rfl rfl)
theorem dX2_order_69 : decode cX2_order 69 = .ok (.iload 7, 2) := dk_21 7 (dk_at dksX2_order_2 22 rfl rfl)
theorem dX2_order_71 : decode cX2_order 71 = .ok (.iload 4, 2) := dk_21 4 (dk_at dksX2_order_3 0 rfl rfl)
theorem dX2_order_73 : decode cX2_order 73 = .ok (.if_icmp .le 7, 3) := dk_164 0 7 (dk_at dksX2_order_3 2 rfl rfl)
theorem dX2_order_76 : decode cX2_order 76 = .ok (.iconst 1, 1) := dk_4 (dk_at dksX2_order_3 5 rfl rfl)
theorem dX2_order_77 : decode cX2_order 77 = .ok (.goto 19, 3) := dk_167 0 19 (dk_at dksX2_order_3 6 rfl rfl)
theorem dX2_order_80 : decode cX2_order 80 = .ok (.iload 7, 2) := dk_21 7 (dk_at dksX2_order_3 9 rfl rfl)
theorem dX2_order_82 : decode cX2_order 82 = .ok (.iload 4, 2) := dk_21 4 (dk_at dksX2_order_3 11 rfl rfl)
theorem dX2_order_84 : decode cX2_order 84 = .ok (.if_icmp .ne 10, 3) := dk_160 0 10 (dk_at dksX2_order_3 13 rfl rfl)
theorem dX2_order_87 : decode cX2_order 87 = .ok (.iload 5, 2) := dk_21 5 (dk_at dksX2_order_3 16 rfl rfl)
theorem dX2_order_89 : decode cX2_order 89 = .ok (.iconst 1, 1) := dk_4 (dk_at dksX2_order_3 18 rfl rfl)
theorem dX2_order_90 : decode cX2_order 90 = .ok (.iadd, 1) := dk_96 (dk_at dksX2_order_3 19 rfl rfl)
theorem dX2_order_91 : decode cX2_order 91 = .ok (.goto 5, 3) := dk_167 0 5 (dk_at dksX2_order_3 20 rfl rfl)
theorem dX2_order_94 : decode cX2_order 94 = .ok (.iload 5, 2) := dk_21 5 (dk_at dksX2_order_4 0 rfl rfl)
theorem dX2_order_96 : decode cX2_order 96 = .ok (.istore 5, 2) := dk_54 5 (dk_at dksX2_order_4 2 rfl rfl)
theorem dX2_order_98 : decode cX2_order 98 = .ok (.iload 7, 2) := dk_21 7 (dk_at dksX2_order_4 4 rfl rfl)
theorem dX2_order_100 : decode cX2_order 100 = .ok (.iload 4, 2) := dk_21 4 (dk_at dksX2_order_4 6 rfl rfl)
theorem dX2_order_102 : decode cX2_order 102 = .ok (.if_icmp .le 8, 3) := dk_164 0 8 (dk_at dksX2_order_4 8 rfl rfl)
theorem dX2_order_105 : decode cX2_order 105 = .ok (.iload 7, 2) := dk_21 7 (dk_at dksX2_order_4 11 rfl rfl)
theorem dX2_order_107 : decode cX2_order 107 = .ok (.goto 5, 3) := dk_167 0 5 (dk_at dksX2_order_4 13 rfl rfl)
theorem dX2_order_110 : decode cX2_order 110 = .ok (.iload 4, 2) := dk_21 4 (dk_at dksX2_order_4 16 rfl rfl)
theorem dX2_order_112 : decode cX2_order 112 = .ok (.istore 4, 2) := dk_54 4 (dk_at dksX2_order_4 18 rfl rfl)
theorem dX2_order_114 : decode cX2_order 114 = .ok (.iinc 6 1, 3) := dk_132 6 1 (dk_at dksX2_order_4 20 rfl rfl)
theorem dX2_order_117 : decode cX2_order 117 = .ok (.goto (-80), 3) := dk_167 255 176 (dk_at dksX2_order_5 0 rfl rfl)
theorem dX2_order_120 : decode cX2_order 120 = .ok (.aload_n 0, 1) := dk_42 (dk_at dksX2_order_5 3 rfl rfl)
theorem dX2_order_121 : decode cX2_order 121 = .ok (.iload_n 3, 1) := dk_29 (dk_at dksX2_order_5 4 rfl rfl)
theorem dX2_order_122 : decode cX2_order 122 = .ok (.iload_n 1, 1) := dk_27 (dk_at dksX2_order_5 5 rfl rfl)
theorem dX2_order_123 : decode cX2_order 123 = .ok (.invokevirtual 127, 3) := dk_182 0 127 (dk_at dksX2_order_5 6 rfl rfl)
theorem dX2_order_126 : decode cX2_order 126 = .ok (.iload_n 2, 1) := dk_28 (dk_at dksX2_order_5 9 rfl rfl)
theorem dX2_order_127 : decode cX2_order 127 = .ok (.iconst (-1), 1) := dk_2 (dk_at dksX2_order_5 10 rfl rfl)
theorem dX2_order_128 : decode cX2_order 128 = .ok (.if_icmp .ne 8, 3) := dk_160 0 8 (dk_at dksX2_order_5 11 rfl rfl)
theorem dX2_order_131 : decode cX2_order 131 = .ok (.iload 4, 2) := dk_21 4 (dk_at dksX2_order_5 14 rfl rfl)
theorem dX2_order_133 : decode cX2_order 133 = .ok (.goto 20, 3) := dk_167 0 20 (dk_at dksX2_order_5 16 rfl rfl)
theorem dX2_order_136 : decode cX2_order 136 = .ok (.iload_n 2, 1) := dk_28 (dk_at dksX2_order_5 19 rfl rfl)
theorem dX2_order_137 : decode cX2_order 137 = .ok (.bipush (-2), 2) := dk_16 254 (dk_at dksX2_order_5 20 rfl rfl)
theorem dX2_order_139 : decode cX2_order 139 = .ok (.if_icmp .ne 8, 3) := dk_160 0 8 (dk_at dksX2_order_6 0 rfl rfl)
theorem dX2_order_142 : decode cX2_order 142 = .ok (.iload 5, 2) := dk_21 5 (dk_at dksX2_order_6 3 rfl rfl)
theorem dX2_order_144 : decode cX2_order 144 = .ok (.goto 9, 3) := dk_167 0 9 (dk_at dksX2_order_6 5 rfl rfl)
theorem dX2_order_147 : decode cX2_order 147 = .ok (.aload_n 0, 1) := dk_42 (dk_at dksX2_order_6 8 rfl rfl)
theorem dX2_order_148 : decode cX2_order 148 = .ok (.getfield 32, 3) := dk_180 0 32 (dk_at dksX2_order_6 9 rfl rfl)
theorem dX2_order_151 : decode cX2_order 151 = .ok (.iload_n 2, 1) := dk_28 (dk_at dksX2_order_6 12 rfl rfl)
theorem dX2_order_152 : decode cX2_order 152 = .ok (.iaload, 1) := dk_46 (dk_at dksX2_order_6 13 rfl rfl)
theorem dX2_order_153 : decode cX2_order 153 = .ok (.ireturn, 1) := dk_172 (dk_at dksX2_order_6 14 rfl rfl)
abbrev cX2_orders : ByteArray := prog_4_method_42_code
def yX2_orders : MethodName := ⟨RX2, "orders", "(I)I"⟩
def dkwX2_orders_0 : List UInt8 := [4, 60, 5, 61, 28, 26, 163, 0, 13, 27, 28, 104, 60, 132, 2, 1, 167, 255, 244, 27, 172]
abbrev dktX2_orders_0 : List UInt8 := dkwX2_orders_0 ++ []
theorem dksX2_orders_0 : cX2_orders.data.toList.drop 0 = dktX2_orders_0 := by decide +kernel
theorem dX2_orders_0 : decode cX2_orders 0 = .ok (.iconst 1, 1) := dk_4 (dk_at dksX2_orders_0 0 rfl rfl)
theorem dX2_orders_1 : decode cX2_orders 1 = .ok (.istore_n 1, 1) := dk_60 (dk_at dksX2_orders_0 1 rfl rfl)
theorem dX2_orders_2 : decode cX2_orders 2 = .ok (.iconst 2, 1) := dk_5 (dk_at dksX2_orders_0 2 rfl rfl)
theorem dX2_orders_3 : decode cX2_orders 3 = .ok (.istore_n 2, 1) := dk_61 (dk_at dksX2_orders_0 3 rfl rfl)
theorem dX2_orders_4 : decode cX2_orders 4 = .ok (.iload_n 2, 1) := dk_28 (dk_at dksX2_orders_0 4 rfl rfl)
theorem dX2_orders_5 : decode cX2_orders 5 = .ok (.iload_n 0, 1) := dk_26 (dk_at dksX2_orders_0 5 rfl rfl)
theorem dX2_orders_6 : decode cX2_orders 6 = .ok (.if_icmp .gt 13, 3) := dk_163 0 13 (dk_at dksX2_orders_0 6 rfl rfl)
theorem dX2_orders_9 : decode cX2_orders 9 = .ok (.iload_n 1, 1) := dk_27 (dk_at dksX2_orders_0 9 rfl rfl)
theorem dX2_orders_10 : decode cX2_orders 10 = .ok (.iload_n 2, 1) := dk_28 (dk_at dksX2_orders_0 10 rfl rfl)
theorem dX2_orders_11 : decode cX2_orders 11 = .ok (.imul, 1) := dk_104 (dk_at dksX2_orders_0 11 rfl rfl)
theorem dX2_orders_12 : decode cX2_orders 12 = .ok (.istore_n 1, 1) := dk_60 (dk_at dksX2_orders_0 12 rfl rfl)
theorem dX2_orders_13 : decode cX2_orders 13 = .ok (.iinc 2 1, 3) := dk_132 2 1 (dk_at dksX2_orders_0 13 rfl rfl)
theorem dX2_orders_16 : decode cX2_orders 16 = .ok (.goto (-12), 3) := dk_167 255 244 (dk_at dksX2_orders_0 16 rfl rfl)
theorem dX2_orders_19 : decode cX2_orders 19 = .ok (.iload_n 1, 1) := dk_27 (dk_at dksX2_orders_0 19 rfl rfl)
theorem dX2_orders_20 : decode cX2_orders 20 = .ok (.ireturn, 1) := dk_172 (dk_at dksX2_orders_0 20 rfl rfl)
abbrev cX2_goodBy : ByteArray := prog_4_method_41_code
def yX2_goodBy : MethodName := ⟨RX2, "goodBy", "(II)I"⟩
def dkwX2_goodBy_1 : List UInt8 := [180, 0, 26, 182, 0, 123, 172]
abbrev dktX2_goodBy_1 : List UInt8 := dkwX2_goodBy_1 ++ []
def dkwX2_goodBy_0 : List UInt8 := [42, 27, 28, 182, 0, 127, 42, 182, 0, 120, 42, 28, 182, 0, 89, 42, 2, 182, 0, 92, 42, 42]
abbrev dktX2_goodBy_0 : List UInt8 := dkwX2_goodBy_0 ++ dktX2_goodBy_1
theorem dksX2_goodBy_0 : cX2_goodBy.data.toList.drop 0 = dktX2_goodBy_0 := by decide +kernel
theorem dksX2_goodBy_1 : cX2_goodBy.data.toList.drop 22 = dktX2_goodBy_1 := dk_seg dksX2_goodBy_0 22 rfl rfl
theorem dX2_goodBy_0 : decode cX2_goodBy 0 = .ok (.aload_n 0, 1) := dk_42 (dk_at dksX2_goodBy_0 0 rfl rfl)
theorem dX2_goodBy_1 : decode cX2_goodBy 1 = .ok (.iload_n 1, 1) := dk_27 (dk_at dksX2_goodBy_0 1 rfl rfl)
theorem dX2_goodBy_2 : decode cX2_goodBy 2 = .ok (.iload_n 2, 1) := dk_28 (dk_at dksX2_goodBy_0 2 rfl rfl)
theorem dX2_goodBy_3 : decode cX2_goodBy 3 = .ok (.invokevirtual 127, 3) := dk_182 0 127 (dk_at dksX2_goodBy_0 3 rfl rfl)
theorem dX2_goodBy_6 : decode cX2_goodBy 6 = .ok (.aload_n 0, 1) := dk_42 (dk_at dksX2_goodBy_0 6 rfl rfl)
theorem dX2_goodBy_7 : decode cX2_goodBy 7 = .ok (.invokevirtual 120, 3) := dk_182 0 120 (dk_at dksX2_goodBy_0 7 rfl rfl)
theorem dX2_goodBy_10 : decode cX2_goodBy 10 = .ok (.aload_n 0, 1) := dk_42 (dk_at dksX2_goodBy_0 10 rfl rfl)
theorem dX2_goodBy_11 : decode cX2_goodBy 11 = .ok (.iload_n 2, 1) := dk_28 (dk_at dksX2_goodBy_0 11 rfl rfl)
theorem dX2_goodBy_12 : decode cX2_goodBy 12 = .ok (.invokevirtual 89, 3) := dk_182 0 89 (dk_at dksX2_goodBy_0 12 rfl rfl)
theorem dX2_goodBy_15 : decode cX2_goodBy 15 = .ok (.aload_n 0, 1) := dk_42 (dk_at dksX2_goodBy_0 15 rfl rfl)
theorem dX2_goodBy_16 : decode cX2_goodBy 16 = .ok (.iconst (-1), 1) := dk_2 (dk_at dksX2_goodBy_0 16 rfl rfl)
theorem dX2_goodBy_17 : decode cX2_goodBy 17 = .ok (.invokevirtual 92, 3) := dk_182 0 92 (dk_at dksX2_goodBy_0 17 rfl rfl)
theorem dX2_goodBy_20 : decode cX2_goodBy 20 = .ok (.aload_n 0, 1) := dk_42 (dk_at dksX2_goodBy_0 20 rfl rfl)
theorem dX2_goodBy_21 : decode cX2_goodBy 21 = .ok (.aload_n 0, 1) := dk_42 (dk_at dksX2_goodBy_0 21 rfl rfl)
theorem dX2_goodBy_22 : decode cX2_goodBy 22 = .ok (.getfield 26, 3) := dk_180 0 26 (dk_at dksX2_goodBy_1 0 rfl rfl)
theorem dX2_goodBy_25 : decode cX2_goodBy 25 = .ok (.invokevirtual 123, 3) := dk_182 0 123 (dk_at dksX2_goodBy_1 3 rfl rfl)
theorem dX2_goodBy_28 : decode cX2_goodBy 28 = .ok (.ireturn, 1) := dk_172 (dk_at dksX2_goodBy_1 6 rfl rfl)
abbrev cX2_layOrder : ByteArray := prog_4_method_40_code
def yX2_layOrder : MethodName := ⟨RX2, "layOrder", "(II)V"⟩
def dkwX2_layOrder_5 : List UInt8 := [132, 5, 1, 167, 255, 182, 177]
abbrev dktX2_layOrder_5 : List UInt8 := dkwX2_layOrder_5 ++ []
def dkwX2_layOrder_4 : List UInt8 := [167, 255, 226, 21, 4, 4, 21, 7, 120, 2, 130, 126, 54, 4, 42, 180, 0, 32, 21, 5, 21, 7, 79]
abbrev dktX2_layOrder_4 : List UInt8 := dkwX2_layOrder_4 ++ dktX2_layOrder_5
def dkwX2_layOrder_3 : List UInt8 := [126, 153, 0, 8, 21, 6, 158, 0, 21, 21, 6, 21, 4, 21, 7, 122, 4, 126, 100, 54, 6, 132, 7, 1]
abbrev dktX2_layOrder_3 : List UInt8 := dkwX2_layOrder_3 ++ dktX2_layOrder_4
def dkwX2_layOrder_2 : List UInt8 := [21, 5, 28, 162, 0, 74, 42, 180, 0, 32, 21, 5, 46, 54, 6, 3, 54, 7, 21, 4, 21, 7, 122, 4]
abbrev dktX2_layOrder_2 : List UInt8 := dkwX2_layOrder_2 ++ dktX2_layOrder_3
def dkwX2_layOrder_1 : List UInt8 := [79, 29, 28, 21, 4, 100, 108, 62, 132, 4, 255, 167, 255, 228, 4, 28, 120, 4, 100, 54, 4, 3, 54, 5]
abbrev dktX2_layOrder_1 : List UInt8 := dkwX2_layOrder_1 ++ dktX2_layOrder_2
def dkwX2_layOrder_0 : List UInt8 := [27, 62, 28, 4, 100, 54, 4, 21, 4, 155, 0, 29, 42, 180, 0, 32, 21, 4, 29, 28, 21, 4, 100, 112]
abbrev dktX2_layOrder_0 : List UInt8 := dkwX2_layOrder_0 ++ dktX2_layOrder_1
theorem dksX2_layOrder_0 : cX2_layOrder.data.toList.drop 0 = dktX2_layOrder_0 := by decide +kernel
theorem dksX2_layOrder_1 : cX2_layOrder.data.toList.drop 24 = dktX2_layOrder_1 := dk_seg dksX2_layOrder_0 24 rfl rfl
theorem dksX2_layOrder_2 : cX2_layOrder.data.toList.drop 48 = dktX2_layOrder_2 := dk_seg dksX2_layOrder_1 24 rfl rfl
theorem dksX2_layOrder_3 : cX2_layOrder.data.toList.drop 72 = dktX2_layOrder_3 := dk_seg dksX2_layOrder_2 24 rfl rfl
theorem dksX2_layOrder_4 : cX2_layOrder.data.toList.drop 96 = dktX2_layOrder_4 := dk_seg dksX2_layOrder_3 24 rfl rfl
theorem dksX2_layOrder_5 : cX2_layOrder.data.toList.drop 119 = dktX2_layOrder_5 := dk_seg dksX2_layOrder_4 23 rfl rfl
theorem dX2_layOrder_0 : decode cX2_layOrder 0 = .ok (.iload_n 1, 1) := dk_27 (dk_at dksX2_layOrder_0 0 rfl rfl)
theorem dX2_layOrder_1 : decode cX2_layOrder 1 = .ok (.istore_n 3, 1) := dk_62 (dk_at dksX2_layOrder_0 1 rfl rfl)
theorem dX2_layOrder_2 : decode cX2_layOrder 2 = .ok (.iload_n 2, 1) := dk_28 (dk_at dksX2_layOrder_0 2 rfl rfl)
theorem dX2_layOrder_3 : decode cX2_layOrder 3 = .ok (.iconst 1, 1) := dk_4 (dk_at dksX2_layOrder_0 3 rfl rfl)
theorem dX2_layOrder_4 : decode cX2_layOrder 4 = .ok (.isub, 1) := dk_100 (dk_at dksX2_layOrder_0 4 rfl rfl)
theorem dX2_layOrder_5 : decode cX2_layOrder 5 = .ok (.istore 4, 2) := dk_54 4 (dk_at dksX2_layOrder_0 5 rfl rfl)
theorem dX2_layOrder_7 : decode cX2_layOrder 7 = .ok (.iload 4, 2) := dk_21 4 (dk_at dksX2_layOrder_0 7 rfl rfl)
theorem dX2_layOrder_9 : decode cX2_layOrder 9 = .ok (.ifCond .lt 29, 3) := dk_155 0 29 (dk_at dksX2_layOrder_0 9 rfl rfl)
theorem dX2_layOrder_12 : decode cX2_layOrder 12 = .ok (.aload_n 0, 1) := dk_42 (dk_at dksX2_layOrder_0 12 rfl rfl)
theorem dX2_layOrder_13 : decode cX2_layOrder 13 = .ok (.getfield 32, 3) := dk_180 0 32 (dk_at dksX2_layOrder_0 13 rfl rfl)
theorem dX2_layOrder_16 : decode cX2_layOrder 16 = .ok (.iload 4, 2) := dk_21 4 (dk_at dksX2_layOrder_0 16 rfl rfl)
theorem dX2_layOrder_18 : decode cX2_layOrder 18 = .ok (.iload_n 3, 1) := dk_29 (dk_at dksX2_layOrder_0 18 rfl rfl)
theorem dX2_layOrder_19 : decode cX2_layOrder 19 = .ok (.iload_n 2, 1) := dk_28 (dk_at dksX2_layOrder_0 19 rfl rfl)
theorem dX2_layOrder_20 : decode cX2_layOrder 20 = .ok (.iload 4, 2) := dk_21 4 (dk_at dksX2_layOrder_0 20 rfl rfl)
theorem dX2_layOrder_22 : decode cX2_layOrder 22 = .ok (.isub, 1) := dk_100 (dk_at dksX2_layOrder_0 22 rfl rfl)
theorem dX2_layOrder_23 : decode cX2_layOrder 23 = .ok (.irem, 1) := dk_112 (dk_at dksX2_layOrder_0 23 rfl rfl)
theorem dX2_layOrder_24 : decode cX2_layOrder 24 = .ok (.iastore, 1) := dk_79 (dk_at dksX2_layOrder_1 0 rfl rfl)
theorem dX2_layOrder_25 : decode cX2_layOrder 25 = .ok (.iload_n 3, 1) := dk_29 (dk_at dksX2_layOrder_1 1 rfl rfl)
theorem dX2_layOrder_26 : decode cX2_layOrder 26 = .ok (.iload_n 2, 1) := dk_28 (dk_at dksX2_layOrder_1 2 rfl rfl)
theorem dX2_layOrder_27 : decode cX2_layOrder 27 = .ok (.iload 4, 2) := dk_21 4 (dk_at dksX2_layOrder_1 3 rfl rfl)
theorem dX2_layOrder_29 : decode cX2_layOrder 29 = .ok (.isub, 1) := dk_100 (dk_at dksX2_layOrder_1 5 rfl rfl)
theorem dX2_layOrder_30 : decode cX2_layOrder 30 = .ok (.idiv, 1) := dk_108 (dk_at dksX2_layOrder_1 6 rfl rfl)
theorem dX2_layOrder_31 : decode cX2_layOrder 31 = .ok (.istore_n 3, 1) := dk_62 (dk_at dksX2_layOrder_1 7 rfl rfl)
theorem dX2_layOrder_32 : decode cX2_layOrder 32 = .ok (.iinc 4 (-1), 3) := dk_132 4 255 (dk_at dksX2_layOrder_1 8 rfl rfl)
theorem dX2_layOrder_35 : decode cX2_layOrder 35 = .ok (.goto (-28), 3) := dk_167 255 228 (dk_at dksX2_layOrder_1 11 rfl rfl)
theorem dX2_layOrder_38 : decode cX2_layOrder 38 = .ok (.iconst 1, 1) := dk_4 (dk_at dksX2_layOrder_1 14 rfl rfl)
theorem dX2_layOrder_39 : decode cX2_layOrder 39 = .ok (.iload_n 2, 1) := dk_28 (dk_at dksX2_layOrder_1 15 rfl rfl)
theorem dX2_layOrder_40 : decode cX2_layOrder 40 = .ok (.ishl, 1) := dk_120 (dk_at dksX2_layOrder_1 16 rfl rfl)
theorem dX2_layOrder_41 : decode cX2_layOrder 41 = .ok (.iconst 1, 1) := dk_4 (dk_at dksX2_layOrder_1 17 rfl rfl)
theorem dX2_layOrder_42 : decode cX2_layOrder 42 = .ok (.isub, 1) := dk_100 (dk_at dksX2_layOrder_1 18 rfl rfl)
theorem dX2_layOrder_43 : decode cX2_layOrder 43 = .ok (.istore 4, 2) := dk_54 4 (dk_at dksX2_layOrder_1 19 rfl rfl)
theorem dX2_layOrder_45 : decode cX2_layOrder 45 = .ok (.iconst 0, 1) := dk_3 (dk_at dksX2_layOrder_1 21 rfl rfl)
theorem dX2_layOrder_46 : decode cX2_layOrder 46 = .ok (.istore 5, 2) := dk_54 5 (dk_at dksX2_layOrder_1 22 rfl rfl)
theorem dX2_layOrder_48 : decode cX2_layOrder 48 = .ok (.iload 5, 2) := dk_21 5 (dk_at dksX2_layOrder_2 0 rfl rfl)
theorem dX2_layOrder_50 : decode cX2_layOrder 50 = .ok (.iload_n 2, 1) := dk_28 (dk_at dksX2_layOrder_2 2 rfl rfl)
theorem dX2_layOrder_51 : decode cX2_layOrder 51 = .ok (.if_icmp .ge 74, 3) := dk_162 0 74 (dk_at dksX2_layOrder_2 3 rfl rfl)
theorem dX2_layOrder_54 : decode cX2_layOrder 54 = .ok (.aload_n 0, 1) := dk_42 (dk_at dksX2_layOrder_2 6 rfl rfl)
theorem dX2_layOrder_55 : decode cX2_layOrder 55 = .ok (.getfield 32, 3) := dk_180 0 32 (dk_at dksX2_layOrder_2 7 rfl rfl)
theorem dX2_layOrder_58 : decode cX2_layOrder 58 = .ok (.iload 5, 2) := dk_21 5 (dk_at dksX2_layOrder_2 10 rfl rfl)
theorem dX2_layOrder_60 : decode cX2_layOrder 60 = .ok (.iaload, 1) := dk_46 (dk_at dksX2_layOrder_2 12 rfl rfl)
theorem dX2_layOrder_61 : decode cX2_layOrder 61 = .ok (.istore 6, 2) := dk_54 6 (dk_at dksX2_layOrder_2 13 rfl rfl)
theorem dX2_layOrder_63 : decode cX2_layOrder 63 = .ok (.iconst 0, 1) := dk_3 (dk_at dksX2_layOrder_2 15 rfl rfl)
theorem dX2_layOrder_64 : decode cX2_layOrder 64 = .ok (.istore 7, 2) := dk_54 7 (dk_at dksX2_layOrder_2 16 rfl rfl)
theorem dX2_layOrder_66 : decode cX2_layOrder 66 = .ok (.iload 4, 2) := dk_21 4 (dk_at dksX2_layOrder_2 18 rfl rfl)
theorem dX2_layOrder_68 : decode cX2_layOrder 68 = .ok (.iload 7, 2) := dk_21 7 (dk_at dksX2_layOrder_2 20 rfl rfl)
theorem dX2_layOrder_70 : decode cX2_layOrder 70 = .ok (.ishr, 1) := dk_122 (dk_at dksX2_layOrder_2 22 rfl rfl)
theorem dX2_layOrder_71 : decode cX2_layOrder 71 = .ok (.iconst 1, 1) := dk_4 (dk_at dksX2_layOrder_2 23 rfl rfl)
theorem dX2_layOrder_72 : decode cX2_layOrder 72 = .ok (.iand, 1) := dk_126 (dk_at dksX2_layOrder_3 0 rfl rfl)
theorem dX2_layOrder_73 : decode cX2_layOrder 73 = .ok (.ifCond .eq 8, 3) := dk_153 0 8 (dk_at dksX2_layOrder_3 1 rfl rfl)
theorem dX2_layOrder_76 : decode cX2_layOrder 76 = .ok (.iload 6, 2) := dk_21 6 (dk_at dksX2_layOrder_3 4 rfl rfl)
theorem dX2_layOrder_78 : decode cX2_layOrder 78 = .ok (.ifCond .le 21, 3) := dk_158 0 21 (dk_at dksX2_layOrder_3 6 rfl rfl)
theorem dX2_layOrder_81 : decode cX2_layOrder 81 = .ok (.iload 6, 2) := dk_21 6 (dk_at dksX2_layOrder_3 9 rfl rfl)
theorem dX2_layOrder_83 : decode cX2_layOrder 83 = .ok (.iload 4, 2) := dk_21 4 (dk_at dksX2_layOrder_3 11 rfl rfl)
theorem dX2_layOrder_85 : decode cX2_layOrder 85 = .ok (.iload 7, 2) := dk_21 7 (dk_at dksX2_layOrder_3 13 rfl rfl)
theorem dX2_layOrder_87 : decode cX2_layOrder 87 = .ok (.ishr, 1) := dk_122 (dk_at dksX2_layOrder_3 15 rfl rfl)
theorem dX2_layOrder_88 : decode cX2_layOrder 88 = .ok (.iconst 1, 1) := dk_4 (dk_at dksX2_layOrder_3 16 rfl rfl)
theorem dX2_layOrder_89 : decode cX2_layOrder 89 = .ok (.iand, 1) := dk_126 (dk_at dksX2_layOrder_3 17 rfl rfl)
theorem dX2_layOrder_90 : decode cX2_layOrder 90 = .ok (.isub, 1) := dk_100 (dk_at dksX2_layOrder_3 18 rfl rfl)
theorem dX2_layOrder_91 : decode cX2_layOrder 91 = .ok (.istore 6, 2) := dk_54 6 (dk_at dksX2_layOrder_3 19 rfl rfl)
theorem dX2_layOrder_93 : decode cX2_layOrder 93 = .ok (.iinc 7 1, 3) := dk_132 7 1 (dk_at dksX2_layOrder_3 21 rfl rfl)
theorem dX2_layOrder_96 : decode cX2_layOrder 96 = .ok (.goto (-30), 3) := dk_167 255 226 (dk_at dksX2_layOrder_4 0 rfl rfl)
theorem dX2_layOrder_99 : decode cX2_layOrder 99 = .ok (.iload 4, 2) := dk_21 4 (dk_at dksX2_layOrder_4 3 rfl rfl)
theorem dX2_layOrder_101 : decode cX2_layOrder 101 = .ok (.iconst 1, 1) := dk_4 (dk_at dksX2_layOrder_4 5 rfl rfl)
theorem dX2_layOrder_102 : decode cX2_layOrder 102 = .ok (.iload 7, 2) := dk_21 7 (dk_at dksX2_layOrder_4 6 rfl rfl)
theorem dX2_layOrder_104 : decode cX2_layOrder 104 = .ok (.ishl, 1) := dk_120 (dk_at dksX2_layOrder_4 8 rfl rfl)
theorem dX2_layOrder_105 : decode cX2_layOrder 105 = .ok (.iconst (-1), 1) := dk_2 (dk_at dksX2_layOrder_4 9 rfl rfl)
theorem dX2_layOrder_106 : decode cX2_layOrder 106 = .ok (.ixor, 1) := dk_130 (dk_at dksX2_layOrder_4 10 rfl rfl)
theorem dX2_layOrder_107 : decode cX2_layOrder 107 = .ok (.iand, 1) := dk_126 (dk_at dksX2_layOrder_4 11 rfl rfl)
theorem dX2_layOrder_108 : decode cX2_layOrder 108 = .ok (.istore 4, 2) := dk_54 4 (dk_at dksX2_layOrder_4 12 rfl rfl)
theorem dX2_layOrder_110 : decode cX2_layOrder 110 = .ok (.aload_n 0, 1) := dk_42 (dk_at dksX2_layOrder_4 14 rfl rfl)
theorem dX2_layOrder_111 : decode cX2_layOrder 111 = .ok (.getfield 32, 3) := dk_180 0 32 (dk_at dksX2_layOrder_4 15 rfl rfl)
theorem dX2_layOrder_114 : decode cX2_layOrder 114 = .ok (.iload 5, 2) := dk_21 5 (dk_at dksX2_layOrder_4 18 rfl rfl)
theorem dX2_layOrder_116 : decode cX2_layOrder 116 = .ok (.iload 7, 2) := dk_21 7 (dk_at dksX2_layOrder_4 20 rfl rfl)
theorem dX2_layOrder_118 : decode cX2_layOrder 118 = .ok (.iastore, 1) := dk_79 (dk_at dksX2_layOrder_4 22 rfl rfl)
theorem dX2_layOrder_119 : decode cX2_layOrder 119 = .ok (.iinc 5 1, 3) := dk_132 5 1 (dk_at dksX2_layOrder_5 0 rfl rfl)
theorem dX2_layOrder_122 : decode cX2_layOrder 122 = .ok (.goto (-74), 3) := dk_167 255 182 (dk_at dksX2_layOrder_5 3 rfl rfl)
theorem dX2_layOrder_125 : decode cX2_layOrder 125 = .ok (.return_, 1) := dk_177 (dk_at dksX2_layOrder_5 6 rfl rfl)
abbrev cX2_climb : ByteArray := prog_4_method_47_code
def yX2_climb : MethodName := ⟨RX2, "climb", "(III)I"⟩
def dkwX2_climb_3 : List UInt8 := [42, 180, 0, 139, 167, 0, 9, 42, 180, 0, 29, 29, 46, 172]
abbrev dktX2_climb_3 : List UInt8 := dkwX2_climb_3 ++ []
def dkwX2_climb_2 : List UInt8 := [42, 27, 28, 182, 0, 146, 54, 4, 29, 2, 160, 0, 8, 21, 4, 167, 0, 22, 29, 16, 254, 160, 0, 10]
abbrev dktX2_climb_2 : List UInt8 := dkwX2_climb_2 ++ dktX2_climb_3
def dkwX2_climb_1 : List UInt8 := [16, 15, 184, 0, 41, 154, 0, 6, 16, 254, 172, 42, 182, 0, 57, 5, 112, 4, 160, 0, 6, 16, 253, 172]
abbrev dktX2_climb_1 : List UInt8 := dkwX2_climb_1 ++ dktX2_climb_2
def dkwX2_climb_0 : List UInt8 := [27, 3, 17, 39, 15, 184, 0, 41, 153, 0, 24, 28, 3, 16, 60, 184, 0, 41, 153, 0, 14, 29, 16, 254]
abbrev dktX2_climb_0 : List UInt8 := dkwX2_climb_0 ++ dktX2_climb_1
theorem dksX2_climb_0 : cX2_climb.data.toList.drop 0 = dktX2_climb_0 := by decide +kernel
theorem dksX2_climb_1 : cX2_climb.data.toList.drop 24 = dktX2_climb_1 := dk_seg dksX2_climb_0 24 rfl rfl
theorem dksX2_climb_2 : cX2_climb.data.toList.drop 48 = dktX2_climb_2 := dk_seg dksX2_climb_1 24 rfl rfl
theorem dksX2_climb_3 : cX2_climb.data.toList.drop 72 = dktX2_climb_3 := dk_seg dksX2_climb_2 24 rfl rfl
theorem dX2_climb_0 : decode cX2_climb 0 = .ok (.iload_n 1, 1) := dk_27 (dk_at dksX2_climb_0 0 rfl rfl)
theorem dX2_climb_1 : decode cX2_climb 1 = .ok (.iconst 0, 1) := dk_3 (dk_at dksX2_climb_0 1 rfl rfl)
theorem dX2_climb_2 : decode cX2_climb 2 = .ok (.sipush 9999, 3) := dk_17 39 15 (dk_at dksX2_climb_0 2 rfl rfl)
theorem dX2_climb_5 : decode cX2_climb 5 = .ok (.invokestatic 41, 3) := dk_184 0 41 (dk_at dksX2_climb_0 5 rfl rfl)
theorem dX2_climb_8 : decode cX2_climb 8 = .ok (.ifCond .eq 24, 3) := dk_153 0 24 (dk_at dksX2_climb_0 8 rfl rfl)
theorem dX2_climb_11 : decode cX2_climb 11 = .ok (.iload_n 2, 1) := dk_28 (dk_at dksX2_climb_0 11 rfl rfl)
theorem dX2_climb_12 : decode cX2_climb 12 = .ok (.iconst 0, 1) := dk_3 (dk_at dksX2_climb_0 12 rfl rfl)
theorem dX2_climb_13 : decode cX2_climb 13 = .ok (.bipush 60, 2) := dk_16 60 (dk_at dksX2_climb_0 13 rfl rfl)
theorem dX2_climb_15 : decode cX2_climb 15 = .ok (.invokestatic 41, 3) := dk_184 0 41 (dk_at dksX2_climb_0 15 rfl rfl)
theorem dX2_climb_18 : decode cX2_climb 18 = .ok (.ifCond .eq 14, 3) := dk_153 0 14 (dk_at dksX2_climb_0 18 rfl rfl)
theorem dX2_climb_21 : decode cX2_climb 21 = .ok (.iload_n 3, 1) := dk_29 (dk_at dksX2_climb_0 21 rfl rfl)
theorem dX2_climb_22 : decode cX2_climb 22 = .ok (.bipush (-2), 2) := dk_16 254 (dk_at dksX2_climb_0 22 rfl rfl)
theorem dX2_climb_24 : decode cX2_climb 24 = .ok (.bipush 15, 2) := dk_16 15 (dk_at dksX2_climb_1 0 rfl rfl)
theorem dX2_climb_26 : decode cX2_climb 26 = .ok (.invokestatic 41, 3) := dk_184 0 41 (dk_at dksX2_climb_1 2 rfl rfl)
theorem dX2_climb_29 : decode cX2_climb 29 = .ok (.ifCond .ne 6, 3) := dk_154 0 6 (dk_at dksX2_climb_1 5 rfl rfl)
theorem dX2_climb_32 : decode cX2_climb 32 = .ok (.bipush (-2), 2) := dk_16 254 (dk_at dksX2_climb_1 8 rfl rfl)
theorem dX2_climb_34 : decode cX2_climb 34 = .ok (.ireturn, 1) := dk_172 (dk_at dksX2_climb_1 10 rfl rfl)
theorem dX2_climb_35 : decode cX2_climb 35 = .ok (.aload_n 0, 1) := dk_42 (dk_at dksX2_climb_1 11 rfl rfl)
theorem dX2_climb_36 : decode cX2_climb 36 = .ok (.invokevirtual 57, 3) := dk_182 0 57 (dk_at dksX2_climb_1 12 rfl rfl)
theorem dX2_climb_39 : decode cX2_climb 39 = .ok (.iconst 2, 1) := dk_5 (dk_at dksX2_climb_1 15 rfl rfl)
theorem dX2_climb_40 : decode cX2_climb 40 = .ok (.irem, 1) := dk_112 (dk_at dksX2_climb_1 16 rfl rfl)
theorem dX2_climb_41 : decode cX2_climb 41 = .ok (.iconst 1, 1) := dk_4 (dk_at dksX2_climb_1 17 rfl rfl)
theorem dX2_climb_42 : decode cX2_climb 42 = .ok (.if_icmp .ne 6, 3) := dk_160 0 6 (dk_at dksX2_climb_1 18 rfl rfl)
theorem dX2_climb_45 : decode cX2_climb 45 = .ok (.bipush (-3), 2) := dk_16 253 (dk_at dksX2_climb_1 21 rfl rfl)
theorem dX2_climb_47 : decode cX2_climb 47 = .ok (.ireturn, 1) := dk_172 (dk_at dksX2_climb_1 23 rfl rfl)
theorem dX2_climb_48 : decode cX2_climb 48 = .ok (.aload_n 0, 1) := dk_42 (dk_at dksX2_climb_2 0 rfl rfl)
theorem dX2_climb_49 : decode cX2_climb 49 = .ok (.iload_n 1, 1) := dk_27 (dk_at dksX2_climb_2 1 rfl rfl)
theorem dX2_climb_50 : decode cX2_climb 50 = .ok (.iload_n 2, 1) := dk_28 (dk_at dksX2_climb_2 2 rfl rfl)
theorem dX2_climb_51 : decode cX2_climb 51 = .ok (.invokevirtual 146, 3) := dk_182 0 146 (dk_at dksX2_climb_2 3 rfl rfl)
theorem dX2_climb_54 : decode cX2_climb 54 = .ok (.istore 4, 2) := dk_54 4 (dk_at dksX2_climb_2 6 rfl rfl)
theorem dX2_climb_56 : decode cX2_climb 56 = .ok (.iload_n 3, 1) := dk_29 (dk_at dksX2_climb_2 8 rfl rfl)
theorem dX2_climb_57 : decode cX2_climb 57 = .ok (.iconst (-1), 1) := dk_2 (dk_at dksX2_climb_2 9 rfl rfl)
theorem dX2_climb_58 : decode cX2_climb 58 = .ok (.if_icmp .ne 8, 3) := dk_160 0 8 (dk_at dksX2_climb_2 10 rfl rfl)
theorem dX2_climb_61 : decode cX2_climb 61 = .ok (.iload 4, 2) := dk_21 4 (dk_at dksX2_climb_2 13 rfl rfl)
theorem dX2_climb_63 : decode cX2_climb 63 = .ok (.goto 22, 3) := dk_167 0 22 (dk_at dksX2_climb_2 15 rfl rfl)
theorem dX2_climb_66 : decode cX2_climb 66 = .ok (.iload_n 3, 1) := dk_29 (dk_at dksX2_climb_2 18 rfl rfl)
theorem dX2_climb_67 : decode cX2_climb 67 = .ok (.bipush (-2), 2) := dk_16 254 (dk_at dksX2_climb_2 19 rfl rfl)
theorem dX2_climb_69 : decode cX2_climb 69 = .ok (.if_icmp .ne 10, 3) := dk_160 0 10 (dk_at dksX2_climb_2 21 rfl rfl)
theorem dX2_climb_72 : decode cX2_climb 72 = .ok (.aload_n 0, 1) := dk_42 (dk_at dksX2_climb_3 0 rfl rfl)
theorem dX2_climb_73 : decode cX2_climb 73 = .ok (.getfield 139, 3) := dk_180 0 139 (dk_at dksX2_climb_3 1 rfl rfl)
theorem dX2_climb_76 : decode cX2_climb 76 = .ok (.goto 9, 3) := dk_167 0 9 (dk_at dksX2_climb_3 4 rfl rfl)
theorem dX2_climb_79 : decode cX2_climb 79 = .ok (.aload_n 0, 1) := dk_42 (dk_at dksX2_climb_3 7 rfl rfl)
theorem dX2_climb_80 : decode cX2_climb 80 = .ok (.getfield 29, 3) := dk_180 0 29 (dk_at dksX2_climb_3 8 rfl rfl)
theorem dX2_climb_83 : decode cX2_climb 83 = .ok (.iload_n 3, 1) := dk_29 (dk_at dksX2_climb_3 11 rfl rfl)
theorem dX2_climb_84 : decode cX2_climb 84 = .ok (.iaload, 1) := dk_46 (dk_at dksX2_climb_3 12 rfl rfl)
theorem dX2_climb_85 : decode cX2_climb 85 = .ok (.ireturn, 1) := dk_172 (dk_at dksX2_climb_3 13 rfl rfl)
abbrev cX2_goUp : ByteArray := prog_4_method_46_code
def yX2_goUp : MethodName := ⟨RX2, "goUp", "(II)I"⟩
def dkwX2_goUp_4 : List UInt8 := [89, 180, 0, 139, 4, 96, 181, 0, 139, 132, 5, 1, 167, 255, 172, 29, 172]
abbrev dktX2_goUp_4 : List UInt8 := dkwX2_goUp_4 ++ []
def dkwX2_goUp_3 : List UInt8 := [42, 21, 4, 16, 16, 112, 21, 4, 16, 16, 108, 16, 16, 112, 182, 0, 143, 167, 0, 16, 21, 6, 62, 42]
abbrev dktX2_goUp_3 : List UInt8 := dkwX2_goUp_3 ++ dktX2_goUp_4
def dkwX2_goUp_2 : List UInt8 := [112, 21, 4, 16, 16, 108, 16, 16, 112, 182, 0, 143, 42, 182, 0, 136, 54, 6, 21, 6, 29, 162, 0, 23]
abbrev dktX2_goUp_2 : List UInt8 := dkwX2_goUp_2 ++ dktX2_goUp_3
def dkwX2_goUp_1 : List UInt8 := [21, 5, 28, 162, 0, 84, 16, 75, 21, 4, 104, 16, 74, 96, 18, 142, 112, 54, 4, 42, 21, 4, 16, 16]
abbrev dktX2_goUp_1 : List UInt8 := dkwX2_goUp_1 ++ dktX2_goUp_2
def dkwX2_goUp_0 : List UInt8 := [42, 182, 0, 60, 42, 182, 0, 120, 42, 182, 0, 136, 62, 27, 54, 4, 42, 3, 181, 0, 139, 3, 54, 5]
abbrev dktX2_goUp_0 : List UInt8 := dkwX2_goUp_0 ++ dktX2_goUp_1
theorem dksX2_goUp_0 : cX2_goUp.data.toList.drop 0 = dktX2_goUp_0 := by decide +kernel
theorem dksX2_goUp_1 : cX2_goUp.data.toList.drop 24 = dktX2_goUp_1 := dk_seg dksX2_goUp_0 24 rfl rfl
theorem dksX2_goUp_2 : cX2_goUp.data.toList.drop 48 = dktX2_goUp_2 := dk_seg dksX2_goUp_1 24 rfl rfl
theorem dksX2_goUp_3 : cX2_goUp.data.toList.drop 72 = dktX2_goUp_3 := dk_seg dksX2_goUp_2 24 rfl rfl
theorem dksX2_goUp_4 : cX2_goUp.data.toList.drop 96 = dktX2_goUp_4 := dk_seg dksX2_goUp_3 24 rfl rfl
theorem dX2_goUp_0 : decode cX2_goUp 0 = .ok (.aload_n 0, 1) := dk_42 (dk_at dksX2_goUp_0 0 rfl rfl)
theorem dX2_goUp_1 : decode cX2_goUp 1 = .ok (.invokevirtual 60, 3) := dk_182 0 60 (dk_at dksX2_goUp_0 1 rfl rfl)
theorem dX2_goUp_4 : decode cX2_goUp 4 = .ok (.aload_n 0, 1) := dk_42 (dk_at dksX2_goUp_0 4 rfl rfl)
theorem dX2_goUp_5 : decode cX2_goUp 5 = .ok (.invokevirtual 120, 3) := dk_182 0 120 (dk_at dksX2_goUp_0 5 rfl rfl)
theorem dX2_goUp_8 : decode cX2_goUp 8 = .ok (.aload_n 0, 1) := dk_42 (dk_at dksX2_goUp_0 8 rfl rfl)
theorem dX2_goUp_9 : decode cX2_goUp 9 = .ok (.invokevirtual 136, 3) := dk_182 0 136 (dk_at dksX2_goUp_0 9 rfl rfl)
theorem dX2_goUp_12 : decode cX2_goUp 12 = .ok (.istore_n 3, 1) := dk_62 (dk_at dksX2_goUp_0 12 rfl rfl)
theorem dX2_goUp_13 : decode cX2_goUp 13 = .ok (.iload_n 1, 1) := dk_27 (dk_at dksX2_goUp_0 13 rfl rfl)
theorem dX2_goUp_14 : decode cX2_goUp 14 = .ok (.istore 4, 2) := dk_54 4 (dk_at dksX2_goUp_0 14 rfl rfl)
theorem dX2_goUp_16 : decode cX2_goUp 16 = .ok (.aload_n 0, 1) := dk_42 (dk_at dksX2_goUp_0 16 rfl rfl)
theorem dX2_goUp_17 : decode cX2_goUp 17 = .ok (.iconst 0, 1) := dk_3 (dk_at dksX2_goUp_0 17 rfl rfl)
theorem dX2_goUp_18 : decode cX2_goUp 18 = .ok (.putfield 139, 3) := dk_181 0 139 (dk_at dksX2_goUp_0 18 rfl rfl)
theorem dX2_goUp_21 : decode cX2_goUp 21 = .ok (.iconst 0, 1) := dk_3 (dk_at dksX2_goUp_0 21 rfl rfl)
theorem dX2_goUp_22 : decode cX2_goUp 22 = .ok (.istore 5, 2) := dk_54 5 (dk_at dksX2_goUp_0 22 rfl rfl)
theorem dX2_goUp_24 : decode cX2_goUp 24 = .ok (.iload 5, 2) := dk_21 5 (dk_at dksX2_goUp_1 0 rfl rfl)
theorem dX2_goUp_26 : decode cX2_goUp 26 = .ok (.iload_n 2, 1) := dk_28 (dk_at dksX2_goUp_1 2 rfl rfl)
theorem dX2_goUp_27 : decode cX2_goUp 27 = .ok (.if_icmp .ge 84, 3) := dk_162 0 84 (dk_at dksX2_goUp_1 3 rfl rfl)
theorem dX2_goUp_30 : decode cX2_goUp 30 = .ok (.bipush 75, 2) := dk_16 75 (dk_at dksX2_goUp_1 6 rfl rfl)
theorem dX2_goUp_32 : decode cX2_goUp 32 = .ok (.iload 4, 2) := dk_21 4 (dk_at dksX2_goUp_1 8 rfl rfl)
theorem dX2_goUp_34 : decode cX2_goUp 34 = .ok (.imul, 1) := dk_104 (dk_at dksX2_goUp_1 10 rfl rfl)
theorem dX2_goUp_35 : decode cX2_goUp 35 = .ok (.bipush 74, 2) := dk_16 74 (dk_at dksX2_goUp_1 11 rfl rfl)
theorem dX2_goUp_37 : decode cX2_goUp 37 = .ok (.iadd, 1) := dk_96 (dk_at dksX2_goUp_1 13 rfl rfl)
theorem dX2_goUp_38 : decode cX2_goUp 38 = .ok (.ldc 142, 2) := dk_18 142 (dk_at dksX2_goUp_1 14 rfl rfl)
theorem dX2_goUp_40 : decode cX2_goUp 40 = .ok (.irem, 1) := dk_112 (dk_at dksX2_goUp_1 16 rfl rfl)
theorem dX2_goUp_41 : decode cX2_goUp 41 = .ok (.istore 4, 2) := dk_54 4 (dk_at dksX2_goUp_1 17 rfl rfl)
theorem dX2_goUp_43 : decode cX2_goUp 43 = .ok (.aload_n 0, 1) := dk_42 (dk_at dksX2_goUp_1 19 rfl rfl)
theorem dX2_goUp_44 : decode cX2_goUp 44 = .ok (.iload 4, 2) := dk_21 4 (dk_at dksX2_goUp_1 20 rfl rfl)
theorem dX2_goUp_46 : decode cX2_goUp 46 = .ok (.bipush 16, 2) := dk_16 16 (dk_at dksX2_goUp_1 22 rfl rfl)
theorem dX2_goUp_48 : decode cX2_goUp 48 = .ok (.irem, 1) := dk_112 (dk_at dksX2_goUp_2 0 rfl rfl)
theorem dX2_goUp_49 : decode cX2_goUp 49 = .ok (.iload 4, 2) := dk_21 4 (dk_at dksX2_goUp_2 1 rfl rfl)
theorem dX2_goUp_51 : decode cX2_goUp 51 = .ok (.bipush 16, 2) := dk_16 16 (dk_at dksX2_goUp_2 3 rfl rfl)
theorem dX2_goUp_53 : decode cX2_goUp 53 = .ok (.idiv, 1) := dk_108 (dk_at dksX2_goUp_2 5 rfl rfl)
theorem dX2_goUp_54 : decode cX2_goUp 54 = .ok (.bipush 16, 2) := dk_16 16 (dk_at dksX2_goUp_2 6 rfl rfl)
theorem dX2_goUp_56 : decode cX2_goUp 56 = .ok (.irem, 1) := dk_112 (dk_at dksX2_goUp_2 8 rfl rfl)
theorem dX2_goUp_57 : decode cX2_goUp 57 = .ok (.invokevirtual 143, 3) := dk_182 0 143 (dk_at dksX2_goUp_2 9 rfl rfl)
theorem dX2_goUp_60 : decode cX2_goUp 60 = .ok (.aload_n 0, 1) := dk_42 (dk_at dksX2_goUp_2 12 rfl rfl)
theorem dX2_goUp_61 : decode cX2_goUp 61 = .ok (.invokevirtual 136, 3) := dk_182 0 136 (dk_at dksX2_goUp_2 13 rfl rfl)
theorem dX2_goUp_64 : decode cX2_goUp 64 = .ok (.istore 6, 2) := dk_54 6 (dk_at dksX2_goUp_2 16 rfl rfl)
theorem dX2_goUp_66 : decode cX2_goUp 66 = .ok (.iload 6, 2) := dk_21 6 (dk_at dksX2_goUp_2 18 rfl rfl)
theorem dX2_goUp_68 : decode cX2_goUp 68 = .ok (.iload_n 3, 1) := dk_29 (dk_at dksX2_goUp_2 20 rfl rfl)
theorem dX2_goUp_69 : decode cX2_goUp 69 = .ok (.if_icmp .ge 23, 3) := dk_162 0 23 (dk_at dksX2_goUp_2 21 rfl rfl)
theorem dX2_goUp_72 : decode cX2_goUp 72 = .ok (.aload_n 0, 1) := dk_42 (dk_at dksX2_goUp_3 0 rfl rfl)
theorem dX2_goUp_73 : decode cX2_goUp 73 = .ok (.iload 4, 2) := dk_21 4 (dk_at dksX2_goUp_3 1 rfl rfl)
theorem dX2_goUp_75 : decode cX2_goUp 75 = .ok (.bipush 16, 2) := dk_16 16 (dk_at dksX2_goUp_3 3 rfl rfl)
theorem dX2_goUp_77 : decode cX2_goUp 77 = .ok (.irem, 1) := dk_112 (dk_at dksX2_goUp_3 5 rfl rfl)
theorem dX2_goUp_78 : decode cX2_goUp 78 = .ok (.iload 4, 2) := dk_21 4 (dk_at dksX2_goUp_3 6 rfl rfl)
theorem dX2_goUp_80 : decode cX2_goUp 80 = .ok (.bipush 16, 2) := dk_16 16 (dk_at dksX2_goUp_3 8 rfl rfl)
theorem dX2_goUp_82 : decode cX2_goUp 82 = .ok (.idiv, 1) := dk_108 (dk_at dksX2_goUp_3 10 rfl rfl)
theorem dX2_goUp_83 : decode cX2_goUp 83 = .ok (.bipush 16, 2) := dk_16 16 (dk_at dksX2_goUp_3 11 rfl rfl)
theorem dX2_goUp_85 : decode cX2_goUp 85 = .ok (.irem, 1) := dk_112 (dk_at dksX2_goUp_3 13 rfl rfl)
theorem dX2_goUp_86 : decode cX2_goUp 86 = .ok (.invokevirtual 143, 3) := dk_182 0 143 (dk_at dksX2_goUp_3 14 rfl rfl)
theorem dX2_goUp_89 : decode cX2_goUp 89 = .ok (.goto 16, 3) := dk_167 0 16 (dk_at dksX2_goUp_3 17 rfl rfl)
theorem dX2_goUp_92 : decode cX2_goUp 92 = .ok (.iload 6, 2) := dk_21 6 (dk_at dksX2_goUp_3 20 rfl rfl)
theorem dX2_goUp_94 : decode cX2_goUp 94 = .ok (.istore_n 3, 1) := dk_62 (dk_at dksX2_goUp_3 22 rfl rfl)
theorem dX2_goUp_95 : decode cX2_goUp 95 = .ok (.aload_n 0, 1) := dk_42 (dk_at dksX2_goUp_3 23 rfl rfl)
theorem dX2_goUp_96 : decode cX2_goUp 96 = .ok (.dup, 1) := dk_89 (dk_at dksX2_goUp_4 0 rfl rfl)
theorem dX2_goUp_97 : decode cX2_goUp 97 = .ok (.getfield 139, 3) := dk_180 0 139 (dk_at dksX2_goUp_4 1 rfl rfl)
theorem dX2_goUp_100 : decode cX2_goUp 100 = .ok (.iconst 1, 1) := dk_4 (dk_at dksX2_goUp_4 4 rfl rfl)
theorem dX2_goUp_101 : decode cX2_goUp 101 = .ok (.iadd, 1) := dk_96 (dk_at dksX2_goUp_4 5 rfl rfl)
theorem dX2_goUp_102 : decode cX2_goUp 102 = .ok (.putfield 139, 3) := dk_181 0 139 (dk_at dksX2_goUp_4 6 rfl rfl)
theorem dX2_goUp_105 : decode cX2_goUp 105 = .ok (.iinc 5 1, 3) := dk_132 5 1 (dk_at dksX2_goUp_4 9 rfl rfl)
theorem dX2_goUp_108 : decode cX2_goUp 108 = .ok (.goto (-84), 3) := dk_167 255 172 (dk_at dksX2_goUp_4 12 rfl rfl)
theorem dX2_goUp_111 : decode cX2_goUp 111 = .ok (.iload_n 3, 1) := dk_29 (dk_at dksX2_goUp_4 15 rfl rfl)
theorem dX2_goUp_112 : decode cX2_goUp 112 = .ok (.ireturn, 1) := dk_172 (dk_at dksX2_goUp_4 16 rfl rfl)
abbrev cX2_goodByPairs : ByteArray := prog_4_method_44_code
def yX2_goodByPairs : MethodName := ⟨RX2, "goodByPairs", "()I"⟩
def dkwX2_goodByPairs_0 : List UInt8 := [42, 2, 182, 0, 82, 42, 42, 180, 0, 26, 182, 0, 123, 172]
abbrev dktX2_goodByPairs_0 : List UInt8 := dkwX2_goodByPairs_0 ++ []
theorem dksX2_goodByPairs_0 : cX2_goodByPairs.data.toList.drop 0 = dktX2_goodByPairs_0 := by decide +kernel
theorem dX2_goodByPairs_0 : decode cX2_goodByPairs 0 = .ok (.aload_n 0, 1) := dk_42 (dk_at dksX2_goodByPairs_0 0 rfl rfl)
theorem dX2_goodByPairs_1 : decode cX2_goodByPairs 1 = .ok (.iconst (-1), 1) := dk_2 (dk_at dksX2_goodByPairs_0 1 rfl rfl)
theorem dX2_goodByPairs_2 : decode cX2_goodByPairs 2 = .ok (.invokevirtual 82, 3) := dk_182 0 82 (dk_at dksX2_goodByPairs_0 2 rfl rfl)
theorem dX2_goodByPairs_5 : decode cX2_goodByPairs 5 = .ok (.aload_n 0, 1) := dk_42 (dk_at dksX2_goodByPairs_0 5 rfl rfl)
theorem dX2_goodByPairs_6 : decode cX2_goodByPairs 6 = .ok (.aload_n 0, 1) := dk_42 (dk_at dksX2_goodByPairs_0 6 rfl rfl)
theorem dX2_goodByPairs_7 : decode cX2_goodByPairs 7 = .ok (.getfield 26, 3) := dk_180 0 26 (dk_at dksX2_goodByPairs_0 7 rfl rfl)
theorem dX2_goodByPairs_10 : decode cX2_goodByPairs 10 = .ok (.invokevirtual 123, 3) := dk_182 0 123 (dk_at dksX2_goodByPairs_0 10 rfl rfl)
theorem dX2_goodByPairs_13 : decode cX2_goodByPairs 13 = .ok (.ireturn, 1) := dk_172 (dk_at dksX2_goodByPairs_0 13 rfl rfl)
abbrev cX2_swap : ByteArray := prog_4_method_45_code
def yX2_swap : MethodName := ⟨RX2, "swap", "(II)V"⟩
def dkwX2_swap_1 : List UInt8 := [29, 79, 177]
abbrev dktX2_swap_1 : List UInt8 := dkwX2_swap_1 ++ []
def dkwX2_swap_0 : List UInt8 := [42, 180, 0, 29, 27, 46, 62, 42, 180, 0, 29, 27, 42, 180, 0, 29, 28, 46, 79, 42, 180, 0, 29, 28]
abbrev dktX2_swap_0 : List UInt8 := dkwX2_swap_0 ++ dktX2_swap_1
theorem dksX2_swap_0 : cX2_swap.data.toList.drop 0 = dktX2_swap_0 := by decide +kernel
theorem dksX2_swap_1 : cX2_swap.data.toList.drop 24 = dktX2_swap_1 := dk_seg dksX2_swap_0 24 rfl rfl
theorem dX2_swap_0 : decode cX2_swap 0 = .ok (.aload_n 0, 1) := dk_42 (dk_at dksX2_swap_0 0 rfl rfl)
theorem dX2_swap_1 : decode cX2_swap 1 = .ok (.getfield 29, 3) := dk_180 0 29 (dk_at dksX2_swap_0 1 rfl rfl)
theorem dX2_swap_4 : decode cX2_swap 4 = .ok (.iload_n 1, 1) := dk_27 (dk_at dksX2_swap_0 4 rfl rfl)
theorem dX2_swap_5 : decode cX2_swap 5 = .ok (.iaload, 1) := dk_46 (dk_at dksX2_swap_0 5 rfl rfl)
theorem dX2_swap_6 : decode cX2_swap 6 = .ok (.istore_n 3, 1) := dk_62 (dk_at dksX2_swap_0 6 rfl rfl)
theorem dX2_swap_7 : decode cX2_swap 7 = .ok (.aload_n 0, 1) := dk_42 (dk_at dksX2_swap_0 7 rfl rfl)
theorem dX2_swap_8 : decode cX2_swap 8 = .ok (.getfield 29, 3) := dk_180 0 29 (dk_at dksX2_swap_0 8 rfl rfl)
theorem dX2_swap_11 : decode cX2_swap 11 = .ok (.iload_n 1, 1) := dk_27 (dk_at dksX2_swap_0 11 rfl rfl)
theorem dX2_swap_12 : decode cX2_swap 12 = .ok (.aload_n 0, 1) := dk_42 (dk_at dksX2_swap_0 12 rfl rfl)
theorem dX2_swap_13 : decode cX2_swap 13 = .ok (.getfield 29, 3) := dk_180 0 29 (dk_at dksX2_swap_0 13 rfl rfl)
theorem dX2_swap_16 : decode cX2_swap 16 = .ok (.iload_n 2, 1) := dk_28 (dk_at dksX2_swap_0 16 rfl rfl)
theorem dX2_swap_17 : decode cX2_swap 17 = .ok (.iaload, 1) := dk_46 (dk_at dksX2_swap_0 17 rfl rfl)
theorem dX2_swap_18 : decode cX2_swap 18 = .ok (.iastore, 1) := dk_79 (dk_at dksX2_swap_0 18 rfl rfl)
theorem dX2_swap_19 : decode cX2_swap 19 = .ok (.aload_n 0, 1) := dk_42 (dk_at dksX2_swap_0 19 rfl rfl)
theorem dX2_swap_20 : decode cX2_swap 20 = .ok (.getfield 29, 3) := dk_180 0 29 (dk_at dksX2_swap_0 20 rfl rfl)
theorem dX2_swap_23 : decode cX2_swap 23 = .ok (.iload_n 2, 1) := dk_28 (dk_at dksX2_swap_0 23 rfl rfl)
theorem dX2_swap_24 : decode cX2_swap 24 = .ok (.iload_n 3, 1) := dk_29 (dk_at dksX2_swap_1 0 rfl rfl)
theorem dX2_swap_25 : decode cX2_swap 25 = .ok (.iastore, 1) := dk_79 (dk_at dksX2_swap_1 1 rfl rfl)
theorem dX2_swap_26 : decode cX2_swap 26 = .ok (.return_, 1) := dk_177 (dk_at dksX2_swap_1 2 rfl rfl)
abbrev cX2_image : ByteArray := prog_4_method_48_code
def yX2_image : MethodName := ⟨RX2, "image", "(I)I"⟩
def dkwX2_image_2 : List UInt8 := [180, 0, 16, 27, 4, 84, 4, 172]
abbrev dktX2_image_2 : List UInt8 := dkwX2_image_2 ++ []
def dkwX2_image_1 : List UInt8 := [180, 0, 13, 17, 3, 51, 27, 104, 28, 96, 42, 180, 0, 7, 28, 46, 79, 132, 2, 1, 167, 255, 228, 42]
abbrev dktX2_image_1 : List UInt8 := dkwX2_image_1 ++ dktX2_image_2
def dkwX2_image_0 : List UInt8 := [27, 3, 4, 184, 0, 41, 154, 0, 6, 16, 254, 172, 3, 61, 28, 17, 3, 51, 162, 0, 27, 42]
abbrev dktX2_image_0 : List UInt8 := dkwX2_image_0 ++ dktX2_image_1
theorem dksX2_image_0 : cX2_image.data.toList.drop 0 = dktX2_image_0 := by decide +kernel
theorem dksX2_image_1 : cX2_image.data.toList.drop 22 = dktX2_image_1 := dk_seg dksX2_image_0 22 rfl rfl
theorem dksX2_image_2 : cX2_image.data.toList.drop 46 = dktX2_image_2 := dk_seg dksX2_image_1 24 rfl rfl
theorem dX2_image_0 : decode cX2_image 0 = .ok (.iload_n 1, 1) := dk_27 (dk_at dksX2_image_0 0 rfl rfl)
theorem dX2_image_1 : decode cX2_image 1 = .ok (.iconst 0, 1) := dk_3 (dk_at dksX2_image_0 1 rfl rfl)
theorem dX2_image_2 : decode cX2_image 2 = .ok (.iconst 1, 1) := dk_4 (dk_at dksX2_image_0 2 rfl rfl)
theorem dX2_image_3 : decode cX2_image 3 = .ok (.invokestatic 41, 3) := dk_184 0 41 (dk_at dksX2_image_0 3 rfl rfl)
theorem dX2_image_6 : decode cX2_image 6 = .ok (.ifCond .ne 6, 3) := dk_154 0 6 (dk_at dksX2_image_0 6 rfl rfl)
theorem dX2_image_9 : decode cX2_image 9 = .ok (.bipush (-2), 2) := dk_16 254 (dk_at dksX2_image_0 9 rfl rfl)
theorem dX2_image_11 : decode cX2_image 11 = .ok (.ireturn, 1) := dk_172 (dk_at dksX2_image_0 11 rfl rfl)
theorem dX2_image_12 : decode cX2_image 12 = .ok (.iconst 0, 1) := dk_3 (dk_at dksX2_image_0 12 rfl rfl)
theorem dX2_image_13 : decode cX2_image 13 = .ok (.istore_n 2, 1) := dk_61 (dk_at dksX2_image_0 13 rfl rfl)
theorem dX2_image_14 : decode cX2_image 14 = .ok (.iload_n 2, 1) := dk_28 (dk_at dksX2_image_0 14 rfl rfl)
theorem dX2_image_15 : decode cX2_image 15 = .ok (.sipush 819, 3) := dk_17 3 51 (dk_at dksX2_image_0 15 rfl rfl)
theorem dX2_image_18 : decode cX2_image 18 = .ok (.if_icmp .ge 27, 3) := dk_162 0 27 (dk_at dksX2_image_0 18 rfl rfl)
theorem dX2_image_21 : decode cX2_image 21 = .ok (.aload_n 0, 1) := dk_42 (dk_at dksX2_image_0 21 rfl rfl)
theorem dX2_image_22 : decode cX2_image 22 = .ok (.getfield 13, 3) := dk_180 0 13 (dk_at dksX2_image_1 0 rfl rfl)
theorem dX2_image_25 : decode cX2_image 25 = .ok (.sipush 819, 3) := dk_17 3 51 (dk_at dksX2_image_1 3 rfl rfl)
theorem dX2_image_28 : decode cX2_image 28 = .ok (.iload_n 1, 1) := dk_27 (dk_at dksX2_image_1 6 rfl rfl)
theorem dX2_image_29 : decode cX2_image 29 = .ok (.imul, 1) := dk_104 (dk_at dksX2_image_1 7 rfl rfl)
theorem dX2_image_30 : decode cX2_image 30 = .ok (.iload_n 2, 1) := dk_28 (dk_at dksX2_image_1 8 rfl rfl)
theorem dX2_image_31 : decode cX2_image 31 = .ok (.iadd, 1) := dk_96 (dk_at dksX2_image_1 9 rfl rfl)
theorem dX2_image_32 : decode cX2_image 32 = .ok (.aload_n 0, 1) := dk_42 (dk_at dksX2_image_1 10 rfl rfl)
theorem dX2_image_33 : decode cX2_image 33 = .ok (.getfield 7, 3) := dk_180 0 7 (dk_at dksX2_image_1 11 rfl rfl)
theorem dX2_image_36 : decode cX2_image 36 = .ok (.iload_n 2, 1) := dk_28 (dk_at dksX2_image_1 14 rfl rfl)
theorem dX2_image_37 : decode cX2_image 37 = .ok (.iaload, 1) := dk_46 (dk_at dksX2_image_1 15 rfl rfl)
theorem dX2_image_38 : decode cX2_image 38 = .ok (.iastore, 1) := dk_79 (dk_at dksX2_image_1 16 rfl rfl)
theorem dX2_image_39 : decode cX2_image 39 = .ok (.iinc 2 1, 3) := dk_132 2 1 (dk_at dksX2_image_1 17 rfl rfl)
theorem dX2_image_42 : decode cX2_image 42 = .ok (.goto (-28), 3) := dk_167 255 228 (dk_at dksX2_image_1 20 rfl rfl)
theorem dX2_image_45 : decode cX2_image 45 = .ok (.aload_n 0, 1) := dk_42 (dk_at dksX2_image_1 23 rfl rfl)
theorem dX2_image_46 : decode cX2_image 46 = .ok (.getfield 16, 3) := dk_180 0 16 (dk_at dksX2_image_2 0 rfl rfl)
theorem dX2_image_49 : decode cX2_image 49 = .ok (.iload_n 1, 1) := dk_27 (dk_at dksX2_image_2 3 rfl rfl)
theorem dX2_image_50 : decode cX2_image 50 = .ok (.iconst 1, 1) := dk_4 (dk_at dksX2_image_2 4 rfl rfl)
theorem dX2_image_51 : decode cX2_image 51 = .ok (.bastore, 1) := dk_84 (dk_at dksX2_image_2 5 rfl rfl)
theorem dX2_image_52 : decode cX2_image 52 = .ok (.iconst 1, 1) := dk_4 (dk_at dksX2_image_2 6 rfl rfl)
theorem dX2_image_53 : decode cX2_image 53 = .ok (.ireturn, 1) := dk_172 (dk_at dksX2_image_2 7 rfl rfl)
abbrev cX2_restore : ByteArray := prog_4_method_49_code
def yX2_restore : MethodName := ⟨RX2, "restore", "(I)I"⟩
def dkwX2_restore_2 : List UInt8 := [96, 46, 79, 132, 2, 1, 167, 255, 228, 4, 172]
abbrev dktX2_restore_2 : List UInt8 := dkwX2_restore_2 ++ []
def dkwX2_restore_1 : List UInt8 := [3, 61, 28, 17, 3, 51, 162, 0, 27, 42, 180, 0, 7, 28, 42, 180, 0, 13, 17, 3, 51, 27, 104, 28]
abbrev dktX2_restore_1 : List UInt8 := dkwX2_restore_1 ++ dktX2_restore_2
def dkwX2_restore_0 : List UInt8 := [27, 3, 4, 184, 0, 41, 154, 0, 6, 16, 254, 172, 42, 180, 0, 16, 27, 51, 154, 0, 6, 16, 253, 172]
abbrev dktX2_restore_0 : List UInt8 := dkwX2_restore_0 ++ dktX2_restore_1
theorem dksX2_restore_0 : cX2_restore.data.toList.drop 0 = dktX2_restore_0 := by decide +kernel
theorem dksX2_restore_1 : cX2_restore.data.toList.drop 24 = dktX2_restore_1 := dk_seg dksX2_restore_0 24 rfl rfl
theorem dksX2_restore_2 : cX2_restore.data.toList.drop 48 = dktX2_restore_2 := dk_seg dksX2_restore_1 24 rfl rfl
theorem dX2_restore_0 : decode cX2_restore 0 = .ok (.iload_n 1, 1) := dk_27 (dk_at dksX2_restore_0 0 rfl rfl)
theorem dX2_restore_1 : decode cX2_restore 1 = .ok (.iconst 0, 1) := dk_3 (dk_at dksX2_restore_0 1 rfl rfl)
theorem dX2_restore_2 : decode cX2_restore 2 = .ok (.iconst 1, 1) := dk_4 (dk_at dksX2_restore_0 2 rfl rfl)
theorem dX2_restore_3 : decode cX2_restore 3 = .ok (.invokestatic 41, 3) := dk_184 0 41 (dk_at dksX2_restore_0 3 rfl rfl)
theorem dX2_restore_6 : decode cX2_restore 6 = .ok (.ifCond .ne 6, 3) := dk_154 0 6 (dk_at dksX2_restore_0 6 rfl rfl)
theorem dX2_restore_9 : decode cX2_restore 9 = .ok (.bipush (-2), 2) := dk_16 254 (dk_at dksX2_restore_0 9 rfl rfl)
theorem dX2_restore_11 : decode cX2_restore 11 = .ok (.ireturn, 1) := dk_172 (dk_at dksX2_restore_0 11 rfl rfl)
theorem dX2_restore_12 : decode cX2_restore 12 = .ok (.aload_n 0, 1) := dk_42 (dk_at dksX2_restore_0 12 rfl rfl)
theorem dX2_restore_13 : decode cX2_restore 13 = .ok (.getfield 16, 3) := dk_180 0 16 (dk_at dksX2_restore_0 13 rfl rfl)
theorem dX2_restore_16 : decode cX2_restore 16 = .ok (.iload_n 1, 1) := dk_27 (dk_at dksX2_restore_0 16 rfl rfl)
theorem dX2_restore_17 : decode cX2_restore 17 = .ok (.baload, 1) := dk_51 (dk_at dksX2_restore_0 17 rfl rfl)
theorem dX2_restore_18 : decode cX2_restore 18 = .ok (.ifCond .ne 6, 3) := dk_154 0 6 (dk_at dksX2_restore_0 18 rfl rfl)
theorem dX2_restore_21 : decode cX2_restore 21 = .ok (.bipush (-3), 2) := dk_16 253 (dk_at dksX2_restore_0 21 rfl rfl)
theorem dX2_restore_23 : decode cX2_restore 23 = .ok (.ireturn, 1) := dk_172 (dk_at dksX2_restore_0 23 rfl rfl)
theorem dX2_restore_24 : decode cX2_restore 24 = .ok (.iconst 0, 1) := dk_3 (dk_at dksX2_restore_1 0 rfl rfl)
theorem dX2_restore_25 : decode cX2_restore 25 = .ok (.istore_n 2, 1) := dk_61 (dk_at dksX2_restore_1 1 rfl rfl)
theorem dX2_restore_26 : decode cX2_restore 26 = .ok (.iload_n 2, 1) := dk_28 (dk_at dksX2_restore_1 2 rfl rfl)
theorem dX2_restore_27 : decode cX2_restore 27 = .ok (.sipush 819, 3) := dk_17 3 51 (dk_at dksX2_restore_1 3 rfl rfl)
theorem dX2_restore_30 : decode cX2_restore 30 = .ok (.if_icmp .ge 27, 3) := dk_162 0 27 (dk_at dksX2_restore_1 6 rfl rfl)
theorem dX2_restore_33 : decode cX2_restore 33 = .ok (.aload_n 0, 1) := dk_42 (dk_at dksX2_restore_1 9 rfl rfl)
theorem dX2_restore_34 : decode cX2_restore 34 = .ok (.getfield 7, 3) := dk_180 0 7 (dk_at dksX2_restore_1 10 rfl rfl)
theorem dX2_restore_37 : decode cX2_restore 37 = .ok (.iload_n 2, 1) := dk_28 (dk_at dksX2_restore_1 13 rfl rfl)
theorem dX2_restore_38 : decode cX2_restore 38 = .ok (.aload_n 0, 1) := dk_42 (dk_at dksX2_restore_1 14 rfl rfl)
theorem dX2_restore_39 : decode cX2_restore 39 = .ok (.getfield 13, 3) := dk_180 0 13 (dk_at dksX2_restore_1 15 rfl rfl)
theorem dX2_restore_42 : decode cX2_restore 42 = .ok (.sipush 819, 3) := dk_17 3 51 (dk_at dksX2_restore_1 18 rfl rfl)
theorem dX2_restore_45 : decode cX2_restore 45 = .ok (.iload_n 1, 1) := dk_27 (dk_at dksX2_restore_1 21 rfl rfl)
theorem dX2_restore_46 : decode cX2_restore 46 = .ok (.imul, 1) := dk_104 (dk_at dksX2_restore_1 22 rfl rfl)
theorem dX2_restore_47 : decode cX2_restore 47 = .ok (.iload_n 2, 1) := dk_28 (dk_at dksX2_restore_1 23 rfl rfl)
theorem dX2_restore_48 : decode cX2_restore 48 = .ok (.iadd, 1) := dk_96 (dk_at dksX2_restore_2 0 rfl rfl)
theorem dX2_restore_49 : decode cX2_restore 49 = .ok (.iaload, 1) := dk_46 (dk_at dksX2_restore_2 1 rfl rfl)
theorem dX2_restore_50 : decode cX2_restore 50 = .ok (.iastore, 1) := dk_79 (dk_at dksX2_restore_2 2 rfl rfl)
theorem dX2_restore_51 : decode cX2_restore 51 = .ok (.iinc 2 1, 3) := dk_132 2 1 (dk_at dksX2_restore_2 3 rfl rfl)
theorem dX2_restore_54 : decode cX2_restore 54 = .ok (.goto (-28), 3) := dk_167 255 228 (dk_at dksX2_restore_2 6 rfl rfl)
theorem dX2_restore_57 : decode cX2_restore 57 = .ok (.iconst 1, 1) := dk_4 (dk_at dksX2_restore_2 9 rfl rfl)
theorem dX2_restore_58 : decode cX2_restore 58 = .ok (.ireturn, 1) := dk_172 (dk_at dksX2_restore_2 10 rfl rfl)
abbrev cX2_count : ByteArray := prog_4_method_50_code
def yX2_count : MethodName := ⟨RX2, "count", "(I)I"⟩
def dkwX2_count_5 : List UInt8 := [42, 180, 0, 16, 4, 51, 153, 0, 7, 5, 167, 0, 4, 3, 96, 172, 16, 254, 172]
abbrev dktX2_count_5 : List UInt8 := dkwX2_count_5 ++ []
def dkwX2_count_4 : List UInt8 := [17, 1, 72, 46, 172, 42, 182, 0, 53, 172, 42, 180, 0, 16, 3, 51, 153, 0, 7, 4, 167, 0, 4, 3]
abbrev dktX2_count_4 : List UInt8 := dkwX2_count_4 ++ dktX2_count_5
def dkwX2_count_3 : List UInt8 := [42, 182, 0, 57, 172, 42, 180, 0, 7, 16, 55, 46, 172, 42, 180, 0, 45, 172, 42, 180, 0, 7]
abbrev dktX2_count_3 : List UInt8 := dkwX2_count_3 ++ dktX2_count_4
def dkwX2_count_2 : List UInt8 := [170, 0, 0, 0, 0, 0, 101, 0, 0, 0, 0, 0, 0, 0, 5, 0, 0, 0, 39, 0, 0, 0, 44, 0, 0, 0, 52, 0, 0, 0, 57, 0, 0, 0, 66, 0, 0, 0, 71]
abbrev dktX2_count_2 : List UInt8 := dkwX2_count_2 ++ dktX2_count_3
def dkwX2_count_1 : List UInt8 := [27]
abbrev dktX2_count_1 : List UInt8 := dkwX2_count_1 ++ dktX2_count_2
def dkwX2_count_0 : List UInt8 := [27, 16, 10, 16, 25, 184, 0, 41, 153, 0, 16, 42, 180, 0, 7, 16, 56, 27, 96, 16, 10, 100, 46, 172]
abbrev dktX2_count_0 : List UInt8 := dkwX2_count_0 ++ dktX2_count_1
theorem dksX2_count_0 : cX2_count.data.toList.drop 0 = dktX2_count_0 := by decide +kernel
theorem dksX2_count_1 : cX2_count.data.toList.drop 24 = dktX2_count_1 := dk_seg dksX2_count_0 24 rfl rfl
theorem dksX2_count_2 : cX2_count.data.toList.drop 25 = dktX2_count_2 := dk_seg dksX2_count_1 1 rfl rfl
theorem dksX2_count_3 : cX2_count.data.toList.drop 64 = dktX2_count_3 := dk_seg dksX2_count_2 39 rfl rfl
theorem dksX2_count_4 : cX2_count.data.toList.drop 86 = dktX2_count_4 := dk_seg dksX2_count_3 22 rfl rfl
theorem dksX2_count_5 : cX2_count.data.toList.drop 110 = dktX2_count_5 := dk_seg dksX2_count_4 24 rfl rfl
theorem dX2_count_0 : decode cX2_count 0 = .ok (.iload_n 1, 1) := dk_27 (dk_at dksX2_count_0 0 rfl rfl)
theorem dX2_count_1 : decode cX2_count 1 = .ok (.bipush 10, 2) := dk_16 10 (dk_at dksX2_count_0 1 rfl rfl)
theorem dX2_count_3 : decode cX2_count 3 = .ok (.bipush 25, 2) := dk_16 25 (dk_at dksX2_count_0 3 rfl rfl)
theorem dX2_count_5 : decode cX2_count 5 = .ok (.invokestatic 41, 3) := dk_184 0 41 (dk_at dksX2_count_0 5 rfl rfl)
theorem dX2_count_8 : decode cX2_count 8 = .ok (.ifCond .eq 16, 3) := dk_153 0 16 (dk_at dksX2_count_0 8 rfl rfl)
theorem dX2_count_11 : decode cX2_count 11 = .ok (.aload_n 0, 1) := dk_42 (dk_at dksX2_count_0 11 rfl rfl)
theorem dX2_count_12 : decode cX2_count 12 = .ok (.getfield 7, 3) := dk_180 0 7 (dk_at dksX2_count_0 12 rfl rfl)
theorem dX2_count_15 : decode cX2_count 15 = .ok (.bipush 56, 2) := dk_16 56 (dk_at dksX2_count_0 15 rfl rfl)
theorem dX2_count_17 : decode cX2_count 17 = .ok (.iload_n 1, 1) := dk_27 (dk_at dksX2_count_0 17 rfl rfl)
theorem dX2_count_18 : decode cX2_count 18 = .ok (.iadd, 1) := dk_96 (dk_at dksX2_count_0 18 rfl rfl)
theorem dX2_count_19 : decode cX2_count 19 = .ok (.bipush 10, 2) := dk_16 10 (dk_at dksX2_count_0 19 rfl rfl)
theorem dX2_count_21 : decode cX2_count 21 = .ok (.isub, 1) := dk_100 (dk_at dksX2_count_0 21 rfl rfl)
theorem dX2_count_22 : decode cX2_count 22 = .ok (.iaload, 1) := dk_46 (dk_at dksX2_count_0 22 rfl rfl)
theorem dX2_count_23 : decode cX2_count 23 = .ok (.ireturn, 1) := dk_172 (dk_at dksX2_count_0 23 rfl rfl)
theorem dX2_count_24 : decode cX2_count 24 = .ok (.iload_n 1, 1) := dk_27 (dk_at dksX2_count_1 0 rfl rfl)
theorem dX2_count_25 : decode cX2_count 25 = .ok (.tableswitch 101 0 5 #[39, 44, 52, 57, 66, 71], 39) := by decide +kernel
theorem dX2_count_64 : decode cX2_count 64 = .ok (.aload_n 0, 1) := dk_42 (dk_at dksX2_count_3 0 rfl rfl)
theorem dX2_count_65 : decode cX2_count 65 = .ok (.invokevirtual 57, 3) := dk_182 0 57 (dk_at dksX2_count_3 1 rfl rfl)
theorem dX2_count_68 : decode cX2_count 68 = .ok (.ireturn, 1) := dk_172 (dk_at dksX2_count_3 4 rfl rfl)
theorem dX2_count_69 : decode cX2_count 69 = .ok (.aload_n 0, 1) := dk_42 (dk_at dksX2_count_3 5 rfl rfl)
theorem dX2_count_70 : decode cX2_count 70 = .ok (.getfield 7, 3) := dk_180 0 7 (dk_at dksX2_count_3 6 rfl rfl)
theorem dX2_count_73 : decode cX2_count 73 = .ok (.bipush 55, 2) := dk_16 55 (dk_at dksX2_count_3 9 rfl rfl)
theorem dX2_count_75 : decode cX2_count 75 = .ok (.iaload, 1) := dk_46 (dk_at dksX2_count_3 11 rfl rfl)
theorem dX2_count_76 : decode cX2_count 76 = .ok (.ireturn, 1) := dk_172 (dk_at dksX2_count_3 12 rfl rfl)
theorem dX2_count_77 : decode cX2_count 77 = .ok (.aload_n 0, 1) := dk_42 (dk_at dksX2_count_3 13 rfl rfl)
theorem dX2_count_78 : decode cX2_count 78 = .ok (.getfield 45, 3) := dk_180 0 45 (dk_at dksX2_count_3 14 rfl rfl)
theorem dX2_count_81 : decode cX2_count 81 = .ok (.ireturn, 1) := dk_172 (dk_at dksX2_count_3 17 rfl rfl)
theorem dX2_count_82 : decode cX2_count 82 = .ok (.aload_n 0, 1) := dk_42 (dk_at dksX2_count_3 18 rfl rfl)
theorem dX2_count_83 : decode cX2_count 83 = .ok (.getfield 7, 3) := dk_180 0 7 (dk_at dksX2_count_3 19 rfl rfl)
theorem dX2_count_86 : decode cX2_count 86 = .ok (.sipush 328, 3) := dk_17 1 72 (dk_at dksX2_count_4 0 rfl rfl)
theorem dX2_count_89 : decode cX2_count 89 = .ok (.iaload, 1) := dk_46 (dk_at dksX2_count_4 3 rfl rfl)
theorem dX2_count_90 : decode cX2_count 90 = .ok (.ireturn, 1) := dk_172 (dk_at dksX2_count_4 4 rfl rfl)
theorem dX2_count_91 : decode cX2_count 91 = .ok (.aload_n 0, 1) := dk_42 (dk_at dksX2_count_4 5 rfl rfl)
theorem dX2_count_92 : decode cX2_count 92 = .ok (.invokevirtual 53, 3) := dk_182 0 53 (dk_at dksX2_count_4 6 rfl rfl)
theorem dX2_count_95 : decode cX2_count 95 = .ok (.ireturn, 1) := dk_172 (dk_at dksX2_count_4 9 rfl rfl)
theorem dX2_count_96 : decode cX2_count 96 = .ok (.aload_n 0, 1) := dk_42 (dk_at dksX2_count_4 10 rfl rfl)
theorem dX2_count_97 : decode cX2_count 97 = .ok (.getfield 16, 3) := dk_180 0 16 (dk_at dksX2_count_4 11 rfl rfl)
theorem dX2_count_100 : decode cX2_count 100 = .ok (.iconst 0, 1) := dk_3 (dk_at dksX2_count_4 14 rfl rfl)
theorem dX2_count_101 : decode cX2_count 101 = .ok (.baload, 1) := dk_51 (dk_at dksX2_count_4 15 rfl rfl)
theorem dX2_count_102 : decode cX2_count 102 = .ok (.ifCond .eq 7, 3) := dk_153 0 7 (dk_at dksX2_count_4 16 rfl rfl)
theorem dX2_count_105 : decode cX2_count 105 = .ok (.iconst 1, 1) := dk_4 (dk_at dksX2_count_4 19 rfl rfl)
theorem dX2_count_106 : decode cX2_count 106 = .ok (.goto 4, 3) := dk_167 0 4 (dk_at dksX2_count_4 20 rfl rfl)
theorem dX2_count_109 : decode cX2_count 109 = .ok (.iconst 0, 1) := dk_3 (dk_at dksX2_count_4 23 rfl rfl)
theorem dX2_count_110 : decode cX2_count 110 = .ok (.aload_n 0, 1) := dk_42 (dk_at dksX2_count_5 0 rfl rfl)
theorem dX2_count_111 : decode cX2_count 111 = .ok (.getfield 16, 3) := dk_180 0 16 (dk_at dksX2_count_5 1 rfl rfl)
theorem dX2_count_114 : decode cX2_count 114 = .ok (.iconst 1, 1) := dk_4 (dk_at dksX2_count_5 4 rfl rfl)
theorem dX2_count_115 : decode cX2_count 115 = .ok (.baload, 1) := dk_51 (dk_at dksX2_count_5 5 rfl rfl)
theorem dX2_count_116 : decode cX2_count 116 = .ok (.ifCond .eq 7, 3) := dk_153 0 7 (dk_at dksX2_count_5 6 rfl rfl)
theorem dX2_count_119 : decode cX2_count 119 = .ok (.iconst 2, 1) := dk_5 (dk_at dksX2_count_5 9 rfl rfl)
theorem dX2_count_120 : decode cX2_count 120 = .ok (.goto 4, 3) := dk_167 0 4 (dk_at dksX2_count_5 10 rfl rfl)
theorem dX2_count_123 : decode cX2_count 123 = .ok (.iconst 0, 1) := dk_3 (dk_at dksX2_count_5 13 rfl rfl)
theorem dX2_count_124 : decode cX2_count 124 = .ok (.iadd, 1) := dk_96 (dk_at dksX2_count_5 14 rfl rfl)
theorem dX2_count_125 : decode cX2_count 125 = .ok (.ireturn, 1) := dk_172 (dk_at dksX2_count_5 15 rfl rfl)
theorem dX2_count_126 : decode cX2_count 126 = .ok (.bipush (-2), 2) := dk_16 254 (dk_at dksX2_count_5 16 rfl rfl)
theorem dX2_count_128 : decode cX2_count 128 = .ok (.ireturn, 1) := dk_172 (dk_at dksX2_count_5 18 rfl rfl)
theorem q66 : (Jvm.Cond.initialized "SecretSquaresModel") ∈ lw_all := lw_g (lw_at lw_m1 11 rfl) rfl
theorem q597 : (Jvm.Cond.selects "SecretSquaresModel" ({ cls := "java/lang/Object", name := "getClass", desc := "()Ljava/lang/Class;" } : Jvm.MethodName) ({ cls := "java/lang/Object", name := "getClass", desc := "()Ljava/lang/Class;" } : Jvm.MethodName)) ∈ lw_all := lw_g (lw_at lw_m3 62 rfl) rfl
theorem q1127 : (Jvm.Cond.selects "SecretSquaresModel" ({ cls := "java/lang/Object", name := "equals", desc := "(Ljava/lang/Object;)Z" } : Jvm.MethodName) ({ cls := "java/lang/Object", name := "equals", desc := "(Ljava/lang/Object;)Z" } : Jvm.MethodName)) ∈ lw_all := lw_g (lw_at lw_m5 112 rfl) rfl
theorem q1275 : (Jvm.Cond.instantiable "SecretSquaresModel" (12 : Nat)) ∈ lw_all := lw_g (lw_at lw_m6 20 rfl) rfl
theorem q1277 : (Jvm.Cond.instanceMethod ({ cls := "SecretSquaresModel", name := "<init>", desc := "()V" } : Jvm.MethodName)) ∈ lw_all := lw_g (lw_at lw_m6 22 rfl) rfl
theorem q1278 : (Jvm.Cond.code ({ cls := "SecretSquaresModel", name := "<init>", desc := "()V" } : Jvm.MethodName) prog_4_method_1_code (1 : Nat) (Option.none : Option Jvm.ClassFile.FieldType)) ∈ lw_all := lw_g (lw_at lw_m6 23 rfl) rfl
theorem q1279 : (Jvm.Cond.methodLink "SecretSquaresModel" (1 : Nat) ({ cls := "java/lang/Object", name := "<init>", desc := "()V" } : Jvm.MethodName)) ∈ lw_all := lw_g (lw_at lw_m6 24 rfl) rfl
theorem q1280 : (Jvm.Cond.fieldLink "SecretSquaresModel" (7 : Nat) "SecretSquaresModel" "state" "[I") ∈ lw_all := lw_g (lw_at lw_m6 25 rfl) rfl
theorem q1281 : (Jvm.Cond.fieldLink "SecretSquaresModel" (13 : Nat) "SecretSquaresModel" "images" "[I") ∈ lw_all := lw_g (lw_at lw_m6 26 rfl) rfl
theorem q1282 : (Jvm.Cond.fieldLink "SecretSquaresModel" (16 : Nat) "SecretSquaresModel" "isKept" "[Z") ∈ lw_all := lw_g (lw_at lw_m6 27 rfl) rfl
theorem q1283 : (Jvm.Cond.fieldLink "SecretSquaresModel" (20 : Nat) "SecretSquaresModel" "pad" "[I") ∈ lw_all := lw_g (lw_at lw_m6 28 rfl) rfl
theorem q1284 : (Jvm.Cond.fieldLink "SecretSquaresModel" (45 : Nat) "SecretSquaresModel" "said" "I") ∈ lw_all := lw_g (lw_at lw_m6 29 rfl) rfl
theorem q1285 : (Jvm.Cond.fieldLink "SecretSquaresModel" (23 : Nat) "SecretSquaresModel" "text" "[I") ∈ lw_all := lw_g (lw_at lw_m6 30 rfl) rfl
theorem q1286 : (Jvm.Cond.fieldLink "SecretSquaresModel" (26 : Nat) "SecretSquaresModel" "other" "[I") ∈ lw_all := lw_g (lw_at lw_m6 31 rfl) rfl
theorem q1287 : (Jvm.Cond.fieldLink "SecretSquaresModel" (29 : Nat) "SecretSquaresModel" "square" "[I") ∈ lw_all := lw_g (lw_at lw_m6 32 rfl) rfl
theorem q1288 : (Jvm.Cond.fieldLink "SecretSquaresModel" (32 : Nat) "SecretSquaresModel" "order" "[I") ∈ lw_all := lw_g (lw_at lw_m6 33 rfl) rfl
theorem q1289 : (Jvm.Cond.fieldLink "SecretSquaresModel" (35 : Nat) "SecretSquaresModel" "from" "[I") ∈ lw_all := lw_g (lw_at lw_m6 34 rfl) rfl
theorem q1290 : (Jvm.Cond.fieldLink "SecretSquaresModel" (38 : Nat) "SecretSquaresModel" "line" "[I") ∈ lw_all := lw_g (lw_at lw_m6 35 rfl) rfl
theorem q1291 : (Jvm.Cond.fieldLink "SecretSquaresModel" (139 : Nat) "SecretSquaresModel" "kept" "I") ∈ lw_all := lw_g (lw_at lw_m6 36 rfl) rfl
theorem q1292 : (Jvm.Cond.laysFinal "SecretSquaresModel" "SecretSquaresModel" "state" "[I") ∈ lw_all := lw_g (lw_at lw_m6 37 rfl) rfl
theorem q1293 : (Jvm.Cond.soleField "SecretSquaresModel" "state") ∈ lw_all := lw_g (lw_at lw_m6 38 rfl) rfl
theorem q1294 : (Jvm.Cond.laysFinal "SecretSquaresModel" "SecretSquaresModel" "images" "[I") ∈ lw_all := lw_g (lw_at lw_m6 39 rfl) rfl
theorem q1295 : (Jvm.Cond.soleField "SecretSquaresModel" "images") ∈ lw_all := lw_g (lw_at lw_m6 40 rfl) rfl
theorem q1296 : (Jvm.Cond.laysFinal "SecretSquaresModel" "SecretSquaresModel" "isKept" "[Z") ∈ lw_all := lw_g (lw_at lw_m6 41 rfl) rfl
theorem q1297 : (Jvm.Cond.soleField "SecretSquaresModel" "isKept") ∈ lw_all := lw_g (lw_at lw_m6 42 rfl) rfl
theorem q1298 : (Jvm.Cond.laysFinal "SecretSquaresModel" "SecretSquaresModel" "pad" "[I") ∈ lw_all := lw_g (lw_at lw_m6 43 rfl) rfl
theorem q1299 : (Jvm.Cond.soleField "SecretSquaresModel" "pad") ∈ lw_all := lw_g (lw_at lw_m6 44 rfl) rfl
theorem q1300 : (Jvm.Cond.lays "SecretSquaresModel" "SecretSquaresModel" "said" "I") ∈ lw_all := lw_g (lw_at lw_m6 45 rfl) rfl
theorem q1301 : (Jvm.Cond.soleField "SecretSquaresModel" "said") ∈ lw_all := lw_g (lw_at lw_m6 46 rfl) rfl
theorem q1302 : (Jvm.Cond.laysFinal "SecretSquaresModel" "SecretSquaresModel" "text" "[I") ∈ lw_all := lw_g (lw_at lw_m6 47 rfl) rfl
theorem q1303 : (Jvm.Cond.soleField "SecretSquaresModel" "text") ∈ lw_all := lw_g (lw_at lw_m6 48 rfl) rfl
theorem q1304 : (Jvm.Cond.laysFinal "SecretSquaresModel" "SecretSquaresModel" "other" "[I") ∈ lw_all := lw_g (lw_at lw_m6 49 rfl) rfl
theorem q1305 : (Jvm.Cond.soleField "SecretSquaresModel" "other") ∈ lw_all := lw_g (lw_at lw_m6 50 rfl) rfl
theorem q1306 : (Jvm.Cond.laysFinal "SecretSquaresModel" "SecretSquaresModel" "square" "[I") ∈ lw_all := lw_g (lw_at lw_m6 51 rfl) rfl
theorem q1307 : (Jvm.Cond.soleField "SecretSquaresModel" "square") ∈ lw_all := lw_g (lw_at lw_m6 52 rfl) rfl
theorem q1308 : (Jvm.Cond.laysFinal "SecretSquaresModel" "SecretSquaresModel" "order" "[I") ∈ lw_all := lw_g (lw_at lw_m6 53 rfl) rfl
theorem q1309 : (Jvm.Cond.soleField "SecretSquaresModel" "order") ∈ lw_all := lw_g (lw_at lw_m6 54 rfl) rfl
theorem q1310 : (Jvm.Cond.laysFinal "SecretSquaresModel" "SecretSquaresModel" "from" "[I") ∈ lw_all := lw_g (lw_at lw_m6 55 rfl) rfl
theorem q1311 : (Jvm.Cond.soleField "SecretSquaresModel" "from") ∈ lw_all := lw_g (lw_at lw_m6 56 rfl) rfl
theorem q1312 : (Jvm.Cond.laysFinal "SecretSquaresModel" "SecretSquaresModel" "line" "[I") ∈ lw_all := lw_g (lw_at lw_m6 57 rfl) rfl
theorem q1313 : (Jvm.Cond.soleField "SecretSquaresModel" "line") ∈ lw_all := lw_g (lw_at lw_m6 58 rfl) rfl
theorem q1314 : (Jvm.Cond.lays "SecretSquaresModel" "SecretSquaresModel" "kept" "I") ∈ lw_all := lw_g (lw_at lw_m6 59 rfl) rfl
theorem q1315 : (Jvm.Cond.soleField "SecretSquaresModel" "kept") ∈ lw_all := lw_g (lw_at lw_m6 60 rfl) rfl
theorem q1316 : (Jvm.Cond.superclass "SecretSquaresModel" "java/lang/Object") ∈ lw_all := lw_g (lw_at lw_m6 61 rfl) rfl
theorem q1319 : (Jvm.Cond.instanceMethod ({ cls := "SecretSquaresModel", name := "say", desc := "(I)I" } : Jvm.MethodName)) ∈ lw_all := lw_g (lw_at lw_m6 64 rfl) rfl
theorem q1320 : (Jvm.Cond.selects "SecretSquaresModel" ({ cls := "SecretSquaresModel", name := "say", desc := "(I)I" } : Jvm.MethodName) ({ cls := "SecretSquaresModel", name := "say", desc := "(I)I" } : Jvm.MethodName)) ∈ lw_all := lw_g (lw_at lw_m6 65 rfl) rfl
theorem q1321 : (Jvm.Cond.code ({ cls := "SecretSquaresModel", name := "say", desc := "(I)I" } : Jvm.MethodName) prog_4_method_5_code (2 : Nat) (Option.some Jvm.ClassFile.FieldType.int)) ∈ lw_all := lw_g (lw_at lw_m6 66 rfl) rfl
theorem q1322 : (Jvm.Cond.methodLink "SecretSquaresModel" (41 : Nat) ({ cls := "SecretSquaresModel", name := "in", desc := "(III)Z" } : Jvm.MethodName)) ∈ lw_all := lw_g (lw_at lw_m6 67 rfl) rfl
theorem q1323 : (Jvm.Cond.static ({ cls := "SecretSquaresModel", name := "in", desc := "(III)Z" } : Jvm.MethodName)) ∈ lw_all := lw_g (lw_at lw_m6 68 rfl) rfl
theorem q1324 : (Jvm.Cond.code ({ cls := "SecretSquaresModel", name := "in", desc := "(III)Z" } : Jvm.MethodName) prog_4_method_2_code (3 : Nat) (Option.some Jvm.ClassFile.FieldType.boolean)) ∈ lw_all := lw_g (lw_at lw_m6 69 rfl) rfl
theorem q1326 : (Jvm.Cond.instanceMethod ({ cls := "SecretSquaresModel", name := "wipe", desc := "()I" } : Jvm.MethodName)) ∈ lw_all := lw_g (lw_at lw_m6 71 rfl) rfl
theorem q1327 : (Jvm.Cond.selects "SecretSquaresModel" ({ cls := "SecretSquaresModel", name := "wipe", desc := "()I" } : Jvm.MethodName) ({ cls := "SecretSquaresModel", name := "wipe", desc := "()I" } : Jvm.MethodName)) ∈ lw_all := lw_g (lw_at lw_m6 72 rfl) rfl
theorem q1328 : (Jvm.Cond.code ({ cls := "SecretSquaresModel", name := "wipe", desc := "()I" } : Jvm.MethodName) prog_4_method_6_code (2 : Nat) (Option.some Jvm.ClassFile.FieldType.int)) ∈ lw_all := lw_g (lw_at lw_m6 73 rfl) rfl
theorem q1330 : (Jvm.Cond.instanceMethod ({ cls := "SecretSquaresModel", name := "take", desc := "(I)I" } : Jvm.MethodName)) ∈ lw_all := lw_g (lw_at lw_m6 75 rfl) rfl
theorem q1331 : (Jvm.Cond.selects "SecretSquaresModel" ({ cls := "SecretSquaresModel", name := "take", desc := "(I)I" } : Jvm.MethodName) ({ cls := "SecretSquaresModel", name := "take", desc := "(I)I" } : Jvm.MethodName)) ∈ lw_all := lw_g (lw_at lw_m6 76 rfl) rfl
theorem q1332 : (Jvm.Cond.code ({ cls := "SecretSquaresModel", name := "take", desc := "(I)I" } : Jvm.MethodName) prog_4_method_7_code (4 : Nat) (Option.some Jvm.ClassFile.FieldType.int)) ∈ lw_all := lw_g (lw_at lw_m6 77 rfl) rfl
theorem q1334 : (Jvm.Cond.instanceMethod ({ cls := "SecretSquaresModel", name := "worth", desc := "(II)I" } : Jvm.MethodName)) ∈ lw_all := lw_g (lw_at lw_m6 79 rfl) rfl
theorem q1335 : (Jvm.Cond.selects "SecretSquaresModel" ({ cls := "SecretSquaresModel", name := "worth", desc := "(II)I" } : Jvm.MethodName) ({ cls := "SecretSquaresModel", name := "worth", desc := "(II)I" } : Jvm.MethodName)) ∈ lw_all := lw_g (lw_at lw_m6 80 rfl) rfl
theorem q1336 : (Jvm.Cond.code ({ cls := "SecretSquaresModel", name := "worth", desc := "(II)I" } : Jvm.MethodName) prog_4_method_8_code (4 : Nat) (Option.some Jvm.ClassFile.FieldType.int)) ∈ lw_all := lw_g (lw_at lw_m6 81 rfl) rfl
theorem q1337 : (Jvm.Cond.methodLink "SecretSquaresModel" (49 : Nat) ({ cls := "SecretSquaresModel", name := "isLetter", desc := "(I)Z" } : Jvm.MethodName)) ∈ lw_all := lw_g (lw_at lw_m6 82 rfl) rfl
theorem q1338 : (Jvm.Cond.static ({ cls := "SecretSquaresModel", name := "isLetter", desc := "(I)Z" } : Jvm.MethodName)) ∈ lw_all := lw_g (lw_at lw_m6 83 rfl) rfl
theorem q1339 : (Jvm.Cond.code ({ cls := "SecretSquaresModel", name := "isLetter", desc := "(I)Z" } : Jvm.MethodName) prog_4_method_3_code (1 : Nat) (Option.some Jvm.ClassFile.FieldType.boolean)) ∈ lw_all := lw_g (lw_at lw_m6 84 rfl) rfl
theorem q1341 : (Jvm.Cond.instanceMethod ({ cls := "SecretSquaresModel", name := "like", desc := "(III)I" } : Jvm.MethodName)) ∈ lw_all := lw_g (lw_at lw_m6 86 rfl) rfl
theorem q1342 : (Jvm.Cond.selects "SecretSquaresModel" ({ cls := "SecretSquaresModel", name := "like", desc := "(III)I" } : Jvm.MethodName) ({ cls := "SecretSquaresModel", name := "like", desc := "(III)I" } : Jvm.MethodName)) ∈ lw_all := lw_g (lw_at lw_m6 87 rfl) rfl
theorem q1343 : (Jvm.Cond.code ({ cls := "SecretSquaresModel", name := "like", desc := "(III)I" } : Jvm.MethodName) prog_4_method_10_code (4 : Nat) (Option.some Jvm.ClassFile.FieldType.int)) ∈ lw_all := lw_g (lw_at lw_m6 88 rfl) rfl
theorem q1344 : (Jvm.Cond.methodLink "SecretSquaresModel" (53 : Nat) ({ cls := "SecretSquaresModel", name := "liked", desc := "()I" } : Jvm.MethodName)) ∈ lw_all := lw_g (lw_at lw_m6 89 rfl) rfl
theorem q1345 : (Jvm.Cond.privateMethod ({ cls := "SecretSquaresModel", name := "liked", desc := "()I" } : Jvm.MethodName)) ∈ lw_tbl := lw_at lw_m6 90 rfl
theorem q1346 : (Jvm.Cond.instanceMethod ({ cls := "SecretSquaresModel", name := "liked", desc := "()I" } : Jvm.MethodName)) ∈ lw_all := lw_g (lw_at lw_m6 91 rfl) rfl
theorem q1347 : (Jvm.Cond.code ({ cls := "SecretSquaresModel", name := "liked", desc := "()I" } : Jvm.MethodName) prog_4_method_9_code (3 : Nat) (Option.some Jvm.ClassFile.FieldType.int)) ∈ lw_all := lw_g (lw_at lw_m6 92 rfl) rfl
theorem q1349 : (Jvm.Cond.instanceMethod ({ cls := "SecretSquaresModel", name := "letter", desc := "(II)I" } : Jvm.MethodName)) ∈ lw_all := lw_g (lw_at lw_m6 94 rfl) rfl
theorem q1350 : (Jvm.Cond.selects "SecretSquaresModel" ({ cls := "SecretSquaresModel", name := "letter", desc := "(II)I" } : Jvm.MethodName) ({ cls := "SecretSquaresModel", name := "letter", desc := "(II)I" } : Jvm.MethodName)) ∈ lw_all := lw_g (lw_at lw_m6 95 rfl) rfl
theorem q1351 : (Jvm.Cond.code ({ cls := "SecretSquaresModel", name := "letter", desc := "(II)I" } : Jvm.MethodName) prog_4_method_13_code (4 : Nat) (Option.some Jvm.ClassFile.FieldType.int)) ∈ lw_all := lw_g (lw_at lw_m6 96 rfl) rfl
theorem q1352 : (Jvm.Cond.methodLink "SecretSquaresModel" (57 : Nat) ({ cls := "SecretSquaresModel", name := "many", desc := "()I" } : Jvm.MethodName)) ∈ lw_all := lw_g (lw_at lw_m6 97 rfl) rfl
theorem q1353 : (Jvm.Cond.privateMethod ({ cls := "SecretSquaresModel", name := "many", desc := "()I" } : Jvm.MethodName)) ∈ lw_tbl := lw_at lw_m6 98 rfl
theorem q1354 : (Jvm.Cond.instanceMethod ({ cls := "SecretSquaresModel", name := "many", desc := "()I" } : Jvm.MethodName)) ∈ lw_all := lw_g (lw_at lw_m6 99 rfl) rfl
theorem q1355 : (Jvm.Cond.code ({ cls := "SecretSquaresModel", name := "many", desc := "()I" } : Jvm.MethodName) prog_4_method_4_code (1 : Nat) (Option.some Jvm.ClassFile.FieldType.int)) ∈ lw_all := lw_g (lw_at lw_m6 100 rfl) rfl
theorem q1356 : (Jvm.Cond.methodLink "SecretSquaresModel" (60 : Nat) ({ cls := "SecretSquaresModel", name := "laySquare", desc := "()V" } : Jvm.MethodName)) ∈ lw_all := lw_g (lw_at lw_m6 101 rfl) rfl
theorem q1357 : (Jvm.Cond.privateMethod ({ cls := "SecretSquaresModel", name := "laySquare", desc := "()V" } : Jvm.MethodName)) ∈ lw_tbl := lw_at lw_m6 102 rfl
theorem q1358 : (Jvm.Cond.instanceMethod ({ cls := "SecretSquaresModel", name := "laySquare", desc := "()V" } : Jvm.MethodName)) ∈ lw_all := lw_g (lw_at lw_m6 103 rfl) rfl
theorem q1359 : (Jvm.Cond.code ({ cls := "SecretSquaresModel", name := "laySquare", desc := "()V" } : Jvm.MethodName) prog_4_method_11_code (5 : Nat) (Option.none : Option Jvm.ClassFile.FieldType)) ∈ lw_all := lw_g (lw_at lw_m6 104 rfl) rfl
theorem q1361 : (Jvm.Cond.instanceMethod ({ cls := "SecretSquaresModel", name := "hide", desc := "(I)I" } : Jvm.MethodName)) ∈ lw_all := lw_g (lw_at lw_m6 106 rfl) rfl
theorem q1362 : (Jvm.Cond.selects "SecretSquaresModel" ({ cls := "SecretSquaresModel", name := "hide", desc := "(I)I" } : Jvm.MethodName) ({ cls := "SecretSquaresModel", name := "hide", desc := "(I)I" } : Jvm.MethodName)) ∈ lw_all := lw_g (lw_at lw_m6 107 rfl) rfl
theorem q1363 : (Jvm.Cond.code ({ cls := "SecretSquaresModel", name := "hide", desc := "(I)I" } : Jvm.MethodName) prog_4_method_27_code (2 : Nat) (Option.some Jvm.ClassFile.FieldType.int)) ∈ lw_all := lw_g (lw_at lw_m6 108 rfl) rfl
theorem q1364 : (Jvm.Cond.methodLink "SecretSquaresModel" (107 : Nat) ({ cls := "SecretSquaresModel", name := "step", desc := "(II)I" } : Jvm.MethodName)) ∈ lw_all := lw_g (lw_at lw_m6 109 rfl) rfl
theorem q1365 : (Jvm.Cond.privateMethod ({ cls := "SecretSquaresModel", name := "step", desc := "(II)I" } : Jvm.MethodName)) ∈ lw_tbl := lw_at lw_m6 110 rfl
theorem q1366 : (Jvm.Cond.instanceMethod ({ cls := "SecretSquaresModel", name := "step", desc := "(II)I" } : Jvm.MethodName)) ∈ lw_all := lw_g (lw_at lw_m6 111 rfl) rfl
theorem q1367 : (Jvm.Cond.code ({ cls := "SecretSquaresModel", name := "step", desc := "(II)I" } : Jvm.MethodName) prog_4_method_26_code (5 : Nat) (Option.some Jvm.ClassFile.FieldType.int)) ∈ lw_all := lw_g (lw_at lw_m6 112 rfl) rfl
theorem q1368 : (Jvm.Cond.methodLink "SecretSquaresModel" (101 : Nat) ({ cls := "SecretSquaresModel", name := "goWay", desc := "(II)V" } : Jvm.MethodName)) ∈ lw_all := lw_g (lw_at lw_m6 113 rfl) rfl
theorem q1369 : (Jvm.Cond.privateMethod ({ cls := "SecretSquaresModel", name := "goWay", desc := "(II)V" } : Jvm.MethodName)) ∈ lw_tbl := lw_at lw_m6 114 rfl
theorem q1370 : (Jvm.Cond.instanceMethod ({ cls := "SecretSquaresModel", name := "goWay", desc := "(II)V" } : Jvm.MethodName)) ∈ lw_all := lw_g (lw_at lw_m6 115 rfl) rfl
theorem q1371 : (Jvm.Cond.code ({ cls := "SecretSquaresModel", name := "goWay", desc := "(II)V" } : Jvm.MethodName) prog_4_method_24_code (4 : Nat) (Option.none : Option Jvm.ClassFile.FieldType)) ∈ lw_all := lw_g (lw_at lw_m6 116 rfl) rfl
theorem q1372 : (Jvm.Cond.methodLink "SecretSquaresModel" (78 : Nat) ({ cls := "SecretSquaresModel", name := "shiftAll", desc := "(IZ)V" } : Jvm.MethodName)) ∈ lw_all := lw_g (lw_at lw_m6 117 rfl) rfl
theorem q1373 : (Jvm.Cond.privateMethod ({ cls := "SecretSquaresModel", name := "shiftAll", desc := "(IZ)V" } : Jvm.MethodName)) ∈ lw_tbl := lw_at lw_m6 118 rfl
theorem q1374 : (Jvm.Cond.instanceMethod ({ cls := "SecretSquaresModel", name := "shiftAll", desc := "(IZ)V" } : Jvm.MethodName)) ∈ lw_all := lw_g (lw_at lw_m6 119 rfl) rfl
theorem q1375 : (Jvm.Cond.code ({ cls := "SecretSquaresModel", name := "shiftAll", desc := "(IZ)V" } : Jvm.MethodName) prog_4_method_14_code (5 : Nat) (Option.none : Option Jvm.ClassFile.FieldType)) ∈ lw_all := lw_g (lw_at lw_m6 120 rfl) rfl
theorem q1376 : (Jvm.Cond.methodLink "SecretSquaresModel" (82 : Nat) ({ cls := "SecretSquaresModel", name := "pairs", desc := "(I)V" } : Jvm.MethodName)) ∈ lw_all := lw_g (lw_at lw_m6 121 rfl) rfl
theorem q1377 : (Jvm.Cond.privateMethod ({ cls := "SecretSquaresModel", name := "pairs", desc := "(I)V" } : Jvm.MethodName)) ∈ lw_tbl := lw_at lw_m6 122 rfl
theorem q1378 : (Jvm.Cond.instanceMethod ({ cls := "SecretSquaresModel", name := "pairs", desc := "(I)V" } : Jvm.MethodName)) ∈ lw_all := lw_g (lw_at lw_m6 123 rfl) rfl
theorem q1379 : (Jvm.Cond.code ({ cls := "SecretSquaresModel", name := "pairs", desc := "(I)V" } : Jvm.MethodName) prog_4_method_18_code (3 : Nat) (Option.none : Option Jvm.ClassFile.FieldType)) ∈ lw_all := lw_g (lw_at lw_m6 124 rfl) rfl
theorem q1380 : (Jvm.Cond.methodLink "SecretSquaresModel" (74 : Nat) ({ cls := "SecretSquaresModel", name := "pair", desc := "(II)V" } : Jvm.MethodName)) ∈ lw_all := lw_g (lw_at lw_m6 125 rfl) rfl
theorem q1381 : (Jvm.Cond.privateMethod ({ cls := "SecretSquaresModel", name := "pair", desc := "(II)V" } : Jvm.MethodName)) ∈ lw_tbl := lw_at lw_m6 126 rfl
theorem q1382 : (Jvm.Cond.instanceMethod ({ cls := "SecretSquaresModel", name := "pair", desc := "(II)V" } : Jvm.MethodName)) ∈ lw_all := lw_g (lw_at lw_m6 127 rfl) rfl
theorem q1383 : (Jvm.Cond.code ({ cls := "SecretSquaresModel", name := "pair", desc := "(II)V" } : Jvm.MethodName) prog_4_method_17_code (7 : Nat) (Option.none : Option Jvm.ClassFile.FieldType)) ∈ lw_all := lw_g (lw_at lw_m6 128 rfl) rfl
theorem q1384 : (Jvm.Cond.methodLink "SecretSquaresModel" (67 : Nat) ({ cls := "SecretSquaresModel", name := "placeOf", desc := "(I)I" } : Jvm.MethodName)) ∈ lw_all := lw_g (lw_at lw_m6 129 rfl) rfl
theorem q1385 : (Jvm.Cond.privateMethod ({ cls := "SecretSquaresModel", name := "placeOf", desc := "(I)I" } : Jvm.MethodName)) ∈ lw_tbl := lw_at lw_m6 130 rfl
theorem q1386 : (Jvm.Cond.instanceMethod ({ cls := "SecretSquaresModel", name := "placeOf", desc := "(I)I" } : Jvm.MethodName)) ∈ lw_all := lw_g (lw_at lw_m6 131 rfl) rfl
theorem q1387 : (Jvm.Cond.code ({ cls := "SecretSquaresModel", name := "placeOf", desc := "(I)I" } : Jvm.MethodName) prog_4_method_12_code (3 : Nat) (Option.some Jvm.ClassFile.FieldType.int)) ∈ lw_all := lw_g (lw_at lw_m6 132 rfl) rfl
theorem q1388 : (Jvm.Cond.methodLink "SecretSquaresModel" (70 : Nat) ({ cls := "SecretSquaresModel", name := "atSquare", desc := "(II)I" } : Jvm.MethodName)) ∈ lw_all := lw_g (lw_at lw_m6 133 rfl) rfl
theorem q1389 : (Jvm.Cond.privateMethod ({ cls := "SecretSquaresModel", name := "atSquare", desc := "(II)I" } : Jvm.MethodName)) ∈ lw_tbl := lw_at lw_m6 134 rfl
theorem q1390 : (Jvm.Cond.instanceMethod ({ cls := "SecretSquaresModel", name := "atSquare", desc := "(II)I" } : Jvm.MethodName)) ∈ lw_all := lw_g (lw_at lw_m6 135 rfl) rfl
theorem q1391 : (Jvm.Cond.code ({ cls := "SecretSquaresModel", name := "atSquare", desc := "(II)I" } : Jvm.MethodName) prog_4_method_16_code (3 : Nat) (Option.some Jvm.ClassFile.FieldType.int)) ∈ lw_all := lw_g (lw_at lw_m6 136 rfl) rfl
theorem q1392 : (Jvm.Cond.methodLink "SecretSquaresModel" (63 : Nat) ({ cls := "SecretSquaresModel", name := "round", desc := "(I)I" } : Jvm.MethodName)) ∈ lw_all := lw_g (lw_at lw_m6 137 rfl) rfl
theorem q1393 : (Jvm.Cond.static ({ cls := "SecretSquaresModel", name := "round", desc := "(I)I" } : Jvm.MethodName)) ∈ lw_all := lw_g (lw_at lw_m6 138 rfl) rfl
theorem q1394 : (Jvm.Cond.code ({ cls := "SecretSquaresModel", name := "round", desc := "(I)I" } : Jvm.MethodName) prog_4_method_15_code (1 : Nat) (Option.some Jvm.ClassFile.FieldType.int)) ∈ lw_all := lw_g (lw_at lw_m6 139 rfl) rfl
theorem q1395 : (Jvm.Cond.methodLink "SecretSquaresModel" (86 : Nat) ({ cls := "SecretSquaresModel", name := "layKeyOrder", desc := "()V" } : Jvm.MethodName)) ∈ lw_all := lw_g (lw_at lw_m6 140 rfl) rfl
theorem q1396 : (Jvm.Cond.privateMethod ({ cls := "SecretSquaresModel", name := "layKeyOrder", desc := "()V" } : Jvm.MethodName)) ∈ lw_tbl := lw_at lw_m6 141 rfl
theorem q1397 : (Jvm.Cond.instanceMethod ({ cls := "SecretSquaresModel", name := "layKeyOrder", desc := "()V" } : Jvm.MethodName)) ∈ lw_all := lw_g (lw_at lw_m6 142 rfl) rfl
theorem q1398 : (Jvm.Cond.code ({ cls := "SecretSquaresModel", name := "layKeyOrder", desc := "()V" } : Jvm.MethodName) prog_4_method_19_code (4 : Nat) (Option.none : Option Jvm.ClassFile.FieldType)) ∈ lw_all := lw_g (lw_at lw_m6 143 rfl) rfl
theorem q1399 : (Jvm.Cond.methodLink "SecretSquaresModel" (89 : Nat) ({ cls := "SecretSquaresModel", name := "layColumns", desc := "(I)V" } : Jvm.MethodName)) ∈ lw_all := lw_g (lw_at lw_m6 144 rfl) rfl
theorem q1400 : (Jvm.Cond.privateMethod ({ cls := "SecretSquaresModel", name := "layColumns", desc := "(I)V" } : Jvm.MethodName)) ∈ lw_tbl := lw_at lw_m6 145 rfl
theorem q1401 : (Jvm.Cond.instanceMethod ({ cls := "SecretSquaresModel", name := "layColumns", desc := "(I)V" } : Jvm.MethodName)) ∈ lw_all := lw_g (lw_at lw_m6 146 rfl) rfl
theorem q1402 : (Jvm.Cond.code ({ cls := "SecretSquaresModel", name := "layColumns", desc := "(I)V" } : Jvm.MethodName) prog_4_method_20_code (5 : Nat) (Option.none : Option Jvm.ClassFile.FieldType)) ∈ lw_all := lw_g (lw_at lw_m6 147 rfl) rfl
theorem q1403 : (Jvm.Cond.methodLink "SecretSquaresModel" (92 : Nat) ({ cls := "SecretSquaresModel", name := "readBy", desc := "(I)V" } : Jvm.MethodName)) ∈ lw_all := lw_g (lw_at lw_m6 148 rfl) rfl
theorem q1404 : (Jvm.Cond.privateMethod ({ cls := "SecretSquaresModel", name := "readBy", desc := "(I)V" } : Jvm.MethodName)) ∈ lw_tbl := lw_at lw_m6 149 rfl
theorem q1405 : (Jvm.Cond.instanceMethod ({ cls := "SecretSquaresModel", name := "readBy", desc := "(I)V" } : Jvm.MethodName)) ∈ lw_all := lw_g (lw_at lw_m6 150 rfl) rfl
theorem q1406 : (Jvm.Cond.code ({ cls := "SecretSquaresModel", name := "readBy", desc := "(I)V" } : Jvm.MethodName) prog_4_method_22_code (3 : Nat) (Option.none : Option Jvm.ClassFile.FieldType)) ∈ lw_all := lw_g (lw_at lw_m6 151 rfl) rfl
theorem q1407 : (Jvm.Cond.methodLink "SecretSquaresModel" (95 : Nat) ({ cls := "SecretSquaresModel", name := "layRails", desc := "(I)V" } : Jvm.MethodName)) ∈ lw_all := lw_g (lw_at lw_m6 152 rfl) rfl
theorem q1408 : (Jvm.Cond.privateMethod ({ cls := "SecretSquaresModel", name := "layRails", desc := "(I)V" } : Jvm.MethodName)) ∈ lw_tbl := lw_at lw_m6 153 rfl
theorem q1409 : (Jvm.Cond.instanceMethod ({ cls := "SecretSquaresModel", name := "layRails", desc := "(I)V" } : Jvm.MethodName)) ∈ lw_all := lw_g (lw_at lw_m6 154 rfl) rfl
theorem q1410 : (Jvm.Cond.code ({ cls := "SecretSquaresModel", name := "layRails", desc := "(I)V" } : Jvm.MethodName) prog_4_method_21_code (7 : Nat) (Option.none : Option Jvm.ClassFile.FieldType)) ∈ lw_all := lw_g (lw_at lw_m6 155 rfl) rfl
theorem q1411 : (Jvm.Cond.methodLink "SecretSquaresModel" (98 : Nat) ({ cls := "SecretSquaresModel", name := "apart", desc := "(I)V" } : Jvm.MethodName)) ∈ lw_all := lw_g (lw_at lw_m6 156 rfl) rfl
theorem q1412 : (Jvm.Cond.privateMethod ({ cls := "SecretSquaresModel", name := "apart", desc := "(I)V" } : Jvm.MethodName)) ∈ lw_tbl := lw_at lw_m6 157 rfl
theorem q1413 : (Jvm.Cond.instanceMethod ({ cls := "SecretSquaresModel", name := "apart", desc := "(I)V" } : Jvm.MethodName)) ∈ lw_all := lw_g (lw_at lw_m6 158 rfl) rfl
theorem q1414 : (Jvm.Cond.code ({ cls := "SecretSquaresModel", name := "apart", desc := "(I)V" } : Jvm.MethodName) prog_4_method_23_code (5 : Nat) (Option.none : Option Jvm.ClassFile.FieldType)) ∈ lw_all := lw_g (lw_at lw_m6 159 rfl) rfl
theorem q1415 : (Jvm.Cond.methodLink "SecretSquaresModel" (104 : Nat) ({ cls := "SecretSquaresModel", name := "keepStep", desc := "()V" } : Jvm.MethodName)) ∈ lw_all := lw_g (lw_at lw_m6 160 rfl) rfl
theorem q1416 : (Jvm.Cond.privateMethod ({ cls := "SecretSquaresModel", name := "keepStep", desc := "()V" } : Jvm.MethodName)) ∈ lw_tbl := lw_at lw_m6 161 rfl
theorem q1417 : (Jvm.Cond.instanceMethod ({ cls := "SecretSquaresModel", name := "keepStep", desc := "()V" } : Jvm.MethodName)) ∈ lw_all := lw_g (lw_at lw_m6 162 rfl) rfl
theorem q1418 : (Jvm.Cond.code ({ cls := "SecretSquaresModel", name := "keepStep", desc := "()V" } : Jvm.MethodName) prog_4_method_25_code (2 : Nat) (Option.none : Option Jvm.ClassFile.FieldType)) ∈ lw_all := lw_g (lw_at lw_m6 163 rfl) rfl
theorem q1420 : (Jvm.Cond.instanceMethod ({ cls := "SecretSquaresModel", name := "find", desc := "(I)I" } : Jvm.MethodName)) ∈ lw_all := lw_g (lw_at lw_m6 165 rfl) rfl
theorem q1421 : (Jvm.Cond.selects "SecretSquaresModel" ({ cls := "SecretSquaresModel", name := "find", desc := "(I)I" } : Jvm.MethodName) ({ cls := "SecretSquaresModel", name := "find", desc := "(I)I" } : Jvm.MethodName)) ∈ lw_all := lw_g (lw_at lw_m6 166 rfl) rfl
theorem q1422 : (Jvm.Cond.code ({ cls := "SecretSquaresModel", name := "find", desc := "(I)I" } : Jvm.MethodName) prog_4_method_28_code (2 : Nat) (Option.some Jvm.ClassFile.FieldType.int)) ∈ lw_all := lw_g (lw_at lw_m6 167 rfl) rfl
theorem q1424 : (Jvm.Cond.instanceMethod ({ cls := "SecretSquaresModel", name := "undo", desc := "()I" } : Jvm.MethodName)) ∈ lw_all := lw_g (lw_at lw_m6 169 rfl) rfl
theorem q1425 : (Jvm.Cond.selects "SecretSquaresModel" ({ cls := "SecretSquaresModel", name := "undo", desc := "()I" } : Jvm.MethodName) ({ cls := "SecretSquaresModel", name := "undo", desc := "()I" } : Jvm.MethodName)) ∈ lw_all := lw_g (lw_at lw_m6 170 rfl) rfl
theorem q1426 : (Jvm.Cond.code ({ cls := "SecretSquaresModel", name := "undo", desc := "()I" } : Jvm.MethodName) prog_4_method_29_code (2 : Nat) (Option.some Jvm.ClassFile.FieldType.int)) ∈ lw_all := lw_g (lw_at lw_m6 171 rfl) rfl
theorem q1428 : (Jvm.Cond.instanceMethod ({ cls := "SecretSquaresModel", name := "times", desc := "(I)I" } : Jvm.MethodName)) ∈ lw_all := lw_g (lw_at lw_m6 173 rfl) rfl
theorem q1429 : (Jvm.Cond.selects "SecretSquaresModel" ({ cls := "SecretSquaresModel", name := "times", desc := "(I)I" } : Jvm.MethodName) ({ cls := "SecretSquaresModel", name := "times", desc := "(I)I" } : Jvm.MethodName)) ∈ lw_all := lw_g (lw_at lw_m6 174 rfl) rfl
theorem q1430 : (Jvm.Cond.code ({ cls := "SecretSquaresModel", name := "times", desc := "(I)I" } : Jvm.MethodName) prog_4_method_30_code (4 : Nat) (Option.some Jvm.ClassFile.FieldType.int)) ∈ lw_all := lw_g (lw_at lw_m6 175 rfl) rfl
theorem q1432 : (Jvm.Cond.instanceMethod ({ cls := "SecretSquaresModel", name := "same", desc := "(I)I" } : Jvm.MethodName)) ∈ lw_all := lw_g (lw_at lw_m6 177 rfl) rfl
theorem q1433 : (Jvm.Cond.selects "SecretSquaresModel" ({ cls := "SecretSquaresModel", name := "same", desc := "(I)I" } : Jvm.MethodName) ({ cls := "SecretSquaresModel", name := "same", desc := "(I)I" } : Jvm.MethodName)) ∈ lw_all := lw_g (lw_at lw_m6 178 rfl) rfl
theorem q1434 : (Jvm.Cond.code ({ cls := "SecretSquaresModel", name := "same", desc := "(I)I" } : Jvm.MethodName) prog_4_method_32_code (2 : Nat) (Option.some Jvm.ClassFile.FieldType.int)) ∈ lw_all := lw_g (lw_at lw_m6 179 rfl) rfl
theorem q1435 : (Jvm.Cond.methodLink "SecretSquaresModel" (110 : Nat) ({ cls := "SecretSquaresModel", name := "sameAt", desc := "(I)I" } : Jvm.MethodName)) ∈ lw_all := lw_g (lw_at lw_m6 180 rfl) rfl
theorem q1436 : (Jvm.Cond.privateMethod ({ cls := "SecretSquaresModel", name := "sameAt", desc := "(I)I" } : Jvm.MethodName)) ∈ lw_tbl := lw_at lw_m6 181 rfl
theorem q1437 : (Jvm.Cond.instanceMethod ({ cls := "SecretSquaresModel", name := "sameAt", desc := "(I)I" } : Jvm.MethodName)) ∈ lw_all := lw_g (lw_at lw_m6 182 rfl) rfl
theorem q1438 : (Jvm.Cond.code ({ cls := "SecretSquaresModel", name := "sameAt", desc := "(I)I" } : Jvm.MethodName) prog_4_method_31_code (4 : Nat) (Option.some Jvm.ClassFile.FieldType.int)) ∈ lw_all := lw_g (lw_at lw_m6 183 rfl) rfl
theorem q1440 : (Jvm.Cond.instanceMethod ({ cls := "SecretSquaresModel", name := "length", desc := "(I)I" } : Jvm.MethodName)) ∈ lw_all := lw_g (lw_at lw_m6 185 rfl) rfl
theorem q1441 : (Jvm.Cond.selects "SecretSquaresModel" ({ cls := "SecretSquaresModel", name := "length", desc := "(I)I" } : Jvm.MethodName) ({ cls := "SecretSquaresModel", name := "length", desc := "(I)I" } : Jvm.MethodName)) ∈ lw_all := lw_g (lw_at lw_m6 186 rfl) rfl
theorem q1442 : (Jvm.Cond.code ({ cls := "SecretSquaresModel", name := "length", desc := "(I)I" } : Jvm.MethodName) prog_4_method_33_code (5 : Nat) (Option.some Jvm.ClassFile.FieldType.int)) ∈ lw_all := lw_g (lw_at lw_m6 187 rfl) rfl
theorem q1444 : (Jvm.Cond.instanceMethod ({ cls := "SecretSquaresModel", name := "shift", desc := "(IIII)I" } : Jvm.MethodName)) ∈ lw_all := lw_g (lw_at lw_m6 189 rfl) rfl
theorem q1445 : (Jvm.Cond.selects "SecretSquaresModel" ({ cls := "SecretSquaresModel", name := "shift", desc := "(IIII)I" } : Jvm.MethodName) ({ cls := "SecretSquaresModel", name := "shift", desc := "(IIII)I" } : Jvm.MethodName)) ∈ lw_all := lw_g (lw_at lw_m6 190 rfl) rfl
theorem q1446 : (Jvm.Cond.code ({ cls := "SecretSquaresModel", name := "shift", desc := "(IIII)I" } : Jvm.MethodName) prog_4_method_36_code (6 : Nat) (Option.some Jvm.ClassFile.FieldType.int)) ∈ lw_all := lw_g (lw_at lw_m6 191 rfl) rfl
theorem q1447 : (Jvm.Cond.methodLink "SecretSquaresModel" (117 : Nat) ({ cls := "SecretSquaresModel", name := "rankOf", desc := "(III)I" } : Jvm.MethodName)) ∈ lw_all := lw_g (lw_at lw_m6 192 rfl) rfl
theorem q1448 : (Jvm.Cond.privateMethod ({ cls := "SecretSquaresModel", name := "rankOf", desc := "(III)I" } : Jvm.MethodName)) ∈ lw_tbl := lw_at lw_m6 193 rfl
theorem q1449 : (Jvm.Cond.instanceMethod ({ cls := "SecretSquaresModel", name := "rankOf", desc := "(III)I" } : Jvm.MethodName)) ∈ lw_all := lw_g (lw_at lw_m6 194 rfl) rfl
theorem q1450 : (Jvm.Cond.code ({ cls := "SecretSquaresModel", name := "rankOf", desc := "(III)I" } : Jvm.MethodName) prog_4_method_35_code (8 : Nat) (Option.some Jvm.ClassFile.FieldType.int)) ∈ lw_all := lw_g (lw_at lw_m6 195 rfl) rfl
theorem q1451 : (Jvm.Cond.methodLink "SecretSquaresModel" (113 : Nat) ({ cls := "SecretSquaresModel", name := "score", desc := "(III)I" } : Jvm.MethodName)) ∈ lw_all := lw_g (lw_at lw_m6 196 rfl) rfl
theorem q1452 : (Jvm.Cond.privateMethod ({ cls := "SecretSquaresModel", name := "score", desc := "(III)I" } : Jvm.MethodName)) ∈ lw_tbl := lw_at lw_m6 197 rfl
theorem q1453 : (Jvm.Cond.instanceMethod ({ cls := "SecretSquaresModel", name := "score", desc := "(III)I" } : Jvm.MethodName)) ∈ lw_all := lw_g (lw_at lw_m6 198 rfl) rfl
theorem q1454 : (Jvm.Cond.code ({ cls := "SecretSquaresModel", name := "score", desc := "(III)I" } : Jvm.MethodName) prog_4_method_34_code (6 : Nat) (Option.some Jvm.ClassFile.FieldType.int)) ∈ lw_all := lw_g (lw_at lw_m6 199 rfl) rfl
theorem q1456 : (Jvm.Cond.instanceMethod ({ cls := "SecretSquaresModel", name := "good", desc := "()I" } : Jvm.MethodName)) ∈ lw_all := lw_g (lw_at lw_m6 201 rfl) rfl
theorem q1457 : (Jvm.Cond.selects "SecretSquaresModel" ({ cls := "SecretSquaresModel", name := "good", desc := "()I" } : Jvm.MethodName) ({ cls := "SecretSquaresModel", name := "good", desc := "()I" } : Jvm.MethodName)) ∈ lw_all := lw_g (lw_at lw_m6 202 rfl) rfl
theorem q1458 : (Jvm.Cond.code ({ cls := "SecretSquaresModel", name := "good", desc := "()I" } : Jvm.MethodName) prog_4_method_39_code (1 : Nat) (Option.some Jvm.ClassFile.FieldType.int)) ∈ lw_all := lw_g (lw_at lw_m6 203 rfl) rfl
theorem q1459 : (Jvm.Cond.methodLink "SecretSquaresModel" (120 : Nat) ({ cls := "SecretSquaresModel", name := "layText", desc := "()V" } : Jvm.MethodName)) ∈ lw_all := lw_g (lw_at lw_m6 204 rfl) rfl
theorem q1460 : (Jvm.Cond.privateMethod ({ cls := "SecretSquaresModel", name := "layText", desc := "()V" } : Jvm.MethodName)) ∈ lw_tbl := lw_at lw_m6 205 rfl
theorem q1461 : (Jvm.Cond.instanceMethod ({ cls := "SecretSquaresModel", name := "layText", desc := "()V" } : Jvm.MethodName)) ∈ lw_all := lw_g (lw_at lw_m6 206 rfl) rfl
theorem q1462 : (Jvm.Cond.code ({ cls := "SecretSquaresModel", name := "layText", desc := "()V" } : Jvm.MethodName) prog_4_method_38_code (2 : Nat) (Option.none : Option Jvm.ClassFile.FieldType)) ∈ lw_all := lw_g (lw_at lw_m6 207 rfl) rfl
theorem q1463 : (Jvm.Cond.methodLink "SecretSquaresModel" (123 : Nat) ({ cls := "SecretSquaresModel", name := "goodOf", desc := "([I)I" } : Jvm.MethodName)) ∈ lw_all := lw_g (lw_at lw_m6 208 rfl) rfl
theorem q1464 : (Jvm.Cond.privateMethod ({ cls := "SecretSquaresModel", name := "goodOf", desc := "([I)I" } : Jvm.MethodName)) ∈ lw_tbl := lw_at lw_m6 209 rfl
theorem q1465 : (Jvm.Cond.instanceMethod ({ cls := "SecretSquaresModel", name := "goodOf", desc := "([I)I" } : Jvm.MethodName)) ∈ lw_all := lw_g (lw_at lw_m6 210 rfl) rfl
theorem q1466 : (Jvm.Cond.code ({ cls := "SecretSquaresModel", name := "goodOf", desc := "([I)I" } : Jvm.MethodName) prog_4_method_37_code (4 : Nat) (Option.some Jvm.ClassFile.FieldType.int)) ∈ lw_all := lw_g (lw_at lw_m6 211 rfl) rfl
theorem q1468 : (Jvm.Cond.instanceMethod ({ cls := "SecretSquaresModel", name := "order", desc := "(II)I" } : Jvm.MethodName)) ∈ lw_all := lw_g (lw_at lw_m6 213 rfl) rfl
theorem q1469 : (Jvm.Cond.selects "SecretSquaresModel" ({ cls := "SecretSquaresModel", name := "order", desc := "(II)I" } : Jvm.MethodName) ({ cls := "SecretSquaresModel", name := "order", desc := "(II)I" } : Jvm.MethodName)) ∈ lw_all := lw_g (lw_at lw_m6 214 rfl) rfl
theorem q1470 : (Jvm.Cond.code ({ cls := "SecretSquaresModel", name := "order", desc := "(II)I" } : Jvm.MethodName) prog_4_method_43_code (8 : Nat) (Option.some Jvm.ClassFile.FieldType.int)) ∈ lw_all := lw_g (lw_at lw_m6 215 rfl) rfl
theorem q1471 : (Jvm.Cond.methodLink "SecretSquaresModel" (130 : Nat) ({ cls := "SecretSquaresModel", name := "orders", desc := "(I)I" } : Jvm.MethodName)) ∈ lw_all := lw_g (lw_at lw_m6 216 rfl) rfl
theorem q1472 : (Jvm.Cond.static ({ cls := "SecretSquaresModel", name := "orders", desc := "(I)I" } : Jvm.MethodName)) ∈ lw_all := lw_g (lw_at lw_m6 217 rfl) rfl
theorem q1473 : (Jvm.Cond.code ({ cls := "SecretSquaresModel", name := "orders", desc := "(I)I" } : Jvm.MethodName) prog_4_method_42_code (3 : Nat) (Option.some Jvm.ClassFile.FieldType.int)) ∈ lw_all := lw_g (lw_at lw_m6 218 rfl) rfl
theorem q1474 : (Jvm.Cond.methodLink "SecretSquaresModel" (133 : Nat) ({ cls := "SecretSquaresModel", name := "goodBy", desc := "(II)I" } : Jvm.MethodName)) ∈ lw_all := lw_g (lw_at lw_m6 219 rfl) rfl
theorem q1475 : (Jvm.Cond.privateMethod ({ cls := "SecretSquaresModel", name := "goodBy", desc := "(II)I" } : Jvm.MethodName)) ∈ lw_tbl := lw_at lw_m6 220 rfl
theorem q1476 : (Jvm.Cond.instanceMethod ({ cls := "SecretSquaresModel", name := "goodBy", desc := "(II)I" } : Jvm.MethodName)) ∈ lw_all := lw_g (lw_at lw_m6 221 rfl) rfl
theorem q1477 : (Jvm.Cond.code ({ cls := "SecretSquaresModel", name := "goodBy", desc := "(II)I" } : Jvm.MethodName) prog_4_method_41_code (3 : Nat) (Option.some Jvm.ClassFile.FieldType.int)) ∈ lw_all := lw_g (lw_at lw_m6 222 rfl) rfl
theorem q1478 : (Jvm.Cond.methodLink "SecretSquaresModel" (127 : Nat) ({ cls := "SecretSquaresModel", name := "layOrder", desc := "(II)V" } : Jvm.MethodName)) ∈ lw_all := lw_g (lw_at lw_m6 223 rfl) rfl
theorem q1479 : (Jvm.Cond.privateMethod ({ cls := "SecretSquaresModel", name := "layOrder", desc := "(II)V" } : Jvm.MethodName)) ∈ lw_tbl := lw_at lw_m6 224 rfl
theorem q1480 : (Jvm.Cond.instanceMethod ({ cls := "SecretSquaresModel", name := "layOrder", desc := "(II)V" } : Jvm.MethodName)) ∈ lw_all := lw_g (lw_at lw_m6 225 rfl) rfl
theorem q1481 : (Jvm.Cond.code ({ cls := "SecretSquaresModel", name := "layOrder", desc := "(II)V" } : Jvm.MethodName) prog_4_method_40_code (8 : Nat) (Option.none : Option Jvm.ClassFile.FieldType)) ∈ lw_all := lw_g (lw_at lw_m6 226 rfl) rfl
theorem q1483 : (Jvm.Cond.instanceMethod ({ cls := "SecretSquaresModel", name := "climb", desc := "(III)I" } : Jvm.MethodName)) ∈ lw_all := lw_g (lw_at lw_m6 228 rfl) rfl
theorem q1484 : (Jvm.Cond.selects "SecretSquaresModel" ({ cls := "SecretSquaresModel", name := "climb", desc := "(III)I" } : Jvm.MethodName) ({ cls := "SecretSquaresModel", name := "climb", desc := "(III)I" } : Jvm.MethodName)) ∈ lw_all := lw_g (lw_at lw_m6 229 rfl) rfl
theorem q1485 : (Jvm.Cond.code ({ cls := "SecretSquaresModel", name := "climb", desc := "(III)I" } : Jvm.MethodName) prog_4_method_47_code (5 : Nat) (Option.some Jvm.ClassFile.FieldType.int)) ∈ lw_all := lw_g (lw_at lw_m6 230 rfl) rfl
theorem q1486 : (Jvm.Cond.methodLink "SecretSquaresModel" (146 : Nat) ({ cls := "SecretSquaresModel", name := "goUp", desc := "(II)I" } : Jvm.MethodName)) ∈ lw_all := lw_g (lw_at lw_m6 231 rfl) rfl
theorem q1487 : (Jvm.Cond.privateMethod ({ cls := "SecretSquaresModel", name := "goUp", desc := "(II)I" } : Jvm.MethodName)) ∈ lw_tbl := lw_at lw_m6 232 rfl
theorem q1488 : (Jvm.Cond.instanceMethod ({ cls := "SecretSquaresModel", name := "goUp", desc := "(II)I" } : Jvm.MethodName)) ∈ lw_all := lw_g (lw_at lw_m6 233 rfl) rfl
theorem q1489 : (Jvm.Cond.code ({ cls := "SecretSquaresModel", name := "goUp", desc := "(II)I" } : Jvm.MethodName) prog_4_method_46_code (7 : Nat) (Option.some Jvm.ClassFile.FieldType.int)) ∈ lw_all := lw_g (lw_at lw_m6 234 rfl) rfl
theorem q1490 : (Jvm.Cond.methodLink "SecretSquaresModel" (136 : Nat) ({ cls := "SecretSquaresModel", name := "goodByPairs", desc := "()I" } : Jvm.MethodName)) ∈ lw_all := lw_g (lw_at lw_m6 235 rfl) rfl
theorem q1491 : (Jvm.Cond.privateMethod ({ cls := "SecretSquaresModel", name := "goodByPairs", desc := "()I" } : Jvm.MethodName)) ∈ lw_tbl := lw_at lw_m6 236 rfl
theorem q1492 : (Jvm.Cond.instanceMethod ({ cls := "SecretSquaresModel", name := "goodByPairs", desc := "()I" } : Jvm.MethodName)) ∈ lw_all := lw_g (lw_at lw_m6 237 rfl) rfl
theorem q1493 : (Jvm.Cond.code ({ cls := "SecretSquaresModel", name := "goodByPairs", desc := "()I" } : Jvm.MethodName) prog_4_method_44_code (1 : Nat) (Option.some Jvm.ClassFile.FieldType.int)) ∈ lw_all := lw_g (lw_at lw_m6 238 rfl) rfl
theorem q1494 : (Jvm.Cond.constant "SecretSquaresModel" (142 : Nat) (65537 : Int32)) ∈ lw_all := lw_g (lw_at lw_m6 239 rfl) rfl
theorem q1495 : (Jvm.Cond.methodLink "SecretSquaresModel" (143 : Nat) ({ cls := "SecretSquaresModel", name := "swap", desc := "(II)V" } : Jvm.MethodName)) ∈ lw_all := lw_g (lw_at lw_m7 0 rfl) rfl
theorem q1496 : (Jvm.Cond.privateMethod ({ cls := "SecretSquaresModel", name := "swap", desc := "(II)V" } : Jvm.MethodName)) ∈ lw_tbl := lw_at lw_m7 1 rfl
theorem q1497 : (Jvm.Cond.instanceMethod ({ cls := "SecretSquaresModel", name := "swap", desc := "(II)V" } : Jvm.MethodName)) ∈ lw_all := lw_g (lw_at lw_m7 2 rfl) rfl
theorem q1498 : (Jvm.Cond.code ({ cls := "SecretSquaresModel", name := "swap", desc := "(II)V" } : Jvm.MethodName) prog_4_method_45_code (4 : Nat) (Option.none : Option Jvm.ClassFile.FieldType)) ∈ lw_all := lw_g (lw_at lw_m7 3 rfl) rfl
theorem q1500 : (Jvm.Cond.instanceMethod ({ cls := "SecretSquaresModel", name := "image", desc := "(I)I" } : Jvm.MethodName)) ∈ lw_all := lw_g (lw_at lw_m7 5 rfl) rfl
theorem q1501 : (Jvm.Cond.selects "SecretSquaresModel" ({ cls := "SecretSquaresModel", name := "image", desc := "(I)I" } : Jvm.MethodName) ({ cls := "SecretSquaresModel", name := "image", desc := "(I)I" } : Jvm.MethodName)) ∈ lw_all := lw_g (lw_at lw_m7 6 rfl) rfl
theorem q1502 : (Jvm.Cond.code ({ cls := "SecretSquaresModel", name := "image", desc := "(I)I" } : Jvm.MethodName) prog_4_method_48_code (3 : Nat) (Option.some Jvm.ClassFile.FieldType.int)) ∈ lw_all := lw_g (lw_at lw_m7 7 rfl) rfl
theorem q1504 : (Jvm.Cond.instanceMethod ({ cls := "SecretSquaresModel", name := "restore", desc := "(I)I" } : Jvm.MethodName)) ∈ lw_all := lw_g (lw_at lw_m7 9 rfl) rfl
theorem q1505 : (Jvm.Cond.selects "SecretSquaresModel" ({ cls := "SecretSquaresModel", name := "restore", desc := "(I)I" } : Jvm.MethodName) ({ cls := "SecretSquaresModel", name := "restore", desc := "(I)I" } : Jvm.MethodName)) ∈ lw_all := lw_g (lw_at lw_m7 10 rfl) rfl
theorem q1506 : (Jvm.Cond.code ({ cls := "SecretSquaresModel", name := "restore", desc := "(I)I" } : Jvm.MethodName) prog_4_method_49_code (3 : Nat) (Option.some Jvm.ClassFile.FieldType.int)) ∈ lw_all := lw_g (lw_at lw_m7 11 rfl) rfl
theorem q1508 : (Jvm.Cond.instanceMethod ({ cls := "SecretSquaresModel", name := "count", desc := "(I)I" } : Jvm.MethodName)) ∈ lw_all := lw_g (lw_at lw_m7 13 rfl) rfl
theorem q1509 : (Jvm.Cond.selects "SecretSquaresModel" ({ cls := "SecretSquaresModel", name := "count", desc := "(I)I" } : Jvm.MethodName) ({ cls := "SecretSquaresModel", name := "count", desc := "(I)I" } : Jvm.MethodName)) ∈ lw_all := lw_g (lw_at lw_m7 14 rfl) rfl
theorem q1510 : (Jvm.Cond.code ({ cls := "SecretSquaresModel", name := "count", desc := "(I)I" } : Jvm.MethodName) prog_4_method_50_code (2 : Nat) (Option.some Jvm.ClassFile.FieldType.int)) ∈ lw_all := lw_g (lw_at lw_m7 15 rfl) rfl
theorem q1534 : (Jvm.Cond.castable "SecretSquaresModel" "java/lang/Object") ∈ lw_tbl := lw_at lw_m7 39 rfl
theorem in_X2 : ∀ w ∈ wsX20, w ∈ lw_all := lw_in wsX20 [1292, 1294, 1296, 1298, 1300, 1302, 1304, 1306, 1308, 1310, 1312, 1314] (by decide +kernel) (by decide +kernel)
