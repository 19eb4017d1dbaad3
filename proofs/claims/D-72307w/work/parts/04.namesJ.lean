/-! java/util/BitSet -/
set_option maxRecDepth 100000
def RJ0 : String := "java/util/BitSet"
def TJ0 : u_T := fun k => match k with
  | 0 => ("java/util/BitSet", "words", "[J", false)
  | 1 => ("java/util/BitSet", "wordsInUse", "I", false)
  | _ => ("java/util/BitSet", "sizeIsSticky", "Z", false)
def tyJ0 : Nat → FieldType := fun k => match k with
  | 0 => .array .long
  | 1 => .int
  | _ => .boolean
abbrev wsJ00 : List Cond := u_ws RJ0 TJ0 3
theorem nmJ0 : ∀ a, a < 3 → ∀ b, b < 3 → a ≠ b → (TJ0 a).2.1 ≠ (TJ0 b).2.1 := by decide +kernel
theorem tyJ0_ok : ∀ k, k < 3 → parseFieldDescriptor (TJ0 k).2.2.1 = some (tyJ0 k) := by decide +kernel
abbrev cJ0_init : ByteArray := prog_37_method_5_code
def yJ0_init : MethodName := ⟨RJ0, "<init>", "(I)V"⟩
def dkwJ0_init_2 : List UInt8 := [27, 182, 0, 27, 42, 4, 181, 0, 24, 177]
abbrev dktJ0_init_2 : List UInt8 := dkwJ0_init_2 ++ []
def dkwJ0_init_1 : List UInt8 := [187, 0, 33, 89, 183, 0, 35, 18, 36, 182, 0, 38, 27, 182, 0, 42, 182, 0, 45, 183, 0, 49, 191, 42]
abbrev dktJ0_init_1 : List UInt8 := dkwJ0_init_1 ++ dktJ0_init_2
def dkwJ0_init_0 : List UInt8 := [42, 183, 0, 21, 42, 3, 181, 0, 7, 42, 3, 181, 0, 24, 27, 156, 0, 30, 187, 0, 31, 89]
abbrev dktJ0_init_0 : List UInt8 := dkwJ0_init_0 ++ dktJ0_init_1
theorem dksJ0_init_0 : cJ0_init.data.toList.drop 0 = dktJ0_init_0 := by decide +kernel
theorem dksJ0_init_1 : cJ0_init.data.toList.drop 22 = dktJ0_init_1 := dk_seg dksJ0_init_0 22 rfl rfl
theorem dksJ0_init_2 : cJ0_init.data.toList.drop 46 = dktJ0_init_2 := dk_seg dksJ0_init_1 24 rfl rfl
theorem dJ0_init_0 : decode cJ0_init 0 = .ok (.aload_n 0, 1) := dk_42 (dk_at dksJ0_init_0 0 rfl rfl)
theorem dJ0_init_1 : decode cJ0_init 1 = .ok (.invokespecial 21, 3) := dk_183 0 21 (dk_at dksJ0_init_0 1 rfl rfl)
theorem dJ0_init_4 : decode cJ0_init 4 = .ok (.aload_n 0, 1) := dk_42 (dk_at dksJ0_init_0 4 rfl rfl)
theorem dJ0_init_5 : decode cJ0_init 5 = .ok (.iconst 0, 1) := dk_3 (dk_at dksJ0_init_0 5 rfl rfl)
theorem dJ0_init_6 : decode cJ0_init 6 = .ok (.putfield 7, 3) := dk_181 0 7 (dk_at dksJ0_init_0 6 rfl rfl)
theorem dJ0_init_9 : decode cJ0_init 9 = .ok (.aload_n 0, 1) := dk_42 (dk_at dksJ0_init_0 9 rfl rfl)
theorem dJ0_init_10 : decode cJ0_init 10 = .ok (.iconst 0, 1) := dk_3 (dk_at dksJ0_init_0 10 rfl rfl)
theorem dJ0_init_11 : decode cJ0_init 11 = .ok (.putfield 24, 3) := dk_181 0 24 (dk_at dksJ0_init_0 11 rfl rfl)
theorem dJ0_init_14 : decode cJ0_init 14 = .ok (.iload_n 1, 1) := dk_27 (dk_at dksJ0_init_0 14 rfl rfl)
theorem dJ0_init_15 : decode cJ0_init 15 = .ok (.ifCond .ge 30, 3) := dk_156 0 30 (dk_at dksJ0_init_0 15 rfl rfl)
theorem dJ0_init_18 : decode cJ0_init 18 = .ok (.new 31, 3) := dk_187 0 31 (dk_at dksJ0_init_0 18 rfl rfl)
theorem dJ0_init_21 : decode cJ0_init 21 = .ok (.dup, 1) := dk_89 (dk_at dksJ0_init_0 21 rfl rfl)
theorem dJ0_init_22 : decode cJ0_init 22 = .ok (.new 33, 3) := dk_187 0 33 (dk_at dksJ0_init_1 0 rfl rfl)
theorem dJ0_init_25 : decode cJ0_init 25 = .ok (.dup, 1) := dk_89 (dk_at dksJ0_init_1 3 rfl rfl)
theorem dJ0_init_26 : decode cJ0_init 26 = .ok (.invokespecial 35, 3) := dk_183 0 35 (dk_at dksJ0_init_1 4 rfl rfl)
theorem dJ0_init_29 : decode cJ0_init 29 = .ok (.ldc 36, 2) := dk_18 36 (dk_at dksJ0_init_1 7 rfl rfl)
theorem dJ0_init_31 : decode cJ0_init 31 = .ok (.invokevirtual 38, 3) := dk_182 0 38 (dk_at dksJ0_init_1 9 rfl rfl)
theorem dJ0_init_34 : decode cJ0_init 34 = .ok (.iload_n 1, 1) := dk_27 (dk_at dksJ0_init_1 12 rfl rfl)
theorem dJ0_init_35 : decode cJ0_init 35 = .ok (.invokevirtual 42, 3) := dk_182 0 42 (dk_at dksJ0_init_1 13 rfl rfl)
theorem dJ0_init_38 : decode cJ0_init 38 = .ok (.invokevirtual 45, 3) := dk_182 0 45 (dk_at dksJ0_init_1 16 rfl rfl)
theorem dJ0_init_41 : decode cJ0_init 41 = .ok (.invokespecial 49, 3) := dk_183 0 49 (dk_at dksJ0_init_1 19 rfl rfl)
theorem dJ0_init_44 : decode cJ0_init 44 = .ok (.athrow, 1) := dk_191 (dk_at dksJ0_init_1 22 rfl rfl)
theorem dJ0_init_45 : decode cJ0_init 45 = .ok (.aload_n 0, 1) := dk_42 (dk_at dksJ0_init_1 23 rfl rfl)
theorem dJ0_init_46 : decode cJ0_init 46 = .ok (.iload_n 1, 1) := dk_27 (dk_at dksJ0_init_2 0 rfl rfl)
theorem dJ0_init_47 : decode cJ0_init 47 = .ok (.invokevirtual 27, 3) := dk_182 0 27 (dk_at dksJ0_init_2 1 rfl rfl)
theorem dJ0_init_50 : decode cJ0_init 50 = .ok (.aload_n 0, 1) := dk_42 (dk_at dksJ0_init_2 4 rfl rfl)
theorem dJ0_init_51 : decode cJ0_init 51 = .ok (.iconst 1, 1) := dk_4 (dk_at dksJ0_init_2 5 rfl rfl)
theorem dJ0_init_52 : decode cJ0_init 52 = .ok (.putfield 24, 3) := dk_181 0 24 (dk_at dksJ0_init_2 6 rfl rfl)
theorem dJ0_init_55 : decode cJ0_init 55 = .ok (.return_, 1) := dk_177 (dk_at dksJ0_init_2 9 rfl rfl)
abbrev cJ0_initWords : ByteArray := prog_37_method_6_code
def yJ0_initWords : MethodName := ⟨RJ0, "initWords", "(I)V"⟩
def dkwJ0_initWords_0 : List UInt8 := [42, 27, 4, 100, 184, 0, 52, 4, 96, 188, 11, 181, 0, 11, 177]
abbrev dktJ0_initWords_0 : List UInt8 := dkwJ0_initWords_0 ++ []
theorem dksJ0_initWords_0 : cJ0_initWords.data.toList.drop 0 = dktJ0_initWords_0 := by decide +kernel
theorem dJ0_initWords_0 : decode cJ0_initWords 0 = .ok (.aload_n 0, 1) := dk_42 (dk_at dksJ0_initWords_0 0 rfl rfl)
theorem dJ0_initWords_1 : decode cJ0_initWords 1 = .ok (.iload_n 1, 1) := dk_27 (dk_at dksJ0_initWords_0 1 rfl rfl)
theorem dJ0_initWords_2 : decode cJ0_initWords 2 = .ok (.iconst 1, 1) := dk_4 (dk_at dksJ0_initWords_0 2 rfl rfl)
theorem dJ0_initWords_3 : decode cJ0_initWords 3 = .ok (.isub, 1) := dk_100 (dk_at dksJ0_initWords_0 3 rfl rfl)
theorem dJ0_initWords_4 : decode cJ0_initWords 4 = .ok (.invokestatic 52, 3) := dk_184 0 52 (dk_at dksJ0_initWords_0 4 rfl rfl)
theorem dJ0_initWords_7 : decode cJ0_initWords 7 = .ok (.iconst 1, 1) := dk_4 (dk_at dksJ0_initWords_0 7 rfl rfl)
theorem dJ0_initWords_8 : decode cJ0_initWords 8 = .ok (.iadd, 1) := dk_96 (dk_at dksJ0_initWords_0 8 rfl rfl)
theorem dJ0_initWords_9 : decode cJ0_initWords 9 = .ok (.newarray .long, 2) := dk_188_11 (dk_at dksJ0_initWords_0 9 rfl rfl)
theorem dJ0_initWords_11 : decode cJ0_initWords 11 = .ok (.putfield 11, 3) := dk_181 0 11 (dk_at dksJ0_initWords_0 11 rfl rfl)
theorem dJ0_initWords_14 : decode cJ0_initWords 14 = .ok (.return_, 1) := dk_177 (dk_at dksJ0_initWords_0 14 rfl rfl)
abbrev cJ0_wordIndex : ByteArray := prog_37_method_1_code
def yJ0_wordIndex : MethodName := ⟨RJ0, "wordIndex", "(I)I"⟩
def dkwJ0_wordIndex_0 : List UInt8 := [26, 16, 6, 122, 172]
abbrev dktJ0_wordIndex_0 : List UInt8 := dkwJ0_wordIndex_0 ++ []
theorem dksJ0_wordIndex_0 : cJ0_wordIndex.data.toList.drop 0 = dktJ0_wordIndex_0 := by decide +kernel
theorem dJ0_wordIndex_0 : decode cJ0_wordIndex 0 = .ok (.iload_n 0, 1) := dk_26 (dk_at dksJ0_wordIndex_0 0 rfl rfl)
theorem dJ0_wordIndex_1 : decode cJ0_wordIndex 1 = .ok (.bipush 6, 2) := dk_16 6 (dk_at dksJ0_wordIndex_0 1 rfl rfl)
theorem dJ0_wordIndex_3 : decode cJ0_wordIndex 3 = .ok (.ishr, 1) := dk_122 (dk_at dksJ0_wordIndex_0 3 rfl rfl)
theorem dJ0_wordIndex_4 : decode cJ0_wordIndex 4 = .ok (.ireturn, 1) := dk_172 (dk_at dksJ0_wordIndex_0 4 rfl rfl)
abbrev cJ0_set : ByteArray := prog_37_method_20_code
def yJ0_set : MethodName := ⟨RJ0, "set", "(IZ)V"⟩
def dkwJ0_set_0 : List UInt8 := [28, 153, 0, 11, 42, 27, 182, 0, 167, 167, 0, 8, 42, 27, 182, 0, 170, 177]
abbrev dktJ0_set_0 : List UInt8 := dkwJ0_set_0 ++ []
theorem dksJ0_set_0 : cJ0_set.data.toList.drop 0 = dktJ0_set_0 := by decide +kernel
theorem dJ0_set_0 : decode cJ0_set 0 = .ok (.iload_n 2, 1) := dk_28 (dk_at dksJ0_set_0 0 rfl rfl)
theorem dJ0_set_1 : decode cJ0_set 1 = .ok (.ifCond .eq 11, 3) := dk_153 0 11 (dk_at dksJ0_set_0 1 rfl rfl)
theorem dJ0_set_4 : decode cJ0_set 4 = .ok (.aload_n 0, 1) := dk_42 (dk_at dksJ0_set_0 4 rfl rfl)
theorem dJ0_set_5 : decode cJ0_set 5 = .ok (.iload_n 1, 1) := dk_27 (dk_at dksJ0_set_0 5 rfl rfl)
theorem dJ0_set_6 : decode cJ0_set 6 = .ok (.invokevirtual 167, 3) := dk_182 0 167 (dk_at dksJ0_set_0 6 rfl rfl)
theorem dJ0_set_9 : decode cJ0_set 9 = .ok (.goto 8, 3) := dk_167 0 8 (dk_at dksJ0_set_0 9 rfl rfl)
theorem dJ0_set_12 : decode cJ0_set 12 = .ok (.aload_n 0, 1) := dk_42 (dk_at dksJ0_set_0 12 rfl rfl)
theorem dJ0_set_13 : decode cJ0_set 13 = .ok (.iload_n 1, 1) := dk_27 (dk_at dksJ0_set_0 13 rfl rfl)
theorem dJ0_set_14 : decode cJ0_set 14 = .ok (.invokevirtual 170, 3) := dk_182 0 170 (dk_at dksJ0_set_0 14 rfl rfl)
theorem dJ0_set_17 : decode cJ0_set 17 = .ok (.return_, 1) := dk_177 (dk_at dksJ0_set_0 17 rfl rfl)
abbrev cJ0_set_2 : ByteArray := prog_37_method_19_code
def yJ0_set_2 : MethodName := ⟨RJ0, "set", "(I)V"⟩
def dkwJ0_set_2_2 : List UInt8 := [10, 27, 121, 129, 80, 42, 182, 0, 56, 177]
abbrev dktJ0_set_2_2 : List UInt8 := dkwJ0_set_2_2 ++ []
def dkwJ0_set_2_1 : List UInt8 := [182, 0, 45, 183, 0, 146, 191, 27, 184, 0, 52, 61, 42, 28, 182, 0, 155, 42, 180, 0, 11, 28, 92, 47]
abbrev dktJ0_set_2_1 : List UInt8 := dkwJ0_set_2_1 ++ dktJ0_set_2_2
def dkwJ0_set_2_0 : List UInt8 := [27, 156, 0, 30, 187, 0, 142, 89, 187, 0, 33, 89, 183, 0, 35, 18, 153, 182, 0, 38, 27, 182, 0, 42]
abbrev dktJ0_set_2_0 : List UInt8 := dkwJ0_set_2_0 ++ dktJ0_set_2_1
theorem dksJ0_set_2_0 : cJ0_set_2.data.toList.drop 0 = dktJ0_set_2_0 := by decide +kernel
theorem dksJ0_set_2_1 : cJ0_set_2.data.toList.drop 24 = dktJ0_set_2_1 := dk_seg dksJ0_set_2_0 24 rfl rfl
theorem dksJ0_set_2_2 : cJ0_set_2.data.toList.drop 48 = dktJ0_set_2_2 := dk_seg dksJ0_set_2_1 24 rfl rfl
theorem dJ0_set_2_0 : decode cJ0_set_2 0 = .ok (.iload_n 1, 1) := dk_27 (dk_at dksJ0_set_2_0 0 rfl rfl)
theorem dJ0_set_2_1 : decode cJ0_set_2 1 = .ok (.ifCond .ge 30, 3) := dk_156 0 30 (dk_at dksJ0_set_2_0 1 rfl rfl)
theorem dJ0_set_2_4 : decode cJ0_set_2 4 = .ok (.new 142, 3) := dk_187 0 142 (dk_at dksJ0_set_2_0 4 rfl rfl)
theorem dJ0_set_2_7 : decode cJ0_set_2 7 = .ok (.dup, 1) := dk_89 (dk_at dksJ0_set_2_0 7 rfl rfl)
theorem dJ0_set_2_8 : decode cJ0_set_2 8 = .ok (.new 33, 3) := dk_187 0 33 (dk_at dksJ0_set_2_0 8 rfl rfl)
theorem dJ0_set_2_11 : decode cJ0_set_2 11 = .ok (.dup, 1) := dk_89 (dk_at dksJ0_set_2_0 11 rfl rfl)
theorem dJ0_set_2_12 : decode cJ0_set_2 12 = .ok (.invokespecial 35, 3) := dk_183 0 35 (dk_at dksJ0_set_2_0 12 rfl rfl)
theorem dJ0_set_2_15 : decode cJ0_set_2 15 = .ok (.ldc 153, 2) := dk_18 153 (dk_at dksJ0_set_2_0 15 rfl rfl)
theorem dJ0_set_2_17 : decode cJ0_set_2 17 = .ok (.invokevirtual 38, 3) := dk_182 0 38 (dk_at dksJ0_set_2_0 17 rfl rfl)
theorem dJ0_set_2_20 : decode cJ0_set_2 20 = .ok (.iload_n 1, 1) := dk_27 (dk_at dksJ0_set_2_0 20 rfl rfl)
theorem dJ0_set_2_21 : decode cJ0_set_2 21 = .ok (.invokevirtual 42, 3) := dk_182 0 42 (dk_at dksJ0_set_2_0 21 rfl rfl)
theorem dJ0_set_2_24 : decode cJ0_set_2 24 = .ok (.invokevirtual 45, 3) := dk_182 0 45 (dk_at dksJ0_set_2_1 0 rfl rfl)
theorem dJ0_set_2_27 : decode cJ0_set_2 27 = .ok (.invokespecial 146, 3) := dk_183 0 146 (dk_at dksJ0_set_2_1 3 rfl rfl)
theorem dJ0_set_2_30 : decode cJ0_set_2 30 = .ok (.athrow, 1) := dk_191 (dk_at dksJ0_set_2_1 6 rfl rfl)
theorem dJ0_set_2_31 : decode cJ0_set_2 31 = .ok (.iload_n 1, 1) := dk_27 (dk_at dksJ0_set_2_1 7 rfl rfl)
theorem dJ0_set_2_32 : decode cJ0_set_2 32 = .ok (.invokestatic 52, 3) := dk_184 0 52 (dk_at dksJ0_set_2_1 8 rfl rfl)
theorem dJ0_set_2_35 : decode cJ0_set_2 35 = .ok (.istore_n 2, 1) := dk_61 (dk_at dksJ0_set_2_1 11 rfl rfl)
theorem dJ0_set_2_36 : decode cJ0_set_2 36 = .ok (.aload_n 0, 1) := dk_42 (dk_at dksJ0_set_2_1 12 rfl rfl)
theorem dJ0_set_2_37 : decode cJ0_set_2 37 = .ok (.iload_n 2, 1) := dk_28 (dk_at dksJ0_set_2_1 13 rfl rfl)
theorem dJ0_set_2_38 : decode cJ0_set_2 38 = .ok (.invokevirtual 155, 3) := dk_182 0 155 (dk_at dksJ0_set_2_1 14 rfl rfl)
theorem dJ0_set_2_41 : decode cJ0_set_2 41 = .ok (.aload_n 0, 1) := dk_42 (dk_at dksJ0_set_2_1 17 rfl rfl)
theorem dJ0_set_2_42 : decode cJ0_set_2 42 = .ok (.getfield 11, 3) := dk_180 0 11 (dk_at dksJ0_set_2_1 18 rfl rfl)
theorem dJ0_set_2_45 : decode cJ0_set_2 45 = .ok (.iload_n 2, 1) := dk_28 (dk_at dksJ0_set_2_1 21 rfl rfl)
theorem dJ0_set_2_46 : decode cJ0_set_2 46 = .ok (.dup2, 1) := dk_92 (dk_at dksJ0_set_2_1 22 rfl rfl)
theorem dJ0_set_2_47 : decode cJ0_set_2 47 = .ok (.laload, 1) := dk_47 (dk_at dksJ0_set_2_1 23 rfl rfl)
theorem dJ0_set_2_48 : decode cJ0_set_2 48 = .ok (.lconst 1, 1) := dk_10 (dk_at dksJ0_set_2_2 0 rfl rfl)
theorem dJ0_set_2_49 : decode cJ0_set_2 49 = .ok (.iload_n 1, 1) := dk_27 (dk_at dksJ0_set_2_2 1 rfl rfl)
theorem dJ0_set_2_50 : decode cJ0_set_2 50 = .ok (.lshl, 1) := dk_121 (dk_at dksJ0_set_2_2 2 rfl rfl)
theorem dJ0_set_2_51 : decode cJ0_set_2 51 = .ok (.lor, 1) := dk_129 (dk_at dksJ0_set_2_2 3 rfl rfl)
theorem dJ0_set_2_52 : decode cJ0_set_2 52 = .ok (.lastore, 1) := dk_80 (dk_at dksJ0_set_2_2 4 rfl rfl)
theorem dJ0_set_2_53 : decode cJ0_set_2 53 = .ok (.aload_n 0, 1) := dk_42 (dk_at dksJ0_set_2_2 5 rfl rfl)
theorem dJ0_set_2_54 : decode cJ0_set_2 54 = .ok (.invokevirtual 56, 3) := dk_182 0 56 (dk_at dksJ0_set_2_2 6 rfl rfl)
theorem dJ0_set_2_57 : decode cJ0_set_2 57 = .ok (.return_, 1) := dk_177 (dk_at dksJ0_set_2_2 9 rfl rfl)
abbrev cJ0_expandTo : ByteArray := prog_37_method_15_code
def yJ0_expandTo : MethodName := ⟨RJ0, "expandTo", "(I)V"⟩
def dkwJ0_expandTo_0 : List UInt8 := [27, 4, 96, 61, 42, 180, 0, 7, 28, 162, 0, 13, 42, 28, 182, 0, 139, 42, 28, 181, 0, 7, 177]
abbrev dktJ0_expandTo_0 : List UInt8 := dkwJ0_expandTo_0 ++ []
theorem dksJ0_expandTo_0 : cJ0_expandTo.data.toList.drop 0 = dktJ0_expandTo_0 := by decide +kernel
theorem dJ0_expandTo_0 : decode cJ0_expandTo 0 = .ok (.iload_n 1, 1) := dk_27 (dk_at dksJ0_expandTo_0 0 rfl rfl)
theorem dJ0_expandTo_1 : decode cJ0_expandTo 1 = .ok (.iconst 1, 1) := dk_4 (dk_at dksJ0_expandTo_0 1 rfl rfl)
theorem dJ0_expandTo_2 : decode cJ0_expandTo 2 = .ok (.iadd, 1) := dk_96 (dk_at dksJ0_expandTo_0 2 rfl rfl)
theorem dJ0_expandTo_3 : decode cJ0_expandTo 3 = .ok (.istore_n 2, 1) := dk_61 (dk_at dksJ0_expandTo_0 3 rfl rfl)
theorem dJ0_expandTo_4 : decode cJ0_expandTo 4 = .ok (.aload_n 0, 1) := dk_42 (dk_at dksJ0_expandTo_0 4 rfl rfl)
theorem dJ0_expandTo_5 : decode cJ0_expandTo 5 = .ok (.getfield 7, 3) := dk_180 0 7 (dk_at dksJ0_expandTo_0 5 rfl rfl)
theorem dJ0_expandTo_8 : decode cJ0_expandTo 8 = .ok (.iload_n 2, 1) := dk_28 (dk_at dksJ0_expandTo_0 8 rfl rfl)
theorem dJ0_expandTo_9 : decode cJ0_expandTo 9 = .ok (.if_icmp .ge 13, 3) := dk_162 0 13 (dk_at dksJ0_expandTo_0 9 rfl rfl)
theorem dJ0_expandTo_12 : decode cJ0_expandTo 12 = .ok (.aload_n 0, 1) := dk_42 (dk_at dksJ0_expandTo_0 12 rfl rfl)
theorem dJ0_expandTo_13 : decode cJ0_expandTo 13 = .ok (.iload_n 2, 1) := dk_28 (dk_at dksJ0_expandTo_0 13 rfl rfl)
theorem dJ0_expandTo_14 : decode cJ0_expandTo 14 = .ok (.invokevirtual 139, 3) := dk_182 0 139 (dk_at dksJ0_expandTo_0 14 rfl rfl)
theorem dJ0_expandTo_17 : decode cJ0_expandTo 17 = .ok (.aload_n 0, 1) := dk_42 (dk_at dksJ0_expandTo_0 17 rfl rfl)
theorem dJ0_expandTo_18 : decode cJ0_expandTo 18 = .ok (.iload_n 2, 1) := dk_28 (dk_at dksJ0_expandTo_0 18 rfl rfl)
theorem dJ0_expandTo_19 : decode cJ0_expandTo 19 = .ok (.putfield 7, 3) := dk_181 0 7 (dk_at dksJ0_expandTo_0 19 rfl rfl)
theorem dJ0_expandTo_22 : decode cJ0_expandTo 22 = .ok (.return_, 1) := dk_177 (dk_at dksJ0_expandTo_0 22 rfl rfl)
abbrev cJ0_ensureCapacity : ByteArray := prog_37_method_14_code
def yJ0_ensureCapacity : MethodName := ⟨RJ0, "ensureCapacity", "(I)V"⟩
def dkwJ0_ensureCapacity_1 : List UInt8 := [180, 0, 11, 28, 184, 0, 59, 181, 0, 11, 42, 3, 181, 0, 24, 177]
abbrev dktJ0_ensureCapacity_1 : List UInt8 := dkwJ0_ensureCapacity_1 ++ []
def dkwJ0_ensureCapacity_0 : List UInt8 := [42, 180, 0, 11, 190, 27, 162, 0, 32, 5, 42, 180, 0, 11, 190, 104, 27, 184, 0, 133, 61, 42, 42]
abbrev dktJ0_ensureCapacity_0 : List UInt8 := dkwJ0_ensureCapacity_0 ++ dktJ0_ensureCapacity_1
theorem dksJ0_ensureCapacity_0 : cJ0_ensureCapacity.data.toList.drop 0 = dktJ0_ensureCapacity_0 := by decide +kernel
theorem dksJ0_ensureCapacity_1 : cJ0_ensureCapacity.data.toList.drop 23 = dktJ0_ensureCapacity_1 := dk_seg dksJ0_ensureCapacity_0 23 rfl rfl
theorem dJ0_ensureCapacity_0 : decode cJ0_ensureCapacity 0 = .ok (.aload_n 0, 1) := dk_42 (dk_at dksJ0_ensureCapacity_0 0 rfl rfl)
theorem dJ0_ensureCapacity_1 : decode cJ0_ensureCapacity 1 = .ok (.getfield 11, 3) := dk_180 0 11 (dk_at dksJ0_ensureCapacity_0 1 rfl rfl)
theorem dJ0_ensureCapacity_4 : decode cJ0_ensureCapacity 4 = .ok (.arraylength, 1) := dk_190 (dk_at dksJ0_ensureCapacity_0 4 rfl rfl)
theorem dJ0_ensureCapacity_5 : decode cJ0_ensureCapacity 5 = .ok (.iload_n 1, 1) := dk_27 (dk_at dksJ0_ensureCapacity_0 5 rfl rfl)
theorem dJ0_ensureCapacity_6 : decode cJ0_ensureCapacity 6 = .ok (.if_icmp .ge 32, 3) := dk_162 0 32 (dk_at dksJ0_ensureCapacity_0 6 rfl rfl)
theorem dJ0_ensureCapacity_9 : decode cJ0_ensureCapacity 9 = .ok (.iconst 2, 1) := dk_5 (dk_at dksJ0_ensureCapacity_0 9 rfl rfl)
theorem dJ0_ensureCapacity_10 : decode cJ0_ensureCapacity 10 = .ok (.aload_n 0, 1) := dk_42 (dk_at dksJ0_ensureCapacity_0 10 rfl rfl)
theorem dJ0_ensureCapacity_11 : decode cJ0_ensureCapacity 11 = .ok (.getfield 11, 3) := dk_180 0 11 (dk_at dksJ0_ensureCapacity_0 11 rfl rfl)
theorem dJ0_ensureCapacity_14 : decode cJ0_ensureCapacity 14 = .ok (.arraylength, 1) := dk_190 (dk_at dksJ0_ensureCapacity_0 14 rfl rfl)
theorem dJ0_ensureCapacity_15 : decode cJ0_ensureCapacity 15 = .ok (.imul, 1) := dk_104 (dk_at dksJ0_ensureCapacity_0 15 rfl rfl)
theorem dJ0_ensureCapacity_16 : decode cJ0_ensureCapacity 16 = .ok (.iload_n 1, 1) := dk_27 (dk_at dksJ0_ensureCapacity_0 16 rfl rfl)
theorem dJ0_ensureCapacity_17 : decode cJ0_ensureCapacity 17 = .ok (.invokestatic 133, 3) := dk_184 0 133 (dk_at dksJ0_ensureCapacity_0 17 rfl rfl)
theorem dJ0_ensureCapacity_20 : decode cJ0_ensureCapacity 20 = .ok (.istore_n 2, 1) := dk_61 (dk_at dksJ0_ensureCapacity_0 20 rfl rfl)
theorem dJ0_ensureCapacity_21 : decode cJ0_ensureCapacity 21 = .ok (.aload_n 0, 1) := dk_42 (dk_at dksJ0_ensureCapacity_0 21 rfl rfl)
theorem dJ0_ensureCapacity_22 : decode cJ0_ensureCapacity 22 = .ok (.aload_n 0, 1) := dk_42 (dk_at dksJ0_ensureCapacity_0 22 rfl rfl)
theorem dJ0_ensureCapacity_23 : decode cJ0_ensureCapacity 23 = .ok (.getfield 11, 3) := dk_180 0 11 (dk_at dksJ0_ensureCapacity_1 0 rfl rfl)
theorem dJ0_ensureCapacity_26 : decode cJ0_ensureCapacity 26 = .ok (.iload_n 2, 1) := dk_28 (dk_at dksJ0_ensureCapacity_1 3 rfl rfl)
theorem dJ0_ensureCapacity_27 : decode cJ0_ensureCapacity 27 = .ok (.invokestatic 59, 3) := dk_184 0 59 (dk_at dksJ0_ensureCapacity_1 4 rfl rfl)
theorem dJ0_ensureCapacity_30 : decode cJ0_ensureCapacity 30 = .ok (.putfield 11, 3) := dk_181 0 11 (dk_at dksJ0_ensureCapacity_1 7 rfl rfl)
theorem dJ0_ensureCapacity_33 : decode cJ0_ensureCapacity 33 = .ok (.aload_n 0, 1) := dk_42 (dk_at dksJ0_ensureCapacity_1 10 rfl rfl)
theorem dJ0_ensureCapacity_34 : decode cJ0_ensureCapacity 34 = .ok (.iconst 0, 1) := dk_3 (dk_at dksJ0_ensureCapacity_1 11 rfl rfl)
theorem dJ0_ensureCapacity_35 : decode cJ0_ensureCapacity 35 = .ok (.putfield 24, 3) := dk_181 0 24 (dk_at dksJ0_ensureCapacity_1 12 rfl rfl)
theorem dJ0_ensureCapacity_38 : decode cJ0_ensureCapacity 38 = .ok (.return_, 1) := dk_177 (dk_at dksJ0_ensureCapacity_1 15 rfl rfl)
abbrev cJ0_checkInvariants : ByteArray := prog_37_method_2_code
def yJ0_checkInvariants : MethodName := ⟨RJ0, "checkInvariants", "()V"⟩
def dkwJ0_checkInvariants_4 : List UInt8 := [180, 0, 7, 47, 9, 148, 153, 0, 11, 187, 0, 15, 89, 183, 0, 17, 191, 177]
abbrev dktJ0_checkInvariants_4 : List UInt8 := dkwJ0_checkInvariants_4 ++ []
def dkwJ0_checkInvariants_3 : List UInt8 := [178, 0, 3, 154, 0, 37, 42, 180, 0, 7, 42, 180, 0, 11, 190, 159, 0, 25, 42, 180, 0, 11, 42]
abbrev dktJ0_checkInvariants_3 : List UInt8 := dkwJ0_checkInvariants_3 ++ dktJ0_checkInvariants_4
def dkwJ0_checkInvariants_2 : List UInt8 := [155, 0, 15, 42, 180, 0, 7, 42, 180, 0, 11, 190, 164, 0, 11, 187, 0, 15, 89, 183, 0, 17, 191]
abbrev dktJ0_checkInvariants_2 : List UInt8 := dkwJ0_checkInvariants_2 ++ dktJ0_checkInvariants_3
def dkwJ0_checkInvariants_1 : List UInt8 := [9, 148, 154, 0, 11, 187, 0, 15, 89, 183, 0, 17, 191, 178, 0, 3, 154, 0, 30, 42, 180, 0, 7]
abbrev dktJ0_checkInvariants_1 : List UInt8 := dkwJ0_checkInvariants_1 ++ dktJ0_checkInvariants_2
def dkwJ0_checkInvariants_0 : List UInt8 := [178, 0, 3, 154, 0, 34, 42, 180, 0, 7, 153, 0, 27, 42, 180, 0, 11, 42, 180, 0, 7, 4, 100, 47]
abbrev dktJ0_checkInvariants_0 : List UInt8 := dkwJ0_checkInvariants_0 ++ dktJ0_checkInvariants_1
theorem dksJ0_checkInvariants_0 : cJ0_checkInvariants.data.toList.drop 0 = dktJ0_checkInvariants_0 := by decide +kernel
theorem dksJ0_checkInvariants_1 : cJ0_checkInvariants.data.toList.drop 24 = dktJ0_checkInvariants_1 := dk_seg dksJ0_checkInvariants_0 24 rfl rfl
theorem dksJ0_checkInvariants_2 : cJ0_checkInvariants.data.toList.drop 47 = dktJ0_checkInvariants_2 := dk_seg dksJ0_checkInvariants_1 23 rfl rfl
theorem dksJ0_checkInvariants_3 : cJ0_checkInvariants.data.toList.drop 70 = dktJ0_checkInvariants_3 := dk_seg dksJ0_checkInvariants_2 23 rfl rfl
theorem dksJ0_checkInvariants_4 : cJ0_checkInvariants.data.toList.drop 93 = dktJ0_checkInvariants_4 := dk_seg dksJ0_checkInvariants_3 23 rfl rfl
theorem dJ0_checkInvariants_0 : decode cJ0_checkInvariants 0 = .ok (.getstatic 3, 3) := dk_178 0 3 (dk_at dksJ0_checkInvariants_0 0 rfl rfl)
theorem dJ0_checkInvariants_3 : decode cJ0_checkInvariants 3 = .ok (.ifCond .ne 34, 3) := dk_154 0 34 (dk_at dksJ0_checkInvariants_0 3 rfl rfl)
theorem dJ0_checkInvariants_6 : decode cJ0_checkInvariants 6 = .ok (.aload_n 0, 1) := dk_42 (dk_at dksJ0_checkInvariants_0 6 rfl rfl)
theorem dJ0_checkInvariants_7 : decode cJ0_checkInvariants 7 = .ok (.getfield 7, 3) := dk_180 0 7 (dk_at dksJ0_checkInvariants_0 7 rfl rfl)
theorem dJ0_checkInvariants_10 : decode cJ0_checkInvariants 10 = .ok (.ifCond .eq 27, 3) := dk_153 0 27 (dk_at dksJ0_checkInvariants_0 10 rfl rfl)
theorem dJ0_checkInvariants_13 : decode cJ0_checkInvariants 13 = .ok (.aload_n 0, 1) := dk_42 (dk_at dksJ0_checkInvariants_0 13 rfl rfl)
theorem dJ0_checkInvariants_14 : decode cJ0_checkInvariants 14 = .ok (.getfield 11, 3) := dk_180 0 11 (dk_at dksJ0_checkInvariants_0 14 rfl rfl)
theorem dJ0_checkInvariants_17 : decode cJ0_checkInvariants 17 = .ok (.aload_n 0, 1) := dk_42 (dk_at dksJ0_checkInvariants_0 17 rfl rfl)
theorem dJ0_checkInvariants_18 : decode cJ0_checkInvariants 18 = .ok (.getfield 7, 3) := dk_180 0 7 (dk_at dksJ0_checkInvariants_0 18 rfl rfl)
theorem dJ0_checkInvariants_21 : decode cJ0_checkInvariants 21 = .ok (.iconst 1, 1) := dk_4 (dk_at dksJ0_checkInvariants_0 21 rfl rfl)
theorem dJ0_checkInvariants_22 : decode cJ0_checkInvariants 22 = .ok (.isub, 1) := dk_100 (dk_at dksJ0_checkInvariants_0 22 rfl rfl)
theorem dJ0_checkInvariants_23 : decode cJ0_checkInvariants 23 = .ok (.laload, 1) := dk_47 (dk_at dksJ0_checkInvariants_0 23 rfl rfl)
theorem dJ0_checkInvariants_24 : decode cJ0_checkInvariants 24 = .ok (.lconst 0, 1) := dk_9 (dk_at dksJ0_checkInvariants_1 0 rfl rfl)
theorem dJ0_checkInvariants_25 : decode cJ0_checkInvariants 25 = .ok (.lcmp, 1) := dk_148 (dk_at dksJ0_checkInvariants_1 1 rfl rfl)
theorem dJ0_checkInvariants_26 : decode cJ0_checkInvariants 26 = .ok (.ifCond .ne 11, 3) := dk_154 0 11 (dk_at dksJ0_checkInvariants_1 2 rfl rfl)
theorem dJ0_checkInvariants_29 : decode cJ0_checkInvariants 29 = .ok (.new 15, 3) := dk_187 0 15 (dk_at dksJ0_checkInvariants_1 5 rfl rfl)
theorem dJ0_checkInvariants_32 : decode cJ0_checkInvariants 32 = .ok (.dup, 1) := dk_89 (dk_at dksJ0_checkInvariants_1 8 rfl rfl)
theorem dJ0_checkInvariants_33 : decode cJ0_checkInvariants 33 = .ok (.invokespecial 17, 3) := dk_183 0 17 (dk_at dksJ0_checkInvariants_1 9 rfl rfl)
theorem dJ0_checkInvariants_36 : decode cJ0_checkInvariants 36 = .ok (.athrow, 1) := dk_191 (dk_at dksJ0_checkInvariants_1 12 rfl rfl)
theorem dJ0_checkInvariants_37 : decode cJ0_checkInvariants 37 = .ok (.getstatic 3, 3) := dk_178 0 3 (dk_at dksJ0_checkInvariants_1 13 rfl rfl)
theorem dJ0_checkInvariants_40 : decode cJ0_checkInvariants 40 = .ok (.ifCond .ne 30, 3) := dk_154 0 30 (dk_at dksJ0_checkInvariants_1 16 rfl rfl)
theorem dJ0_checkInvariants_43 : decode cJ0_checkInvariants 43 = .ok (.aload_n 0, 1) := dk_42 (dk_at dksJ0_checkInvariants_1 19 rfl rfl)
theorem dJ0_checkInvariants_44 : decode cJ0_checkInvariants 44 = .ok (.getfield 7, 3) := dk_180 0 7 (dk_at dksJ0_checkInvariants_1 20 rfl rfl)
theorem dJ0_checkInvariants_47 : decode cJ0_checkInvariants 47 = .ok (.ifCond .lt 15, 3) := dk_155 0 15 (dk_at dksJ0_checkInvariants_2 0 rfl rfl)
theorem dJ0_checkInvariants_50 : decode cJ0_checkInvariants 50 = .ok (.aload_n 0, 1) := dk_42 (dk_at dksJ0_checkInvariants_2 3 rfl rfl)
theorem dJ0_checkInvariants_51 : decode cJ0_checkInvariants 51 = .ok (.getfield 7, 3) := dk_180 0 7 (dk_at dksJ0_checkInvariants_2 4 rfl rfl)
theorem dJ0_checkInvariants_54 : decode cJ0_checkInvariants 54 = .ok (.aload_n 0, 1) := dk_42 (dk_at dksJ0_checkInvariants_2 7 rfl rfl)
theorem dJ0_checkInvariants_55 : decode cJ0_checkInvariants 55 = .ok (.getfield 11, 3) := dk_180 0 11 (dk_at dksJ0_checkInvariants_2 8 rfl rfl)
theorem dJ0_checkInvariants_58 : decode cJ0_checkInvariants 58 = .ok (.arraylength, 1) := dk_190 (dk_at dksJ0_checkInvariants_2 11 rfl rfl)
theorem dJ0_checkInvariants_59 : decode cJ0_checkInvariants 59 = .ok (.if_icmp .le 11, 3) := dk_164 0 11 (dk_at dksJ0_checkInvariants_2 12 rfl rfl)
theorem dJ0_checkInvariants_62 : decode cJ0_checkInvariants 62 = .ok (.new 15, 3) := dk_187 0 15 (dk_at dksJ0_checkInvariants_2 15 rfl rfl)
theorem dJ0_checkInvariants_65 : decode cJ0_checkInvariants 65 = .ok (.dup, 1) := dk_89 (dk_at dksJ0_checkInvariants_2 18 rfl rfl)
theorem dJ0_checkInvariants_66 : decode cJ0_checkInvariants 66 = .ok (.invokespecial 17, 3) := dk_183 0 17 (dk_at dksJ0_checkInvariants_2 19 rfl rfl)
theorem dJ0_checkInvariants_69 : decode cJ0_checkInvariants 69 = .ok (.athrow, 1) := dk_191 (dk_at dksJ0_checkInvariants_2 22 rfl rfl)
theorem dJ0_checkInvariants_70 : decode cJ0_checkInvariants 70 = .ok (.getstatic 3, 3) := dk_178 0 3 (dk_at dksJ0_checkInvariants_3 0 rfl rfl)
theorem dJ0_checkInvariants_73 : decode cJ0_checkInvariants 73 = .ok (.ifCond .ne 37, 3) := dk_154 0 37 (dk_at dksJ0_checkInvariants_3 3 rfl rfl)
theorem dJ0_checkInvariants_76 : decode cJ0_checkInvariants 76 = .ok (.aload_n 0, 1) := dk_42 (dk_at dksJ0_checkInvariants_3 6 rfl rfl)
theorem dJ0_checkInvariants_77 : decode cJ0_checkInvariants 77 = .ok (.getfield 7, 3) := dk_180 0 7 (dk_at dksJ0_checkInvariants_3 7 rfl rfl)
theorem dJ0_checkInvariants_80 : decode cJ0_checkInvariants 80 = .ok (.aload_n 0, 1) := dk_42 (dk_at dksJ0_checkInvariants_3 10 rfl rfl)
theorem dJ0_checkInvariants_81 : decode cJ0_checkInvariants 81 = .ok (.getfield 11, 3) := dk_180 0 11 (dk_at dksJ0_checkInvariants_3 11 rfl rfl)
theorem dJ0_checkInvariants_84 : decode cJ0_checkInvariants 84 = .ok (.arraylength, 1) := dk_190 (dk_at dksJ0_checkInvariants_3 14 rfl rfl)
theorem dJ0_checkInvariants_85 : decode cJ0_checkInvariants 85 = .ok (.if_icmp .eq 25, 3) := dk_159 0 25 (dk_at dksJ0_checkInvariants_3 15 rfl rfl)
theorem dJ0_checkInvariants_88 : decode cJ0_checkInvariants 88 = .ok (.aload_n 0, 1) := dk_42 (dk_at dksJ0_checkInvariants_3 18 rfl rfl)
theorem dJ0_checkInvariants_89 : decode cJ0_checkInvariants 89 = .ok (.getfield 11, 3) := dk_180 0 11 (dk_at dksJ0_checkInvariants_3 19 rfl rfl)
theorem dJ0_checkInvariants_92 : decode cJ0_checkInvariants 92 = .ok (.aload_n 0, 1) := dk_42 (dk_at dksJ0_checkInvariants_3 22 rfl rfl)
theorem dJ0_checkInvariants_93 : decode cJ0_checkInvariants 93 = .ok (.getfield 7, 3) := dk_180 0 7 (dk_at dksJ0_checkInvariants_4 0 rfl rfl)
theorem dJ0_checkInvariants_96 : decode cJ0_checkInvariants 96 = .ok (.laload, 1) := dk_47 (dk_at dksJ0_checkInvariants_4 3 rfl rfl)
theorem dJ0_checkInvariants_97 : decode cJ0_checkInvariants 97 = .ok (.lconst 0, 1) := dk_9 (dk_at dksJ0_checkInvariants_4 4 rfl rfl)
theorem dJ0_checkInvariants_98 : decode cJ0_checkInvariants 98 = .ok (.lcmp, 1) := dk_148 (dk_at dksJ0_checkInvariants_4 5 rfl rfl)
theorem dJ0_checkInvariants_99 : decode cJ0_checkInvariants 99 = .ok (.ifCond .eq 11, 3) := dk_153 0 11 (dk_at dksJ0_checkInvariants_4 6 rfl rfl)
theorem dJ0_checkInvariants_102 : decode cJ0_checkInvariants 102 = .ok (.new 15, 3) := dk_187 0 15 (dk_at dksJ0_checkInvariants_4 9 rfl rfl)
theorem dJ0_checkInvariants_105 : decode cJ0_checkInvariants 105 = .ok (.dup, 1) := dk_89 (dk_at dksJ0_checkInvariants_4 12 rfl rfl)
theorem dJ0_checkInvariants_106 : decode cJ0_checkInvariants 106 = .ok (.invokespecial 17, 3) := dk_183 0 17 (dk_at dksJ0_checkInvariants_4 13 rfl rfl)
theorem dJ0_checkInvariants_109 : decode cJ0_checkInvariants 109 = .ok (.athrow, 1) := dk_191 (dk_at dksJ0_checkInvariants_4 16 rfl rfl)
theorem dJ0_checkInvariants_110 : decode cJ0_checkInvariants 110 = .ok (.return_, 1) := dk_177 (dk_at dksJ0_checkInvariants_4 17 rfl rfl)
abbrev cJ0_clear : ByteArray := prog_37_method_23_code
def yJ0_clear : MethodName := ⟨RJ0, "clear", "(I)V"⟩
def dkwJ0_clear_2 : List UInt8 := [180, 0, 11, 28, 92, 47, 10, 27, 121, 20, 0, 165, 131, 127, 80, 42, 182, 0, 158, 42, 182, 0, 56, 177]
abbrev dktJ0_clear_2 : List UInt8 := dkwJ0_clear_2 ++ []
def dkwJ0_clear_1 : List UInt8 := [182, 0, 45, 183, 0, 146, 191, 27, 184, 0, 52, 61, 28, 42, 180, 0, 7, 161, 0, 4, 177, 42]
abbrev dktJ0_clear_1 : List UInt8 := dkwJ0_clear_1 ++ dktJ0_clear_2
def dkwJ0_clear_0 : List UInt8 := [27, 156, 0, 30, 187, 0, 142, 89, 187, 0, 33, 89, 183, 0, 35, 18, 153, 182, 0, 38, 27, 182, 0, 42]
abbrev dktJ0_clear_0 : List UInt8 := dkwJ0_clear_0 ++ dktJ0_clear_1
theorem dksJ0_clear_0 : cJ0_clear.data.toList.drop 0 = dktJ0_clear_0 := by decide +kernel
theorem dksJ0_clear_1 : cJ0_clear.data.toList.drop 24 = dktJ0_clear_1 := dk_seg dksJ0_clear_0 24 rfl rfl
theorem dksJ0_clear_2 : cJ0_clear.data.toList.drop 46 = dktJ0_clear_2 := dk_seg dksJ0_clear_1 22 rfl rfl
theorem dJ0_clear_0 : decode cJ0_clear 0 = .ok (.iload_n 1, 1) := dk_27 (dk_at dksJ0_clear_0 0 rfl rfl)
theorem dJ0_clear_1 : decode cJ0_clear 1 = .ok (.ifCond .ge 30, 3) := dk_156 0 30 (dk_at dksJ0_clear_0 1 rfl rfl)
theorem dJ0_clear_4 : decode cJ0_clear 4 = .ok (.new 142, 3) := dk_187 0 142 (dk_at dksJ0_clear_0 4 rfl rfl)
theorem dJ0_clear_7 : decode cJ0_clear 7 = .ok (.dup, 1) := dk_89 (dk_at dksJ0_clear_0 7 rfl rfl)
theorem dJ0_clear_8 : decode cJ0_clear 8 = .ok (.new 33, 3) := dk_187 0 33 (dk_at dksJ0_clear_0 8 rfl rfl)
theorem dJ0_clear_11 : decode cJ0_clear 11 = .ok (.dup, 1) := dk_89 (dk_at dksJ0_clear_0 11 rfl rfl)
theorem dJ0_clear_12 : decode cJ0_clear 12 = .ok (.invokespecial 35, 3) := dk_183 0 35 (dk_at dksJ0_clear_0 12 rfl rfl)
theorem dJ0_clear_15 : decode cJ0_clear 15 = .ok (.ldc 153, 2) := dk_18 153 (dk_at dksJ0_clear_0 15 rfl rfl)
theorem dJ0_clear_17 : decode cJ0_clear 17 = .ok (.invokevirtual 38, 3) := dk_182 0 38 (dk_at dksJ0_clear_0 17 rfl rfl)
theorem dJ0_clear_20 : decode cJ0_clear 20 = .ok (.iload_n 1, 1) := dk_27 (dk_at dksJ0_clear_0 20 rfl rfl)
theorem dJ0_clear_21 : decode cJ0_clear 21 = .ok (.invokevirtual 42, 3) := dk_182 0 42 (dk_at dksJ0_clear_0 21 rfl rfl)
theorem dJ0_clear_24 : decode cJ0_clear 24 = .ok (.invokevirtual 45, 3) := dk_182 0 45 (dk_at dksJ0_clear_1 0 rfl rfl)
theorem dJ0_clear_27 : decode cJ0_clear 27 = .ok (.invokespecial 146, 3) := dk_183 0 146 (dk_at dksJ0_clear_1 3 rfl rfl)
theorem dJ0_clear_30 : decode cJ0_clear 30 = .ok (.athrow, 1) := dk_191 (dk_at dksJ0_clear_1 6 rfl rfl)
theorem dJ0_clear_31 : decode cJ0_clear 31 = .ok (.iload_n 1, 1) := dk_27 (dk_at dksJ0_clear_1 7 rfl rfl)
theorem dJ0_clear_32 : decode cJ0_clear 32 = .ok (.invokestatic 52, 3) := dk_184 0 52 (dk_at dksJ0_clear_1 8 rfl rfl)
theorem dJ0_clear_35 : decode cJ0_clear 35 = .ok (.istore_n 2, 1) := dk_61 (dk_at dksJ0_clear_1 11 rfl rfl)
theorem dJ0_clear_36 : decode cJ0_clear 36 = .ok (.iload_n 2, 1) := dk_28 (dk_at dksJ0_clear_1 12 rfl rfl)
theorem dJ0_clear_37 : decode cJ0_clear 37 = .ok (.aload_n 0, 1) := dk_42 (dk_at dksJ0_clear_1 13 rfl rfl)
theorem dJ0_clear_38 : decode cJ0_clear 38 = .ok (.getfield 7, 3) := dk_180 0 7 (dk_at dksJ0_clear_1 14 rfl rfl)
theorem dJ0_clear_41 : decode cJ0_clear 41 = .ok (.if_icmp .lt 4, 3) := dk_161 0 4 (dk_at dksJ0_clear_1 17 rfl rfl)
theorem dJ0_clear_44 : decode cJ0_clear 44 = .ok (.return_, 1) := dk_177 (dk_at dksJ0_clear_1 20 rfl rfl)
theorem dJ0_clear_45 : decode cJ0_clear 45 = .ok (.aload_n 0, 1) := dk_42 (dk_at dksJ0_clear_1 21 rfl rfl)
theorem dJ0_clear_46 : decode cJ0_clear 46 = .ok (.getfield 11, 3) := dk_180 0 11 (dk_at dksJ0_clear_2 0 rfl rfl)
theorem dJ0_clear_49 : decode cJ0_clear 49 = .ok (.iload_n 2, 1) := dk_28 (dk_at dksJ0_clear_2 3 rfl rfl)
theorem dJ0_clear_50 : decode cJ0_clear 50 = .ok (.dup2, 1) := dk_92 (dk_at dksJ0_clear_2 4 rfl rfl)
theorem dJ0_clear_51 : decode cJ0_clear 51 = .ok (.laload, 1) := dk_47 (dk_at dksJ0_clear_2 5 rfl rfl)
theorem dJ0_clear_52 : decode cJ0_clear 52 = .ok (.lconst 1, 1) := dk_10 (dk_at dksJ0_clear_2 6 rfl rfl)
theorem dJ0_clear_53 : decode cJ0_clear 53 = .ok (.iload_n 1, 1) := dk_27 (dk_at dksJ0_clear_2 7 rfl rfl)
theorem dJ0_clear_54 : decode cJ0_clear 54 = .ok (.lshl, 1) := dk_121 (dk_at dksJ0_clear_2 8 rfl rfl)
theorem dJ0_clear_55 : decode cJ0_clear 55 = .ok (.ldc2_w 165, 3) := dk_20 0 165 (dk_at dksJ0_clear_2 9 rfl rfl)
theorem dJ0_clear_58 : decode cJ0_clear 58 = .ok (.lxor, 1) := dk_131 (dk_at dksJ0_clear_2 12 rfl rfl)
theorem dJ0_clear_59 : decode cJ0_clear 59 = .ok (.land, 1) := dk_127 (dk_at dksJ0_clear_2 13 rfl rfl)
theorem dJ0_clear_60 : decode cJ0_clear 60 = .ok (.lastore, 1) := dk_80 (dk_at dksJ0_clear_2 14 rfl rfl)
theorem dJ0_clear_61 : decode cJ0_clear 61 = .ok (.aload_n 0, 1) := dk_42 (dk_at dksJ0_clear_2 15 rfl rfl)
theorem dJ0_clear_62 : decode cJ0_clear 62 = .ok (.invokevirtual 158, 3) := dk_182 0 158 (dk_at dksJ0_clear_2 16 rfl rfl)
theorem dJ0_clear_65 : decode cJ0_clear 65 = .ok (.aload_n 0, 1) := dk_42 (dk_at dksJ0_clear_2 19 rfl rfl)
theorem dJ0_clear_66 : decode cJ0_clear 66 = .ok (.invokevirtual 56, 3) := dk_182 0 56 (dk_at dksJ0_clear_2 20 rfl rfl)
theorem dJ0_clear_69 : decode cJ0_clear 69 = .ok (.return_, 1) := dk_177 (dk_at dksJ0_clear_2 23 rfl rfl)
abbrev cJ0_recalculateWordsInUse : ByteArray := prog_37_method_3_code
def yJ0_recalculateWordsInUse : MethodName := ⟨RJ0, "recalculateWordsInUse", "()V"⟩
def dkwJ0_recalculateWordsInUse_1 : List UInt8 := [167, 0, 9, 132, 1, 255, 167, 255, 235, 42, 27, 4, 96, 181, 0, 7, 177]
abbrev dktJ0_recalculateWordsInUse_1 : List UInt8 := dkwJ0_recalculateWordsInUse_1 ++ []
def dkwJ0_recalculateWordsInUse_0 : List UInt8 := [42, 180, 0, 7, 4, 100, 60, 27, 155, 0, 23, 42, 180, 0, 11, 27, 47, 9, 148, 153, 0, 6]
abbrev dktJ0_recalculateWordsInUse_0 : List UInt8 := dkwJ0_recalculateWordsInUse_0 ++ dktJ0_recalculateWordsInUse_1
theorem dksJ0_recalculateWordsInUse_0 : cJ0_recalculateWordsInUse.data.toList.drop 0 = dktJ0_recalculateWordsInUse_0 := by decide +kernel
theorem dksJ0_recalculateWordsInUse_1 : cJ0_recalculateWordsInUse.data.toList.drop 22 = dktJ0_recalculateWordsInUse_1 := dk_seg dksJ0_recalculateWordsInUse_0 22 rfl rfl
theorem dJ0_recalculateWordsInUse_0 : decode cJ0_recalculateWordsInUse 0 = .ok (.aload_n 0, 1) := dk_42 (dk_at dksJ0_recalculateWordsInUse_0 0 rfl rfl)
theorem dJ0_recalculateWordsInUse_1 : decode cJ0_recalculateWordsInUse 1 = .ok (.getfield 7, 3) := dk_180 0 7 (dk_at dksJ0_recalculateWordsInUse_0 1 rfl rfl)
theorem dJ0_recalculateWordsInUse_4 : decode cJ0_recalculateWordsInUse 4 = .ok (.iconst 1, 1) := dk_4 (dk_at dksJ0_recalculateWordsInUse_0 4 rfl rfl)
theorem dJ0_recalculateWordsInUse_5 : decode cJ0_recalculateWordsInUse 5 = .ok (.isub, 1) := dk_100 (dk_at dksJ0_recalculateWordsInUse_0 5 rfl rfl)
theorem dJ0_recalculateWordsInUse_6 : decode cJ0_recalculateWordsInUse 6 = .ok (.istore_n 1, 1) := dk_60 (dk_at dksJ0_recalculateWordsInUse_0 6 rfl rfl)
theorem dJ0_recalculateWordsInUse_7 : decode cJ0_recalculateWordsInUse 7 = .ok (.iload_n 1, 1) := dk_27 (dk_at dksJ0_recalculateWordsInUse_0 7 rfl rfl)
theorem dJ0_recalculateWordsInUse_8 : decode cJ0_recalculateWordsInUse 8 = .ok (.ifCond .lt 23, 3) := dk_155 0 23 (dk_at dksJ0_recalculateWordsInUse_0 8 rfl rfl)
theorem dJ0_recalculateWordsInUse_11 : decode cJ0_recalculateWordsInUse 11 = .ok (.aload_n 0, 1) := dk_42 (dk_at dksJ0_recalculateWordsInUse_0 11 rfl rfl)
theorem dJ0_recalculateWordsInUse_12 : decode cJ0_recalculateWordsInUse 12 = .ok (.getfield 11, 3) := dk_180 0 11 (dk_at dksJ0_recalculateWordsInUse_0 12 rfl rfl)
theorem dJ0_recalculateWordsInUse_15 : decode cJ0_recalculateWordsInUse 15 = .ok (.iload_n 1, 1) := dk_27 (dk_at dksJ0_recalculateWordsInUse_0 15 rfl rfl)
theorem dJ0_recalculateWordsInUse_16 : decode cJ0_recalculateWordsInUse 16 = .ok (.laload, 1) := dk_47 (dk_at dksJ0_recalculateWordsInUse_0 16 rfl rfl)
theorem dJ0_recalculateWordsInUse_17 : decode cJ0_recalculateWordsInUse 17 = .ok (.lconst 0, 1) := dk_9 (dk_at dksJ0_recalculateWordsInUse_0 17 rfl rfl)
theorem dJ0_recalculateWordsInUse_18 : decode cJ0_recalculateWordsInUse 18 = .ok (.lcmp, 1) := dk_148 (dk_at dksJ0_recalculateWordsInUse_0 18 rfl rfl)
theorem dJ0_recalculateWordsInUse_19 : decode cJ0_recalculateWordsInUse 19 = .ok (.ifCond .eq 6, 3) := dk_153 0 6 (dk_at dksJ0_recalculateWordsInUse_0 19 rfl rfl)
theorem dJ0_recalculateWordsInUse_22 : decode cJ0_recalculateWordsInUse 22 = .ok (.goto 9, 3) := dk_167 0 9 (dk_at dksJ0_recalculateWordsInUse_1 0 rfl rfl)
theorem dJ0_recalculateWordsInUse_25 : decode cJ0_recalculateWordsInUse 25 = .ok (.iinc 1 (-1), 3) := dk_132 1 255 (dk_at dksJ0_recalculateWordsInUse_1 3 rfl rfl)
theorem dJ0_recalculateWordsInUse_28 : decode cJ0_recalculateWordsInUse 28 = .ok (.goto (-21), 3) := dk_167 255 235 (dk_at dksJ0_recalculateWordsInUse_1 6 rfl rfl)
theorem dJ0_recalculateWordsInUse_31 : decode cJ0_recalculateWordsInUse 31 = .ok (.aload_n 0, 1) := dk_42 (dk_at dksJ0_recalculateWordsInUse_1 9 rfl rfl)
theorem dJ0_recalculateWordsInUse_32 : decode cJ0_recalculateWordsInUse 32 = .ok (.iload_n 1, 1) := dk_27 (dk_at dksJ0_recalculateWordsInUse_1 10 rfl rfl)
theorem dJ0_recalculateWordsInUse_33 : decode cJ0_recalculateWordsInUse 33 = .ok (.iconst 1, 1) := dk_4 (dk_at dksJ0_recalculateWordsInUse_1 11 rfl rfl)
theorem dJ0_recalculateWordsInUse_34 : decode cJ0_recalculateWordsInUse 34 = .ok (.iadd, 1) := dk_96 (dk_at dksJ0_recalculateWordsInUse_1 12 rfl rfl)
theorem dJ0_recalculateWordsInUse_35 : decode cJ0_recalculateWordsInUse 35 = .ok (.putfield 7, 3) := dk_181 0 7 (dk_at dksJ0_recalculateWordsInUse_1 13 rfl rfl)
theorem dJ0_recalculateWordsInUse_38 : decode cJ0_recalculateWordsInUse 38 = .ok (.return_, 1) := dk_177 (dk_at dksJ0_recalculateWordsInUse_1 16 rfl rfl)
abbrev cJ0_cardinality : ByteArray := prog_37_method_35_code
def yJ0_cardinality : MethodName := ⟨RJ0, "cardinality", "()I"⟩
def dkwJ0_cardinality_1 : List UInt8 := [132, 2, 1, 167, 255, 233, 27, 172]
abbrev dktJ0_cardinality_1 : List UInt8 := dkwJ0_cardinality_1 ++ []
def dkwJ0_cardinality_0 : List UInt8 := [3, 60, 3, 61, 28, 42, 180, 0, 7, 162, 0, 21, 27, 42, 180, 0, 11, 28, 47, 184, 0, 196, 96, 60]
abbrev dktJ0_cardinality_0 : List UInt8 := dkwJ0_cardinality_0 ++ dktJ0_cardinality_1
theorem dksJ0_cardinality_0 : cJ0_cardinality.data.toList.drop 0 = dktJ0_cardinality_0 := by decide +kernel
theorem dksJ0_cardinality_1 : cJ0_cardinality.data.toList.drop 24 = dktJ0_cardinality_1 := dk_seg dksJ0_cardinality_0 24 rfl rfl
theorem dJ0_cardinality_0 : decode cJ0_cardinality 0 = .ok (.iconst 0, 1) := dk_3 (dk_at dksJ0_cardinality_0 0 rfl rfl)
theorem dJ0_cardinality_1 : decode cJ0_cardinality 1 = .ok (.istore_n 1, 1) := dk_60 (dk_at dksJ0_cardinality_0 1 rfl rfl)
theorem dJ0_cardinality_2 : decode cJ0_cardinality 2 = .ok (.iconst 0, 1) := dk_3 (dk_at dksJ0_cardinality_0 2 rfl rfl)
theorem dJ0_cardinality_3 : decode cJ0_cardinality 3 = .ok (.istore_n 2, 1) := dk_61 (dk_at dksJ0_cardinality_0 3 rfl rfl)
theorem dJ0_cardinality_4 : decode cJ0_cardinality 4 = .ok (.iload_n 2, 1) := dk_28 (dk_at dksJ0_cardinality_0 4 rfl rfl)
theorem dJ0_cardinality_5 : decode cJ0_cardinality 5 = .ok (.aload_n 0, 1) := dk_42 (dk_at dksJ0_cardinality_0 5 rfl rfl)
theorem dJ0_cardinality_6 : decode cJ0_cardinality 6 = .ok (.getfield 7, 3) := dk_180 0 7 (dk_at dksJ0_cardinality_0 6 rfl rfl)
theorem dJ0_cardinality_9 : decode cJ0_cardinality 9 = .ok (.if_icmp .ge 21, 3) := dk_162 0 21 (dk_at dksJ0_cardinality_0 9 rfl rfl)
theorem dJ0_cardinality_12 : decode cJ0_cardinality 12 = .ok (.iload_n 1, 1) := dk_27 (dk_at dksJ0_cardinality_0 12 rfl rfl)
theorem dJ0_cardinality_13 : decode cJ0_cardinality 13 = .ok (.aload_n 0, 1) := dk_42 (dk_at dksJ0_cardinality_0 13 rfl rfl)
theorem dJ0_cardinality_14 : decode cJ0_cardinality 14 = .ok (.getfield 11, 3) := dk_180 0 11 (dk_at dksJ0_cardinality_0 14 rfl rfl)
theorem dJ0_cardinality_17 : decode cJ0_cardinality 17 = .ok (.iload_n 2, 1) := dk_28 (dk_at dksJ0_cardinality_0 17 rfl rfl)
theorem dJ0_cardinality_18 : decode cJ0_cardinality 18 = .ok (.laload, 1) := dk_47 (dk_at dksJ0_cardinality_0 18 rfl rfl)
theorem dJ0_cardinality_19 : decode cJ0_cardinality 19 = .ok (.invokestatic 196, 3) := dk_184 0 196 (dk_at dksJ0_cardinality_0 19 rfl rfl)
theorem dJ0_cardinality_22 : decode cJ0_cardinality 22 = .ok (.iadd, 1) := dk_96 (dk_at dksJ0_cardinality_0 22 rfl rfl)
theorem dJ0_cardinality_23 : decode cJ0_cardinality 23 = .ok (.istore_n 1, 1) := dk_60 (dk_at dksJ0_cardinality_0 23 rfl rfl)
theorem dJ0_cardinality_24 : decode cJ0_cardinality 24 = .ok (.iinc 2 1, 3) := dk_132 2 1 (dk_at dksJ0_cardinality_1 0 rfl rfl)
theorem dJ0_cardinality_27 : decode cJ0_cardinality 27 = .ok (.goto (-23), 3) := dk_167 255 233 (dk_at dksJ0_cardinality_1 3 rfl rfl)
theorem dJ0_cardinality_30 : decode cJ0_cardinality 30 = .ok (.iload_n 1, 1) := dk_27 (dk_at dksJ0_cardinality_1 6 rfl rfl)
theorem dJ0_cardinality_31 : decode cJ0_cardinality 31 = .ok (.ireturn, 1) := dk_172 (dk_at dksJ0_cardinality_1 7 rfl rfl)
abbrev cJ0_get : ByteArray := prog_37_method_26_code
def yJ0_get : MethodName := ⟨RJ0, "get", "(I)Z"⟩
def dkwJ0_get_2 : List UInt8 := [42, 180, 0, 11, 28, 47, 10, 27, 121, 127, 9, 148, 153, 0, 7, 4, 167, 0, 4, 3, 172]
abbrev dktJ0_get_2 : List UInt8 := dkwJ0_get_2 ++ []
def dkwJ0_get_1 : List UInt8 := [182, 0, 45, 183, 0, 146, 191, 42, 182, 0, 56, 27, 184, 0, 52, 61, 28, 42, 180, 0, 7, 162, 0, 22]
abbrev dktJ0_get_1 : List UInt8 := dkwJ0_get_1 ++ dktJ0_get_2
def dkwJ0_get_0 : List UInt8 := [27, 156, 0, 30, 187, 0, 142, 89, 187, 0, 33, 89, 183, 0, 35, 18, 153, 182, 0, 38, 27, 182, 0, 42]
abbrev dktJ0_get_0 : List UInt8 := dkwJ0_get_0 ++ dktJ0_get_1
theorem dksJ0_get_0 : cJ0_get.data.toList.drop 0 = dktJ0_get_0 := by decide +kernel
theorem dksJ0_get_1 : cJ0_get.data.toList.drop 24 = dktJ0_get_1 := dk_seg dksJ0_get_0 24 rfl rfl
theorem dksJ0_get_2 : cJ0_get.data.toList.drop 48 = dktJ0_get_2 := dk_seg dksJ0_get_1 24 rfl rfl
theorem dJ0_get_0 : decode cJ0_get 0 = .ok (.iload_n 1, 1) := dk_27 (dk_at dksJ0_get_0 0 rfl rfl)
theorem dJ0_get_1 : decode cJ0_get 1 = .ok (.ifCond .ge 30, 3) := dk_156 0 30 (dk_at dksJ0_get_0 1 rfl rfl)
theorem dJ0_get_4 : decode cJ0_get 4 = .ok (.new 142, 3) := dk_187 0 142 (dk_at dksJ0_get_0 4 rfl rfl)
theorem dJ0_get_7 : decode cJ0_get 7 = .ok (.dup, 1) := dk_89 (dk_at dksJ0_get_0 7 rfl rfl)
theorem dJ0_get_8 : decode cJ0_get 8 = .ok (.new 33, 3) := dk_187 0 33 (dk_at dksJ0_get_0 8 rfl rfl)
theorem dJ0_get_11 : decode cJ0_get 11 = .ok (.dup, 1) := dk_89 (dk_at dksJ0_get_0 11 rfl rfl)
theorem dJ0_get_12 : decode cJ0_get 12 = .ok (.invokespecial 35, 3) := dk_183 0 35 (dk_at dksJ0_get_0 12 rfl rfl)
theorem dJ0_get_15 : decode cJ0_get 15 = .ok (.ldc 153, 2) := dk_18 153 (dk_at dksJ0_get_0 15 rfl rfl)
theorem dJ0_get_17 : decode cJ0_get 17 = .ok (.invokevirtual 38, 3) := dk_182 0 38 (dk_at dksJ0_get_0 17 rfl rfl)
theorem dJ0_get_20 : decode cJ0_get 20 = .ok (.iload_n 1, 1) := dk_27 (dk_at dksJ0_get_0 20 rfl rfl)
theorem dJ0_get_21 : decode cJ0_get 21 = .ok (.invokevirtual 42, 3) := dk_182 0 42 (dk_at dksJ0_get_0 21 rfl rfl)
theorem dJ0_get_24 : decode cJ0_get 24 = .ok (.invokevirtual 45, 3) := dk_182 0 45 (dk_at dksJ0_get_1 0 rfl rfl)
theorem dJ0_get_27 : decode cJ0_get 27 = .ok (.invokespecial 146, 3) := dk_183 0 146 (dk_at dksJ0_get_1 3 rfl rfl)
theorem dJ0_get_30 : decode cJ0_get 30 = .ok (.athrow, 1) := dk_191 (dk_at dksJ0_get_1 6 rfl rfl)
theorem dJ0_get_31 : decode cJ0_get 31 = .ok (.aload_n 0, 1) := dk_42 (dk_at dksJ0_get_1 7 rfl rfl)
theorem dJ0_get_32 : decode cJ0_get 32 = .ok (.invokevirtual 56, 3) := dk_182 0 56 (dk_at dksJ0_get_1 8 rfl rfl)
theorem dJ0_get_35 : decode cJ0_get 35 = .ok (.iload_n 1, 1) := dk_27 (dk_at dksJ0_get_1 11 rfl rfl)
theorem dJ0_get_36 : decode cJ0_get 36 = .ok (.invokestatic 52, 3) := dk_184 0 52 (dk_at dksJ0_get_1 12 rfl rfl)
theorem dJ0_get_39 : decode cJ0_get 39 = .ok (.istore_n 2, 1) := dk_61 (dk_at dksJ0_get_1 15 rfl rfl)
theorem dJ0_get_40 : decode cJ0_get 40 = .ok (.iload_n 2, 1) := dk_28 (dk_at dksJ0_get_1 16 rfl rfl)
theorem dJ0_get_41 : decode cJ0_get 41 = .ok (.aload_n 0, 1) := dk_42 (dk_at dksJ0_get_1 17 rfl rfl)
theorem dJ0_get_42 : decode cJ0_get 42 = .ok (.getfield 7, 3) := dk_180 0 7 (dk_at dksJ0_get_1 18 rfl rfl)
theorem dJ0_get_45 : decode cJ0_get 45 = .ok (.if_icmp .ge 22, 3) := dk_162 0 22 (dk_at dksJ0_get_1 21 rfl rfl)
theorem dJ0_get_48 : decode cJ0_get 48 = .ok (.aload_n 0, 1) := dk_42 (dk_at dksJ0_get_2 0 rfl rfl)
theorem dJ0_get_49 : decode cJ0_get 49 = .ok (.getfield 11, 3) := dk_180 0 11 (dk_at dksJ0_get_2 1 rfl rfl)
theorem dJ0_get_52 : decode cJ0_get 52 = .ok (.iload_n 2, 1) := dk_28 (dk_at dksJ0_get_2 4 rfl rfl)
theorem dJ0_get_53 : decode cJ0_get 53 = .ok (.laload, 1) := dk_47 (dk_at dksJ0_get_2 5 rfl rfl)
theorem dJ0_get_54 : decode cJ0_get 54 = .ok (.lconst 1, 1) := dk_10 (dk_at dksJ0_get_2 6 rfl rfl)
theorem dJ0_get_55 : decode cJ0_get 55 = .ok (.iload_n 1, 1) := dk_27 (dk_at dksJ0_get_2 7 rfl rfl)
theorem dJ0_get_56 : decode cJ0_get 56 = .ok (.lshl, 1) := dk_121 (dk_at dksJ0_get_2 8 rfl rfl)
theorem dJ0_get_57 : decode cJ0_get 57 = .ok (.land, 1) := dk_127 (dk_at dksJ0_get_2 9 rfl rfl)
theorem dJ0_get_58 : decode cJ0_get 58 = .ok (.lconst 0, 1) := dk_9 (dk_at dksJ0_get_2 10 rfl rfl)
theorem dJ0_get_59 : decode cJ0_get 59 = .ok (.lcmp, 1) := dk_148 (dk_at dksJ0_get_2 11 rfl rfl)
theorem dJ0_get_60 : decode cJ0_get 60 = .ok (.ifCond .eq 7, 3) := dk_153 0 7 (dk_at dksJ0_get_2 12 rfl rfl)
theorem dJ0_get_63 : decode cJ0_get 63 = .ok (.iconst 1, 1) := dk_4 (dk_at dksJ0_get_2 15 rfl rfl)
theorem dJ0_get_64 : decode cJ0_get 64 = .ok (.goto 4, 3) := dk_167 0 4 (dk_at dksJ0_get_2 16 rfl rfl)
theorem dJ0_get_67 : decode cJ0_get 67 = .ok (.iconst 0, 1) := dk_3 (dk_at dksJ0_get_2 19 rfl rfl)
theorem dJ0_get_68 : decode cJ0_get 68 = .ok (.ireturn, 1) := dk_172 (dk_at dksJ0_get_2 20 rfl rfl)
abbrev cJ0_clone : ByteArray := prog_37_method_43_code
def yJ0_clone : MethodName := ⟨RJ0, "clone", "()Ljava/lang/Object;"⟩
def dkwJ0_clone_2 : List UInt8 := [191]
abbrev dktJ0_clone_2 : List UInt8 := dkwJ0_clone_2 ++ []
def dkwJ0_clone_1 : List UInt8 := [182, 0, 214, 192, 0, 215, 181, 0, 11, 43, 182, 0, 56, 43, 176, 76, 187, 0, 218, 89, 43, 183, 0, 220]
abbrev dktJ0_clone_1 : List UInt8 := dkwJ0_clone_1 ++ dktJ0_clone_2
def dkwJ0_clone_0 : List UInt8 := [42, 180, 0, 24, 154, 0, 7, 42, 182, 0, 207, 42, 183, 0, 210, 192, 0, 1, 76, 43, 42, 180, 0, 11]
abbrev dktJ0_clone_0 : List UInt8 := dkwJ0_clone_0 ++ dktJ0_clone_1
theorem dksJ0_clone_0 : cJ0_clone.data.toList.drop 0 = dktJ0_clone_0 := by decide +kernel
theorem dksJ0_clone_1 : cJ0_clone.data.toList.drop 24 = dktJ0_clone_1 := dk_seg dksJ0_clone_0 24 rfl rfl
theorem dksJ0_clone_2 : cJ0_clone.data.toList.drop 48 = dktJ0_clone_2 := dk_seg dksJ0_clone_1 24 rfl rfl
theorem dJ0_clone_0 : decode cJ0_clone 0 = .ok (.aload_n 0, 1) := dk_42 (dk_at dksJ0_clone_0 0 rfl rfl)
theorem dJ0_clone_1 : decode cJ0_clone 1 = .ok (.getfield 24, 3) := dk_180 0 24 (dk_at dksJ0_clone_0 1 rfl rfl)
theorem dJ0_clone_4 : decode cJ0_clone 4 = .ok (.ifCond .ne 7, 3) := dk_154 0 7 (dk_at dksJ0_clone_0 4 rfl rfl)
theorem dJ0_clone_7 : decode cJ0_clone 7 = .ok (.aload_n 0, 1) := dk_42 (dk_at dksJ0_clone_0 7 rfl rfl)
theorem dJ0_clone_8 : decode cJ0_clone 8 = .ok (.invokevirtual 207, 3) := dk_182 0 207 (dk_at dksJ0_clone_0 8 rfl rfl)
theorem dJ0_clone_11 : decode cJ0_clone 11 = .ok (.aload_n 0, 1) := dk_42 (dk_at dksJ0_clone_0 11 rfl rfl)
theorem dJ0_clone_12 : decode cJ0_clone 12 = .ok (.invokespecial 210, 3) := dk_183 0 210 (dk_at dksJ0_clone_0 12 rfl rfl)
theorem dJ0_clone_15 : decode cJ0_clone 15 = .ok (.checkcast 1, 3) := dk_192 0 1 (dk_at dksJ0_clone_0 15 rfl rfl)
theorem dJ0_clone_18 : decode cJ0_clone 18 = .ok (.astore_n 1, 1) := dk_76 (dk_at dksJ0_clone_0 18 rfl rfl)
theorem dJ0_clone_19 : decode cJ0_clone 19 = .ok (.aload_n 1, 1) := dk_43 (dk_at dksJ0_clone_0 19 rfl rfl)
theorem dJ0_clone_20 : decode cJ0_clone 20 = .ok (.aload_n 0, 1) := dk_42 (dk_at dksJ0_clone_0 20 rfl rfl)
theorem dJ0_clone_21 : decode cJ0_clone 21 = .ok (.getfield 11, 3) := dk_180 0 11 (dk_at dksJ0_clone_0 21 rfl rfl)
theorem dJ0_clone_24 : decode cJ0_clone 24 = .ok (.invokevirtual 214, 3) := dk_182 0 214 (dk_at dksJ0_clone_1 0 rfl rfl)
theorem dJ0_clone_27 : decode cJ0_clone 27 = .ok (.checkcast 215, 3) := dk_192 0 215 (dk_at dksJ0_clone_1 3 rfl rfl)
theorem dJ0_clone_30 : decode cJ0_clone 30 = .ok (.putfield 11, 3) := dk_181 0 11 (dk_at dksJ0_clone_1 6 rfl rfl)
theorem dJ0_clone_33 : decode cJ0_clone 33 = .ok (.aload_n 1, 1) := dk_43 (dk_at dksJ0_clone_1 9 rfl rfl)
theorem dJ0_clone_34 : decode cJ0_clone 34 = .ok (.invokevirtual 56, 3) := dk_182 0 56 (dk_at dksJ0_clone_1 10 rfl rfl)
theorem dJ0_clone_37 : decode cJ0_clone 37 = .ok (.aload_n 1, 1) := dk_43 (dk_at dksJ0_clone_1 13 rfl rfl)
theorem dJ0_clone_38 : decode cJ0_clone 38 = .ok (.areturn, 1) := dk_176 (dk_at dksJ0_clone_1 14 rfl rfl)
theorem dJ0_clone_39 : decode cJ0_clone 39 = .ok (.astore_n 1, 1) := dk_76 (dk_at dksJ0_clone_1 15 rfl rfl)
theorem dJ0_clone_40 : decode cJ0_clone 40 = .ok (.new 218, 3) := dk_187 0 218 (dk_at dksJ0_clone_1 16 rfl rfl)
theorem dJ0_clone_43 : decode cJ0_clone 43 = .ok (.dup, 1) := dk_89 (dk_at dksJ0_clone_1 19 rfl rfl)
theorem dJ0_clone_44 : decode cJ0_clone 44 = .ok (.aload_n 1, 1) := dk_43 (dk_at dksJ0_clone_1 20 rfl rfl)
theorem dJ0_clone_45 : decode cJ0_clone 45 = .ok (.invokespecial 220, 3) := dk_183 0 220 (dk_at dksJ0_clone_1 21 rfl rfl)
theorem dJ0_clone_48 : decode cJ0_clone 48 = .ok (.athrow, 1) := dk_191 (dk_at dksJ0_clone_2 0 rfl rfl)
abbrev cJ0_trimToSize : ByteArray := prog_37_method_44_code
def yJ0_trimToSize : MethodName := ⟨RJ0, "trimToSize", "()V"⟩
theorem q58 : (Jvm.Cond.initialized "java/util/BitSet") ∈ lw_all := lw_g (lw_at lw_m1 3 rfl) rfl
theorem q111 : (Jvm.Cond.instantiable "java/util/BitSet" (3 : Nat)) ∈ lw_all := lw_g (lw_at lw_m1 56 rfl) rfl
theorem q113 : (Jvm.Cond.instanceMethod ({ cls := "java/util/BitSet", name := "<init>", desc := "(I)V" } : Jvm.MethodName)) ∈ lw_all := lw_g (lw_at lw_m1 58 rfl) rfl
theorem q114 : (Jvm.Cond.code ({ cls := "java/util/BitSet", name := "<init>", desc := "(I)V" } : Jvm.MethodName) prog_37_method_5_code (2 : Nat) (Option.none : Option Jvm.ClassFile.FieldType)) ∈ lw_all := lw_g (lw_at lw_m1 59 rfl) rfl
theorem q115 : (Jvm.Cond.methodLink "java/util/BitSet" (21 : Nat) ({ cls := "java/lang/Object", name := "<init>", desc := "()V" } : Jvm.MethodName)) ∈ lw_all := lw_g (lw_at lw_m1 60 rfl) rfl
theorem q116 : (Jvm.Cond.methodLink "java/util/BitSet" (27 : Nat) ({ cls := "java/util/BitSet", name := "initWords", desc := "(I)V" } : Jvm.MethodName)) ∈ lw_all := lw_g (lw_at lw_m1 61 rfl) rfl
theorem q117 : (Jvm.Cond.privateMethod ({ cls := "java/util/BitSet", name := "initWords", desc := "(I)V" } : Jvm.MethodName)) ∈ lw_tbl := lw_at lw_m1 62 rfl
theorem q118 : (Jvm.Cond.instanceMethod ({ cls := "java/util/BitSet", name := "initWords", desc := "(I)V" } : Jvm.MethodName)) ∈ lw_all := lw_g (lw_at lw_m1 63 rfl) rfl
theorem q119 : (Jvm.Cond.code ({ cls := "java/util/BitSet", name := "initWords", desc := "(I)V" } : Jvm.MethodName) prog_37_method_6_code (2 : Nat) (Option.none : Option Jvm.ClassFile.FieldType)) ∈ lw_all := lw_g (lw_at lw_m1 64 rfl) rfl
theorem q120 : (Jvm.Cond.methodLink "java/util/BitSet" (52 : Nat) ({ cls := "java/util/BitSet", name := "wordIndex", desc := "(I)I" } : Jvm.MethodName)) ∈ lw_all := lw_g (lw_at lw_m1 65 rfl) rfl
theorem q121 : (Jvm.Cond.static ({ cls := "java/util/BitSet", name := "wordIndex", desc := "(I)I" } : Jvm.MethodName)) ∈ lw_all := lw_g (lw_at lw_m1 66 rfl) rfl
theorem q122 : (Jvm.Cond.code ({ cls := "java/util/BitSet", name := "wordIndex", desc := "(I)I" } : Jvm.MethodName) prog_37_method_1_code (1 : Nat) (Option.some Jvm.ClassFile.FieldType.int)) ∈ lw_all := lw_g (lw_at lw_m1 67 rfl) rfl
theorem q123 : (Jvm.Cond.fieldLink "java/util/BitSet" (11 : Nat) "java/util/BitSet" "words" "[J") ∈ lw_all := lw_g (lw_at lw_m1 68 rfl) rfl
theorem q124 : (Jvm.Cond.fieldLink "java/util/BitSet" (7 : Nat) "java/util/BitSet" "wordsInUse" "I") ∈ lw_all := lw_g (lw_at lw_m1 69 rfl) rfl
theorem q125 : (Jvm.Cond.fieldLink "java/util/BitSet" (24 : Nat) "java/util/BitSet" "sizeIsSticky" "Z") ∈ lw_all := lw_g (lw_at lw_m1 70 rfl) rfl
theorem q126 : (Jvm.Cond.lays "java/util/BitSet" "java/util/BitSet" "words" "[J") ∈ lw_all := lw_g (lw_at lw_m1 71 rfl) rfl
theorem q127 : (Jvm.Cond.soleField "java/util/BitSet" "words") ∈ lw_all := lw_g (lw_at lw_m1 72 rfl) rfl
theorem q128 : (Jvm.Cond.lays "java/util/BitSet" "java/util/BitSet" "wordsInUse" "I") ∈ lw_all := lw_g (lw_at lw_m1 73 rfl) rfl
theorem q129 : (Jvm.Cond.soleField "java/util/BitSet" "wordsInUse") ∈ lw_all := lw_g (lw_at lw_m1 74 rfl) rfl
theorem q130 : (Jvm.Cond.lays "java/util/BitSet" "java/util/BitSet" "sizeIsSticky" "Z") ∈ lw_all := lw_g (lw_at lw_m1 75 rfl) rfl
theorem q131 : (Jvm.Cond.soleField "java/util/BitSet" "sizeIsSticky") ∈ lw_all := lw_g (lw_at lw_m1 76 rfl) rfl
theorem q132 : (Jvm.Cond.superclass "java/util/BitSet" "java/lang/Object") ∈ lw_all := lw_g (lw_at lw_m1 77 rfl) rfl
theorem q273 : (Jvm.Cond.instanceMethod ({ cls := "java/util/BitSet", name := "set", desc := "(IZ)V" } : Jvm.MethodName)) ∈ lw_all := lw_g (lw_at lw_m1 218 rfl) rfl
theorem q274 : (Jvm.Cond.selects "java/util/BitSet" ({ cls := "java/util/BitSet", name := "set", desc := "(IZ)V" } : Jvm.MethodName) ({ cls := "java/util/BitSet", name := "set", desc := "(IZ)V" } : Jvm.MethodName)) ∈ lw_all := lw_g (lw_at lw_m1 219 rfl) rfl
theorem q275 : (Jvm.Cond.code ({ cls := "java/util/BitSet", name := "set", desc := "(IZ)V" } : Jvm.MethodName) prog_37_method_20_code (3 : Nat) (Option.none : Option Jvm.ClassFile.FieldType)) ∈ lw_all := lw_g (lw_at lw_m1 220 rfl) rfl
theorem q276 : (Jvm.Cond.methodLink "java/util/BitSet" (167 : Nat) ({ cls := "java/util/BitSet", name := "set", desc := "(I)V" } : Jvm.MethodName)) ∈ lw_all := lw_g (lw_at lw_m1 221 rfl) rfl
theorem q277 : (Jvm.Cond.instanceMethod ({ cls := "java/util/BitSet", name := "set", desc := "(I)V" } : Jvm.MethodName)) ∈ lw_all := lw_g (lw_at lw_m1 222 rfl) rfl
theorem q278 : (Jvm.Cond.selects "java/util/BitSet" ({ cls := "java/util/BitSet", name := "set", desc := "(I)V" } : Jvm.MethodName) ({ cls := "java/util/BitSet", name := "set", desc := "(I)V" } : Jvm.MethodName)) ∈ lw_all := lw_g (lw_at lw_m1 223 rfl) rfl
theorem q279 : (Jvm.Cond.code ({ cls := "java/util/BitSet", name := "set", desc := "(I)V" } : Jvm.MethodName) prog_37_method_19_code (3 : Nat) (Option.none : Option Jvm.ClassFile.FieldType)) ∈ lw_all := lw_g (lw_at lw_m1 224 rfl) rfl
theorem q280 : (Jvm.Cond.methodLink "java/util/BitSet" (155 : Nat) ({ cls := "java/util/BitSet", name := "expandTo", desc := "(I)V" } : Jvm.MethodName)) ∈ lw_all := lw_g (lw_at lw_m1 225 rfl) rfl
theorem q281 : (Jvm.Cond.privateMethod ({ cls := "java/util/BitSet", name := "expandTo", desc := "(I)V" } : Jvm.MethodName)) ∈ lw_tbl := lw_at lw_m1 226 rfl
theorem q282 : (Jvm.Cond.instanceMethod ({ cls := "java/util/BitSet", name := "expandTo", desc := "(I)V" } : Jvm.MethodName)) ∈ lw_all := lw_g (lw_at lw_m1 227 rfl) rfl
theorem q283 : (Jvm.Cond.code ({ cls := "java/util/BitSet", name := "expandTo", desc := "(I)V" } : Jvm.MethodName) prog_37_method_15_code (3 : Nat) (Option.none : Option Jvm.ClassFile.FieldType)) ∈ lw_all := lw_g (lw_at lw_m1 228 rfl) rfl
theorem q284 : (Jvm.Cond.methodLink "java/util/BitSet" (139 : Nat) ({ cls := "java/util/BitSet", name := "ensureCapacity", desc := "(I)V" } : Jvm.MethodName)) ∈ lw_all := lw_g (lw_at lw_m1 229 rfl) rfl
theorem q285 : (Jvm.Cond.privateMethod ({ cls := "java/util/BitSet", name := "ensureCapacity", desc := "(I)V" } : Jvm.MethodName)) ∈ lw_tbl := lw_at lw_m1 230 rfl
theorem q286 : (Jvm.Cond.instanceMethod ({ cls := "java/util/BitSet", name := "ensureCapacity", desc := "(I)V" } : Jvm.MethodName)) ∈ lw_all := lw_g (lw_at lw_m1 231 rfl) rfl
theorem q287 : (Jvm.Cond.code ({ cls := "java/util/BitSet", name := "ensureCapacity", desc := "(I)V" } : Jvm.MethodName) prog_37_method_14_code (3 : Nat) (Option.none : Option Jvm.ClassFile.FieldType)) ∈ lw_all := lw_g (lw_at lw_m1 232 rfl) rfl
theorem q288 : (Jvm.Cond.methodLink "java/util/BitSet" (133 : Nat) ({ cls := "java/lang/Math", name := "max", desc := "(II)I" } : Jvm.MethodName)) ∈ lw_all := lw_g (lw_at lw_m1 233 rfl) rfl
theorem q291 : (Jvm.Cond.methodLink "java/util/BitSet" (59 : Nat) ({ cls := "java/util/Arrays", name := "copyOf", desc := "([JI)[J" } : Jvm.MethodName)) ∈ lw_all := lw_g (lw_at lw_m1 236 rfl) rfl
theorem q307 : (Jvm.Cond.methodLink "java/util/BitSet" (56 : Nat) ({ cls := "java/util/BitSet", name := "checkInvariants", desc := "()V" } : Jvm.MethodName)) ∈ lw_all := lw_g (lw_at lw_m2 12 rfl) rfl
theorem q308 : (Jvm.Cond.privateMethod ({ cls := "java/util/BitSet", name := "checkInvariants", desc := "()V" } : Jvm.MethodName)) ∈ lw_tbl := lw_at lw_m2 13 rfl
theorem q309 : (Jvm.Cond.instanceMethod ({ cls := "java/util/BitSet", name := "checkInvariants", desc := "()V" } : Jvm.MethodName)) ∈ lw_all := lw_g (lw_at lw_m2 14 rfl) rfl
theorem q310 : (Jvm.Cond.code ({ cls := "java/util/BitSet", name := "checkInvariants", desc := "()V" } : Jvm.MethodName) prog_37_method_2_code (1 : Nat) (Option.none : Option Jvm.ClassFile.FieldType)) ∈ lw_all := lw_g (lw_at lw_m2 15 rfl) rfl
theorem q311 : (Jvm.Cond.fieldLink "java/util/BitSet" (3 : Nat) "java/util/BitSet" "$assertionsDisabled" "Z") ∈ lw_all := lw_g (lw_at lw_m2 16 rfl) rfl
theorem q312 : (Jvm.Cond.laysStatic "java/util/BitSet" "$assertionsDisabled" "Z") ∈ lw_tbl := lw_at lw_m2 17 rfl
theorem q313 : (Jvm.Cond.methodLink "java/util/BitSet" (170 : Nat) ({ cls := "java/util/BitSet", name := "clear", desc := "(I)V" } : Jvm.MethodName)) ∈ lw_all := lw_g (lw_at lw_m2 18 rfl) rfl
theorem q314 : (Jvm.Cond.instanceMethod ({ cls := "java/util/BitSet", name := "clear", desc := "(I)V" } : Jvm.MethodName)) ∈ lw_all := lw_g (lw_at lw_m2 19 rfl) rfl
theorem q315 : (Jvm.Cond.selects "java/util/BitSet" ({ cls := "java/util/BitSet", name := "clear", desc := "(I)V" } : Jvm.MethodName) ({ cls := "java/util/BitSet", name := "clear", desc := "(I)V" } : Jvm.MethodName)) ∈ lw_all := lw_g (lw_at lw_m2 20 rfl) rfl
theorem q316 : (Jvm.Cond.code ({ cls := "java/util/BitSet", name := "clear", desc := "(I)V" } : Jvm.MethodName) prog_37_method_23_code (3 : Nat) (Option.none : Option Jvm.ClassFile.FieldType)) ∈ lw_all := lw_g (lw_at lw_m2 21 rfl) rfl
theorem q317 : (Jvm.Cond.constantLong "java/util/BitSet" (165 : Nat) (-1 : Int64)) ∈ lw_all := lw_g (lw_at lw_m2 22 rfl) rfl
theorem q318 : (Jvm.Cond.methodLink "java/util/BitSet" (158 : Nat) ({ cls := "java/util/BitSet", name := "recalculateWordsInUse", desc := "()V" } : Jvm.MethodName)) ∈ lw_all := lw_g (lw_at lw_m2 23 rfl) rfl
theorem q319 : (Jvm.Cond.privateMethod ({ cls := "java/util/BitSet", name := "recalculateWordsInUse", desc := "()V" } : Jvm.MethodName)) ∈ lw_tbl := lw_at lw_m2 24 rfl
theorem q320 : (Jvm.Cond.instanceMethod ({ cls := "java/util/BitSet", name := "recalculateWordsInUse", desc := "()V" } : Jvm.MethodName)) ∈ lw_all := lw_g (lw_at lw_m2 25 rfl) rfl
theorem q321 : (Jvm.Cond.code ({ cls := "java/util/BitSet", name := "recalculateWordsInUse", desc := "()V" } : Jvm.MethodName) prog_37_method_3_code (2 : Nat) (Option.none : Option Jvm.ClassFile.FieldType)) ∈ lw_all := lw_g (lw_at lw_m2 26 rfl) rfl
theorem q323 : (Jvm.Cond.instanceMethod ({ cls := "java/util/BitSet", name := "cardinality", desc := "()I" } : Jvm.MethodName)) ∈ lw_all := lw_g (lw_at lw_m2 28 rfl) rfl
theorem q324 : (Jvm.Cond.selects "java/util/BitSet" ({ cls := "java/util/BitSet", name := "cardinality", desc := "()I" } : Jvm.MethodName) ({ cls := "java/util/BitSet", name := "cardinality", desc := "()I" } : Jvm.MethodName)) ∈ lw_all := lw_g (lw_at lw_m2 29 rfl) rfl
theorem q325 : (Jvm.Cond.code ({ cls := "java/util/BitSet", name := "cardinality", desc := "()I" } : Jvm.MethodName) prog_37_method_35_code (3 : Nat) (Option.some Jvm.ClassFile.FieldType.int)) ∈ lw_all := lw_g (lw_at lw_m2 30 rfl) rfl
theorem q326 : (Jvm.Cond.methodLink "java/util/BitSet" (196 : Nat) ({ cls := "java/lang/Long", name := "bitCount", desc := "(J)I" } : Jvm.MethodName)) ∈ lw_all := lw_g (lw_at lw_m2 31 rfl) rfl
theorem q605 : (Jvm.Cond.selects "java/util/BitSet" ({ cls := "java/lang/Object", name := "getClass", desc := "()Ljava/lang/Class;" } : Jvm.MethodName) ({ cls := "java/lang/Object", name := "getClass", desc := "()Ljava/lang/Class;" } : Jvm.MethodName)) ∈ lw_all := lw_g (lw_at lw_m3 70 rfl) rfl
theorem q1151 : (Jvm.Cond.instanceMethod ({ cls := "java/util/BitSet", name := "get", desc := "(I)Z" } : Jvm.MethodName)) ∈ lw_all := lw_g (lw_at lw_m5 136 rfl) rfl
theorem q1152 : (Jvm.Cond.selects "java/util/BitSet" ({ cls := "java/util/BitSet", name := "get", desc := "(I)Z" } : Jvm.MethodName) ({ cls := "java/util/BitSet", name := "get", desc := "(I)Z" } : Jvm.MethodName)) ∈ lw_all := lw_g (lw_at lw_m5 137 rfl) rfl
theorem q1153 : (Jvm.Cond.code ({ cls := "java/util/BitSet", name := "get", desc := "(I)Z" } : Jvm.MethodName) prog_37_method_26_code (3 : Nat) (Option.some Jvm.ClassFile.FieldType.boolean)) ∈ lw_all := lw_g (lw_at lw_m5 138 rfl) rfl
theorem q1216 : (Jvm.Cond.instanceMethod ({ cls := "java/util/BitSet", name := "clone", desc := "()Ljava/lang/Object;" } : Jvm.MethodName)) ∈ lw_all := lw_g (lw_at lw_m5 201 rfl) rfl
theorem q1217 : (Jvm.Cond.selects "java/util/BitSet" ({ cls := "java/util/BitSet", name := "clone", desc := "()Ljava/lang/Object;" } : Jvm.MethodName) ({ cls := "java/util/BitSet", name := "clone", desc := "()Ljava/lang/Object;" } : Jvm.MethodName)) ∈ lw_all := lw_g (lw_at lw_m5 202 rfl) rfl
theorem q1218 : (Jvm.Cond.codeWith ({ cls := "java/util/BitSet", name := "clone", desc := "()Ljava/lang/Object;" } : Jvm.MethodName) prog_37_method_43_code (2 : Nat) (Option.some (Jvm.ClassFile.FieldType.object "java/lang/Object")) [((11 : Nat), (38 : Nat), (39 : Nat), (216 : Nat))]) ∈ lw_all := lw_g (lw_at lw_m5 203 rfl) rfl
theorem q1219 : (Jvm.Cond.methodLink "java/util/BitSet" (207 : Nat) ({ cls := "java/util/BitSet", name := "trimToSize", desc := "()V" } : Jvm.MethodName)) ∈ lw_all := lw_g (lw_at lw_m5 204 rfl) rfl
theorem q1220 : (Jvm.Cond.privateMethod ({ cls := "java/util/BitSet", name := "trimToSize", desc := "()V" } : Jvm.MethodName)) ∈ lw_tbl := lw_at lw_m5 205 rfl
theorem q1221 : (Jvm.Cond.instanceMethod ({ cls := "java/util/BitSet", name := "trimToSize", desc := "()V" } : Jvm.MethodName)) ∈ lw_all := lw_g (lw_at lw_m5 206 rfl) rfl
theorem q1222 : (Jvm.Cond.code ({ cls := "java/util/BitSet", name := "trimToSize", desc := "()V" } : Jvm.MethodName) prog_37_method_44_code (1 : Nat) (Option.none : Option Jvm.ClassFile.FieldType)) ∈ lw_all := lw_g (lw_at lw_m5 207 rfl) rfl
theorem q1223 : (Jvm.Cond.methodLink "java/util/BitSet" (210 : Nat) ({ cls := "java/lang/Object", name := "clone", desc := "()Ljava/lang/Object;" } : Jvm.MethodName)) ∈ lw_all := lw_g (lw_at lw_m5 208 rfl) rfl
theorem q1224 : (Jvm.Cond.classLink "java/util/BitSet" (1 : Nat) "java/util/BitSet") ∈ lw_all := lw_g (lw_at lw_m5 209 rfl) rfl
theorem q1225 : (Jvm.Cond.methodLink "java/util/BitSet" (214 : Nat) ({ cls := "[J", name := "clone", desc := "()Ljava/lang/Object;" } : Jvm.MethodName)) ∈ lw_all := lw_g (lw_at lw_m5 210 rfl) rfl
theorem q1226 : (Jvm.Cond.classLink "java/util/BitSet" (215 : Nat) "[J") ∈ lw_all := lw_g (lw_at lw_m5 211 rfl) rfl
theorem q1528 : (Jvm.Cond.castable "java/util/BitSet" "java/lang/Cloneable") ∈ lw_tbl := lw_at lw_m7 33 rfl
theorem q1531 : (Jvm.Cond.castable "java/util/BitSet" "java/lang/Object") ∈ lw_tbl := lw_at lw_m7 36 rfl
theorem in_J0 : ∀ w ∈ wsJ00, w ∈ lw_all := lw_in wsJ00 [126, 128, 130] (by decide +kernel) (by decide +kernel)

/-! java/util/AbstractCollection -/
set_option maxRecDepth 100000
def RJ1 : String := "java/util/AbstractCollection"
abbrev cJ1_init : ByteArray := prog_28_method_1_code
def yJ1_init : MethodName := ⟨RJ1, "<init>", "()V"⟩
theorem dJ1_init_0 : decode cJ1_init 0 = .ok (.aload_n 0, 1) := by decide +kernel
theorem dJ1_init_1 : decode cJ1_init 1 = .ok (.invokespecial 1, 3) := by decide +kernel
theorem dJ1_init_4 : decode cJ1_init 4 = .ok (.return_, 1) := by decide +kernel
abbrev cJ1_isEmpty : ByteArray := prog_28_method_4_code
def yJ1_isEmpty : MethodName := ⟨RJ1, "isEmpty", "()Z"⟩
def dkwJ1_isEmpty_0 : List UInt8 := [42, 182, 0, 7, 154, 0, 7, 4, 167, 0, 4, 3, 172]
abbrev dktJ1_isEmpty_0 : List UInt8 := dkwJ1_isEmpty_0 ++ []
theorem dksJ1_isEmpty_0 : cJ1_isEmpty.data.toList.drop 0 = dktJ1_isEmpty_0 := by decide +kernel
theorem dJ1_isEmpty_0 : decode cJ1_isEmpty 0 = .ok (.aload_n 0, 1) := dk_42 (dk_at dksJ1_isEmpty_0 0 rfl rfl)
theorem dJ1_isEmpty_1 : decode cJ1_isEmpty 1 = .ok (.invokevirtual 7, 3) := dk_182 0 7 (dk_at dksJ1_isEmpty_0 1 rfl rfl)
theorem dJ1_isEmpty_4 : decode cJ1_isEmpty 4 = .ok (.ifCond .ne 7, 3) := dk_154 0 7 (dk_at dksJ1_isEmpty_0 4 rfl rfl)
theorem dJ1_isEmpty_7 : decode cJ1_isEmpty 7 = .ok (.iconst 1, 1) := dk_4 (dk_at dksJ1_isEmpty_0 7 rfl rfl)
theorem dJ1_isEmpty_8 : decode cJ1_isEmpty 8 = .ok (.goto 4, 3) := dk_167 0 4 (dk_at dksJ1_isEmpty_0 8 rfl rfl)
theorem dJ1_isEmpty_11 : decode cJ1_isEmpty 11 = .ok (.iconst 0, 1) := dk_3 (dk_at dksJ1_isEmpty_0 11 rfl rfl)
theorem dJ1_isEmpty_12 : decode cJ1_isEmpty 12 = .ok (.ireturn, 1) := dk_172 (dk_at dksJ1_isEmpty_0 12 rfl rfl)
theorem q59 : (Jvm.Cond.initialized "java/util/AbstractCollection") ∈ lw_all := lw_g (lw_at lw_m1 4 rfl) rfl
theorem q141 : (Jvm.Cond.instanceMethod ({ cls := "java/util/AbstractCollection", name := "<init>", desc := "()V" } : Jvm.MethodName)) ∈ lw_all := lw_g (lw_at lw_m1 86 rfl) rfl
theorem q142 : (Jvm.Cond.code ({ cls := "java/util/AbstractCollection", name := "<init>", desc := "()V" } : Jvm.MethodName) prog_28_method_1_code (1 : Nat) (Option.none : Option Jvm.ClassFile.FieldType)) ∈ lw_all := lw_g (lw_at lw_m1 87 rfl) rfl
theorem q143 : (Jvm.Cond.methodLink "java/util/AbstractCollection" (1 : Nat) ({ cls := "java/lang/Object", name := "<init>", desc := "()V" } : Jvm.MethodName)) ∈ lw_all := lw_g (lw_at lw_m1 88 rfl) rfl
theorem q487 : (Jvm.Cond.declares ({ cls := "java/util/AbstractCollection", name := "size", desc := "()I" } : Jvm.MethodName)) ∈ lw_tbl := lw_at lw_m2 192 rfl
theorem q955 : (Jvm.Cond.declares ({ cls := "java/util/AbstractCollection", name := "isEmpty", desc := "()Z" } : Jvm.MethodName)) ∈ lw_tbl := lw_at lw_m4 180 rfl
theorem q957 : (Jvm.Cond.instanceMethod ({ cls := "java/util/AbstractCollection", name := "isEmpty", desc := "()Z" } : Jvm.MethodName)) ∈ lw_all := lw_g (lw_at lw_m4 182 rfl) rfl
theorem q958 : (Jvm.Cond.code ({ cls := "java/util/AbstractCollection", name := "isEmpty", desc := "()Z" } : Jvm.MethodName) prog_28_method_4_code (1 : Nat) (Option.some Jvm.ClassFile.FieldType.boolean)) ∈ lw_all := lw_g (lw_at lw_m4 183 rfl) rfl
theorem q959 : (Jvm.Cond.methodLink "java/util/AbstractCollection" (7 : Nat) ({ cls := "java/util/AbstractCollection", name := "size", desc := "()I" } : Jvm.MethodName)) ∈ lw_all := lw_g (lw_at lw_m4 184 rfl) rfl
theorem q1520 : (Jvm.Cond.sameMethod "java/util/AbstractCollection" "java/util/AbstractCollection" "size" "()I") ∈ lw_all := lw_g (lw_at lw_m7 25 rfl) rfl

/-! java/util/ArrayDeque -/
set_option maxRecDepth 100000
def RJ2 : String := "java/util/ArrayDeque"
def TJ2 : u_T := fun k => match k with
  | 0 => ("java/util/ArrayDeque", "elements", "[Ljava/lang/Object;", false)
  | 1 => ("java/util/ArrayDeque", "head", "I", false)
  | _ => ("java/util/ArrayDeque", "tail", "I", false)
def tyJ2 : Nat → FieldType := fun k => match k with
  | 0 => .array (.object "java/lang/Object")
  | 1 => .int
  | _ => .int
abbrev wsJ20 : List Cond := u_ws RJ2 TJ2 3
theorem nmJ2 : ∀ a, a < 3 → ∀ b, b < 3 → a ≠ b → (TJ2 a).2.1 ≠ (TJ2 b).2.1 := by decide +kernel
theorem tyJ2_ok : ∀ k, k < 3 → parseFieldDescriptor (TJ2 k).2.2.1 = some (tyJ2 k) := by decide +kernel
abbrev cJ2_init : ByteArray := prog_33_method_3_code
def yJ2_init : MethodName := ⟨RJ2, "<init>", "()V"⟩
def dkwJ2_init_0 : List UInt8 := [42, 183, 0, 42, 42, 16, 17, 189, 0, 47, 181, 0, 3, 177]
abbrev dktJ2_init_0 : List UInt8 := dkwJ2_init_0 ++ []
theorem dksJ2_init_0 : cJ2_init.data.toList.drop 0 = dktJ2_init_0 := by decide +kernel
theorem dJ2_init_0 : decode cJ2_init 0 = .ok (.aload_n 0, 1) := dk_42 (dk_at dksJ2_init_0 0 rfl rfl)
theorem dJ2_init_1 : decode cJ2_init 1 = .ok (.invokespecial 42, 3) := dk_183 0 42 (dk_at dksJ2_init_0 1 rfl rfl)
theorem dJ2_init_4 : decode cJ2_init 4 = .ok (.aload_n 0, 1) := dk_42 (dk_at dksJ2_init_0 4 rfl rfl)
theorem dJ2_init_5 : decode cJ2_init 5 = .ok (.bipush 17, 2) := dk_16 17 (dk_at dksJ2_init_0 5 rfl rfl)
theorem dJ2_init_7 : decode cJ2_init 7 = .ok (.anewarray 47, 3) := dk_189 0 47 (dk_at dksJ2_init_0 7 rfl rfl)
theorem dJ2_init_10 : decode cJ2_init 10 = .ok (.putfield 3, 3) := dk_181 0 3 (dk_at dksJ2_init_0 10 rfl rfl)
theorem dJ2_init_13 : decode cJ2_init 13 = .ok (.return_, 1) := dk_177 (dk_at dksJ2_init_0 13 rfl rfl)
abbrev cJ2_nonNullElementAt : ByteArray := prog_33_method_11_code
def yJ2_nonNullElementAt : MethodName := ⟨RJ2, "nonNullElementAt", "([Ljava/lang/Object;I)Ljava/lang/Object;"⟩
def dkwJ2_nonNullElementAt_0 : List UInt8 := [42, 27, 50, 77, 44, 199, 0, 11, 187, 0, 62, 89, 183, 0, 64, 191, 44, 176]
abbrev dktJ2_nonNullElementAt_0 : List UInt8 := dkwJ2_nonNullElementAt_0 ++ []
theorem dksJ2_nonNullElementAt_0 : cJ2_nonNullElementAt.data.toList.drop 0 = dktJ2_nonNullElementAt_0 := by decide +kernel
theorem dJ2_nonNullElementAt_0 : decode cJ2_nonNullElementAt 0 = .ok (.aload_n 0, 1) := dk_42 (dk_at dksJ2_nonNullElementAt_0 0 rfl rfl)
theorem dJ2_nonNullElementAt_1 : decode cJ2_nonNullElementAt 1 = .ok (.iload_n 1, 1) := dk_27 (dk_at dksJ2_nonNullElementAt_0 1 rfl rfl)
theorem dJ2_nonNullElementAt_2 : decode cJ2_nonNullElementAt 2 = .ok (.aaload, 1) := dk_50 (dk_at dksJ2_nonNullElementAt_0 2 rfl rfl)
theorem dJ2_nonNullElementAt_3 : decode cJ2_nonNullElementAt 3 = .ok (.astore_n 2, 1) := dk_77 (dk_at dksJ2_nonNullElementAt_0 3 rfl rfl)
theorem dJ2_nonNullElementAt_4 : decode cJ2_nonNullElementAt 4 = .ok (.aload_n 2, 1) := dk_44 (dk_at dksJ2_nonNullElementAt_0 4 rfl rfl)
theorem dJ2_nonNullElementAt_5 : decode cJ2_nonNullElementAt 5 = .ok (.ifnonnull 11, 3) := dk_199 0 11 (dk_at dksJ2_nonNullElementAt_0 5 rfl rfl)
theorem dJ2_nonNullElementAt_8 : decode cJ2_nonNullElementAt 8 = .ok (.new 62, 3) := dk_187 0 62 (dk_at dksJ2_nonNullElementAt_0 8 rfl rfl)
theorem dJ2_nonNullElementAt_11 : decode cJ2_nonNullElementAt 11 = .ok (.dup, 1) := dk_89 (dk_at dksJ2_nonNullElementAt_0 11 rfl rfl)
theorem dJ2_nonNullElementAt_12 : decode cJ2_nonNullElementAt 12 = .ok (.invokespecial 64, 3) := dk_183 0 64 (dk_at dksJ2_nonNullElementAt_0 12 rfl rfl)
theorem dJ2_nonNullElementAt_15 : decode cJ2_nonNullElementAt 15 = .ok (.athrow, 1) := dk_191 (dk_at dksJ2_nonNullElementAt_0 15 rfl rfl)
theorem dJ2_nonNullElementAt_16 : decode cJ2_nonNullElementAt 16 = .ok (.aload_n 2, 1) := dk_44 (dk_at dksJ2_nonNullElementAt_0 16 rfl rfl)
theorem dJ2_nonNullElementAt_17 : decode cJ2_nonNullElementAt 17 = .ok (.areturn, 1) := dk_176 (dk_at dksJ2_nonNullElementAt_0 17 rfl rfl)
abbrev cJ2_inc : ByteArray := prog_33_method_6_code
def yJ2_inc : MethodName := ⟨RJ2, "inc", "(II)I"⟩
def dkwJ2_inc_0 : List UInt8 := [132, 0, 1, 26, 27, 161, 0, 5, 3, 59, 26, 172]
abbrev dktJ2_inc_0 : List UInt8 := dkwJ2_inc_0 ++ []
theorem dksJ2_inc_0 : cJ2_inc.data.toList.drop 0 = dktJ2_inc_0 := by decide +kernel
theorem dJ2_inc_0 : decode cJ2_inc 0 = .ok (.iinc 0 1, 3) := dk_132 0 1 (dk_at dksJ2_inc_0 0 rfl rfl)
theorem dJ2_inc_3 : decode cJ2_inc 3 = .ok (.iload_n 0, 1) := dk_26 (dk_at dksJ2_inc_0 3 rfl rfl)
theorem dJ2_inc_4 : decode cJ2_inc 4 = .ok (.iload_n 1, 1) := dk_27 (dk_at dksJ2_inc_0 4 rfl rfl)
theorem dJ2_inc_5 : decode cJ2_inc 5 = .ok (.if_icmp .lt 5, 3) := dk_161 0 5 (dk_at dksJ2_inc_0 5 rfl rfl)
theorem dJ2_inc_8 : decode cJ2_inc 8 = .ok (.iconst 0, 1) := dk_3 (dk_at dksJ2_inc_0 8 rfl rfl)
theorem dJ2_inc_9 : decode cJ2_inc 9 = .ok (.istore_n 0, 1) := dk_59 (dk_at dksJ2_inc_0 9 rfl rfl)
theorem dJ2_inc_10 : decode cJ2_inc 10 = .ok (.iload_n 0, 1) := dk_26 (dk_at dksJ2_inc_0 10 rfl rfl)
theorem dJ2_inc_11 : decode cJ2_inc 11 = .ok (.ireturn, 1) := dk_172 (dk_at dksJ2_inc_0 11 rfl rfl)
abbrev cJ2_delete : ByteArray := prog_33_method_36_code
def yJ2_delete : MethodName := ⟨RJ2, "delete", "(I)Z"⟩
abbrev cJ2_sub : ByteArray := prog_33_method_9_code
def yJ2_sub : MethodName := ⟨RJ2, "sub", "(III)I"⟩
def dkwJ2_sub_0 : List UInt8 := [26, 27, 100, 89, 59, 156, 0, 7, 26, 28, 96, 59, 26, 172]
abbrev dktJ2_sub_0 : List UInt8 := dkwJ2_sub_0 ++ []
theorem dksJ2_sub_0 : cJ2_sub.data.toList.drop 0 = dktJ2_sub_0 := by decide +kernel
theorem dJ2_sub_0 : decode cJ2_sub 0 = .ok (.iload_n 0, 1) := dk_26 (dk_at dksJ2_sub_0 0 rfl rfl)
theorem dJ2_sub_1 : decode cJ2_sub 1 = .ok (.iload_n 1, 1) := dk_27 (dk_at dksJ2_sub_0 1 rfl rfl)
theorem dJ2_sub_2 : decode cJ2_sub 2 = .ok (.isub, 1) := dk_100 (dk_at dksJ2_sub_0 2 rfl rfl)
theorem dJ2_sub_3 : decode cJ2_sub 3 = .ok (.dup, 1) := dk_89 (dk_at dksJ2_sub_0 3 rfl rfl)
theorem dJ2_sub_4 : decode cJ2_sub 4 = .ok (.istore_n 0, 1) := dk_59 (dk_at dksJ2_sub_0 4 rfl rfl)
theorem dJ2_sub_5 : decode cJ2_sub 5 = .ok (.ifCond .ge 7, 3) := dk_156 0 7 (dk_at dksJ2_sub_0 5 rfl rfl)
theorem dJ2_sub_8 : decode cJ2_sub 8 = .ok (.iload_n 0, 1) := dk_26 (dk_at dksJ2_sub_0 8 rfl rfl)
theorem dJ2_sub_9 : decode cJ2_sub 9 = .ok (.iload_n 2, 1) := dk_28 (dk_at dksJ2_sub_0 9 rfl rfl)
theorem dJ2_sub_10 : decode cJ2_sub 10 = .ok (.iadd, 1) := dk_96 (dk_at dksJ2_sub_0 10 rfl rfl)
theorem dJ2_sub_11 : decode cJ2_sub 11 = .ok (.istore_n 0, 1) := dk_59 (dk_at dksJ2_sub_0 11 rfl rfl)
theorem dJ2_sub_12 : decode cJ2_sub 12 = .ok (.iload_n 0, 1) := dk_26 (dk_at dksJ2_sub_0 12 rfl rfl)
theorem dJ2_sub_13 : decode cJ2_sub 13 = .ok (.ireturn, 1) := dk_172 (dk_at dksJ2_sub_0 13 rfl rfl)
abbrev cJ2_dec : ByteArray := prog_33_method_7_code
def yJ2_dec : MethodName := ⟨RJ2, "dec", "(II)I"⟩
def dkwJ2_dec_0 : List UInt8 := [132, 0, 255, 26, 156, 0, 7, 27, 4, 100, 59, 26, 172]
abbrev dktJ2_dec_0 : List UInt8 := dkwJ2_dec_0 ++ []
theorem dksJ2_dec_0 : cJ2_dec.data.toList.drop 0 = dktJ2_dec_0 := by decide +kernel
theorem dJ2_dec_0 : decode cJ2_dec 0 = .ok (.iinc 0 (-1), 3) := dk_132 0 255 (dk_at dksJ2_dec_0 0 rfl rfl)
theorem dJ2_dec_3 : decode cJ2_dec 3 = .ok (.iload_n 0, 1) := dk_26 (dk_at dksJ2_dec_0 3 rfl rfl)
theorem dJ2_dec_4 : decode cJ2_dec 4 = .ok (.ifCond .ge 7, 3) := dk_156 0 7 (dk_at dksJ2_dec_0 4 rfl rfl)
theorem dJ2_dec_7 : decode cJ2_dec 7 = .ok (.iload_n 1, 1) := dk_27 (dk_at dksJ2_dec_0 7 rfl rfl)
theorem dJ2_dec_8 : decode cJ2_dec 8 = .ok (.iconst 1, 1) := dk_4 (dk_at dksJ2_dec_0 8 rfl rfl)
theorem dJ2_dec_9 : decode cJ2_dec 9 = .ok (.isub, 1) := dk_100 (dk_at dksJ2_dec_0 9 rfl rfl)
theorem dJ2_dec_10 : decode cJ2_dec 10 = .ok (.istore_n 0, 1) := dk_59 (dk_at dksJ2_dec_0 10 rfl rfl)
theorem dJ2_dec_11 : decode cJ2_dec 11 = .ok (.iload_n 0, 1) := dk_26 (dk_at dksJ2_dec_0 11 rfl rfl)
theorem dJ2_dec_12 : decode cJ2_dec 12 = .ok (.ireturn, 1) := dk_172 (dk_at dksJ2_dec_0 12 rfl rfl)
abbrev cJ2_size : ByteArray := prog_33_method_37_code
def yJ2_size : MethodName := ⟨RJ2, "size", "()I"⟩
def dkwJ2_size_0 : List UInt8 := [42, 180, 0, 20, 42, 180, 0, 24, 42, 180, 0, 3, 190, 184, 0, 127, 172]
abbrev dktJ2_size_0 : List UInt8 := dkwJ2_size_0 ++ []
theorem dksJ2_size_0 : cJ2_size.data.toList.drop 0 = dktJ2_size_0 := by decide +kernel
theorem dJ2_size_0 : decode cJ2_size 0 = .ok (.aload_n 0, 1) := dk_42 (dk_at dksJ2_size_0 0 rfl rfl)
theorem dJ2_size_1 : decode cJ2_size 1 = .ok (.getfield 20, 3) := dk_180 0 20 (dk_at dksJ2_size_0 1 rfl rfl)
theorem dJ2_size_4 : decode cJ2_size 4 = .ok (.aload_n 0, 1) := dk_42 (dk_at dksJ2_size_0 4 rfl rfl)
theorem dJ2_size_5 : decode cJ2_size 5 = .ok (.getfield 24, 3) := dk_180 0 24 (dk_at dksJ2_size_0 5 rfl rfl)
theorem dJ2_size_8 : decode cJ2_size 8 = .ok (.aload_n 0, 1) := dk_42 (dk_at dksJ2_size_0 8 rfl rfl)
theorem dJ2_size_9 : decode cJ2_size 9 = .ok (.getfield 3, 3) := dk_180 0 3 (dk_at dksJ2_size_0 9 rfl rfl)
theorem dJ2_size_12 : decode cJ2_size 12 = .ok (.arraylength, 1) := dk_190 (dk_at dksJ2_size_0 12 rfl rfl)
theorem dJ2_size_13 : decode cJ2_size 13 = .ok (.invokestatic 127, 3) := dk_184 0 127 (dk_at dksJ2_size_0 13 rfl rfl)
theorem dJ2_size_16 : decode cJ2_size 16 = .ok (.ireturn, 1) := dk_172 (dk_at dksJ2_size_0 16 rfl rfl)
abbrev cJ2_removeFirst : ByteArray := prog_33_method_18_code
def yJ2_removeFirst : MethodName := ⟨RJ2, "removeFirst", "()Ljava/lang/Object;"⟩
def dkwJ2_removeFirst_0 : List UInt8 := [42, 182, 0, 93, 76, 43, 199, 0, 11, 187, 0, 97, 89, 183, 0, 99, 191, 43, 176]
abbrev dktJ2_removeFirst_0 : List UInt8 := dkwJ2_removeFirst_0 ++ []
theorem dksJ2_removeFirst_0 : cJ2_removeFirst.data.toList.drop 0 = dktJ2_removeFirst_0 := by decide +kernel
theorem dJ2_removeFirst_0 : decode cJ2_removeFirst 0 = .ok (.aload_n 0, 1) := dk_42 (dk_at dksJ2_removeFirst_0 0 rfl rfl)
theorem dJ2_removeFirst_1 : decode cJ2_removeFirst 1 = .ok (.invokevirtual 93, 3) := dk_182 0 93 (dk_at dksJ2_removeFirst_0 1 rfl rfl)
theorem dJ2_removeFirst_4 : decode cJ2_removeFirst 4 = .ok (.astore_n 1, 1) := dk_76 (dk_at dksJ2_removeFirst_0 4 rfl rfl)
theorem dJ2_removeFirst_5 : decode cJ2_removeFirst 5 = .ok (.aload_n 1, 1) := dk_43 (dk_at dksJ2_removeFirst_0 5 rfl rfl)
theorem dJ2_removeFirst_6 : decode cJ2_removeFirst 6 = .ok (.ifnonnull 11, 3) := dk_199 0 11 (dk_at dksJ2_removeFirst_0 6 rfl rfl)
theorem dJ2_removeFirst_9 : decode cJ2_removeFirst 9 = .ok (.new 97, 3) := dk_187 0 97 (dk_at dksJ2_removeFirst_0 9 rfl rfl)
theorem dJ2_removeFirst_12 : decode cJ2_removeFirst 12 = .ok (.dup, 1) := dk_89 (dk_at dksJ2_removeFirst_0 12 rfl rfl)
theorem dJ2_removeFirst_13 : decode cJ2_removeFirst 13 = .ok (.invokespecial 99, 3) := dk_183 0 99 (dk_at dksJ2_removeFirst_0 13 rfl rfl)
theorem dJ2_removeFirst_16 : decode cJ2_removeFirst 16 = .ok (.athrow, 1) := dk_191 (dk_at dksJ2_removeFirst_0 16 rfl rfl)
theorem dJ2_removeFirst_17 : decode cJ2_removeFirst 17 = .ok (.aload_n 1, 1) := dk_43 (dk_at dksJ2_removeFirst_0 17 rfl rfl)
theorem dJ2_removeFirst_18 : decode cJ2_removeFirst 18 = .ok (.areturn, 1) := dk_176 (dk_at dksJ2_removeFirst_0 18 rfl rfl)
abbrev cJ2_pollFirst : ByteArray := prog_33_method_20_code
def yJ2_pollFirst : MethodName := ⟨RJ2, "pollFirst", "()Ljava/lang/Object;"⟩
def dkwJ2_pollFirst_1 : List UInt8 := [42, 28, 43, 190, 184, 0, 74, 181, 0, 24, 45, 176]
abbrev dktJ2_pollFirst_1 : List UInt8 := dkwJ2_pollFirst_1 ++ []
def dkwJ2_pollFirst_0 : List UInt8 := [42, 180, 0, 3, 89, 76, 42, 180, 0, 24, 89, 61, 184, 0, 103, 78, 45, 198, 0, 17, 43, 28, 1, 83]
abbrev dktJ2_pollFirst_0 : List UInt8 := dkwJ2_pollFirst_0 ++ dktJ2_pollFirst_1
theorem dksJ2_pollFirst_0 : cJ2_pollFirst.data.toList.drop 0 = dktJ2_pollFirst_0 := by decide +kernel
theorem dksJ2_pollFirst_1 : cJ2_pollFirst.data.toList.drop 24 = dktJ2_pollFirst_1 := dk_seg dksJ2_pollFirst_0 24 rfl rfl
theorem dJ2_pollFirst_0 : decode cJ2_pollFirst 0 = .ok (.aload_n 0, 1) := dk_42 (dk_at dksJ2_pollFirst_0 0 rfl rfl)
theorem dJ2_pollFirst_1 : decode cJ2_pollFirst 1 = .ok (.getfield 3, 3) := dk_180 0 3 (dk_at dksJ2_pollFirst_0 1 rfl rfl)
theorem dJ2_pollFirst_4 : decode cJ2_pollFirst 4 = .ok (.dup, 1) := dk_89 (dk_at dksJ2_pollFirst_0 4 rfl rfl)
theorem dJ2_pollFirst_5 : decode cJ2_pollFirst 5 = .ok (.astore_n 1, 1) := dk_76 (dk_at dksJ2_pollFirst_0 5 rfl rfl)
theorem dJ2_pollFirst_6 : decode cJ2_pollFirst 6 = .ok (.aload_n 0, 1) := dk_42 (dk_at dksJ2_pollFirst_0 6 rfl rfl)
theorem dJ2_pollFirst_7 : decode cJ2_pollFirst 7 = .ok (.getfield 24, 3) := dk_180 0 24 (dk_at dksJ2_pollFirst_0 7 rfl rfl)
theorem dJ2_pollFirst_10 : decode cJ2_pollFirst 10 = .ok (.dup, 1) := dk_89 (dk_at dksJ2_pollFirst_0 10 rfl rfl)
theorem dJ2_pollFirst_11 : decode cJ2_pollFirst 11 = .ok (.istore_n 2, 1) := dk_61 (dk_at dksJ2_pollFirst_0 11 rfl rfl)
theorem dJ2_pollFirst_12 : decode cJ2_pollFirst 12 = .ok (.invokestatic 103, 3) := dk_184 0 103 (dk_at dksJ2_pollFirst_0 12 rfl rfl)
theorem dJ2_pollFirst_15 : decode cJ2_pollFirst 15 = .ok (.astore_n 3, 1) := dk_78 (dk_at dksJ2_pollFirst_0 15 rfl rfl)
theorem dJ2_pollFirst_16 : decode cJ2_pollFirst 16 = .ok (.aload_n 3, 1) := dk_45 (dk_at dksJ2_pollFirst_0 16 rfl rfl)
theorem dJ2_pollFirst_17 : decode cJ2_pollFirst 17 = .ok (.ifnull 17, 3) := dk_198 0 17 (dk_at dksJ2_pollFirst_0 17 rfl rfl)
theorem dJ2_pollFirst_20 : decode cJ2_pollFirst 20 = .ok (.aload_n 1, 1) := dk_43 (dk_at dksJ2_pollFirst_0 20 rfl rfl)
theorem dJ2_pollFirst_21 : decode cJ2_pollFirst 21 = .ok (.iload_n 2, 1) := dk_28 (dk_at dksJ2_pollFirst_0 21 rfl rfl)
theorem dJ2_pollFirst_22 : decode cJ2_pollFirst 22 = .ok (.aconst_null, 1) := dk_1 (dk_at dksJ2_pollFirst_0 22 rfl rfl)
theorem dJ2_pollFirst_23 : decode cJ2_pollFirst 23 = .ok (.aastore, 1) := dk_83 (dk_at dksJ2_pollFirst_0 23 rfl rfl)
theorem dJ2_pollFirst_24 : decode cJ2_pollFirst 24 = .ok (.aload_n 0, 1) := dk_42 (dk_at dksJ2_pollFirst_1 0 rfl rfl)
theorem dJ2_pollFirst_25 : decode cJ2_pollFirst 25 = .ok (.iload_n 2, 1) := dk_28 (dk_at dksJ2_pollFirst_1 1 rfl rfl)
theorem dJ2_pollFirst_26 : decode cJ2_pollFirst 26 = .ok (.aload_n 1, 1) := dk_43 (dk_at dksJ2_pollFirst_1 2 rfl rfl)
theorem dJ2_pollFirst_27 : decode cJ2_pollFirst 27 = .ok (.arraylength, 1) := dk_190 (dk_at dksJ2_pollFirst_1 3 rfl rfl)
theorem dJ2_pollFirst_28 : decode cJ2_pollFirst 28 = .ok (.invokestatic 74, 3) := dk_184 0 74 (dk_at dksJ2_pollFirst_1 4 rfl rfl)
theorem dJ2_pollFirst_31 : decode cJ2_pollFirst 31 = .ok (.putfield 24, 3) := dk_181 0 24 (dk_at dksJ2_pollFirst_1 7 rfl rfl)
theorem dJ2_pollFirst_34 : decode cJ2_pollFirst 34 = .ok (.aload_n 3, 1) := dk_45 (dk_at dksJ2_pollFirst_1 10 rfl rfl)
theorem dJ2_pollFirst_35 : decode cJ2_pollFirst 35 = .ok (.areturn, 1) := dk_176 (dk_at dksJ2_pollFirst_1 11 rfl rfl)
abbrev cJ2_elementAt : ByteArray := prog_33_method_10_code
def yJ2_elementAt : MethodName := ⟨RJ2, "elementAt", "([Ljava/lang/Object;I)Ljava/lang/Object;"⟩
def dkwJ2_elementAt_0 : List UInt8 := [42, 27, 50, 176]
abbrev dktJ2_elementAt_0 : List UInt8 := dkwJ2_elementAt_0 ++ []
theorem dksJ2_elementAt_0 : cJ2_elementAt.data.toList.drop 0 = dktJ2_elementAt_0 := by decide +kernel
theorem dJ2_elementAt_0 : decode cJ2_elementAt 0 = .ok (.aload_n 0, 1) := dk_42 (dk_at dksJ2_elementAt_0 0 rfl rfl)
theorem dJ2_elementAt_1 : decode cJ2_elementAt 1 = .ok (.iload_n 1, 1) := dk_27 (dk_at dksJ2_elementAt_0 1 rfl rfl)
theorem dJ2_elementAt_2 : decode cJ2_elementAt 2 = .ok (.aaload, 1) := dk_50 (dk_at dksJ2_elementAt_0 2 rfl rfl)
theorem dJ2_elementAt_3 : decode cJ2_elementAt 3 = .ok (.areturn, 1) := dk_176 (dk_at dksJ2_elementAt_0 3 rfl rfl)
abbrev cJ2_addLast : ByteArray := prog_33_method_13_code
def yJ2_addLast : MethodName := ⟨RJ2, "addLast", "(Ljava/lang/Object;)V"⟩
def dkwJ2_addLast_2 : List UInt8 := [182, 0, 71, 177]
abbrev dktJ2_addLast_2 : List UInt8 := dkwJ2_addLast_2 ++ []
def dkwJ2_addLast_1 : List UInt8 := [42, 180, 0, 24, 42, 42, 180, 0, 20, 44, 190, 184, 0, 74, 90, 181, 0, 20, 160, 0, 8, 42, 4]
abbrev dktJ2_addLast_1 : List UInt8 := dkwJ2_addLast_1 ++ dktJ2_addLast_2
def dkwJ2_addLast_0 : List UInt8 := [43, 199, 0, 11, 187, 0, 65, 89, 183, 0, 67, 191, 42, 180, 0, 3, 77, 44, 42, 180, 0, 20, 43, 83]
abbrev dktJ2_addLast_0 : List UInt8 := dkwJ2_addLast_0 ++ dktJ2_addLast_1
theorem dksJ2_addLast_0 : cJ2_addLast.data.toList.drop 0 = dktJ2_addLast_0 := by decide +kernel
theorem dksJ2_addLast_1 : cJ2_addLast.data.toList.drop 24 = dktJ2_addLast_1 := dk_seg dksJ2_addLast_0 24 rfl rfl
theorem dksJ2_addLast_2 : cJ2_addLast.data.toList.drop 47 = dktJ2_addLast_2 := dk_seg dksJ2_addLast_1 23 rfl rfl
theorem dJ2_addLast_0 : decode cJ2_addLast 0 = .ok (.aload_n 1, 1) := dk_43 (dk_at dksJ2_addLast_0 0 rfl rfl)
theorem dJ2_addLast_1 : decode cJ2_addLast 1 = .ok (.ifnonnull 11, 3) := dk_199 0 11 (dk_at dksJ2_addLast_0 1 rfl rfl)
theorem dJ2_addLast_4 : decode cJ2_addLast 4 = .ok (.new 65, 3) := dk_187 0 65 (dk_at dksJ2_addLast_0 4 rfl rfl)
theorem dJ2_addLast_7 : decode cJ2_addLast 7 = .ok (.dup, 1) := dk_89 (dk_at dksJ2_addLast_0 7 rfl rfl)
theorem dJ2_addLast_8 : decode cJ2_addLast 8 = .ok (.invokespecial 67, 3) := dk_183 0 67 (dk_at dksJ2_addLast_0 8 rfl rfl)
theorem dJ2_addLast_11 : decode cJ2_addLast 11 = .ok (.athrow, 1) := dk_191 (dk_at dksJ2_addLast_0 11 rfl rfl)
theorem dJ2_addLast_12 : decode cJ2_addLast 12 = .ok (.aload_n 0, 1) := dk_42 (dk_at dksJ2_addLast_0 12 rfl rfl)
theorem dJ2_addLast_13 : decode cJ2_addLast 13 = .ok (.getfield 3, 3) := dk_180 0 3 (dk_at dksJ2_addLast_0 13 rfl rfl)
theorem dJ2_addLast_16 : decode cJ2_addLast 16 = .ok (.astore_n 2, 1) := dk_77 (dk_at dksJ2_addLast_0 16 rfl rfl)
theorem dJ2_addLast_17 : decode cJ2_addLast 17 = .ok (.aload_n 2, 1) := dk_44 (dk_at dksJ2_addLast_0 17 rfl rfl)
theorem dJ2_addLast_18 : decode cJ2_addLast 18 = .ok (.aload_n 0, 1) := dk_42 (dk_at dksJ2_addLast_0 18 rfl rfl)
theorem dJ2_addLast_19 : decode cJ2_addLast 19 = .ok (.getfield 20, 3) := dk_180 0 20 (dk_at dksJ2_addLast_0 19 rfl rfl)
theorem dJ2_addLast_22 : decode cJ2_addLast 22 = .ok (.aload_n 1, 1) := dk_43 (dk_at dksJ2_addLast_0 22 rfl rfl)
theorem dJ2_addLast_23 : decode cJ2_addLast 23 = .ok (.aastore, 1) := dk_83 (dk_at dksJ2_addLast_0 23 rfl rfl)
theorem dJ2_addLast_24 : decode cJ2_addLast 24 = .ok (.aload_n 0, 1) := dk_42 (dk_at dksJ2_addLast_1 0 rfl rfl)
theorem dJ2_addLast_25 : decode cJ2_addLast 25 = .ok (.getfield 24, 3) := dk_180 0 24 (dk_at dksJ2_addLast_1 1 rfl rfl)
theorem dJ2_addLast_28 : decode cJ2_addLast 28 = .ok (.aload_n 0, 1) := dk_42 (dk_at dksJ2_addLast_1 4 rfl rfl)
theorem dJ2_addLast_29 : decode cJ2_addLast 29 = .ok (.aload_n 0, 1) := dk_42 (dk_at dksJ2_addLast_1 5 rfl rfl)
theorem dJ2_addLast_30 : decode cJ2_addLast 30 = .ok (.getfield 20, 3) := dk_180 0 20 (dk_at dksJ2_addLast_1 6 rfl rfl)
theorem dJ2_addLast_33 : decode cJ2_addLast 33 = .ok (.aload_n 2, 1) := dk_44 (dk_at dksJ2_addLast_1 9 rfl rfl)
theorem dJ2_addLast_34 : decode cJ2_addLast 34 = .ok (.arraylength, 1) := dk_190 (dk_at dksJ2_addLast_1 10 rfl rfl)
theorem dJ2_addLast_35 : decode cJ2_addLast 35 = .ok (.invokestatic 74, 3) := dk_184 0 74 (dk_at dksJ2_addLast_1 11 rfl rfl)
theorem dJ2_addLast_38 : decode cJ2_addLast 38 = .ok (.dup_x1, 1) := dk_90 (dk_at dksJ2_addLast_1 14 rfl rfl)
theorem dJ2_addLast_39 : decode cJ2_addLast 39 = .ok (.putfield 20, 3) := dk_181 0 20 (dk_at dksJ2_addLast_1 15 rfl rfl)
theorem dJ2_addLast_42 : decode cJ2_addLast 42 = .ok (.if_icmp .ne 8, 3) := dk_160 0 8 (dk_at dksJ2_addLast_1 18 rfl rfl)
theorem dJ2_addLast_45 : decode cJ2_addLast 45 = .ok (.aload_n 0, 1) := dk_42 (dk_at dksJ2_addLast_1 21 rfl rfl)
theorem dJ2_addLast_46 : decode cJ2_addLast 46 = .ok (.iconst 1, 1) := dk_4 (dk_at dksJ2_addLast_1 22 rfl rfl)
theorem dJ2_addLast_47 : decode cJ2_addLast 47 = .ok (.invokevirtual 71, 3) := dk_182 0 71 (dk_at dksJ2_addLast_2 0 rfl rfl)
theorem dJ2_addLast_50 : decode cJ2_addLast 50 = .ok (.return_, 1) := dk_177 (dk_at dksJ2_addLast_2 3 rfl rfl)
abbrev cJ2_grow : ByteArray := prog_33_method_1_code
def yJ2_grow : MethodName := ⟨RJ2, "grow", "(I)V"⟩
abbrev cJ2_newCapacity : ByteArray := prog_33_method_2_code
def yJ2_newCapacity : MethodName := ⟨RJ2, "newCapacity", "(II)I"⟩
abbrev cJ2_isEmpty : ByteArray := prog_33_method_38_code
def yJ2_isEmpty : MethodName := ⟨RJ2, "isEmpty", "()Z"⟩
def dkwJ2_isEmpty_0 : List UInt8 := [42, 180, 0, 24, 42, 180, 0, 20, 160, 0, 7, 4, 167, 0, 4, 3, 172]
abbrev dktJ2_isEmpty_0 : List UInt8 := dkwJ2_isEmpty_0 ++ []
theorem dksJ2_isEmpty_0 : cJ2_isEmpty.data.toList.drop 0 = dktJ2_isEmpty_0 := by decide +kernel
theorem dJ2_isEmpty_0 : decode cJ2_isEmpty 0 = .ok (.aload_n 0, 1) := dk_42 (dk_at dksJ2_isEmpty_0 0 rfl rfl)
theorem dJ2_isEmpty_1 : decode cJ2_isEmpty 1 = .ok (.getfield 24, 3) := dk_180 0 24 (dk_at dksJ2_isEmpty_0 1 rfl rfl)
theorem dJ2_isEmpty_4 : decode cJ2_isEmpty 4 = .ok (.aload_n 0, 1) := dk_42 (dk_at dksJ2_isEmpty_0 4 rfl rfl)
theorem dJ2_isEmpty_5 : decode cJ2_isEmpty 5 = .ok (.getfield 20, 3) := dk_180 0 20 (dk_at dksJ2_isEmpty_0 5 rfl rfl)
theorem dJ2_isEmpty_8 : decode cJ2_isEmpty 8 = .ok (.if_icmp .ne 7, 3) := dk_160 0 7 (dk_at dksJ2_isEmpty_0 8 rfl rfl)
theorem dJ2_isEmpty_11 : decode cJ2_isEmpty 11 = .ok (.iconst 1, 1) := dk_4 (dk_at dksJ2_isEmpty_0 11 rfl rfl)
theorem dJ2_isEmpty_12 : decode cJ2_isEmpty 12 = .ok (.goto 4, 3) := dk_167 0 4 (dk_at dksJ2_isEmpty_0 12 rfl rfl)
theorem dJ2_isEmpty_15 : decode cJ2_isEmpty 15 = .ok (.iconst 0, 1) := dk_3 (dk_at dksJ2_isEmpty_0 15 rfl rfl)
theorem dJ2_isEmpty_16 : decode cJ2_isEmpty 16 = .ok (.ireturn, 1) := dk_172 (dk_at dksJ2_isEmpty_0 16 rfl rfl)
abbrev cJ2_removeLast : ByteArray := prog_33_method_19_code
def yJ2_removeLast : MethodName := ⟨RJ2, "removeLast", "()Ljava/lang/Object;"⟩
def dkwJ2_removeLast_0 : List UInt8 := [42, 182, 0, 100, 76, 43, 199, 0, 11, 187, 0, 97, 89, 183, 0, 99, 191, 43, 176]
abbrev dktJ2_removeLast_0 : List UInt8 := dkwJ2_removeLast_0 ++ []
theorem dksJ2_removeLast_0 : cJ2_removeLast.data.toList.drop 0 = dktJ2_removeLast_0 := by decide +kernel
theorem dJ2_removeLast_0 : decode cJ2_removeLast 0 = .ok (.aload_n 0, 1) := dk_42 (dk_at dksJ2_removeLast_0 0 rfl rfl)
theorem dJ2_removeLast_1 : decode cJ2_removeLast 1 = .ok (.invokevirtual 100, 3) := dk_182 0 100 (dk_at dksJ2_removeLast_0 1 rfl rfl)
theorem dJ2_removeLast_4 : decode cJ2_removeLast 4 = .ok (.astore_n 1, 1) := dk_76 (dk_at dksJ2_removeLast_0 4 rfl rfl)
theorem dJ2_removeLast_5 : decode cJ2_removeLast 5 = .ok (.aload_n 1, 1) := dk_43 (dk_at dksJ2_removeLast_0 5 rfl rfl)
theorem dJ2_removeLast_6 : decode cJ2_removeLast 6 = .ok (.ifnonnull 11, 3) := dk_199 0 11 (dk_at dksJ2_removeLast_0 6 rfl rfl)
theorem dJ2_removeLast_9 : decode cJ2_removeLast 9 = .ok (.new 97, 3) := dk_187 0 97 (dk_at dksJ2_removeLast_0 9 rfl rfl)
theorem dJ2_removeLast_12 : decode cJ2_removeLast 12 = .ok (.dup, 1) := dk_89 (dk_at dksJ2_removeLast_0 12 rfl rfl)
theorem dJ2_removeLast_13 : decode cJ2_removeLast 13 = .ok (.invokespecial 99, 3) := dk_183 0 99 (dk_at dksJ2_removeLast_0 13 rfl rfl)
theorem dJ2_removeLast_16 : decode cJ2_removeLast 16 = .ok (.athrow, 1) := dk_191 (dk_at dksJ2_removeLast_0 16 rfl rfl)
theorem dJ2_removeLast_17 : decode cJ2_removeLast 17 = .ok (.aload_n 1, 1) := dk_43 (dk_at dksJ2_removeLast_0 17 rfl rfl)
theorem dJ2_removeLast_18 : decode cJ2_removeLast 18 = .ok (.areturn, 1) := dk_176 (dk_at dksJ2_removeLast_0 18 rfl rfl)
abbrev cJ2_pollLast : ByteArray := prog_33_method_21_code
def yJ2_pollLast : MethodName := ⟨RJ2, "pollLast", "()Ljava/lang/Object;"⟩
def dkwJ2_pollLast_1 : List UInt8 := [198, 0, 12, 43, 42, 28, 90, 181, 0, 20, 1, 83, 45, 176]
abbrev dktJ2_pollLast_1 : List UInt8 := dkwJ2_pollLast_1 ++ []
def dkwJ2_pollLast_0 : List UInt8 := [42, 180, 0, 3, 89, 76, 42, 180, 0, 20, 43, 190, 184, 0, 68, 89, 61, 184, 0, 103, 78, 45]
abbrev dktJ2_pollLast_0 : List UInt8 := dkwJ2_pollLast_0 ++ dktJ2_pollLast_1
theorem dksJ2_pollLast_0 : cJ2_pollLast.data.toList.drop 0 = dktJ2_pollLast_0 := by decide +kernel
theorem dksJ2_pollLast_1 : cJ2_pollLast.data.toList.drop 22 = dktJ2_pollLast_1 := dk_seg dksJ2_pollLast_0 22 rfl rfl
theorem dJ2_pollLast_0 : decode cJ2_pollLast 0 = .ok (.aload_n 0, 1) := dk_42 (dk_at dksJ2_pollLast_0 0 rfl rfl)
theorem dJ2_pollLast_1 : decode cJ2_pollLast 1 = .ok (.getfield 3, 3) := dk_180 0 3 (dk_at dksJ2_pollLast_0 1 rfl rfl)
theorem dJ2_pollLast_4 : decode cJ2_pollLast 4 = .ok (.dup, 1) := dk_89 (dk_at dksJ2_pollLast_0 4 rfl rfl)
theorem dJ2_pollLast_5 : decode cJ2_pollLast 5 = .ok (.astore_n 1, 1) := dk_76 (dk_at dksJ2_pollLast_0 5 rfl rfl)
theorem dJ2_pollLast_6 : decode cJ2_pollLast 6 = .ok (.aload_n 0, 1) := dk_42 (dk_at dksJ2_pollLast_0 6 rfl rfl)
theorem dJ2_pollLast_7 : decode cJ2_pollLast 7 = .ok (.getfield 20, 3) := dk_180 0 20 (dk_at dksJ2_pollLast_0 7 rfl rfl)
theorem dJ2_pollLast_10 : decode cJ2_pollLast 10 = .ok (.aload_n 1, 1) := dk_43 (dk_at dksJ2_pollLast_0 10 rfl rfl)
theorem dJ2_pollLast_11 : decode cJ2_pollLast 11 = .ok (.arraylength, 1) := dk_190 (dk_at dksJ2_pollLast_0 11 rfl rfl)
theorem dJ2_pollLast_12 : decode cJ2_pollLast 12 = .ok (.invokestatic 68, 3) := dk_184 0 68 (dk_at dksJ2_pollLast_0 12 rfl rfl)
theorem dJ2_pollLast_15 : decode cJ2_pollLast 15 = .ok (.dup, 1) := dk_89 (dk_at dksJ2_pollLast_0 15 rfl rfl)
theorem dJ2_pollLast_16 : decode cJ2_pollLast 16 = .ok (.istore_n 2, 1) := dk_61 (dk_at dksJ2_pollLast_0 16 rfl rfl)
theorem dJ2_pollLast_17 : decode cJ2_pollLast 17 = .ok (.invokestatic 103, 3) := dk_184 0 103 (dk_at dksJ2_pollLast_0 17 rfl rfl)
theorem dJ2_pollLast_20 : decode cJ2_pollLast 20 = .ok (.astore_n 3, 1) := dk_78 (dk_at dksJ2_pollLast_0 20 rfl rfl)
theorem dJ2_pollLast_21 : decode cJ2_pollLast 21 = .ok (.aload_n 3, 1) := dk_45 (dk_at dksJ2_pollLast_0 21 rfl rfl)
theorem dJ2_pollLast_22 : decode cJ2_pollLast 22 = .ok (.ifnull 12, 3) := dk_198 0 12 (dk_at dksJ2_pollLast_1 0 rfl rfl)
theorem dJ2_pollLast_25 : decode cJ2_pollLast 25 = .ok (.aload_n 1, 1) := dk_43 (dk_at dksJ2_pollLast_1 3 rfl rfl)
theorem dJ2_pollLast_26 : decode cJ2_pollLast 26 = .ok (.aload_n 0, 1) := dk_42 (dk_at dksJ2_pollLast_1 4 rfl rfl)
theorem dJ2_pollLast_27 : decode cJ2_pollLast 27 = .ok (.iload_n 2, 1) := dk_28 (dk_at dksJ2_pollLast_1 5 rfl rfl)
theorem dJ2_pollLast_28 : decode cJ2_pollLast 28 = .ok (.dup_x1, 1) := dk_90 (dk_at dksJ2_pollLast_1 6 rfl rfl)
theorem dJ2_pollLast_29 : decode cJ2_pollLast 29 = .ok (.putfield 20, 3) := dk_181 0 20 (dk_at dksJ2_pollLast_1 7 rfl rfl)
theorem dJ2_pollLast_32 : decode cJ2_pollLast 32 = .ok (.aconst_null, 1) := dk_1 (dk_at dksJ2_pollLast_1 10 rfl rfl)
theorem dJ2_pollLast_33 : decode cJ2_pollLast 33 = .ok (.aastore, 1) := dk_83 (dk_at dksJ2_pollLast_1 11 rfl rfl)
theorem dJ2_pollLast_34 : decode cJ2_pollLast 34 = .ok (.aload_n 3, 1) := dk_45 (dk_at dksJ2_pollLast_1 12 rfl rfl)
theorem dJ2_pollLast_35 : decode cJ2_pollLast 35 = .ok (.areturn, 1) := dk_176 (dk_at dksJ2_pollLast_1 13 rfl rfl)
abbrev cJ2_clear : ByteArray := prog_33_method_53_code
def yJ2_clear : MethodName := ⟨RJ2, "clear", "()V"⟩
def dkwJ2_clear_1 : List UInt8 := [181, 0, 24, 177]
abbrev dktJ2_clear_1 : List UInt8 := dkwJ2_clear_1 ++ []
def dkwJ2_clear_0 : List UInt8 := [42, 180, 0, 3, 42, 180, 0, 24, 42, 180, 0, 20, 184, 0, 181, 42, 42, 3, 90, 181, 0, 20]
abbrev dktJ2_clear_0 : List UInt8 := dkwJ2_clear_0 ++ dktJ2_clear_1
theorem dksJ2_clear_0 : cJ2_clear.data.toList.drop 0 = dktJ2_clear_0 := by decide +kernel
theorem dksJ2_clear_1 : cJ2_clear.data.toList.drop 22 = dktJ2_clear_1 := dk_seg dksJ2_clear_0 22 rfl rfl
theorem dJ2_clear_0 : decode cJ2_clear 0 = .ok (.aload_n 0, 1) := dk_42 (dk_at dksJ2_clear_0 0 rfl rfl)
theorem dJ2_clear_1 : decode cJ2_clear 1 = .ok (.getfield 3, 3) := dk_180 0 3 (dk_at dksJ2_clear_0 1 rfl rfl)
theorem dJ2_clear_4 : decode cJ2_clear 4 = .ok (.aload_n 0, 1) := dk_42 (dk_at dksJ2_clear_0 4 rfl rfl)
theorem dJ2_clear_5 : decode cJ2_clear 5 = .ok (.getfield 24, 3) := dk_180 0 24 (dk_at dksJ2_clear_0 5 rfl rfl)
theorem dJ2_clear_8 : decode cJ2_clear 8 = .ok (.aload_n 0, 1) := dk_42 (dk_at dksJ2_clear_0 8 rfl rfl)
theorem dJ2_clear_9 : decode cJ2_clear 9 = .ok (.getfield 20, 3) := dk_180 0 20 (dk_at dksJ2_clear_0 9 rfl rfl)
theorem dJ2_clear_12 : decode cJ2_clear 12 = .ok (.invokestatic 181, 3) := dk_184 0 181 (dk_at dksJ2_clear_0 12 rfl rfl)
theorem dJ2_clear_15 : decode cJ2_clear 15 = .ok (.aload_n 0, 1) := dk_42 (dk_at dksJ2_clear_0 15 rfl rfl)
theorem dJ2_clear_16 : decode cJ2_clear 16 = .ok (.aload_n 0, 1) := dk_42 (dk_at dksJ2_clear_0 16 rfl rfl)
theorem dJ2_clear_17 : decode cJ2_clear 17 = .ok (.iconst 0, 1) := dk_3 (dk_at dksJ2_clear_0 17 rfl rfl)
theorem dJ2_clear_18 : decode cJ2_clear 18 = .ok (.dup_x1, 1) := dk_90 (dk_at dksJ2_clear_0 18 rfl rfl)
theorem dJ2_clear_19 : decode cJ2_clear 19 = .ok (.putfield 20, 3) := dk_181 0 20 (dk_at dksJ2_clear_0 19 rfl rfl)
theorem dJ2_clear_22 : decode cJ2_clear 22 = .ok (.putfield 24, 3) := dk_181 0 24 (dk_at dksJ2_clear_1 0 rfl rfl)
theorem dJ2_clear_25 : decode cJ2_clear 25 = .ok (.return_, 1) := dk_177 (dk_at dksJ2_clear_1 3 rfl rfl)
abbrev cJ2_circularClear : ByteArray := prog_33_method_54_code
def yJ2_circularClear : MethodName := ⟨RJ2, "circularClear", "([Ljava/lang/Object;II)V"⟩
def dkwJ2_circularClear_1 : List UInt8 := [167, 255, 244, 29, 28, 160, 0, 6, 167, 0, 10, 3, 60, 28, 62, 167, 255, 229, 177]
abbrev dktJ2_circularClear_1 : List UInt8 := dkwJ2_circularClear_1 ++ []
def dkwJ2_circularClear_0 : List UInt8 := [27, 28, 163, 0, 7, 28, 167, 0, 5, 42, 190, 62, 27, 29, 162, 0, 13, 42, 27, 1, 83, 132, 1, 1]
abbrev dktJ2_circularClear_0 : List UInt8 := dkwJ2_circularClear_0 ++ dktJ2_circularClear_1
theorem dksJ2_circularClear_0 : cJ2_circularClear.data.toList.drop 0 = dktJ2_circularClear_0 := by decide +kernel
theorem dksJ2_circularClear_1 : cJ2_circularClear.data.toList.drop 24 = dktJ2_circularClear_1 := dk_seg dksJ2_circularClear_0 24 rfl rfl
theorem dJ2_circularClear_0 : decode cJ2_circularClear 0 = .ok (.iload_n 1, 1) := dk_27 (dk_at dksJ2_circularClear_0 0 rfl rfl)
theorem dJ2_circularClear_1 : decode cJ2_circularClear 1 = .ok (.iload_n 2, 1) := dk_28 (dk_at dksJ2_circularClear_0 1 rfl rfl)
theorem dJ2_circularClear_2 : decode cJ2_circularClear 2 = .ok (.if_icmp .gt 7, 3) := dk_163 0 7 (dk_at dksJ2_circularClear_0 2 rfl rfl)
theorem dJ2_circularClear_5 : decode cJ2_circularClear 5 = .ok (.iload_n 2, 1) := dk_28 (dk_at dksJ2_circularClear_0 5 rfl rfl)
theorem dJ2_circularClear_6 : decode cJ2_circularClear 6 = .ok (.goto 5, 3) := dk_167 0 5 (dk_at dksJ2_circularClear_0 6 rfl rfl)
theorem dJ2_circularClear_9 : decode cJ2_circularClear 9 = .ok (.aload_n 0, 1) := dk_42 (dk_at dksJ2_circularClear_0 9 rfl rfl)
theorem dJ2_circularClear_10 : decode cJ2_circularClear 10 = .ok (.arraylength, 1) := dk_190 (dk_at dksJ2_circularClear_0 10 rfl rfl)
theorem dJ2_circularClear_11 : decode cJ2_circularClear 11 = .ok (.istore_n 3, 1) := dk_62 (dk_at dksJ2_circularClear_0 11 rfl rfl)
theorem dJ2_circularClear_12 : decode cJ2_circularClear 12 = .ok (.iload_n 1, 1) := dk_27 (dk_at dksJ2_circularClear_0 12 rfl rfl)
theorem dJ2_circularClear_13 : decode cJ2_circularClear 13 = .ok (.iload_n 3, 1) := dk_29 (dk_at dksJ2_circularClear_0 13 rfl rfl)
theorem dJ2_circularClear_14 : decode cJ2_circularClear 14 = .ok (.if_icmp .ge 13, 3) := dk_162 0 13 (dk_at dksJ2_circularClear_0 14 rfl rfl)
theorem dJ2_circularClear_17 : decode cJ2_circularClear 17 = .ok (.aload_n 0, 1) := dk_42 (dk_at dksJ2_circularClear_0 17 rfl rfl)
theorem dJ2_circularClear_18 : decode cJ2_circularClear 18 = .ok (.iload_n 1, 1) := dk_27 (dk_at dksJ2_circularClear_0 18 rfl rfl)
theorem dJ2_circularClear_19 : decode cJ2_circularClear 19 = .ok (.aconst_null, 1) := dk_1 (dk_at dksJ2_circularClear_0 19 rfl rfl)
theorem dJ2_circularClear_20 : decode cJ2_circularClear 20 = .ok (.aastore, 1) := dk_83 (dk_at dksJ2_circularClear_0 20 rfl rfl)
theorem dJ2_circularClear_21 : decode cJ2_circularClear 21 = .ok (.iinc 1 1, 3) := dk_132 1 1 (dk_at dksJ2_circularClear_0 21 rfl rfl)
theorem dJ2_circularClear_24 : decode cJ2_circularClear 24 = .ok (.goto (-12), 3) := dk_167 255 244 (dk_at dksJ2_circularClear_1 0 rfl rfl)
theorem dJ2_circularClear_27 : decode cJ2_circularClear 27 = .ok (.iload_n 3, 1) := dk_29 (dk_at dksJ2_circularClear_1 3 rfl rfl)
theorem dJ2_circularClear_28 : decode cJ2_circularClear 28 = .ok (.iload_n 2, 1) := dk_28 (dk_at dksJ2_circularClear_1 4 rfl rfl)
theorem dJ2_circularClear_29 : decode cJ2_circularClear 29 = .ok (.if_icmp .ne 6, 3) := dk_160 0 6 (dk_at dksJ2_circularClear_1 5 rfl rfl)
theorem dJ2_circularClear_32 : decode cJ2_circularClear 32 = .ok (.goto 10, 3) := dk_167 0 10 (dk_at dksJ2_circularClear_1 8 rfl rfl)
theorem dJ2_circularClear_35 : decode cJ2_circularClear 35 = .ok (.iconst 0, 1) := dk_3 (dk_at dksJ2_circularClear_1 11 rfl rfl)
theorem dJ2_circularClear_36 : decode cJ2_circularClear 36 = .ok (.istore_n 1, 1) := dk_60 (dk_at dksJ2_circularClear_1 12 rfl rfl)
theorem dJ2_circularClear_37 : decode cJ2_circularClear 37 = .ok (.iload_n 2, 1) := dk_28 (dk_at dksJ2_circularClear_1 13 rfl rfl)
theorem dJ2_circularClear_38 : decode cJ2_circularClear 38 = .ok (.istore_n 3, 1) := dk_62 (dk_at dksJ2_circularClear_1 14 rfl rfl)
theorem dJ2_circularClear_39 : decode cJ2_circularClear 39 = .ok (.goto (-27), 3) := dk_167 255 229 (dk_at dksJ2_circularClear_1 15 rfl rfl)
theorem dJ2_circularClear_42 : decode cJ2_circularClear 42 = .ok (.return_, 1) := dk_177 (dk_at dksJ2_circularClear_1 18 rfl rfl)
abbrev cJ2_iterator : ByteArray := prog_33_method_39_code
def yJ2_iterator : MethodName := ⟨RJ2, "iterator", "()Ljava/util/Iterator;"⟩
def dkwJ2_iterator_0 : List UInt8 := [187, 0, 131, 89, 42, 183, 0, 133, 176]
abbrev dktJ2_iterator_0 : List UInt8 := dkwJ2_iterator_0 ++ []
theorem dksJ2_iterator_0 : cJ2_iterator.data.toList.drop 0 = dktJ2_iterator_0 := by decide +kernel
theorem dJ2_iterator_0 : decode cJ2_iterator 0 = .ok (.new 131, 3) := dk_187 0 131 (dk_at dksJ2_iterator_0 0 rfl rfl)
theorem dJ2_iterator_3 : decode cJ2_iterator 3 = .ok (.dup, 1) := dk_89 (dk_at dksJ2_iterator_0 3 rfl rfl)
theorem dJ2_iterator_4 : decode cJ2_iterator 4 = .ok (.aload_n 0, 1) := dk_42 (dk_at dksJ2_iterator_0 4 rfl rfl)
theorem dJ2_iterator_5 : decode cJ2_iterator 5 = .ok (.invokespecial 133, 3) := dk_183 0 133 (dk_at dksJ2_iterator_0 5 rfl rfl)
theorem dJ2_iterator_8 : decode cJ2_iterator 8 = .ok (.areturn, 1) := dk_176 (dk_at dksJ2_iterator_0 8 rfl rfl)
theorem q60 : (Jvm.Cond.initialized "java/util/ArrayDeque") ∈ lw_all := lw_g (lw_at lw_m1 5 rfl) rfl
theorem q136 : (Jvm.Cond.instantiable "java/util/ArrayDeque" (3 : Nat)) ∈ lw_all := lw_g (lw_at lw_m1 81 rfl) rfl
theorem q138 : (Jvm.Cond.instanceMethod ({ cls := "java/util/ArrayDeque", name := "<init>", desc := "()V" } : Jvm.MethodName)) ∈ lw_all := lw_g (lw_at lw_m1 83 rfl) rfl
theorem q139 : (Jvm.Cond.code ({ cls := "java/util/ArrayDeque", name := "<init>", desc := "()V" } : Jvm.MethodName) prog_33_method_3_code (1 : Nat) (Option.none : Option Jvm.ClassFile.FieldType)) ∈ lw_all := lw_g (lw_at lw_m1 84 rfl) rfl
theorem q140 : (Jvm.Cond.methodLink "java/util/ArrayDeque" (42 : Nat) ({ cls := "java/util/AbstractCollection", name := "<init>", desc := "()V" } : Jvm.MethodName)) ∈ lw_all := lw_g (lw_at lw_m1 85 rfl) rfl
theorem q144 : (Jvm.Cond.classLink "java/util/ArrayDeque" (47 : Nat) "java/lang/Object") ∈ lw_all := lw_g (lw_at lw_m1 89 rfl) rfl
theorem q146 : (Jvm.Cond.fieldLink "java/util/ArrayDeque" (3 : Nat) "java/util/ArrayDeque" "elements" "[Ljava/lang/Object;") ∈ lw_all := lw_g (lw_at lw_m1 91 rfl) rfl
theorem q149 : (Jvm.Cond.fieldLink "java/util/ArrayDeque" (24 : Nat) "java/util/ArrayDeque" "head" "I") ∈ lw_all := lw_g (lw_at lw_m1 94 rfl) rfl
theorem q150 : (Jvm.Cond.fieldLink "java/util/ArrayDeque" (20 : Nat) "java/util/ArrayDeque" "tail" "I") ∈ lw_all := lw_g (lw_at lw_m1 95 rfl) rfl
theorem q151 : (Jvm.Cond.lays "java/util/ArrayDeque" "java/util/ArrayDeque" "elements" "[Ljava/lang/Object;") ∈ lw_all := lw_g (lw_at lw_m1 96 rfl) rfl
theorem q152 : (Jvm.Cond.soleField "java/util/ArrayDeque" "elements") ∈ lw_all := lw_g (lw_at lw_m1 97 rfl) rfl
theorem q153 : (Jvm.Cond.lays "java/util/ArrayDeque" "java/util/ArrayDeque" "head" "I") ∈ lw_all := lw_g (lw_at lw_m1 98 rfl) rfl
theorem q154 : (Jvm.Cond.soleField "java/util/ArrayDeque" "head") ∈ lw_all := lw_g (lw_at lw_m1 99 rfl) rfl
theorem q155 : (Jvm.Cond.lays "java/util/ArrayDeque" "java/util/ArrayDeque" "tail" "I") ∈ lw_all := lw_g (lw_at lw_m1 100 rfl) rfl
theorem q156 : (Jvm.Cond.soleField "java/util/ArrayDeque" "tail") ∈ lw_all := lw_g (lw_at lw_m1 101 rfl) rfl
theorem q157 : (Jvm.Cond.superclass "java/util/ArrayDeque" "java/util/AbstractCollection") ∈ lw_all := lw_g (lw_at lw_m1 102 rfl) rfl
theorem q603 : (Jvm.Cond.selects "java/util/ArrayDeque" ({ cls := "java/lang/Object", name := "getClass", desc := "()Ljava/lang/Class;" } : Jvm.MethodName) ({ cls := "java/lang/Object", name := "getClass", desc := "()Ljava/lang/Class;" } : Jvm.MethodName)) ∈ lw_all := lw_g (lw_at lw_m3 68 rfl) rfl
theorem q849 : (Jvm.Cond.static ({ cls := "java/util/ArrayDeque", name := "nonNullElementAt", desc := "([Ljava/lang/Object;I)Ljava/lang/Object;" } : Jvm.MethodName)) ∈ lw_all := lw_g (lw_at lw_m4 74 rfl) rfl
theorem q850 : (Jvm.Cond.code ({ cls := "java/util/ArrayDeque", name := "nonNullElementAt", desc := "([Ljava/lang/Object;I)Ljava/lang/Object;" } : Jvm.MethodName) prog_33_method_11_code (3 : Nat) (Option.some (Jvm.ClassFile.FieldType.object "java/lang/Object"))) ∈ lw_all := lw_g (lw_at lw_m4 75 rfl) rfl
theorem q852 : (Jvm.Cond.static ({ cls := "java/util/ArrayDeque", name := "inc", desc := "(II)I" } : Jvm.MethodName)) ∈ lw_all := lw_g (lw_at lw_m4 77 rfl) rfl
theorem q853 : (Jvm.Cond.code ({ cls := "java/util/ArrayDeque", name := "inc", desc := "(II)I" } : Jvm.MethodName) prog_33_method_6_code (2 : Nat) (Option.some Jvm.ClassFile.FieldType.int)) ∈ lw_all := lw_g (lw_at lw_m4 78 rfl) rfl
theorem q931 : (Jvm.Cond.instanceMethod ({ cls := "java/util/ArrayDeque", name := "delete", desc := "(I)Z" } : Jvm.MethodName)) ∈ lw_all := lw_g (lw_at lw_m4 156 rfl) rfl
theorem q932 : (Jvm.Cond.selects "java/util/ArrayDeque" ({ cls := "java/util/ArrayDeque", name := "delete", desc := "(I)Z" } : Jvm.MethodName) ({ cls := "java/util/ArrayDeque", name := "delete", desc := "(I)Z" } : Jvm.MethodName)) ∈ lw_all := lw_g (lw_at lw_m4 157 rfl) rfl
theorem q933 : (Jvm.Cond.code ({ cls := "java/util/ArrayDeque", name := "delete", desc := "(I)Z" } : Jvm.MethodName) prog_33_method_36_code (8 : Nat) (Option.some Jvm.ClassFile.FieldType.boolean)) ∈ lw_all := lw_g (lw_at lw_m4 158 rfl) rfl
theorem q934 : (Jvm.Cond.methodLink "java/util/ArrayDeque" (127 : Nat) ({ cls := "java/util/ArrayDeque", name := "sub", desc := "(III)I" } : Jvm.MethodName)) ∈ lw_all := lw_g (lw_at lw_m4 159 rfl) rfl
theorem q935 : (Jvm.Cond.static ({ cls := "java/util/ArrayDeque", name := "sub", desc := "(III)I" } : Jvm.MethodName)) ∈ lw_all := lw_g (lw_at lw_m4 160 rfl) rfl
theorem q936 : (Jvm.Cond.code ({ cls := "java/util/ArrayDeque", name := "sub", desc := "(III)I" } : Jvm.MethodName) prog_33_method_9_code (3 : Nat) (Option.some Jvm.ClassFile.FieldType.int)) ∈ lw_all := lw_g (lw_at lw_m4 161 rfl) rfl
theorem q937 : (Jvm.Cond.methodLink "java/util/ArrayDeque" (27 : Nat) ({ cls := "java/lang/System", name := "arraycopy", desc := "(Ljava/lang/Object;ILjava/lang/Object;II)V" } : Jvm.MethodName)) ∈ lw_all := lw_g (lw_at lw_m4 162 rfl) rfl
theorem q938 : (Jvm.Cond.methodLink "java/util/ArrayDeque" (74 : Nat) ({ cls := "java/util/ArrayDeque", name := "inc", desc := "(II)I" } : Jvm.MethodName)) ∈ lw_all := lw_g (lw_at lw_m4 163 rfl) rfl
theorem q939 : (Jvm.Cond.methodLink "java/util/ArrayDeque" (68 : Nat) ({ cls := "java/util/ArrayDeque", name := "dec", desc := "(II)I" } : Jvm.MethodName)) ∈ lw_all := lw_g (lw_at lw_m4 164 rfl) rfl
theorem q940 : (Jvm.Cond.static ({ cls := "java/util/ArrayDeque", name := "dec", desc := "(II)I" } : Jvm.MethodName)) ∈ lw_all := lw_g (lw_at lw_m4 165 rfl) rfl
theorem q941 : (Jvm.Cond.code ({ cls := "java/util/ArrayDeque", name := "dec", desc := "(II)I" } : Jvm.MethodName) prog_33_method_7_code (2 : Nat) (Option.some Jvm.ClassFile.FieldType.int)) ∈ lw_all := lw_g (lw_at lw_m4 166 rfl) rfl
theorem q960 : (Jvm.Cond.instanceMethod ({ cls := "java/util/ArrayDeque", name := "size", desc := "()I" } : Jvm.MethodName)) ∈ lw_all := lw_g (lw_at lw_m4 185 rfl) rfl
theorem q961 : (Jvm.Cond.code ({ cls := "java/util/ArrayDeque", name := "size", desc := "()I" } : Jvm.MethodName) prog_33_method_37_code (1 : Nat) (Option.some Jvm.ClassFile.FieldType.int)) ∈ lw_all := lw_g (lw_at lw_m4 186 rfl) rfl
theorem q1028 : (Jvm.Cond.instanceMethod ({ cls := "java/util/ArrayDeque", name := "removeFirst", desc := "()Ljava/lang/Object;" } : Jvm.MethodName)) ∈ lw_all := lw_g (lw_at lw_m5 13 rfl) rfl
theorem q1029 : (Jvm.Cond.selects "java/util/ArrayDeque" ({ cls := "java/util/ArrayDeque", name := "removeFirst", desc := "()Ljava/lang/Object;" } : Jvm.MethodName) ({ cls := "java/util/ArrayDeque", name := "removeFirst", desc := "()Ljava/lang/Object;" } : Jvm.MethodName)) ∈ lw_all := lw_g (lw_at lw_m5 14 rfl) rfl
theorem q1030 : (Jvm.Cond.code ({ cls := "java/util/ArrayDeque", name := "removeFirst", desc := "()Ljava/lang/Object;" } : Jvm.MethodName) prog_33_method_18_code (2 : Nat) (Option.some (Jvm.ClassFile.FieldType.object "java/lang/Object"))) ∈ lw_all := lw_g (lw_at lw_m5 15 rfl) rfl
theorem q1031 : (Jvm.Cond.methodLink "java/util/ArrayDeque" (93 : Nat) ({ cls := "java/util/ArrayDeque", name := "pollFirst", desc := "()Ljava/lang/Object;" } : Jvm.MethodName)) ∈ lw_all := lw_g (lw_at lw_m5 16 rfl) rfl
theorem q1032 : (Jvm.Cond.instanceMethod ({ cls := "java/util/ArrayDeque", name := "pollFirst", desc := "()Ljava/lang/Object;" } : Jvm.MethodName)) ∈ lw_all := lw_g (lw_at lw_m5 17 rfl) rfl
theorem q1033 : (Jvm.Cond.selects "java/util/ArrayDeque" ({ cls := "java/util/ArrayDeque", name := "pollFirst", desc := "()Ljava/lang/Object;" } : Jvm.MethodName) ({ cls := "java/util/ArrayDeque", name := "pollFirst", desc := "()Ljava/lang/Object;" } : Jvm.MethodName)) ∈ lw_all := lw_g (lw_at lw_m5 18 rfl) rfl
theorem q1034 : (Jvm.Cond.code ({ cls := "java/util/ArrayDeque", name := "pollFirst", desc := "()Ljava/lang/Object;" } : Jvm.MethodName) prog_33_method_20_code (4 : Nat) (Option.some (Jvm.ClassFile.FieldType.object "java/lang/Object"))) ∈ lw_all := lw_g (lw_at lw_m5 19 rfl) rfl
theorem q1035 : (Jvm.Cond.methodLink "java/util/ArrayDeque" (103 : Nat) ({ cls := "java/util/ArrayDeque", name := "elementAt", desc := "([Ljava/lang/Object;I)Ljava/lang/Object;" } : Jvm.MethodName)) ∈ lw_all := lw_g (lw_at lw_m5 20 rfl) rfl
theorem q1036 : (Jvm.Cond.static ({ cls := "java/util/ArrayDeque", name := "elementAt", desc := "([Ljava/lang/Object;I)Ljava/lang/Object;" } : Jvm.MethodName)) ∈ lw_all := lw_g (lw_at lw_m5 21 rfl) rfl
theorem q1037 : (Jvm.Cond.code ({ cls := "java/util/ArrayDeque", name := "elementAt", desc := "([Ljava/lang/Object;I)Ljava/lang/Object;" } : Jvm.MethodName) prog_33_method_10_code (2 : Nat) (Option.some (Jvm.ClassFile.FieldType.object "java/lang/Object"))) ∈ lw_all := lw_g (lw_at lw_m5 22 rfl) rfl
theorem q1039 : (Jvm.Cond.instanceMethod ({ cls := "java/util/ArrayDeque", name := "addLast", desc := "(Ljava/lang/Object;)V" } : Jvm.MethodName)) ∈ lw_all := lw_g (lw_at lw_m5 24 rfl) rfl
theorem q1040 : (Jvm.Cond.selects "java/util/ArrayDeque" ({ cls := "java/util/ArrayDeque", name := "addLast", desc := "(Ljava/lang/Object;)V" } : Jvm.MethodName) ({ cls := "java/util/ArrayDeque", name := "addLast", desc := "(Ljava/lang/Object;)V" } : Jvm.MethodName)) ∈ lw_all := lw_g (lw_at lw_m5 25 rfl) rfl
theorem q1041 : (Jvm.Cond.code ({ cls := "java/util/ArrayDeque", name := "addLast", desc := "(Ljava/lang/Object;)V" } : Jvm.MethodName) prog_33_method_13_code (3 : Nat) (Option.none : Option Jvm.ClassFile.FieldType)) ∈ lw_all := lw_g (lw_at lw_m5 26 rfl) rfl
theorem q1042 : (Jvm.Cond.methodLink "java/util/ArrayDeque" (71 : Nat) ({ cls := "java/util/ArrayDeque", name := "grow", desc := "(I)V" } : Jvm.MethodName)) ∈ lw_all := lw_g (lw_at lw_m5 27 rfl) rfl
theorem q1043 : (Jvm.Cond.privateMethod ({ cls := "java/util/ArrayDeque", name := "grow", desc := "(I)V" } : Jvm.MethodName)) ∈ lw_tbl := lw_at lw_m5 28 rfl
theorem q1044 : (Jvm.Cond.instanceMethod ({ cls := "java/util/ArrayDeque", name := "grow", desc := "(I)V" } : Jvm.MethodName)) ∈ lw_all := lw_g (lw_at lw_m5 29 rfl) rfl
theorem q1045 : (Jvm.Cond.code ({ cls := "java/util/ArrayDeque", name := "grow", desc := "(I)V" } : Jvm.MethodName) prog_33_method_1_code (9 : Nat) (Option.none : Option Jvm.ClassFile.FieldType)) ∈ lw_all := lw_g (lw_at lw_m5 30 rfl) rfl
theorem q1046 : (Jvm.Cond.constant "java/util/ArrayDeque" (9 : Nat) (2147483639 : Int32)) ∈ lw_all := lw_g (lw_at lw_m5 31 rfl) rfl
theorem q1047 : (Jvm.Cond.methodLink "java/util/ArrayDeque" (10 : Nat) ({ cls := "java/util/ArrayDeque", name := "newCapacity", desc := "(II)I" } : Jvm.MethodName)) ∈ lw_all := lw_g (lw_at lw_m5 32 rfl) rfl
theorem q1048 : (Jvm.Cond.privateMethod ({ cls := "java/util/ArrayDeque", name := "newCapacity", desc := "(II)I" } : Jvm.MethodName)) ∈ lw_tbl := lw_at lw_m5 33 rfl
theorem q1049 : (Jvm.Cond.instanceMethod ({ cls := "java/util/ArrayDeque", name := "newCapacity", desc := "(II)I" } : Jvm.MethodName)) ∈ lw_all := lw_g (lw_at lw_m5 34 rfl) rfl
theorem q1050 : (Jvm.Cond.code ({ cls := "java/util/ArrayDeque", name := "newCapacity", desc := "(II)I" } : Jvm.MethodName) prog_33_method_2_code (5 : Nat) (Option.some Jvm.ClassFile.FieldType.int)) ∈ lw_all := lw_g (lw_at lw_m5 35 rfl) rfl
theorem q1051 : (Jvm.Cond.constant "java/util/ArrayDeque" (41 : Nat) (2147483647 : Int32)) ∈ lw_all := lw_g (lw_at lw_m5 36 rfl) rfl
theorem q1052 : (Jvm.Cond.methodLink "java/util/ArrayDeque" (14 : Nat) ({ cls := "java/util/Arrays", name := "copyOf", desc := "([Ljava/lang/Object;I)[Ljava/lang/Object;" } : Jvm.MethodName)) ∈ lw_all := lw_g (lw_at lw_m5 37 rfl) rfl
theorem q1070 : (Jvm.Cond.instanceMethod ({ cls := "java/util/ArrayDeque", name := "isEmpty", desc := "()Z" } : Jvm.MethodName)) ∈ lw_all := lw_g (lw_at lw_m5 55 rfl) rfl
theorem q1071 : (Jvm.Cond.selects "java/util/ArrayDeque" ({ cls := "java/util/ArrayDeque", name := "isEmpty", desc := "()Z" } : Jvm.MethodName) ({ cls := "java/util/ArrayDeque", name := "isEmpty", desc := "()Z" } : Jvm.MethodName)) ∈ lw_all := lw_g (lw_at lw_m5 56 rfl) rfl
theorem q1072 : (Jvm.Cond.code ({ cls := "java/util/ArrayDeque", name := "isEmpty", desc := "()Z" } : Jvm.MethodName) prog_33_method_38_code (1 : Nat) (Option.some Jvm.ClassFile.FieldType.boolean)) ∈ lw_all := lw_g (lw_at lw_m5 57 rfl) rfl
theorem q1074 : (Jvm.Cond.instanceMethod ({ cls := "java/util/ArrayDeque", name := "removeLast", desc := "()Ljava/lang/Object;" } : Jvm.MethodName)) ∈ lw_all := lw_g (lw_at lw_m5 59 rfl) rfl
theorem q1075 : (Jvm.Cond.selects "java/util/ArrayDeque" ({ cls := "java/util/ArrayDeque", name := "removeLast", desc := "()Ljava/lang/Object;" } : Jvm.MethodName) ({ cls := "java/util/ArrayDeque", name := "removeLast", desc := "()Ljava/lang/Object;" } : Jvm.MethodName)) ∈ lw_all := lw_g (lw_at lw_m5 60 rfl) rfl
theorem q1076 : (Jvm.Cond.code ({ cls := "java/util/ArrayDeque", name := "removeLast", desc := "()Ljava/lang/Object;" } : Jvm.MethodName) prog_33_method_19_code (2 : Nat) (Option.some (Jvm.ClassFile.FieldType.object "java/lang/Object"))) ∈ lw_all := lw_g (lw_at lw_m5 61 rfl) rfl
theorem q1077 : (Jvm.Cond.methodLink "java/util/ArrayDeque" (100 : Nat) ({ cls := "java/util/ArrayDeque", name := "pollLast", desc := "()Ljava/lang/Object;" } : Jvm.MethodName)) ∈ lw_all := lw_g (lw_at lw_m5 62 rfl) rfl
theorem q1078 : (Jvm.Cond.instanceMethod ({ cls := "java/util/ArrayDeque", name := "pollLast", desc := "()Ljava/lang/Object;" } : Jvm.MethodName)) ∈ lw_all := lw_g (lw_at lw_m5 63 rfl) rfl
theorem q1079 : (Jvm.Cond.selects "java/util/ArrayDeque" ({ cls := "java/util/ArrayDeque", name := "pollLast", desc := "()Ljava/lang/Object;" } : Jvm.MethodName) ({ cls := "java/util/ArrayDeque", name := "pollLast", desc := "()Ljava/lang/Object;" } : Jvm.MethodName)) ∈ lw_all := lw_g (lw_at lw_m5 64 rfl) rfl
theorem q1080 : (Jvm.Cond.code ({ cls := "java/util/ArrayDeque", name := "pollLast", desc := "()Ljava/lang/Object;" } : Jvm.MethodName) prog_33_method_21_code (4 : Nat) (Option.some (Jvm.ClassFile.FieldType.object "java/lang/Object"))) ∈ lw_all := lw_g (lw_at lw_m5 65 rfl) rfl
theorem q1228 : (Jvm.Cond.instanceMethod ({ cls := "java/util/ArrayDeque", name := "clear", desc := "()V" } : Jvm.MethodName)) ∈ lw_all := lw_g (lw_at lw_m5 213 rfl) rfl
theorem q1229 : (Jvm.Cond.selects "java/util/ArrayDeque" ({ cls := "java/util/ArrayDeque", name := "clear", desc := "()V" } : Jvm.MethodName) ({ cls := "java/util/ArrayDeque", name := "clear", desc := "()V" } : Jvm.MethodName)) ∈ lw_all := lw_g (lw_at lw_m5 214 rfl) rfl
theorem q1230 : (Jvm.Cond.code ({ cls := "java/util/ArrayDeque", name := "clear", desc := "()V" } : Jvm.MethodName) prog_33_method_53_code (1 : Nat) (Option.none : Option Jvm.ClassFile.FieldType)) ∈ lw_all := lw_g (lw_at lw_m5 215 rfl) rfl
theorem q1231 : (Jvm.Cond.methodLink "java/util/ArrayDeque" (181 : Nat) ({ cls := "java/util/ArrayDeque", name := "circularClear", desc := "([Ljava/lang/Object;II)V" } : Jvm.MethodName)) ∈ lw_all := lw_g (lw_at lw_m5 216 rfl) rfl
theorem q1232 : (Jvm.Cond.static ({ cls := "java/util/ArrayDeque", name := "circularClear", desc := "([Ljava/lang/Object;II)V" } : Jvm.MethodName)) ∈ lw_all := lw_g (lw_at lw_m5 217 rfl) rfl
theorem q1233 : (Jvm.Cond.code ({ cls := "java/util/ArrayDeque", name := "circularClear", desc := "([Ljava/lang/Object;II)V" } : Jvm.MethodName) prog_33_method_54_code (4 : Nat) (Option.none : Option Jvm.ClassFile.FieldType)) ∈ lw_all := lw_g (lw_at lw_m5 218 rfl) rfl
theorem q1235 : (Jvm.Cond.instanceMethod ({ cls := "java/util/ArrayDeque", name := "iterator", desc := "()Ljava/util/Iterator;" } : Jvm.MethodName)) ∈ lw_all := lw_g (lw_at lw_m5 220 rfl) rfl
theorem q1236 : (Jvm.Cond.selects "java/util/ArrayDeque" ({ cls := "java/util/ArrayDeque", name := "iterator", desc := "()Ljava/util/Iterator;" } : Jvm.MethodName) ({ cls := "java/util/ArrayDeque", name := "iterator", desc := "()Ljava/util/Iterator;" } : Jvm.MethodName)) ∈ lw_all := lw_g (lw_at lw_m5 221 rfl) rfl
theorem q1237 : (Jvm.Cond.code ({ cls := "java/util/ArrayDeque", name := "iterator", desc := "()Ljava/util/Iterator;" } : Jvm.MethodName) prog_33_method_39_code (1 : Nat) (Option.some (Jvm.ClassFile.FieldType.object "java/util/Iterator"))) ∈ lw_all := lw_g (lw_at lw_m5 222 rfl) rfl
theorem q1238 : (Jvm.Cond.classLink "java/util/ArrayDeque" (131 : Nat) "java/util/ArrayDeque$DeqIterator") ∈ lw_all := lw_g (lw_at lw_m5 223 rfl) rfl
theorem q1240 : (Jvm.Cond.methodLink "java/util/ArrayDeque" (133 : Nat) ({ cls := "java/util/ArrayDeque$DeqIterator", name := "<init>", desc := "(Ljava/util/ArrayDeque;)V" } : Jvm.MethodName)) ∈ lw_all := lw_g (lw_at lw_m5 225 rfl) rfl
theorem q1521 : (Jvm.Cond.selects "java/util/ArrayDeque" ({ cls := "java/util/AbstractCollection", name := "size", desc := "()I" } : Jvm.MethodName) ({ cls := "java/util/ArrayDeque", name := "size", desc := "()I" } : Jvm.MethodName)) ∈ lw_all := lw_g (lw_at lw_m7 26 rfl) rfl
theorem q1524 : (Jvm.Cond.selects "java/util/ArrayDeque" ({ cls := "java/util/ArrayDeque", name := "size", desc := "()I" } : Jvm.MethodName) ({ cls := "java/util/ArrayDeque", name := "size", desc := "()I" } : Jvm.MethodName)) ∈ lw_all := lw_g (lw_at lw_m7 29 rfl) rfl
theorem q1532 : (Jvm.Cond.castable "java/util/ArrayDeque" "java/lang/Object") ∈ lw_tbl := lw_at lw_m7 37 rfl
theorem in_J2 : ∀ w ∈ wsJ20, w ∈ lw_all := lw_in wsJ20 [151, 153, 155] (by decide +kernel) (by decide +kernel)

/-! java/util/List -/
set_option maxRecDepth 100000
def RJ3 : String := "java/util/List"
abbrev cJ3_of : ByteArray := prog_51_method_38_code
def yJ3_of : MethodName := ⟨RJ3, "of", "(Ljava/lang/Object;Ljava/lang/Object;)Ljava/util/List;"⟩
def dkwJ3_of_0 : List UInt8 := [187, 0, 96, 89, 42, 43, 183, 0, 100, 176]
abbrev dktJ3_of_0 : List UInt8 := dkwJ3_of_0 ++ []
theorem dksJ3_of_0 : cJ3_of.data.toList.drop 0 = dktJ3_of_0 := by decide +kernel
theorem dJ3_of_0 : decode cJ3_of 0 = .ok (.new 96, 3) := dk_187 0 96 (dk_at dksJ3_of_0 0 rfl rfl)
theorem dJ3_of_3 : decode cJ3_of 3 = .ok (.dup, 1) := dk_89 (dk_at dksJ3_of_0 3 rfl rfl)
theorem dJ3_of_4 : decode cJ3_of 4 = .ok (.aload_n 0, 1) := dk_42 (dk_at dksJ3_of_0 4 rfl rfl)
theorem dJ3_of_5 : decode cJ3_of 5 = .ok (.aload_n 1, 1) := dk_43 (dk_at dksJ3_of_0 5 rfl rfl)
theorem dJ3_of_6 : decode cJ3_of 6 = .ok (.invokespecial 100, 3) := dk_183 0 100 (dk_at dksJ3_of_0 6 rfl rfl)
theorem dJ3_of_9 : decode cJ3_of 9 = .ok (.areturn, 1) := dk_176 (dk_at dksJ3_of_0 9 rfl rfl)
theorem q61 : (Jvm.Cond.initialized "java/util/List") ∈ lw_all := lw_g (lw_at lw_m1 6 rfl) rfl
theorem q180 : (Jvm.Cond.static ({ cls := "java/util/List", name := "of", desc := "(Ljava/lang/Object;Ljava/lang/Object;)Ljava/util/List;" } : Jvm.MethodName)) ∈ lw_all := lw_g (lw_at lw_m1 125 rfl) rfl
theorem q181 : (Jvm.Cond.code ({ cls := "java/util/List", name := "of", desc := "(Ljava/lang/Object;Ljava/lang/Object;)Ljava/util/List;" } : Jvm.MethodName) prog_51_method_38_code (2 : Nat) (Option.some (Jvm.ClassFile.FieldType.object "java/util/List"))) ∈ lw_all := lw_g (lw_at lw_m1 126 rfl) rfl
theorem q182 : (Jvm.Cond.classLink "java/util/List" (96 : Nat) "java/util/ImmutableCollections$List12") ∈ lw_all := lw_g (lw_at lw_m1 127 rfl) rfl
theorem q184 : (Jvm.Cond.methodLink "java/util/List" (100 : Nat) ({ cls := "java/util/ImmutableCollections$List12", name := "<init>", desc := "(Ljava/lang/Object;Ljava/lang/Object;)V" } : Jvm.MethodName)) ∈ lw_all := lw_g (lw_at lw_m1 129 rfl) rfl
theorem q1196 : (Jvm.Cond.interfaceMethod "java/util/List" "java/util/List" "get" "(I)Ljava/lang/Object;") ∈ lw_tbl := lw_at lw_m5 181 rfl
theorem q1197 : (Jvm.Cond.declares ({ cls := "java/util/List", name := "get", desc := "(I)Ljava/lang/Object;" } : Jvm.MethodName)) ∈ lw_tbl := lw_at lw_m5 182 rfl

/-! java/util/ImmutableCollections$AbstractImmutableCollection -/
set_option maxRecDepth 100000
def RJ4 : String := "java/util/ImmutableCollections$AbstractImmutableCollection"
abbrev cJ4_init : ByteArray := prog_42_method_1_code
def yJ4_init : MethodName := ⟨RJ4, "<init>", "()V"⟩
theorem dJ4_init_0 : decode cJ4_init 0 = .ok (.aload_n 0, 1) := by decide +kernel
theorem dJ4_init_1 : decode cJ4_init 1 = .ok (.invokespecial 1, 3) := by decide +kernel
theorem dJ4_init_4 : decode cJ4_init 4 = .ok (.return_, 1) := by decide +kernel
theorem q62 : (Jvm.Cond.initialized "java/util/ImmutableCollections$AbstractImmutableCollection") ∈ lw_all := lw_g (lw_at lw_m1 7 rfl) rfl
theorem q191 : (Jvm.Cond.instanceMethod ({ cls := "java/util/ImmutableCollections$AbstractImmutableCollection", name := "<init>", desc := "()V" } : Jvm.MethodName)) ∈ lw_all := lw_g (lw_at lw_m1 136 rfl) rfl
theorem q192 : (Jvm.Cond.code ({ cls := "java/util/ImmutableCollections$AbstractImmutableCollection", name := "<init>", desc := "()V" } : Jvm.MethodName) prog_42_method_1_code (1 : Nat) (Option.none : Option Jvm.ClassFile.FieldType)) ∈ lw_all := lw_g (lw_at lw_m1 137 rfl) rfl
theorem q193 : (Jvm.Cond.methodLink "java/util/ImmutableCollections$AbstractImmutableCollection" (1 : Nat) ({ cls := "java/util/AbstractCollection", name := "<init>", desc := "()V" } : Jvm.MethodName)) ∈ lw_all := lw_g (lw_at lw_m1 138 rfl) rfl

/-! java/util/ImmutableCollections$AbstractImmutableList -/
set_option maxRecDepth 100000
def RJ5 : String := "java/util/ImmutableCollections$AbstractImmutableList"
abbrev cJ5_init : ByteArray := prog_43_method_1_code
def yJ5_init : MethodName := ⟨RJ5, "<init>", "()V"⟩
theorem dJ5_init_0 : decode cJ5_init 0 = .ok (.aload_n 0, 1) := by decide +kernel
theorem dJ5_init_1 : decode cJ5_init 1 = .ok (.invokespecial 1, 3) := by decide +kernel
theorem dJ5_init_4 : decode cJ5_init 4 = .ok (.return_, 1) := by decide +kernel
theorem q63 : (Jvm.Cond.initialized "java/util/ImmutableCollections$AbstractImmutableList") ∈ lw_all := lw_g (lw_at lw_m1 8 rfl) rfl
theorem q188 : (Jvm.Cond.instanceMethod ({ cls := "java/util/ImmutableCollections$AbstractImmutableList", name := "<init>", desc := "()V" } : Jvm.MethodName)) ∈ lw_all := lw_g (lw_at lw_m1 133 rfl) rfl
theorem q189 : (Jvm.Cond.code ({ cls := "java/util/ImmutableCollections$AbstractImmutableList", name := "<init>", desc := "()V" } : Jvm.MethodName) prog_43_method_1_code (1 : Nat) (Option.none : Option Jvm.ClassFile.FieldType)) ∈ lw_all := lw_g (lw_at lw_m1 134 rfl) rfl
theorem q190 : (Jvm.Cond.methodLink "java/util/ImmutableCollections$AbstractImmutableList" (1 : Nat) ({ cls := "java/util/ImmutableCollections$AbstractImmutableCollection", name := "<init>", desc := "()V" } : Jvm.MethodName)) ∈ lw_all := lw_g (lw_at lw_m1 135 rfl) rfl

/-! java/util/ImmutableCollections$List12 -/
set_option maxRecDepth 100000
def RJ6 : String := "java/util/ImmutableCollections$List12"
def TJ6 : u_T := fun k => match k with
  | 0 => ("java/util/ImmutableCollections$List12", "e0", "Ljava/lang/Object;", true)
  | _ => ("java/util/ImmutableCollections$List12", "e1", "Ljava/lang/Object;", true)
def tyJ6 : Nat → FieldType := fun k => match k with
  | 0 => .object "java/lang/Object"
  | _ => .object "java/lang/Object"
abbrev wsJ60 : List Cond := u_ws RJ6 TJ6 2
theorem nmJ6 : ∀ a, a < 2 → ∀ b, b < 2 → a ≠ b → (TJ6 a).2.1 ≠ (TJ6 b).2.1 := by decide +kernel
theorem tyJ6_ok : ∀ k, k < 2 → parseFieldDescriptor (TJ6 k).2.2.1 = some (tyJ6 k) := by decide +kernel
abbrev cJ6_init : ByteArray := prog_44_method_2_code
def yJ6_init : MethodName := ⟨RJ6, "<init>", "(Ljava/lang/Object;Ljava/lang/Object;)V"⟩
def dkwJ6_init_0 : List UInt8 := [42, 183, 0, 1, 42, 43, 184, 0, 7, 181, 0, 13, 42, 44, 184, 0, 7, 181, 0, 24, 177]
abbrev dktJ6_init_0 : List UInt8 := dkwJ6_init_0 ++ []
theorem dksJ6_init_0 : cJ6_init.data.toList.drop 0 = dktJ6_init_0 := by decide +kernel
theorem dJ6_init_0 : decode cJ6_init 0 = .ok (.aload_n 0, 1) := dk_42 (dk_at dksJ6_init_0 0 rfl rfl)
theorem dJ6_init_1 : decode cJ6_init 1 = .ok (.invokespecial 1, 3) := dk_183 0 1 (dk_at dksJ6_init_0 1 rfl rfl)
theorem dJ6_init_4 : decode cJ6_init 4 = .ok (.aload_n 0, 1) := dk_42 (dk_at dksJ6_init_0 4 rfl rfl)
theorem dJ6_init_5 : decode cJ6_init 5 = .ok (.aload_n 1, 1) := dk_43 (dk_at dksJ6_init_0 5 rfl rfl)
theorem dJ6_init_6 : decode cJ6_init 6 = .ok (.invokestatic 7, 3) := dk_184 0 7 (dk_at dksJ6_init_0 6 rfl rfl)
theorem dJ6_init_9 : decode cJ6_init 9 = .ok (.putfield 13, 3) := dk_181 0 13 (dk_at dksJ6_init_0 9 rfl rfl)
theorem dJ6_init_12 : decode cJ6_init 12 = .ok (.aload_n 0, 1) := dk_42 (dk_at dksJ6_init_0 12 rfl rfl)
theorem dJ6_init_13 : decode cJ6_init 13 = .ok (.aload_n 2, 1) := dk_44 (dk_at dksJ6_init_0 13 rfl rfl)
theorem dJ6_init_14 : decode cJ6_init 14 = .ok (.invokestatic 7, 3) := dk_184 0 7 (dk_at dksJ6_init_0 14 rfl rfl)
theorem dJ6_init_17 : decode cJ6_init 17 = .ok (.putfield 24, 3) := dk_181 0 24 (dk_at dksJ6_init_0 17 rfl rfl)
theorem dJ6_init_20 : decode cJ6_init 20 = .ok (.return_, 1) := dk_177 (dk_at dksJ6_init_0 20 rfl rfl)
abbrev cJ6_size : ByteArray := prog_44_method_3_code
def yJ6_size : MethodName := ⟨RJ6, "size", "()I"⟩
def dkwJ6_size_0 : List UInt8 := [42, 180, 0, 24, 178, 0, 19, 165, 0, 7, 5, 167, 0, 4, 4, 172]
abbrev dktJ6_size_0 : List UInt8 := dkwJ6_size_0 ++ []
theorem dksJ6_size_0 : cJ6_size.data.toList.drop 0 = dktJ6_size_0 := by decide +kernel
theorem dJ6_size_0 : decode cJ6_size 0 = .ok (.aload_n 0, 1) := dk_42 (dk_at dksJ6_size_0 0 rfl rfl)
theorem dJ6_size_1 : decode cJ6_size 1 = .ok (.getfield 24, 3) := dk_180 0 24 (dk_at dksJ6_size_0 1 rfl rfl)
theorem dJ6_size_4 : decode cJ6_size 4 = .ok (.getstatic 19, 3) := dk_178 0 19 (dk_at dksJ6_size_0 4 rfl rfl)
theorem dJ6_size_7 : decode cJ6_size 7 = .ok (.if_acmp .eq 7, 3) := dk_165 0 7 (dk_at dksJ6_size_0 7 rfl rfl)
theorem dJ6_size_10 : decode cJ6_size 10 = .ok (.iconst 2, 1) := dk_5 (dk_at dksJ6_size_0 10 rfl rfl)
theorem dJ6_size_11 : decode cJ6_size 11 = .ok (.goto 4, 3) := dk_167 0 4 (dk_at dksJ6_size_0 11 rfl rfl)
theorem dJ6_size_14 : decode cJ6_size 14 = .ok (.iconst 1, 1) := dk_4 (dk_at dksJ6_size_0 14 rfl rfl)
theorem dJ6_size_15 : decode cJ6_size 15 = .ok (.ireturn, 1) := dk_172 (dk_at dksJ6_size_0 15 rfl rfl)
abbrev cJ6_get : ByteArray := prog_44_method_5_code
def yJ6_get : MethodName := ⟨RJ6, "get", "(I)Ljava/lang/Object;"⟩
def dkwJ6_get_1 : List UInt8 := [42, 180, 0, 24, 176, 42, 27, 182, 0, 27, 191]
abbrev dktJ6_get_1 : List UInt8 := dkwJ6_get_1 ++ []
def dkwJ6_get_0 : List UInt8 := [27, 154, 0, 8, 42, 180, 0, 13, 176, 27, 4, 160, 0, 18, 42, 180, 0, 24, 178, 0, 19, 165, 0, 8]
abbrev dktJ6_get_0 : List UInt8 := dkwJ6_get_0 ++ dktJ6_get_1
theorem dksJ6_get_0 : cJ6_get.data.toList.drop 0 = dktJ6_get_0 := by decide +kernel
theorem dksJ6_get_1 : cJ6_get.data.toList.drop 24 = dktJ6_get_1 := dk_seg dksJ6_get_0 24 rfl rfl
theorem dJ6_get_0 : decode cJ6_get 0 = .ok (.iload_n 1, 1) := dk_27 (dk_at dksJ6_get_0 0 rfl rfl)
theorem dJ6_get_1 : decode cJ6_get 1 = .ok (.ifCond .ne 8, 3) := dk_154 0 8 (dk_at dksJ6_get_0 1 rfl rfl)
theorem dJ6_get_4 : decode cJ6_get 4 = .ok (.aload_n 0, 1) := dk_42 (dk_at dksJ6_get_0 4 rfl rfl)
theorem dJ6_get_5 : decode cJ6_get 5 = .ok (.getfield 13, 3) := dk_180 0 13 (dk_at dksJ6_get_0 5 rfl rfl)
theorem dJ6_get_8 : decode cJ6_get 8 = .ok (.areturn, 1) := dk_176 (dk_at dksJ6_get_0 8 rfl rfl)
theorem dJ6_get_9 : decode cJ6_get 9 = .ok (.iload_n 1, 1) := dk_27 (dk_at dksJ6_get_0 9 rfl rfl)
theorem dJ6_get_10 : decode cJ6_get 10 = .ok (.iconst 1, 1) := dk_4 (dk_at dksJ6_get_0 10 rfl rfl)
theorem dJ6_get_11 : decode cJ6_get 11 = .ok (.if_icmp .ne 18, 3) := dk_160 0 18 (dk_at dksJ6_get_0 11 rfl rfl)
theorem dJ6_get_14 : decode cJ6_get 14 = .ok (.aload_n 0, 1) := dk_42 (dk_at dksJ6_get_0 14 rfl rfl)
theorem dJ6_get_15 : decode cJ6_get 15 = .ok (.getfield 24, 3) := dk_180 0 24 (dk_at dksJ6_get_0 15 rfl rfl)
theorem dJ6_get_18 : decode cJ6_get 18 = .ok (.getstatic 19, 3) := dk_178 0 19 (dk_at dksJ6_get_0 18 rfl rfl)
theorem dJ6_get_21 : decode cJ6_get 21 = .ok (.if_acmp .eq 8, 3) := dk_165 0 8 (dk_at dksJ6_get_0 21 rfl rfl)
theorem dJ6_get_24 : decode cJ6_get 24 = .ok (.aload_n 0, 1) := dk_42 (dk_at dksJ6_get_1 0 rfl rfl)
theorem dJ6_get_25 : decode cJ6_get 25 = .ok (.getfield 24, 3) := dk_180 0 24 (dk_at dksJ6_get_1 1 rfl rfl)
theorem dJ6_get_28 : decode cJ6_get 28 = .ok (.areturn, 1) := dk_176 (dk_at dksJ6_get_1 4 rfl rfl)
theorem dJ6_get_29 : decode cJ6_get 29 = .ok (.aload_n 0, 1) := dk_42 (dk_at dksJ6_get_1 5 rfl rfl)
theorem dJ6_get_30 : decode cJ6_get 30 = .ok (.iload_n 1, 1) := dk_27 (dk_at dksJ6_get_1 6 rfl rfl)
theorem dJ6_get_31 : decode cJ6_get 31 = .ok (.invokevirtual 27, 3) := dk_182 0 27 (dk_at dksJ6_get_1 7 rfl rfl)
theorem dJ6_get_34 : decode cJ6_get 34 = .ok (.athrow, 1) := dk_191 (dk_at dksJ6_get_1 10 rfl rfl)
theorem q64 : (Jvm.Cond.initialized "java/util/ImmutableCollections$List12") ∈ lw_all := lw_g (lw_at lw_m1 9 rfl) rfl
theorem q183 : (Jvm.Cond.instantiable "java/util/ImmutableCollections$List12" (2 : Nat)) ∈ lw_all := lw_g (lw_at lw_m1 128 rfl) rfl
theorem q185 : (Jvm.Cond.instanceMethod ({ cls := "java/util/ImmutableCollections$List12", name := "<init>", desc := "(Ljava/lang/Object;Ljava/lang/Object;)V" } : Jvm.MethodName)) ∈ lw_all := lw_g (lw_at lw_m1 130 rfl) rfl
theorem q186 : (Jvm.Cond.code ({ cls := "java/util/ImmutableCollections$List12", name := "<init>", desc := "(Ljava/lang/Object;Ljava/lang/Object;)V" } : Jvm.MethodName) prog_44_method_2_code (3 : Nat) (Option.none : Option Jvm.ClassFile.FieldType)) ∈ lw_all := lw_g (lw_at lw_m1 131 rfl) rfl
theorem q187 : (Jvm.Cond.methodLink "java/util/ImmutableCollections$List12" (1 : Nat) ({ cls := "java/util/ImmutableCollections$AbstractImmutableList", name := "<init>", desc := "()V" } : Jvm.MethodName)) ∈ lw_all := lw_g (lw_at lw_m1 132 rfl) rfl
theorem q194 : (Jvm.Cond.methodLink "java/util/ImmutableCollections$List12" (7 : Nat) ({ cls := "java/util/Objects", name := "requireNonNull", desc := "(Ljava/lang/Object;)Ljava/lang/Object;" } : Jvm.MethodName)) ∈ lw_all := lw_g (lw_at lw_m1 139 rfl) rfl
theorem q197 : (Jvm.Cond.fieldLink "java/util/ImmutableCollections$List12" (13 : Nat) "java/util/ImmutableCollections$List12" "e0" "Ljava/lang/Object;") ∈ lw_all := lw_g (lw_at lw_m1 142 rfl) rfl
theorem q198 : (Jvm.Cond.fieldLink "java/util/ImmutableCollections$List12" (24 : Nat) "java/util/ImmutableCollections$List12" "e1" "Ljava/lang/Object;") ∈ lw_all := lw_g (lw_at lw_m1 143 rfl) rfl
theorem q199 : (Jvm.Cond.laysFinal "java/util/ImmutableCollections$List12" "java/util/ImmutableCollections$List12" "e0" "Ljava/lang/Object;") ∈ lw_all := lw_g (lw_at lw_m1 144 rfl) rfl
theorem q200 : (Jvm.Cond.soleField "java/util/ImmutableCollections$List12" "e0") ∈ lw_all := lw_g (lw_at lw_m1 145 rfl) rfl
theorem q201 : (Jvm.Cond.laysFinal "java/util/ImmutableCollections$List12" "java/util/ImmutableCollections$List12" "e1" "Ljava/lang/Object;") ∈ lw_all := lw_g (lw_at lw_m1 146 rfl) rfl
theorem q202 : (Jvm.Cond.soleField "java/util/ImmutableCollections$List12" "e1") ∈ lw_all := lw_g (lw_at lw_m1 147 rfl) rfl
theorem q203 : (Jvm.Cond.superclass "java/util/ImmutableCollections$List12" "java/util/ImmutableCollections$AbstractImmutableList") ∈ lw_all := lw_g (lw_at lw_m1 148 rfl) rfl
theorem q607 : (Jvm.Cond.selects "java/util/ImmutableCollections$List12" ({ cls := "java/lang/Object", name := "getClass", desc := "()Ljava/lang/Class;" } : Jvm.MethodName) ({ cls := "java/lang/Object", name := "getClass", desc := "()Ljava/lang/Class;" } : Jvm.MethodName)) ∈ lw_all := lw_g (lw_at lw_m3 72 rfl) rfl
theorem q962 : (Jvm.Cond.instanceMethod ({ cls := "java/util/ImmutableCollections$List12", name := "size", desc := "()I" } : Jvm.MethodName)) ∈ lw_all := lw_g (lw_at lw_m4 187 rfl) rfl
theorem q963 : (Jvm.Cond.code ({ cls := "java/util/ImmutableCollections$List12", name := "size", desc := "()I" } : Jvm.MethodName) prog_44_method_3_code (1 : Nat) (Option.some Jvm.ClassFile.FieldType.int)) ∈ lw_all := lw_g (lw_at lw_m4 188 rfl) rfl
theorem q964 : (Jvm.Cond.fieldLinkNest "java/util/ImmutableCollections$List12" (19 : Nat) "java/util/ImmutableCollections" "EMPTY" "Ljava/lang/Object;" "java/util/ImmutableCollections") ∈ lw_tbl := lw_at lw_m4 189 rfl
theorem q1198 : (Jvm.Cond.castable "java/util/ImmutableCollections$List12" "java/util/List") ∈ lw_tbl := lw_at lw_m5 183 rfl
theorem q1199 : (Jvm.Cond.selects "java/util/ImmutableCollections$List12" ({ cls := "java/util/List", name := "get", desc := "(I)Ljava/lang/Object;" } : Jvm.MethodName) ({ cls := "java/util/ImmutableCollections$List12", name := "get", desc := "(I)Ljava/lang/Object;" } : Jvm.MethodName)) ∈ lw_all := lw_g (lw_at lw_m5 184 rfl) rfl
theorem q1200 : (Jvm.Cond.unhidden "java/util/ImmutableCollections$List12" "get" "(I)Ljava/lang/Object;") ∈ lw_tbl := lw_at lw_m5 185 rfl
theorem q1201 : (Jvm.Cond.instanceMethod ({ cls := "java/util/ImmutableCollections$List12", name := "get", desc := "(I)Ljava/lang/Object;" } : Jvm.MethodName)) ∈ lw_all := lw_g (lw_at lw_m5 186 rfl) rfl
theorem q1202 : (Jvm.Cond.publicMethod ({ cls := "java/util/ImmutableCollections$List12", name := "get", desc := "(I)Ljava/lang/Object;" } : Jvm.MethodName)) ∈ lw_tbl := lw_at lw_m5 187 rfl
theorem q1203 : (Jvm.Cond.code ({ cls := "java/util/ImmutableCollections$List12", name := "get", desc := "(I)Ljava/lang/Object;" } : Jvm.MethodName) prog_44_method_5_code (2 : Nat) (Option.some (Jvm.ClassFile.FieldType.object "java/lang/Object"))) ∈ lw_all := lw_g (lw_at lw_m5 188 rfl) rfl
theorem q1522 : (Jvm.Cond.selects "java/util/ImmutableCollections$List12" ({ cls := "java/util/AbstractCollection", name := "size", desc := "()I" } : Jvm.MethodName) ({ cls := "java/util/ImmutableCollections$List12", name := "size", desc := "()I" } : Jvm.MethodName)) ∈ lw_all := lw_g (lw_at lw_m7 27 rfl) rfl
theorem q1533 : (Jvm.Cond.castable "java/util/ImmutableCollections$List12" "java/lang/Object") ∈ lw_tbl := lw_at lw_m7 38 rfl
theorem in_J6 : ∀ w ∈ wsJ60, w ∈ lw_all := lw_in wsJ60 [199, 201] (by decide +kernel) (by decide +kernel)

/-! java/util/Objects -/
set_option maxRecDepth 100000
def RJ7 : String := "java/util/Objects"
abbrev cJ7_requireNonNull : ByteArray := prog_54_method_10_code
def yJ7_requireNonNull : MethodName := ⟨RJ7, "requireNonNull", "(Ljava/lang/Object;)Ljava/lang/Object;"⟩
def dkwJ7_requireNonNull_0 : List UInt8 := [42, 199, 0, 11, 187, 0, 84, 89, 183, 0, 86, 191, 42, 176]
abbrev dktJ7_requireNonNull_0 : List UInt8 := dkwJ7_requireNonNull_0 ++ []
theorem dksJ7_requireNonNull_0 : cJ7_requireNonNull.data.toList.drop 0 = dktJ7_requireNonNull_0 := by decide +kernel
theorem dJ7_requireNonNull_0 : decode cJ7_requireNonNull 0 = .ok (.aload_n 0, 1) := dk_42 (dk_at dksJ7_requireNonNull_0 0 rfl rfl)
theorem dJ7_requireNonNull_1 : decode cJ7_requireNonNull 1 = .ok (.ifnonnull 11, 3) := dk_199 0 11 (dk_at dksJ7_requireNonNull_0 1 rfl rfl)
theorem dJ7_requireNonNull_4 : decode cJ7_requireNonNull 4 = .ok (.new 84, 3) := dk_187 0 84 (dk_at dksJ7_requireNonNull_0 4 rfl rfl)
theorem dJ7_requireNonNull_7 : decode cJ7_requireNonNull 7 = .ok (.dup, 1) := dk_89 (dk_at dksJ7_requireNonNull_0 7 rfl rfl)
theorem dJ7_requireNonNull_8 : decode cJ7_requireNonNull 8 = .ok (.invokespecial 86, 3) := dk_183 0 86 (dk_at dksJ7_requireNonNull_0 8 rfl rfl)
theorem dJ7_requireNonNull_11 : decode cJ7_requireNonNull 11 = .ok (.athrow, 1) := dk_191 (dk_at dksJ7_requireNonNull_0 11 rfl rfl)
theorem dJ7_requireNonNull_12 : decode cJ7_requireNonNull 12 = .ok (.aload_n 0, 1) := dk_42 (dk_at dksJ7_requireNonNull_0 12 rfl rfl)
theorem dJ7_requireNonNull_13 : decode cJ7_requireNonNull 13 = .ok (.areturn, 1) := dk_176 (dk_at dksJ7_requireNonNull_0 13 rfl rfl)
theorem q65 : (Jvm.Cond.initialized "java/util/Objects") ∈ lw_all := lw_g (lw_at lw_m1 10 rfl) rfl
theorem q195 : (Jvm.Cond.static ({ cls := "java/util/Objects", name := "requireNonNull", desc := "(Ljava/lang/Object;)Ljava/lang/Object;" } : Jvm.MethodName)) ∈ lw_all := lw_g (lw_at lw_m1 140 rfl) rfl
theorem q196 : (Jvm.Cond.code ({ cls := "java/util/Objects", name := "requireNonNull", desc := "(Ljava/lang/Object;)Ljava/lang/Object;" } : Jvm.MethodName) prog_54_method_10_code (1 : Nat) (Option.some (Jvm.ClassFile.FieldType.object "java/lang/Object"))) ∈ lw_all := lw_g (lw_at lw_m1 141 rfl) rfl

/-! java/lang/Math -/
set_option maxRecDepth 100000
def RJ8 : String := "java/lang/Math"
abbrev cJ8_max : ByteArray := prog_17_method_65_code
def yJ8_max : MethodName := ⟨RJ8, "max", "(II)I"⟩
def dkwJ8_max_0 : List UInt8 := [26, 27, 161, 0, 7, 26, 167, 0, 4, 27, 172]
abbrev dktJ8_max_0 : List UInt8 := dkwJ8_max_0 ++ []
theorem dksJ8_max_0 : cJ8_max.data.toList.drop 0 = dktJ8_max_0 := by decide +kernel
theorem dJ8_max_0 : decode cJ8_max 0 = .ok (.iload_n 0, 1) := dk_26 (dk_at dksJ8_max_0 0 rfl rfl)
theorem dJ8_max_1 : decode cJ8_max 1 = .ok (.iload_n 1, 1) := dk_27 (dk_at dksJ8_max_0 1 rfl rfl)
theorem dJ8_max_2 : decode cJ8_max 2 = .ok (.if_icmp .lt 7, 3) := dk_161 0 7 (dk_at dksJ8_max_0 2 rfl rfl)
theorem dJ8_max_5 : decode cJ8_max 5 = .ok (.iload_n 0, 1) := dk_26 (dk_at dksJ8_max_0 5 rfl rfl)
theorem dJ8_max_6 : decode cJ8_max 6 = .ok (.goto 4, 3) := dk_167 0 4 (dk_at dksJ8_max_0 6 rfl rfl)
theorem dJ8_max_9 : decode cJ8_max 9 = .ok (.iload_n 1, 1) := dk_27 (dk_at dksJ8_max_0 9 rfl rfl)
theorem dJ8_max_10 : decode cJ8_max 10 = .ok (.ireturn, 1) := dk_172 (dk_at dksJ8_max_0 10 rfl rfl)
abbrev cJ8_min : ByteArray := prog_17_method_69_code
def yJ8_min : MethodName := ⟨RJ8, "min", "(II)I"⟩
def dkwJ8_min_0 : List UInt8 := [26, 27, 163, 0, 7, 26, 167, 0, 4, 27, 172]
abbrev dktJ8_min_0 : List UInt8 := dkwJ8_min_0 ++ []
theorem dksJ8_min_0 : cJ8_min.data.toList.drop 0 = dktJ8_min_0 := by decide +kernel
theorem dJ8_min_0 : decode cJ8_min 0 = .ok (.iload_n 0, 1) := dk_26 (dk_at dksJ8_min_0 0 rfl rfl)
theorem dJ8_min_1 : decode cJ8_min 1 = .ok (.iload_n 1, 1) := dk_27 (dk_at dksJ8_min_0 1 rfl rfl)
theorem dJ8_min_2 : decode cJ8_min 2 = .ok (.if_icmp .gt 7, 3) := dk_163 0 7 (dk_at dksJ8_min_0 2 rfl rfl)
theorem dJ8_min_5 : decode cJ8_min 5 = .ok (.iload_n 0, 1) := dk_26 (dk_at dksJ8_min_0 5 rfl rfl)
theorem dJ8_min_6 : decode cJ8_min 6 = .ok (.goto 4, 3) := dk_167 0 4 (dk_at dksJ8_min_0 6 rfl rfl)
theorem dJ8_min_9 : decode cJ8_min 9 = .ok (.iload_n 1, 1) := dk_27 (dk_at dksJ8_min_0 9 rfl rfl)
theorem dJ8_min_10 : decode cJ8_min 10 = .ok (.ireturn, 1) := dk_172 (dk_at dksJ8_min_0 10 rfl rfl)
abbrev cJ8_floorMod : ByteArray := prog_17_method_50_code
def yJ8_floorMod : MethodName := ⟨RJ8, "floorMod", "(II)I"⟩
def dkwJ8_floorMod_0 : List UInt8 := [26, 27, 112, 61, 26, 27, 130, 156, 0, 11, 28, 153, 0, 7, 28, 27, 96, 172, 28, 172]
abbrev dktJ8_floorMod_0 : List UInt8 := dkwJ8_floorMod_0 ++ []
theorem dksJ8_floorMod_0 : cJ8_floorMod.data.toList.drop 0 = dktJ8_floorMod_0 := by decide +kernel
theorem dJ8_floorMod_0 : decode cJ8_floorMod 0 = .ok (.iload_n 0, 1) := dk_26 (dk_at dksJ8_floorMod_0 0 rfl rfl)
theorem dJ8_floorMod_1 : decode cJ8_floorMod 1 = .ok (.iload_n 1, 1) := dk_27 (dk_at dksJ8_floorMod_0 1 rfl rfl)
theorem dJ8_floorMod_2 : decode cJ8_floorMod 2 = .ok (.irem, 1) := dk_112 (dk_at dksJ8_floorMod_0 2 rfl rfl)
theorem dJ8_floorMod_3 : decode cJ8_floorMod 3 = .ok (.istore_n 2, 1) := dk_61 (dk_at dksJ8_floorMod_0 3 rfl rfl)
theorem dJ8_floorMod_4 : decode cJ8_floorMod 4 = .ok (.iload_n 0, 1) := dk_26 (dk_at dksJ8_floorMod_0 4 rfl rfl)
theorem dJ8_floorMod_5 : decode cJ8_floorMod 5 = .ok (.iload_n 1, 1) := dk_27 (dk_at dksJ8_floorMod_0 5 rfl rfl)
theorem dJ8_floorMod_6 : decode cJ8_floorMod 6 = .ok (.ixor, 1) := dk_130 (dk_at dksJ8_floorMod_0 6 rfl rfl)
theorem dJ8_floorMod_7 : decode cJ8_floorMod 7 = .ok (.ifCond .ge 11, 3) := dk_156 0 11 (dk_at dksJ8_floorMod_0 7 rfl rfl)
theorem dJ8_floorMod_10 : decode cJ8_floorMod 10 = .ok (.iload_n 2, 1) := dk_28 (dk_at dksJ8_floorMod_0 10 rfl rfl)
theorem dJ8_floorMod_11 : decode cJ8_floorMod 11 = .ok (.ifCond .eq 7, 3) := dk_153 0 7 (dk_at dksJ8_floorMod_0 11 rfl rfl)
theorem dJ8_floorMod_14 : decode cJ8_floorMod 14 = .ok (.iload_n 2, 1) := dk_28 (dk_at dksJ8_floorMod_0 14 rfl rfl)
theorem dJ8_floorMod_15 : decode cJ8_floorMod 15 = .ok (.iload_n 1, 1) := dk_27 (dk_at dksJ8_floorMod_0 15 rfl rfl)
theorem dJ8_floorMod_16 : decode cJ8_floorMod 16 = .ok (.iadd, 1) := dk_96 (dk_at dksJ8_floorMod_0 16 rfl rfl)
theorem dJ8_floorMod_17 : decode cJ8_floorMod 17 = .ok (.ireturn, 1) := dk_172 (dk_at dksJ8_floorMod_0 17 rfl rfl)
theorem dJ8_floorMod_18 : decode cJ8_floorMod 18 = .ok (.iload_n 2, 1) := dk_28 (dk_at dksJ8_floorMod_0 18 rfl rfl)
theorem dJ8_floorMod_19 : decode cJ8_floorMod 19 = .ok (.ireturn, 1) := dk_172 (dk_at dksJ8_floorMod_0 19 rfl rfl)
theorem q67 : (Jvm.Cond.initialized "java/lang/Math") ∈ lw_all := lw_g (lw_at lw_m1 12 rfl) rfl
theorem q289 : (Jvm.Cond.static ({ cls := "java/lang/Math", name := "max", desc := "(II)I" } : Jvm.MethodName)) ∈ lw_all := lw_g (lw_at lw_m1 234 rfl) rfl
theorem q290 : (Jvm.Cond.code ({ cls := "java/lang/Math", name := "max", desc := "(II)I" } : Jvm.MethodName) prog_17_method_65_code (2 : Nat) (Option.some Jvm.ClassFile.FieldType.int)) ∈ lw_all := lw_g (lw_at lw_m1 235 rfl) rfl
theorem q302 : (Jvm.Cond.static ({ cls := "java/lang/Math", name := "min", desc := "(II)I" } : Jvm.MethodName)) ∈ lw_all := lw_g (lw_at lw_m2 7 rfl) rfl
theorem q303 : (Jvm.Cond.code ({ cls := "java/lang/Math", name := "min", desc := "(II)I" } : Jvm.MethodName) prog_17_method_69_code (2 : Nat) (Option.some Jvm.ClassFile.FieldType.int)) ∈ lw_all := lw_g (lw_at lw_m2 8 rfl) rfl
theorem q992 : (Jvm.Cond.static ({ cls := "java/lang/Math", name := "floorMod", desc := "(II)I" } : Jvm.MethodName)) ∈ lw_all := lw_g (lw_at lw_m4 217 rfl) rfl
theorem q993 : (Jvm.Cond.code ({ cls := "java/lang/Math", name := "floorMod", desc := "(II)I" } : Jvm.MethodName) prog_17_method_50_code (3 : Nat) (Option.some Jvm.ClassFile.FieldType.int)) ∈ lw_all := lw_g (lw_at lw_m4 218 rfl) rfl

/-! java/lang/Long -/
set_option maxRecDepth 100000
def RJ11 : String := "java/lang/Long"
abbrev cJ11_bitCount : ByteArray := prog_16_method_50_code
def yJ11_bitCount : MethodName := ⟨RJ11, "bitCount", "(J)I"⟩
def dkwJ11_bitCount_2 : List UInt8 := [30, 30, 16, 32, 125, 97, 63, 30, 136, 16, 127, 126, 172]
abbrev dktJ11_bitCount_2 : List UInt8 := dkwJ11_bitCount_2 ++ []
def dkwJ11_bitCount_1 : List UInt8 := [30, 30, 7, 125, 97, 20, 1, 62, 127, 63, 30, 30, 16, 8, 125, 97, 63, 30, 30, 16, 16, 125, 97, 63]
abbrev dktJ11_bitCount_1 : List UInt8 := dkwJ11_bitCount_1 ++ dktJ11_bitCount_2
def dkwJ11_bitCount_0 : List UInt8 := [30, 30, 4, 125, 20, 1, 58, 127, 101, 63, 30, 20, 1, 60, 127, 30, 5, 125, 20, 1, 60, 127, 97, 63]
abbrev dktJ11_bitCount_0 : List UInt8 := dkwJ11_bitCount_0 ++ dktJ11_bitCount_1
theorem dksJ11_bitCount_0 : cJ11_bitCount.data.toList.drop 0 = dktJ11_bitCount_0 := by decide +kernel
theorem dksJ11_bitCount_1 : cJ11_bitCount.data.toList.drop 24 = dktJ11_bitCount_1 := dk_seg dksJ11_bitCount_0 24 rfl rfl
theorem dksJ11_bitCount_2 : cJ11_bitCount.data.toList.drop 48 = dktJ11_bitCount_2 := dk_seg dksJ11_bitCount_1 24 rfl rfl
theorem dJ11_bitCount_0 : decode cJ11_bitCount 0 = .ok (.lload_n 0, 1) := dk_30 (dk_at dksJ11_bitCount_0 0 rfl rfl)
theorem dJ11_bitCount_1 : decode cJ11_bitCount 1 = .ok (.lload_n 0, 1) := dk_30 (dk_at dksJ11_bitCount_0 1 rfl rfl)
theorem dJ11_bitCount_2 : decode cJ11_bitCount 2 = .ok (.iconst 1, 1) := dk_4 (dk_at dksJ11_bitCount_0 2 rfl rfl)
theorem dJ11_bitCount_3 : decode cJ11_bitCount 3 = .ok (.lushr, 1) := dk_125 (dk_at dksJ11_bitCount_0 3 rfl rfl)
theorem dJ11_bitCount_4 : decode cJ11_bitCount 4 = .ok (.ldc2_w 314, 3) := dk_20 1 58 (dk_at dksJ11_bitCount_0 4 rfl rfl)
theorem dJ11_bitCount_7 : decode cJ11_bitCount 7 = .ok (.land, 1) := dk_127 (dk_at dksJ11_bitCount_0 7 rfl rfl)
theorem dJ11_bitCount_8 : decode cJ11_bitCount 8 = .ok (.lsub, 1) := dk_101 (dk_at dksJ11_bitCount_0 8 rfl rfl)
theorem dJ11_bitCount_9 : decode cJ11_bitCount 9 = .ok (.lstore_n 0, 1) := dk_63 (dk_at dksJ11_bitCount_0 9 rfl rfl)
theorem dJ11_bitCount_10 : decode cJ11_bitCount 10 = .ok (.lload_n 0, 1) := dk_30 (dk_at dksJ11_bitCount_0 10 rfl rfl)
theorem dJ11_bitCount_11 : decode cJ11_bitCount 11 = .ok (.ldc2_w 316, 3) := dk_20 1 60 (dk_at dksJ11_bitCount_0 11 rfl rfl)
theorem dJ11_bitCount_14 : decode cJ11_bitCount 14 = .ok (.land, 1) := dk_127 (dk_at dksJ11_bitCount_0 14 rfl rfl)
theorem dJ11_bitCount_15 : decode cJ11_bitCount 15 = .ok (.lload_n 0, 1) := dk_30 (dk_at dksJ11_bitCount_0 15 rfl rfl)
theorem dJ11_bitCount_16 : decode cJ11_bitCount 16 = .ok (.iconst 2, 1) := dk_5 (dk_at dksJ11_bitCount_0 16 rfl rfl)
theorem dJ11_bitCount_17 : decode cJ11_bitCount 17 = .ok (.lushr, 1) := dk_125 (dk_at dksJ11_bitCount_0 17 rfl rfl)
theorem dJ11_bitCount_18 : decode cJ11_bitCount 18 = .ok (.ldc2_w 316, 3) := dk_20 1 60 (dk_at dksJ11_bitCount_0 18 rfl rfl)
theorem dJ11_bitCount_21 : decode cJ11_bitCount 21 = .ok (.land, 1) := dk_127 (dk_at dksJ11_bitCount_0 21 rfl rfl)
theorem dJ11_bitCount_22 : decode cJ11_bitCount 22 = .ok (.ladd, 1) := dk_97 (dk_at dksJ11_bitCount_0 22 rfl rfl)
theorem dJ11_bitCount_23 : decode cJ11_bitCount 23 = .ok (.lstore_n 0, 1) := dk_63 (dk_at dksJ11_bitCount_0 23 rfl rfl)
theorem dJ11_bitCount_24 : decode cJ11_bitCount 24 = .ok (.lload_n 0, 1) := dk_30 (dk_at dksJ11_bitCount_1 0 rfl rfl)
theorem dJ11_bitCount_25 : decode cJ11_bitCount 25 = .ok (.lload_n 0, 1) := dk_30 (dk_at dksJ11_bitCount_1 1 rfl rfl)
theorem dJ11_bitCount_26 : decode cJ11_bitCount 26 = .ok (.iconst 4, 1) := dk_7 (dk_at dksJ11_bitCount_1 2 rfl rfl)
theorem dJ11_bitCount_27 : decode cJ11_bitCount 27 = .ok (.lushr, 1) := dk_125 (dk_at dksJ11_bitCount_1 3 rfl rfl)
theorem dJ11_bitCount_28 : decode cJ11_bitCount 28 = .ok (.ladd, 1) := dk_97 (dk_at dksJ11_bitCount_1 4 rfl rfl)
theorem dJ11_bitCount_29 : decode cJ11_bitCount 29 = .ok (.ldc2_w 318, 3) := dk_20 1 62 (dk_at dksJ11_bitCount_1 5 rfl rfl)
theorem dJ11_bitCount_32 : decode cJ11_bitCount 32 = .ok (.land, 1) := dk_127 (dk_at dksJ11_bitCount_1 8 rfl rfl)
theorem dJ11_bitCount_33 : decode cJ11_bitCount 33 = .ok (.lstore_n 0, 1) := dk_63 (dk_at dksJ11_bitCount_1 9 rfl rfl)
theorem dJ11_bitCount_34 : decode cJ11_bitCount 34 = .ok (.lload_n 0, 1) := dk_30 (dk_at dksJ11_bitCount_1 10 rfl rfl)
theorem dJ11_bitCount_35 : decode cJ11_bitCount 35 = .ok (.lload_n 0, 1) := dk_30 (dk_at dksJ11_bitCount_1 11 rfl rfl)
theorem dJ11_bitCount_36 : decode cJ11_bitCount 36 = .ok (.bipush 8, 2) := dk_16 8 (dk_at dksJ11_bitCount_1 12 rfl rfl)
theorem dJ11_bitCount_38 : decode cJ11_bitCount 38 = .ok (.lushr, 1) := dk_125 (dk_at dksJ11_bitCount_1 14 rfl rfl)
theorem dJ11_bitCount_39 : decode cJ11_bitCount 39 = .ok (.ladd, 1) := dk_97 (dk_at dksJ11_bitCount_1 15 rfl rfl)
theorem dJ11_bitCount_40 : decode cJ11_bitCount 40 = .ok (.lstore_n 0, 1) := dk_63 (dk_at dksJ11_bitCount_1 16 rfl rfl)
theorem dJ11_bitCount_41 : decode cJ11_bitCount 41 = .ok (.lload_n 0, 1) := dk_30 (dk_at dksJ11_bitCount_1 17 rfl rfl)
theorem dJ11_bitCount_42 : decode cJ11_bitCount 42 = .ok (.lload_n 0, 1) := dk_30 (dk_at dksJ11_bitCount_1 18 rfl rfl)
theorem dJ11_bitCount_43 : decode cJ11_bitCount 43 = .ok (.bipush 16, 2) := dk_16 16 (dk_at dksJ11_bitCount_1 19 rfl rfl)
theorem dJ11_bitCount_45 : decode cJ11_bitCount 45 = .ok (.lushr, 1) := dk_125 (dk_at dksJ11_bitCount_1 21 rfl rfl)
theorem dJ11_bitCount_46 : decode cJ11_bitCount 46 = .ok (.ladd, 1) := dk_97 (dk_at dksJ11_bitCount_1 22 rfl rfl)
theorem dJ11_bitCount_47 : decode cJ11_bitCount 47 = .ok (.lstore_n 0, 1) := dk_63 (dk_at dksJ11_bitCount_1 23 rfl rfl)
theorem dJ11_bitCount_48 : decode cJ11_bitCount 48 = .ok (.lload_n 0, 1) := dk_30 (dk_at dksJ11_bitCount_2 0 rfl rfl)
theorem dJ11_bitCount_49 : decode cJ11_bitCount 49 = .ok (.lload_n 0, 1) := dk_30 (dk_at dksJ11_bitCount_2 1 rfl rfl)
theorem dJ11_bitCount_50 : decode cJ11_bitCount 50 = .ok (.bipush 32, 2) := dk_16 32 (dk_at dksJ11_bitCount_2 2 rfl rfl)
theorem dJ11_bitCount_52 : decode cJ11_bitCount 52 = .ok (.lushr, 1) := dk_125 (dk_at dksJ11_bitCount_2 4 rfl rfl)
theorem dJ11_bitCount_53 : decode cJ11_bitCount 53 = .ok (.ladd, 1) := dk_97 (dk_at dksJ11_bitCount_2 5 rfl rfl)
theorem dJ11_bitCount_54 : decode cJ11_bitCount 54 = .ok (.lstore_n 0, 1) := dk_63 (dk_at dksJ11_bitCount_2 6 rfl rfl)
theorem dJ11_bitCount_55 : decode cJ11_bitCount 55 = .ok (.lload_n 0, 1) := dk_30 (dk_at dksJ11_bitCount_2 7 rfl rfl)
theorem dJ11_bitCount_56 : decode cJ11_bitCount 56 = .ok (.l2i, 1) := dk_136 (dk_at dksJ11_bitCount_2 8 rfl rfl)
theorem dJ11_bitCount_57 : decode cJ11_bitCount 57 = .ok (.bipush 127, 2) := dk_16 127 (dk_at dksJ11_bitCount_2 9 rfl rfl)
theorem dJ11_bitCount_59 : decode cJ11_bitCount 59 = .ok (.iand, 1) := dk_126 (dk_at dksJ11_bitCount_2 11 rfl rfl)
theorem dJ11_bitCount_60 : decode cJ11_bitCount 60 = .ok (.ireturn, 1) := dk_172 (dk_at dksJ11_bitCount_2 12 rfl rfl)
theorem q71 : (Jvm.Cond.initialized "java/lang/Long") ∈ lw_all := lw_g (lw_at lw_m1 16 rfl) rfl
theorem q327 : (Jvm.Cond.static ({ cls := "java/lang/Long", name := "bitCount", desc := "(J)I" } : Jvm.MethodName)) ∈ lw_all := lw_g (lw_at lw_m2 32 rfl) rfl
theorem q328 : (Jvm.Cond.code ({ cls := "java/lang/Long", name := "bitCount", desc := "(J)I" } : Jvm.MethodName) prog_16_method_50_code (2 : Nat) (Option.some Jvm.ClassFile.FieldType.int)) ∈ lw_all := lw_g (lw_at lw_m2 33 rfl) rfl
theorem q329 : (Jvm.Cond.constantLong "java/lang/Long" (314 : Nat) (6148914691236517205 : Int64)) ∈ lw_all := lw_g (lw_at lw_m2 34 rfl) rfl
theorem q330 : (Jvm.Cond.constantLong "java/lang/Long" (316 : Nat) (3689348814741910323 : Int64)) ∈ lw_all := lw_g (lw_at lw_m2 35 rfl) rfl
theorem q331 : (Jvm.Cond.constantLong "java/lang/Long" (318 : Nat) (1085102592571150095 : Int64)) ∈ lw_all := lw_g (lw_at lw_m2 36 rfl) rfl

/-! java/util/AbstractList -/
set_option maxRecDepth 100000
def RJ12 : String := "java/util/AbstractList"
abbrev cJ12_init : ByteArray := prog_29_method_1_code
def yJ12_init : MethodName := ⟨RJ12, "<init>", "()V"⟩
def dkwJ12_init_0 : List UInt8 := [42, 183, 0, 1, 42, 3, 181, 0, 7, 177]
abbrev dktJ12_init_0 : List UInt8 := dkwJ12_init_0 ++ []
theorem dksJ12_init_0 : cJ12_init.data.toList.drop 0 = dktJ12_init_0 := by decide +kernel
theorem dJ12_init_0 : decode cJ12_init 0 = .ok (.aload_n 0, 1) := dk_42 (dk_at dksJ12_init_0 0 rfl rfl)
theorem dJ12_init_1 : decode cJ12_init 1 = .ok (.invokespecial 1, 3) := dk_183 0 1 (dk_at dksJ12_init_0 1 rfl rfl)
theorem dJ12_init_4 : decode cJ12_init 4 = .ok (.aload_n 0, 1) := dk_42 (dk_at dksJ12_init_0 4 rfl rfl)
theorem dJ12_init_5 : decode cJ12_init 5 = .ok (.iconst 0, 1) := dk_3 (dk_at dksJ12_init_0 5 rfl rfl)
theorem dJ12_init_6 : decode cJ12_init 6 = .ok (.putfield 7, 3) := dk_181 0 7 (dk_at dksJ12_init_0 6 rfl rfl)
theorem dJ12_init_9 : decode cJ12_init 9 = .ok (.return_, 1) := dk_177 (dk_at dksJ12_init_0 9 rfl rfl)
abbrev cJ12_listIterator : ByteArray := prog_29_method_12_code
def yJ12_listIterator : MethodName := ⟨RJ12, "listIterator", "()Ljava/util/ListIterator;"⟩
def dkwJ12_listIterator_0 : List UInt8 := [42, 3, 182, 0, 47, 176]
abbrev dktJ12_listIterator_0 : List UInt8 := dkwJ12_listIterator_0 ++ []
theorem dksJ12_listIterator_0 : cJ12_listIterator.data.toList.drop 0 = dktJ12_listIterator_0 := by decide +kernel
theorem dJ12_listIterator_0 : decode cJ12_listIterator 0 = .ok (.aload_n 0, 1) := dk_42 (dk_at dksJ12_listIterator_0 0 rfl rfl)
theorem dJ12_listIterator_1 : decode cJ12_listIterator 1 = .ok (.iconst 0, 1) := dk_3 (dk_at dksJ12_listIterator_0 1 rfl rfl)
theorem dJ12_listIterator_2 : decode cJ12_listIterator 2 = .ok (.invokevirtual 47, 3) := dk_182 0 47 (dk_at dksJ12_listIterator_0 2 rfl rfl)
theorem dJ12_listIterator_5 : decode cJ12_listIterator 5 = .ok (.areturn, 1) := dk_176 (dk_at dksJ12_listIterator_0 5 rfl rfl)
theorem q72 : (Jvm.Cond.initialized "java/util/AbstractList") ∈ lw_all := lw_g (lw_at lw_m1 17 rfl) rfl
theorem q352 : (Jvm.Cond.instanceMethod ({ cls := "java/util/AbstractList", name := "<init>", desc := "()V" } : Jvm.MethodName)) ∈ lw_all := lw_g (lw_at lw_m2 57 rfl) rfl
theorem q353 : (Jvm.Cond.code ({ cls := "java/util/AbstractList", name := "<init>", desc := "()V" } : Jvm.MethodName) prog_29_method_1_code (1 : Nat) (Option.none : Option Jvm.ClassFile.FieldType)) ∈ lw_all := lw_g (lw_at lw_m2 58 rfl) rfl
theorem q354 : (Jvm.Cond.methodLink "java/util/AbstractList" (1 : Nat) ({ cls := "java/util/AbstractCollection", name := "<init>", desc := "()V" } : Jvm.MethodName)) ∈ lw_all := lw_g (lw_at lw_m2 59 rfl) rfl
theorem q359 : (Jvm.Cond.fieldLink "java/util/AbstractList" (7 : Nat) "java/util/AbstractList" "modCount" "I") ∈ lw_all := lw_g (lw_at lw_m2 64 rfl) rfl
theorem q371 : (Jvm.Cond.soleField "java/util/AbstractList" "modCount") ∈ lw_all := lw_g (lw_at lw_m2 76 rfl) rfl
theorem q430 : (Jvm.Cond.declares ({ cls := "java/util/AbstractList", name := "listIterator", desc := "()Ljava/util/ListIterator;" } : Jvm.MethodName)) ∈ lw_tbl := lw_at lw_m2 135 rfl
theorem q432 : (Jvm.Cond.instanceMethod ({ cls := "java/util/AbstractList", name := "listIterator", desc := "()Ljava/util/ListIterator;" } : Jvm.MethodName)) ∈ lw_all := lw_g (lw_at lw_m2 137 rfl) rfl
theorem q433 : (Jvm.Cond.code ({ cls := "java/util/AbstractList", name := "listIterator", desc := "()Ljava/util/ListIterator;" } : Jvm.MethodName) prog_29_method_12_code (1 : Nat) (Option.some (Jvm.ClassFile.FieldType.object "java/util/ListIterator"))) ∈ lw_all := lw_g (lw_at lw_m2 138 rfl) rfl
theorem q434 : (Jvm.Cond.methodLink "java/util/AbstractList" (47 : Nat) ({ cls := "java/util/AbstractList", name := "listIterator", desc := "(I)Ljava/util/ListIterator;" } : Jvm.MethodName)) ∈ lw_all := lw_g (lw_at lw_m2 139 rfl) rfl
theorem q435 : (Jvm.Cond.instanceMethod ({ cls := "java/util/AbstractList", name := "listIterator", desc := "(I)Ljava/util/ListIterator;" } : Jvm.MethodName)) ∈ lw_all := lw_g (lw_at lw_m2 140 rfl) rfl
theorem q436 : (Jvm.Cond.sameMethod "java/util/AbstractList" "java/util/AbstractList" "listIterator" "(I)Ljava/util/ListIterator;") ∈ lw_all := lw_g (lw_at lw_m2 141 rfl) rfl
theorem q474 : (Jvm.Cond.declares ({ cls := "java/util/AbstractList", name := "listIterator", desc := "(I)Ljava/util/ListIterator;" } : Jvm.MethodName)) ∈ lw_tbl := lw_at lw_m2 179 rfl
theorem q486 : (Jvm.Cond.sameMethod "java/util/AbstractList" "java/util/AbstractCollection" "size" "()I") ∈ lw_all := lw_g (lw_at lw_m2 191 rfl) rfl
theorem q518 : (Jvm.Cond.declares ({ cls := "java/util/AbstractList", name := "get", desc := "(I)Ljava/lang/Object;" } : Jvm.MethodName)) ∈ lw_tbl := lw_at lw_m2 223 rfl
theorem q519 : (Jvm.Cond.sameMethod "java/util/AbstractList" "java/util/AbstractList" "get" "(I)Ljava/lang/Object;") ∈ lw_all := lw_g (lw_at lw_m2 224 rfl) rfl
theorem q900 : (Jvm.Cond.instanceMethod ({ cls := "java/util/AbstractList", name := "remove", desc := "(I)Ljava/lang/Object;" } : Jvm.MethodName)) ∈ lw_all := lw_g (lw_at lw_m4 125 rfl) rfl
theorem q901 : (Jvm.Cond.sameMethod "java/util/AbstractList" "java/util/AbstractList" "remove" "(I)Ljava/lang/Object;") ∈ lw_all := lw_g (lw_at lw_m4 126 rfl) rfl
theorem q909 : (Jvm.Cond.declares ({ cls := "java/util/AbstractList", name := "remove", desc := "(I)Ljava/lang/Object;" } : Jvm.MethodName)) ∈ lw_tbl := lw_at lw_m4 134 rfl

/-! java/util/AbstractSequentialList -/
set_option maxRecDepth 100000
def RJ13 : String := "java/util/AbstractSequentialList"
abbrev cJ13_init : ByteArray := prog_32_method_1_code
def yJ13_init : MethodName := ⟨RJ13, "<init>", "()V"⟩
theorem dJ13_init_0 : decode cJ13_init 0 = .ok (.aload_n 0, 1) := by decide +kernel
theorem dJ13_init_1 : decode cJ13_init 1 = .ok (.invokespecial 1, 3) := by decide +kernel
theorem dJ13_init_4 : decode cJ13_init 4 = .ok (.return_, 1) := by decide +kernel
abbrev cJ13_iterator : ByteArray := prog_32_method_7_code
def yJ13_iterator : MethodName := ⟨RJ13, "iterator", "()Ljava/util/Iterator;"⟩
theorem dJ13_iterator_0 : decode cJ13_iterator 0 = .ok (.aload_n 0, 1) := by decide +kernel
theorem dJ13_iterator_1 : decode cJ13_iterator 1 = .ok (.invokevirtual 65, 3) := by decide +kernel
theorem dJ13_iterator_4 : decode cJ13_iterator 4 = .ok (.areturn, 1) := by decide +kernel
theorem q73 : (Jvm.Cond.initialized "java/util/AbstractSequentialList") ∈ lw_all := lw_g (lw_at lw_m1 18 rfl) rfl
theorem q349 : (Jvm.Cond.instanceMethod ({ cls := "java/util/AbstractSequentialList", name := "<init>", desc := "()V" } : Jvm.MethodName)) ∈ lw_all := lw_g (lw_at lw_m2 54 rfl) rfl
theorem q350 : (Jvm.Cond.code ({ cls := "java/util/AbstractSequentialList", name := "<init>", desc := "()V" } : Jvm.MethodName) prog_32_method_1_code (1 : Nat) (Option.none : Option Jvm.ClassFile.FieldType)) ∈ lw_all := lw_g (lw_at lw_m2 55 rfl) rfl
theorem q351 : (Jvm.Cond.methodLink "java/util/AbstractSequentialList" (1 : Nat) ({ cls := "java/util/AbstractList", name := "<init>", desc := "()V" } : Jvm.MethodName)) ∈ lw_all := lw_g (lw_at lw_m2 56 rfl) rfl
theorem q424 : (Jvm.Cond.declares ({ cls := "java/util/AbstractSequentialList", name := "iterator", desc := "()Ljava/util/Iterator;" } : Jvm.MethodName)) ∈ lw_tbl := lw_at lw_m2 129 rfl
theorem q426 : (Jvm.Cond.instanceMethod ({ cls := "java/util/AbstractSequentialList", name := "iterator", desc := "()Ljava/util/Iterator;" } : Jvm.MethodName)) ∈ lw_all := lw_g (lw_at lw_m2 131 rfl) rfl
theorem q427 : (Jvm.Cond.code ({ cls := "java/util/AbstractSequentialList", name := "iterator", desc := "()Ljava/util/Iterator;" } : Jvm.MethodName) prog_32_method_7_code (1 : Nat) (Option.some (Jvm.ClassFile.FieldType.object "java/util/Iterator"))) ∈ lw_all := lw_g (lw_at lw_m2 132 rfl) rfl
theorem q428 : (Jvm.Cond.methodLink "java/util/AbstractSequentialList" (65 : Nat) ({ cls := "java/util/AbstractSequentialList", name := "listIterator", desc := "()Ljava/util/ListIterator;" } : Jvm.MethodName)) ∈ lw_all := lw_g (lw_at lw_m2 133 rfl) rfl
theorem q429 : (Jvm.Cond.sameMethod "java/util/AbstractSequentialList" "java/util/AbstractList" "listIterator" "()Ljava/util/ListIterator;") ∈ lw_all := lw_g (lw_at lw_m2 134 rfl) rfl

/-! java/util/LinkedList -/
set_option maxRecDepth 100000
def RJ14 : String := "java/util/LinkedList"
def TJ14 : u_T := fun k => match k with
  | 0 => ("java/util/AbstractList", "modCount", "I", false)
  | 1 => ("java/util/LinkedList", "size", "I", false)
  | 2 => ("java/util/LinkedList", "first", "Ljava/util/LinkedList$Node;", false)
  | _ => ("java/util/LinkedList", "last", "Ljava/util/LinkedList$Node;", false)
def tyJ14 : Nat → FieldType := fun k => match k with
  | 0 => .int
  | 1 => .int
  | 2 => .object "java/util/LinkedList$Node"
  | _ => .object "java/util/LinkedList$Node"
abbrev wsJ140 : List Cond := u_ws RJ14 TJ14 4
theorem nmJ14 : ∀ a, a < 4 → ∀ b, b < 4 → a ≠ b → (TJ14 a).2.1 ≠ (TJ14 b).2.1 := by decide +kernel
theorem tyJ14_ok : ∀ k, k < 4 → parseFieldDescriptor (TJ14 k).2.2.1 = some (tyJ14 k) := by decide +kernel
abbrev cJ14_init : ByteArray := prog_48_method_1_code
def yJ14_init : MethodName := ⟨RJ14, "<init>", "()V"⟩
def dkwJ14_init_0 : List UInt8 := [42, 183, 0, 1, 42, 3, 181, 0, 7, 177]
abbrev dktJ14_init_0 : List UInt8 := dkwJ14_init_0 ++ []
theorem dksJ14_init_0 : cJ14_init.data.toList.drop 0 = dktJ14_init_0 := by decide +kernel
theorem dJ14_init_0 : decode cJ14_init 0 = .ok (.aload_n 0, 1) := dk_42 (dk_at dksJ14_init_0 0 rfl rfl)
theorem dJ14_init_1 : decode cJ14_init 1 = .ok (.invokespecial 1, 3) := dk_183 0 1 (dk_at dksJ14_init_0 1 rfl rfl)
theorem dJ14_init_4 : decode cJ14_init 4 = .ok (.aload_n 0, 1) := dk_42 (dk_at dksJ14_init_0 4 rfl rfl)
theorem dJ14_init_5 : decode cJ14_init 5 = .ok (.iconst 0, 1) := dk_3 (dk_at dksJ14_init_0 5 rfl rfl)
theorem dJ14_init_6 : decode cJ14_init 6 = .ok (.putfield 7, 3) := dk_181 0 7 (dk_at dksJ14_init_0 6 rfl rfl)
theorem dJ14_init_9 : decode cJ14_init 9 = .ok (.return_, 1) := dk_177 (dk_at dksJ14_init_0 9 rfl rfl)
abbrev cJ14_addLast : ByteArray := prog_48_method_14_code
def yJ14_addLast : MethodName := ⟨RJ14, "addLast", "(Ljava/lang/Object;)V"⟩
def dkwJ14_addLast_0 : List UInt8 := [42, 43, 182, 0, 57, 177]
abbrev dktJ14_addLast_0 : List UInt8 := dkwJ14_addLast_0 ++ []
theorem dksJ14_addLast_0 : cJ14_addLast.data.toList.drop 0 = dktJ14_addLast_0 := by decide +kernel
theorem dJ14_addLast_0 : decode cJ14_addLast 0 = .ok (.aload_n 0, 1) := dk_42 (dk_at dksJ14_addLast_0 0 rfl rfl)
theorem dJ14_addLast_1 : decode cJ14_addLast 1 = .ok (.aload_n 1, 1) := dk_43 (dk_at dksJ14_addLast_0 1 rfl rfl)
theorem dJ14_addLast_2 : decode cJ14_addLast 2 = .ok (.invokevirtual 57, 3) := dk_182 0 57 (dk_at dksJ14_addLast_0 2 rfl rfl)
theorem dJ14_addLast_5 : decode cJ14_addLast 5 = .ok (.return_, 1) := dk_177 (dk_at dksJ14_addLast_0 5 rfl rfl)
abbrev cJ14_linkLast : ByteArray := prog_48_method_4_code
def yJ14_linkLast : MethodName := ⟨RJ14, "linkLast", "(Ljava/lang/Object;)V"⟩
def dkwJ14_linkLast_2 : List UInt8 := [181, 0, 7, 42, 89, 180, 0, 33, 4, 96, 181, 0, 33, 177]
abbrev dktJ14_linkLast_2 : List UInt8 := dkwJ14_linkLast_2 ++ []
def dkwJ14_linkLast_1 : List UInt8 := [199, 0, 11, 42, 45, 181, 0, 18, 167, 0, 8, 44, 45, 181, 0, 36, 42, 89, 180, 0, 7, 4, 96]
abbrev dktJ14_linkLast_1 : List UInt8 := dkwJ14_linkLast_1 ++ dktJ14_linkLast_2
def dkwJ14_linkLast_0 : List UInt8 := [42, 180, 0, 27, 77, 187, 0, 22, 89, 44, 43, 1, 183, 0, 24, 78, 42, 45, 181, 0, 27, 44]
abbrev dktJ14_linkLast_0 : List UInt8 := dkwJ14_linkLast_0 ++ dktJ14_linkLast_1
theorem dksJ14_linkLast_0 : cJ14_linkLast.data.toList.drop 0 = dktJ14_linkLast_0 := by decide +kernel
theorem dksJ14_linkLast_1 : cJ14_linkLast.data.toList.drop 22 = dktJ14_linkLast_1 := dk_seg dksJ14_linkLast_0 22 rfl rfl
theorem dksJ14_linkLast_2 : cJ14_linkLast.data.toList.drop 45 = dktJ14_linkLast_2 := dk_seg dksJ14_linkLast_1 23 rfl rfl
theorem dJ14_linkLast_0 : decode cJ14_linkLast 0 = .ok (.aload_n 0, 1) := dk_42 (dk_at dksJ14_linkLast_0 0 rfl rfl)
theorem dJ14_linkLast_1 : decode cJ14_linkLast 1 = .ok (.getfield 27, 3) := dk_180 0 27 (dk_at dksJ14_linkLast_0 1 rfl rfl)
theorem dJ14_linkLast_4 : decode cJ14_linkLast 4 = .ok (.astore_n 2, 1) := dk_77 (dk_at dksJ14_linkLast_0 4 rfl rfl)
theorem dJ14_linkLast_5 : decode cJ14_linkLast 5 = .ok (.new 22, 3) := dk_187 0 22 (dk_at dksJ14_linkLast_0 5 rfl rfl)
theorem dJ14_linkLast_8 : decode cJ14_linkLast 8 = .ok (.dup, 1) := dk_89 (dk_at dksJ14_linkLast_0 8 rfl rfl)
theorem dJ14_linkLast_9 : decode cJ14_linkLast 9 = .ok (.aload_n 2, 1) := dk_44 (dk_at dksJ14_linkLast_0 9 rfl rfl)
theorem dJ14_linkLast_10 : decode cJ14_linkLast 10 = .ok (.aload_n 1, 1) := dk_43 (dk_at dksJ14_linkLast_0 10 rfl rfl)
theorem dJ14_linkLast_11 : decode cJ14_linkLast 11 = .ok (.aconst_null, 1) := dk_1 (dk_at dksJ14_linkLast_0 11 rfl rfl)
theorem dJ14_linkLast_12 : decode cJ14_linkLast 12 = .ok (.invokespecial 24, 3) := dk_183 0 24 (dk_at dksJ14_linkLast_0 12 rfl rfl)
theorem dJ14_linkLast_15 : decode cJ14_linkLast 15 = .ok (.astore_n 3, 1) := dk_78 (dk_at dksJ14_linkLast_0 15 rfl rfl)
theorem dJ14_linkLast_16 : decode cJ14_linkLast 16 = .ok (.aload_n 0, 1) := dk_42 (dk_at dksJ14_linkLast_0 16 rfl rfl)
theorem dJ14_linkLast_17 : decode cJ14_linkLast 17 = .ok (.aload_n 3, 1) := dk_45 (dk_at dksJ14_linkLast_0 17 rfl rfl)
theorem dJ14_linkLast_18 : decode cJ14_linkLast 18 = .ok (.putfield 27, 3) := dk_181 0 27 (dk_at dksJ14_linkLast_0 18 rfl rfl)
theorem dJ14_linkLast_21 : decode cJ14_linkLast 21 = .ok (.aload_n 2, 1) := dk_44 (dk_at dksJ14_linkLast_0 21 rfl rfl)
theorem dJ14_linkLast_22 : decode cJ14_linkLast 22 = .ok (.ifnonnull 11, 3) := dk_199 0 11 (dk_at dksJ14_linkLast_1 0 rfl rfl)
theorem dJ14_linkLast_25 : decode cJ14_linkLast 25 = .ok (.aload_n 0, 1) := dk_42 (dk_at dksJ14_linkLast_1 3 rfl rfl)
theorem dJ14_linkLast_26 : decode cJ14_linkLast 26 = .ok (.aload_n 3, 1) := dk_45 (dk_at dksJ14_linkLast_1 4 rfl rfl)
theorem dJ14_linkLast_27 : decode cJ14_linkLast 27 = .ok (.putfield 18, 3) := dk_181 0 18 (dk_at dksJ14_linkLast_1 5 rfl rfl)
theorem dJ14_linkLast_30 : decode cJ14_linkLast 30 = .ok (.goto 8, 3) := dk_167 0 8 (dk_at dksJ14_linkLast_1 8 rfl rfl)
theorem dJ14_linkLast_33 : decode cJ14_linkLast 33 = .ok (.aload_n 2, 1) := dk_44 (dk_at dksJ14_linkLast_1 11 rfl rfl)
theorem dJ14_linkLast_34 : decode cJ14_linkLast 34 = .ok (.aload_n 3, 1) := dk_45 (dk_at dksJ14_linkLast_1 12 rfl rfl)
theorem dJ14_linkLast_35 : decode cJ14_linkLast 35 = .ok (.putfield 36, 3) := dk_181 0 36 (dk_at dksJ14_linkLast_1 13 rfl rfl)
theorem dJ14_linkLast_38 : decode cJ14_linkLast 38 = .ok (.aload_n 0, 1) := dk_42 (dk_at dksJ14_linkLast_1 16 rfl rfl)
theorem dJ14_linkLast_39 : decode cJ14_linkLast 39 = .ok (.dup, 1) := dk_89 (dk_at dksJ14_linkLast_1 17 rfl rfl)
theorem dJ14_linkLast_40 : decode cJ14_linkLast 40 = .ok (.getfield 7, 3) := dk_180 0 7 (dk_at dksJ14_linkLast_1 18 rfl rfl)
theorem dJ14_linkLast_43 : decode cJ14_linkLast 43 = .ok (.iconst 1, 1) := dk_4 (dk_at dksJ14_linkLast_1 21 rfl rfl)
theorem dJ14_linkLast_44 : decode cJ14_linkLast 44 = .ok (.iadd, 1) := dk_96 (dk_at dksJ14_linkLast_1 22 rfl rfl)
theorem dJ14_linkLast_45 : decode cJ14_linkLast 45 = .ok (.putfield 7, 3) := dk_181 0 7 (dk_at dksJ14_linkLast_2 0 rfl rfl)
theorem dJ14_linkLast_48 : decode cJ14_linkLast 48 = .ok (.aload_n 0, 1) := dk_42 (dk_at dksJ14_linkLast_2 3 rfl rfl)
theorem dJ14_linkLast_49 : decode cJ14_linkLast 49 = .ok (.dup, 1) := dk_89 (dk_at dksJ14_linkLast_2 4 rfl rfl)
theorem dJ14_linkLast_50 : decode cJ14_linkLast 50 = .ok (.getfield 33, 3) := dk_180 0 33 (dk_at dksJ14_linkLast_2 5 rfl rfl)
theorem dJ14_linkLast_53 : decode cJ14_linkLast 53 = .ok (.iconst 1, 1) := dk_4 (dk_at dksJ14_linkLast_2 8 rfl rfl)
theorem dJ14_linkLast_54 : decode cJ14_linkLast 54 = .ok (.iadd, 1) := dk_96 (dk_at dksJ14_linkLast_2 9 rfl rfl)
theorem dJ14_linkLast_55 : decode cJ14_linkLast 55 = .ok (.putfield 33, 3) := dk_181 0 33 (dk_at dksJ14_linkLast_2 10 rfl rfl)
theorem dJ14_linkLast_58 : decode cJ14_linkLast 58 = .ok (.return_, 1) := dk_177 (dk_at dksJ14_linkLast_2 13 rfl rfl)
abbrev cJ14_listIterator : ByteArray := prog_48_method_49_code
def yJ14_listIterator : MethodName := ⟨RJ14, "listIterator", "(I)Ljava/util/ListIterator;"⟩
def dkwJ14_listIterator_0 : List UInt8 := [42, 27, 182, 0, 76, 187, 0, 150, 89, 42, 27, 183, 0, 152, 176]
abbrev dktJ14_listIterator_0 : List UInt8 := dkwJ14_listIterator_0 ++ []
theorem dksJ14_listIterator_0 : cJ14_listIterator.data.toList.drop 0 = dktJ14_listIterator_0 := by decide +kernel
theorem dJ14_listIterator_0 : decode cJ14_listIterator 0 = .ok (.aload_n 0, 1) := dk_42 (dk_at dksJ14_listIterator_0 0 rfl rfl)
theorem dJ14_listIterator_1 : decode cJ14_listIterator 1 = .ok (.iload_n 1, 1) := dk_27 (dk_at dksJ14_listIterator_0 1 rfl rfl)
theorem dJ14_listIterator_2 : decode cJ14_listIterator 2 = .ok (.invokevirtual 76, 3) := dk_182 0 76 (dk_at dksJ14_listIterator_0 2 rfl rfl)
theorem dJ14_listIterator_5 : decode cJ14_listIterator 5 = .ok (.new 150, 3) := dk_187 0 150 (dk_at dksJ14_listIterator_0 5 rfl rfl)
theorem dJ14_listIterator_8 : decode cJ14_listIterator 8 = .ok (.dup, 1) := dk_89 (dk_at dksJ14_listIterator_0 8 rfl rfl)
theorem dJ14_listIterator_9 : decode cJ14_listIterator 9 = .ok (.aload_n 0, 1) := dk_42 (dk_at dksJ14_listIterator_0 9 rfl rfl)
theorem dJ14_listIterator_10 : decode cJ14_listIterator 10 = .ok (.iload_n 1, 1) := dk_27 (dk_at dksJ14_listIterator_0 10 rfl rfl)
theorem dJ14_listIterator_11 : decode cJ14_listIterator 11 = .ok (.invokespecial 152, 3) := dk_183 0 152 (dk_at dksJ14_listIterator_0 11 rfl rfl)
theorem dJ14_listIterator_14 : decode cJ14_listIterator 14 = .ok (.areturn, 1) := dk_176 (dk_at dksJ14_listIterator_0 14 rfl rfl)
abbrev cJ14_checkPositionIndex : ByteArray := prog_48_method_30_code
def yJ14_checkPositionIndex : MethodName := ⟨RJ14, "checkPositionIndex", "(I)V"⟩
def dkwJ14_checkPositionIndex_0 : List UInt8 := [42, 27, 182, 0, 128, 154, 0, 16, 187, 0, 119, 89, 42, 27, 182, 0, 121, 183, 0, 125, 191, 177]
abbrev dktJ14_checkPositionIndex_0 : List UInt8 := dkwJ14_checkPositionIndex_0 ++ []
theorem dksJ14_checkPositionIndex_0 : cJ14_checkPositionIndex.data.toList.drop 0 = dktJ14_checkPositionIndex_0 := by decide +kernel
theorem dJ14_checkPositionIndex_0 : decode cJ14_checkPositionIndex 0 = .ok (.aload_n 0, 1) := dk_42 (dk_at dksJ14_checkPositionIndex_0 0 rfl rfl)
theorem dJ14_checkPositionIndex_1 : decode cJ14_checkPositionIndex 1 = .ok (.iload_n 1, 1) := dk_27 (dk_at dksJ14_checkPositionIndex_0 1 rfl rfl)
theorem dJ14_checkPositionIndex_2 : decode cJ14_checkPositionIndex 2 = .ok (.invokevirtual 128, 3) := dk_182 0 128 (dk_at dksJ14_checkPositionIndex_0 2 rfl rfl)
theorem dJ14_checkPositionIndex_5 : decode cJ14_checkPositionIndex 5 = .ok (.ifCond .ne 16, 3) := dk_154 0 16 (dk_at dksJ14_checkPositionIndex_0 5 rfl rfl)
theorem dJ14_checkPositionIndex_8 : decode cJ14_checkPositionIndex 8 = .ok (.new 119, 3) := dk_187 0 119 (dk_at dksJ14_checkPositionIndex_0 8 rfl rfl)
theorem dJ14_checkPositionIndex_11 : decode cJ14_checkPositionIndex 11 = .ok (.dup, 1) := dk_89 (dk_at dksJ14_checkPositionIndex_0 11 rfl rfl)
theorem dJ14_checkPositionIndex_12 : decode cJ14_checkPositionIndex 12 = .ok (.aload_n 0, 1) := dk_42 (dk_at dksJ14_checkPositionIndex_0 12 rfl rfl)
theorem dJ14_checkPositionIndex_13 : decode cJ14_checkPositionIndex 13 = .ok (.iload_n 1, 1) := dk_27 (dk_at dksJ14_checkPositionIndex_0 13 rfl rfl)
theorem dJ14_checkPositionIndex_14 : decode cJ14_checkPositionIndex 14 = .ok (.invokevirtual 121, 3) := dk_182 0 121 (dk_at dksJ14_checkPositionIndex_0 14 rfl rfl)
theorem dJ14_checkPositionIndex_17 : decode cJ14_checkPositionIndex 17 = .ok (.invokespecial 125, 3) := dk_183 0 125 (dk_at dksJ14_checkPositionIndex_0 17 rfl rfl)
theorem dJ14_checkPositionIndex_20 : decode cJ14_checkPositionIndex 20 = .ok (.athrow, 1) := dk_191 (dk_at dksJ14_checkPositionIndex_0 20 rfl rfl)
theorem dJ14_checkPositionIndex_21 : decode cJ14_checkPositionIndex 21 = .ok (.return_, 1) := dk_177 (dk_at dksJ14_checkPositionIndex_0 21 rfl rfl)
abbrev cJ14_isPositionIndex : ByteArray := prog_48_method_27_code
def yJ14_isPositionIndex : MethodName := ⟨RJ14, "isPositionIndex", "(I)Z"⟩
def dkwJ14_isPositionIndex_0 : List UInt8 := [27, 155, 0, 15, 27, 42, 180, 0, 7, 163, 0, 7, 4, 167, 0, 4, 3, 172]
abbrev dktJ14_isPositionIndex_0 : List UInt8 := dkwJ14_isPositionIndex_0 ++ []
theorem dksJ14_isPositionIndex_0 : cJ14_isPositionIndex.data.toList.drop 0 = dktJ14_isPositionIndex_0 := by decide +kernel
theorem dJ14_isPositionIndex_0 : decode cJ14_isPositionIndex 0 = .ok (.iload_n 1, 1) := dk_27 (dk_at dksJ14_isPositionIndex_0 0 rfl rfl)
theorem dJ14_isPositionIndex_1 : decode cJ14_isPositionIndex 1 = .ok (.ifCond .lt 15, 3) := dk_155 0 15 (dk_at dksJ14_isPositionIndex_0 1 rfl rfl)
theorem dJ14_isPositionIndex_4 : decode cJ14_isPositionIndex 4 = .ok (.iload_n 1, 1) := dk_27 (dk_at dksJ14_isPositionIndex_0 4 rfl rfl)
theorem dJ14_isPositionIndex_5 : decode cJ14_isPositionIndex 5 = .ok (.aload_n 0, 1) := dk_42 (dk_at dksJ14_isPositionIndex_0 5 rfl rfl)
theorem dJ14_isPositionIndex_6 : decode cJ14_isPositionIndex 6 = .ok (.getfield 7, 3) := dk_180 0 7 (dk_at dksJ14_isPositionIndex_0 6 rfl rfl)
theorem dJ14_isPositionIndex_9 : decode cJ14_isPositionIndex 9 = .ok (.if_icmp .gt 7, 3) := dk_163 0 7 (dk_at dksJ14_isPositionIndex_0 9 rfl rfl)
theorem dJ14_isPositionIndex_12 : decode cJ14_isPositionIndex 12 = .ok (.iconst 1, 1) := dk_4 (dk_at dksJ14_isPositionIndex_0 12 rfl rfl)
theorem dJ14_isPositionIndex_13 : decode cJ14_isPositionIndex 13 = .ok (.goto 4, 3) := dk_167 0 4 (dk_at dksJ14_isPositionIndex_0 13 rfl rfl)
theorem dJ14_isPositionIndex_16 : decode cJ14_isPositionIndex 16 = .ok (.iconst 0, 1) := dk_3 (dk_at dksJ14_isPositionIndex_0 16 rfl rfl)
theorem dJ14_isPositionIndex_17 : decode cJ14_isPositionIndex 17 = .ok (.ireturn, 1) := dk_172 (dk_at dksJ14_isPositionIndex_0 17 rfl rfl)
abbrev cJ14_node : ByteArray := prog_48_method_31_code
def yJ14_node : MethodName := ⟨RJ14, "node", "(I)Ljava/util/LinkedList$Node;"⟩
def dkwJ14_node_2 : List UInt8 := [29, 27, 164, 0, 14, 44, 180, 0, 30, 77, 132, 3, 255, 167, 255, 243, 44, 176]
abbrev dktJ14_node_2 : List UInt8 := dkwJ14_node_2 ++ []
def dkwJ14_node_1 : List UInt8 := [180, 0, 36, 77, 132, 3, 1, 167, 255, 243, 44, 176, 42, 180, 0, 27, 77, 42, 180, 0, 7, 4, 100, 62]
abbrev dktJ14_node_1 : List UInt8 := dkwJ14_node_1 ++ dktJ14_node_2
def dkwJ14_node_0 : List UInt8 := [27, 42, 180, 0, 7, 4, 122, 162, 0, 28, 42, 180, 0, 18, 77, 3, 62, 29, 27, 162, 0, 14, 44]
abbrev dktJ14_node_0 : List UInt8 := dkwJ14_node_0 ++ dktJ14_node_1
theorem dksJ14_node_0 : cJ14_node.data.toList.drop 0 = dktJ14_node_0 := by decide +kernel
theorem dksJ14_node_1 : cJ14_node.data.toList.drop 23 = dktJ14_node_1 := dk_seg dksJ14_node_0 23 rfl rfl
theorem dksJ14_node_2 : cJ14_node.data.toList.drop 47 = dktJ14_node_2 := dk_seg dksJ14_node_1 24 rfl rfl
theorem dJ14_node_0 : decode cJ14_node 0 = .ok (.iload_n 1, 1) := dk_27 (dk_at dksJ14_node_0 0 rfl rfl)
theorem dJ14_node_1 : decode cJ14_node 1 = .ok (.aload_n 0, 1) := dk_42 (dk_at dksJ14_node_0 1 rfl rfl)
theorem dJ14_node_2 : decode cJ14_node 2 = .ok (.getfield 7, 3) := dk_180 0 7 (dk_at dksJ14_node_0 2 rfl rfl)
theorem dJ14_node_5 : decode cJ14_node 5 = .ok (.iconst 1, 1) := dk_4 (dk_at dksJ14_node_0 5 rfl rfl)
theorem dJ14_node_6 : decode cJ14_node 6 = .ok (.ishr, 1) := dk_122 (dk_at dksJ14_node_0 6 rfl rfl)
theorem dJ14_node_7 : decode cJ14_node 7 = .ok (.if_icmp .ge 28, 3) := dk_162 0 28 (dk_at dksJ14_node_0 7 rfl rfl)
theorem dJ14_node_10 : decode cJ14_node 10 = .ok (.aload_n 0, 1) := dk_42 (dk_at dksJ14_node_0 10 rfl rfl)
theorem dJ14_node_11 : decode cJ14_node 11 = .ok (.getfield 18, 3) := dk_180 0 18 (dk_at dksJ14_node_0 11 rfl rfl)
theorem dJ14_node_14 : decode cJ14_node 14 = .ok (.astore_n 2, 1) := dk_77 (dk_at dksJ14_node_0 14 rfl rfl)
theorem dJ14_node_15 : decode cJ14_node 15 = .ok (.iconst 0, 1) := dk_3 (dk_at dksJ14_node_0 15 rfl rfl)
theorem dJ14_node_16 : decode cJ14_node 16 = .ok (.istore_n 3, 1) := dk_62 (dk_at dksJ14_node_0 16 rfl rfl)
theorem dJ14_node_17 : decode cJ14_node 17 = .ok (.iload_n 3, 1) := dk_29 (dk_at dksJ14_node_0 17 rfl rfl)
theorem dJ14_node_18 : decode cJ14_node 18 = .ok (.iload_n 1, 1) := dk_27 (dk_at dksJ14_node_0 18 rfl rfl)
theorem dJ14_node_19 : decode cJ14_node 19 = .ok (.if_icmp .ge 14, 3) := dk_162 0 14 (dk_at dksJ14_node_0 19 rfl rfl)
theorem dJ14_node_22 : decode cJ14_node 22 = .ok (.aload_n 2, 1) := dk_44 (dk_at dksJ14_node_0 22 rfl rfl)
theorem dJ14_node_23 : decode cJ14_node 23 = .ok (.getfield 36, 3) := dk_180 0 36 (dk_at dksJ14_node_1 0 rfl rfl)
theorem dJ14_node_26 : decode cJ14_node 26 = .ok (.astore_n 2, 1) := dk_77 (dk_at dksJ14_node_1 3 rfl rfl)
theorem dJ14_node_27 : decode cJ14_node 27 = .ok (.iinc 3 1, 3) := dk_132 3 1 (dk_at dksJ14_node_1 4 rfl rfl)
theorem dJ14_node_30 : decode cJ14_node 30 = .ok (.goto (-13), 3) := dk_167 255 243 (dk_at dksJ14_node_1 7 rfl rfl)
theorem dJ14_node_33 : decode cJ14_node 33 = .ok (.aload_n 2, 1) := dk_44 (dk_at dksJ14_node_1 10 rfl rfl)
theorem dJ14_node_34 : decode cJ14_node 34 = .ok (.areturn, 1) := dk_176 (dk_at dksJ14_node_1 11 rfl rfl)
theorem dJ14_node_35 : decode cJ14_node 35 = .ok (.aload_n 0, 1) := dk_42 (dk_at dksJ14_node_1 12 rfl rfl)
theorem dJ14_node_36 : decode cJ14_node 36 = .ok (.getfield 27, 3) := dk_180 0 27 (dk_at dksJ14_node_1 13 rfl rfl)
theorem dJ14_node_39 : decode cJ14_node 39 = .ok (.astore_n 2, 1) := dk_77 (dk_at dksJ14_node_1 16 rfl rfl)
theorem dJ14_node_40 : decode cJ14_node 40 = .ok (.aload_n 0, 1) := dk_42 (dk_at dksJ14_node_1 17 rfl rfl)
theorem dJ14_node_41 : decode cJ14_node 41 = .ok (.getfield 7, 3) := dk_180 0 7 (dk_at dksJ14_node_1 18 rfl rfl)
theorem dJ14_node_44 : decode cJ14_node 44 = .ok (.iconst 1, 1) := dk_4 (dk_at dksJ14_node_1 21 rfl rfl)
theorem dJ14_node_45 : decode cJ14_node 45 = .ok (.isub, 1) := dk_100 (dk_at dksJ14_node_1 22 rfl rfl)
theorem dJ14_node_46 : decode cJ14_node 46 = .ok (.istore_n 3, 1) := dk_62 (dk_at dksJ14_node_1 23 rfl rfl)
theorem dJ14_node_47 : decode cJ14_node 47 = .ok (.iload_n 3, 1) := dk_29 (dk_at dksJ14_node_2 0 rfl rfl)
theorem dJ14_node_48 : decode cJ14_node 48 = .ok (.iload_n 1, 1) := dk_27 (dk_at dksJ14_node_2 1 rfl rfl)
theorem dJ14_node_49 : decode cJ14_node 49 = .ok (.if_icmp .le 14, 3) := dk_164 0 14 (dk_at dksJ14_node_2 2 rfl rfl)
theorem dJ14_node_52 : decode cJ14_node 52 = .ok (.aload_n 2, 1) := dk_44 (dk_at dksJ14_node_2 5 rfl rfl)
theorem dJ14_node_53 : decode cJ14_node 53 = .ok (.getfield 30, 3) := dk_180 0 30 (dk_at dksJ14_node_2 6 rfl rfl)
theorem dJ14_node_56 : decode cJ14_node 56 = .ok (.astore_n 2, 1) := dk_77 (dk_at dksJ14_node_2 9 rfl rfl)
theorem dJ14_node_57 : decode cJ14_node 57 = .ok (.iinc 3 (-1), 3) := dk_132 3 255 (dk_at dksJ14_node_2 10 rfl rfl)
theorem dJ14_node_60 : decode cJ14_node 60 = .ok (.goto (-13), 3) := dk_167 255 243 (dk_at dksJ14_node_2 13 rfl rfl)
theorem dJ14_node_63 : decode cJ14_node 63 = .ok (.aload_n 2, 1) := dk_44 (dk_at dksJ14_node_2 16 rfl rfl)
theorem dJ14_node_64 : decode cJ14_node 64 = .ok (.areturn, 1) := dk_176 (dk_at dksJ14_node_2 17 rfl rfl)
abbrev cJ14_size : ByteArray := prog_48_method_16_code
def yJ14_size : MethodName := ⟨RJ14, "size", "()I"⟩
theorem dJ14_size_0 : decode cJ14_size 0 = .ok (.aload_n 0, 1) := by decide +kernel
theorem dJ14_size_1 : decode cJ14_size 1 = .ok (.getfield 7, 3) := by decide +kernel
theorem dJ14_size_4 : decode cJ14_size 4 = .ok (.ireturn, 1) := by decide +kernel
abbrev cJ14_get : ByteArray := prog_48_method_22_code
def yJ14_get : MethodName := ⟨RJ14, "get", "(I)Ljava/lang/Object;"⟩
abbrev cJ14_checkElementIndex : ByteArray := prog_48_method_29_code
def yJ14_checkElementIndex : MethodName := ⟨RJ14, "checkElementIndex", "(I)V"⟩
abbrev cJ14_isElementIndex : ByteArray := prog_48_method_26_code
def yJ14_isElementIndex : MethodName := ⟨RJ14, "isElementIndex", "(I)Z"⟩
abbrev cJ14_remove : ByteArray := prog_48_method_25_code
def yJ14_remove : MethodName := ⟨RJ14, "remove", "(I)Ljava/lang/Object;"⟩
def dkwJ14_remove_0 : List UInt8 := [42, 27, 182, 0, 90, 42, 42, 27, 182, 0, 86, 182, 0, 64, 176]
abbrev dktJ14_remove_0 : List UInt8 := dkwJ14_remove_0 ++ []
theorem dksJ14_remove_0 : cJ14_remove.data.toList.drop 0 = dktJ14_remove_0 := by decide +kernel
theorem dJ14_remove_0 : decode cJ14_remove 0 = .ok (.aload_n 0, 1) := dk_42 (dk_at dksJ14_remove_0 0 rfl rfl)
theorem dJ14_remove_1 : decode cJ14_remove 1 = .ok (.iload_n 1, 1) := dk_27 (dk_at dksJ14_remove_0 1 rfl rfl)
theorem dJ14_remove_2 : decode cJ14_remove 2 = .ok (.invokevirtual 90, 3) := dk_182 0 90 (dk_at dksJ14_remove_0 2 rfl rfl)
theorem dJ14_remove_5 : decode cJ14_remove 5 = .ok (.aload_n 0, 1) := dk_42 (dk_at dksJ14_remove_0 5 rfl rfl)
theorem dJ14_remove_6 : decode cJ14_remove 6 = .ok (.aload_n 0, 1) := dk_42 (dk_at dksJ14_remove_0 6 rfl rfl)
theorem dJ14_remove_7 : decode cJ14_remove 7 = .ok (.iload_n 1, 1) := dk_27 (dk_at dksJ14_remove_0 7 rfl rfl)
theorem dJ14_remove_8 : decode cJ14_remove 8 = .ok (.invokevirtual 86, 3) := dk_182 0 86 (dk_at dksJ14_remove_0 8 rfl rfl)
theorem dJ14_remove_11 : decode cJ14_remove 11 = .ok (.invokevirtual 64, 3) := dk_182 0 64 (dk_at dksJ14_remove_0 11 rfl rfl)
theorem dJ14_remove_14 : decode cJ14_remove 14 = .ok (.areturn, 1) := dk_176 (dk_at dksJ14_remove_0 14 rfl rfl)
abbrev cJ14_unlink : ByteArray := prog_48_method_8_code
def yJ14_unlink : MethodName := ⟨RJ14, "unlink", "(Ljava/util/LinkedList$Node;)Ljava/lang/Object;"⟩
def dkwJ14_unlink_3 : List UInt8 := [180, 0, 7, 4, 100, 181, 0, 7, 42, 89, 180, 0, 33, 4, 96, 181, 0, 33, 44, 176]
abbrev dktJ14_unlink_3 : List UInt8 := dkwJ14_unlink_3 ++ []
def dkwJ14_unlink_2 : List UInt8 := [181, 0, 27, 167, 0, 14, 45, 25, 4, 181, 0, 30, 43, 1, 181, 0, 36, 43, 1, 181, 0, 39, 42, 89]
abbrev dktJ14_unlink_2 : List UInt8 := dkwJ14_unlink_2 ++ dktJ14_unlink_3
def dkwJ14_unlink_1 : List UInt8 := [181, 0, 18, 167, 0, 14, 25, 4, 45, 181, 0, 36, 43, 1, 181, 0, 30, 45, 199, 0, 12, 42, 25, 4]
abbrev dktJ14_unlink_1 : List UInt8 := dkwJ14_unlink_1 ++ dktJ14_unlink_2
def dkwJ14_unlink_0 : List UInt8 := [43, 180, 0, 39, 77, 43, 180, 0, 36, 78, 43, 180, 0, 30, 58, 4, 25, 4, 199, 0, 11, 42, 45]
abbrev dktJ14_unlink_0 : List UInt8 := dkwJ14_unlink_0 ++ dktJ14_unlink_1
theorem dksJ14_unlink_0 : cJ14_unlink.data.toList.drop 0 = dktJ14_unlink_0 := by decide +kernel
theorem dksJ14_unlink_1 : cJ14_unlink.data.toList.drop 23 = dktJ14_unlink_1 := dk_seg dksJ14_unlink_0 23 rfl rfl
theorem dksJ14_unlink_2 : cJ14_unlink.data.toList.drop 47 = dktJ14_unlink_2 := dk_seg dksJ14_unlink_1 24 rfl rfl
theorem dksJ14_unlink_3 : cJ14_unlink.data.toList.drop 71 = dktJ14_unlink_3 := dk_seg dksJ14_unlink_2 24 rfl rfl
theorem dJ14_unlink_0 : decode cJ14_unlink 0 = .ok (.aload_n 1, 1) := dk_43 (dk_at dksJ14_unlink_0 0 rfl rfl)
theorem dJ14_unlink_1 : decode cJ14_unlink 1 = .ok (.getfield 39, 3) := dk_180 0 39 (dk_at dksJ14_unlink_0 1 rfl rfl)
theorem dJ14_unlink_4 : decode cJ14_unlink 4 = .ok (.astore_n 2, 1) := dk_77 (dk_at dksJ14_unlink_0 4 rfl rfl)
theorem dJ14_unlink_5 : decode cJ14_unlink 5 = .ok (.aload_n 1, 1) := dk_43 (dk_at dksJ14_unlink_0 5 rfl rfl)
theorem dJ14_unlink_6 : decode cJ14_unlink 6 = .ok (.getfield 36, 3) := dk_180 0 36 (dk_at dksJ14_unlink_0 6 rfl rfl)
theorem dJ14_unlink_9 : decode cJ14_unlink 9 = .ok (.astore_n 3, 1) := dk_78 (dk_at dksJ14_unlink_0 9 rfl rfl)
theorem dJ14_unlink_10 : decode cJ14_unlink 10 = .ok (.aload_n 1, 1) := dk_43 (dk_at dksJ14_unlink_0 10 rfl rfl)
theorem dJ14_unlink_11 : decode cJ14_unlink 11 = .ok (.getfield 30, 3) := dk_180 0 30 (dk_at dksJ14_unlink_0 11 rfl rfl)
theorem dJ14_unlink_14 : decode cJ14_unlink 14 = .ok (.astore 4, 2) := dk_58 4 (dk_at dksJ14_unlink_0 14 rfl rfl)
theorem dJ14_unlink_16 : decode cJ14_unlink 16 = .ok (.aload 4, 2) := dk_25 4 (dk_at dksJ14_unlink_0 16 rfl rfl)
theorem dJ14_unlink_18 : decode cJ14_unlink 18 = .ok (.ifnonnull 11, 3) := dk_199 0 11 (dk_at dksJ14_unlink_0 18 rfl rfl)
theorem dJ14_unlink_21 : decode cJ14_unlink 21 = .ok (.aload_n 0, 1) := dk_42 (dk_at dksJ14_unlink_0 21 rfl rfl)
theorem dJ14_unlink_22 : decode cJ14_unlink 22 = .ok (.aload_n 3, 1) := dk_45 (dk_at dksJ14_unlink_0 22 rfl rfl)
theorem dJ14_unlink_23 : decode cJ14_unlink 23 = .ok (.putfield 18, 3) := dk_181 0 18 (dk_at dksJ14_unlink_1 0 rfl rfl)
theorem dJ14_unlink_26 : decode cJ14_unlink 26 = .ok (.goto 14, 3) := dk_167 0 14 (dk_at dksJ14_unlink_1 3 rfl rfl)
theorem dJ14_unlink_29 : decode cJ14_unlink 29 = .ok (.aload 4, 2) := dk_25 4 (dk_at dksJ14_unlink_1 6 rfl rfl)
theorem dJ14_unlink_31 : decode cJ14_unlink 31 = .ok (.aload_n 3, 1) := dk_45 (dk_at dksJ14_unlink_1 8 rfl rfl)
theorem dJ14_unlink_32 : decode cJ14_unlink 32 = .ok (.putfield 36, 3) := dk_181 0 36 (dk_at dksJ14_unlink_1 9 rfl rfl)
theorem dJ14_unlink_35 : decode cJ14_unlink 35 = .ok (.aload_n 1, 1) := dk_43 (dk_at dksJ14_unlink_1 12 rfl rfl)
theorem dJ14_unlink_36 : decode cJ14_unlink 36 = .ok (.aconst_null, 1) := dk_1 (dk_at dksJ14_unlink_1 13 rfl rfl)
theorem dJ14_unlink_37 : decode cJ14_unlink 37 = .ok (.putfield 30, 3) := dk_181 0 30 (dk_at dksJ14_unlink_1 14 rfl rfl)
theorem dJ14_unlink_40 : decode cJ14_unlink 40 = .ok (.aload_n 3, 1) := dk_45 (dk_at dksJ14_unlink_1 17 rfl rfl)
theorem dJ14_unlink_41 : decode cJ14_unlink 41 = .ok (.ifnonnull 12, 3) := dk_199 0 12 (dk_at dksJ14_unlink_1 18 rfl rfl)
theorem dJ14_unlink_44 : decode cJ14_unlink 44 = .ok (.aload_n 0, 1) := dk_42 (dk_at dksJ14_unlink_1 21 rfl rfl)
theorem dJ14_unlink_45 : decode cJ14_unlink 45 = .ok (.aload 4, 2) := dk_25 4 (dk_at dksJ14_unlink_1 22 rfl rfl)
theorem dJ14_unlink_47 : decode cJ14_unlink 47 = .ok (.putfield 27, 3) := dk_181 0 27 (dk_at dksJ14_unlink_2 0 rfl rfl)
theorem dJ14_unlink_50 : decode cJ14_unlink 50 = .ok (.goto 14, 3) := dk_167 0 14 (dk_at dksJ14_unlink_2 3 rfl rfl)
theorem dJ14_unlink_53 : decode cJ14_unlink 53 = .ok (.aload_n 3, 1) := dk_45 (dk_at dksJ14_unlink_2 6 rfl rfl)
theorem dJ14_unlink_54 : decode cJ14_unlink 54 = .ok (.aload 4, 2) := dk_25 4 (dk_at dksJ14_unlink_2 7 rfl rfl)
theorem dJ14_unlink_56 : decode cJ14_unlink 56 = .ok (.putfield 30, 3) := dk_181 0 30 (dk_at dksJ14_unlink_2 9 rfl rfl)
theorem dJ14_unlink_59 : decode cJ14_unlink 59 = .ok (.aload_n 1, 1) := dk_43 (dk_at dksJ14_unlink_2 12 rfl rfl)
theorem dJ14_unlink_60 : decode cJ14_unlink 60 = .ok (.aconst_null, 1) := dk_1 (dk_at dksJ14_unlink_2 13 rfl rfl)
theorem dJ14_unlink_61 : decode cJ14_unlink 61 = .ok (.putfield 36, 3) := dk_181 0 36 (dk_at dksJ14_unlink_2 14 rfl rfl)
theorem dJ14_unlink_64 : decode cJ14_unlink 64 = .ok (.aload_n 1, 1) := dk_43 (dk_at dksJ14_unlink_2 17 rfl rfl)
theorem dJ14_unlink_65 : decode cJ14_unlink 65 = .ok (.aconst_null, 1) := dk_1 (dk_at dksJ14_unlink_2 18 rfl rfl)
theorem dJ14_unlink_66 : decode cJ14_unlink 66 = .ok (.putfield 39, 3) := dk_181 0 39 (dk_at dksJ14_unlink_2 19 rfl rfl)
theorem dJ14_unlink_69 : decode cJ14_unlink 69 = .ok (.aload_n 0, 1) := dk_42 (dk_at dksJ14_unlink_2 22 rfl rfl)
theorem dJ14_unlink_70 : decode cJ14_unlink 70 = .ok (.dup, 1) := dk_89 (dk_at dksJ14_unlink_2 23 rfl rfl)
theorem dJ14_unlink_71 : decode cJ14_unlink 71 = .ok (.getfield 7, 3) := dk_180 0 7 (dk_at dksJ14_unlink_3 0 rfl rfl)
theorem dJ14_unlink_74 : decode cJ14_unlink 74 = .ok (.iconst 1, 1) := dk_4 (dk_at dksJ14_unlink_3 3 rfl rfl)
theorem dJ14_unlink_75 : decode cJ14_unlink 75 = .ok (.isub, 1) := dk_100 (dk_at dksJ14_unlink_3 4 rfl rfl)
theorem dJ14_unlink_76 : decode cJ14_unlink 76 = .ok (.putfield 7, 3) := dk_181 0 7 (dk_at dksJ14_unlink_3 5 rfl rfl)
theorem dJ14_unlink_79 : decode cJ14_unlink 79 = .ok (.aload_n 0, 1) := dk_42 (dk_at dksJ14_unlink_3 8 rfl rfl)
theorem dJ14_unlink_80 : decode cJ14_unlink 80 = .ok (.dup, 1) := dk_89 (dk_at dksJ14_unlink_3 9 rfl rfl)
theorem dJ14_unlink_81 : decode cJ14_unlink 81 = .ok (.getfield 33, 3) := dk_180 0 33 (dk_at dksJ14_unlink_3 10 rfl rfl)
theorem dJ14_unlink_84 : decode cJ14_unlink 84 = .ok (.iconst 1, 1) := dk_4 (dk_at dksJ14_unlink_3 13 rfl rfl)
theorem dJ14_unlink_85 : decode cJ14_unlink 85 = .ok (.iadd, 1) := dk_96 (dk_at dksJ14_unlink_3 14 rfl rfl)
theorem dJ14_unlink_86 : decode cJ14_unlink 86 = .ok (.putfield 33, 3) := dk_181 0 33 (dk_at dksJ14_unlink_3 15 rfl rfl)
theorem dJ14_unlink_89 : decode cJ14_unlink 89 = .ok (.aload_n 2, 1) := dk_44 (dk_at dksJ14_unlink_3 18 rfl rfl)
theorem dJ14_unlink_90 : decode cJ14_unlink 90 = .ok (.areturn, 1) := dk_176 (dk_at dksJ14_unlink_3 19 rfl rfl)
abbrev cJ14_removeFirst : ByteArray := prog_48_method_11_code
def yJ14_removeFirst : MethodName := ⟨RJ14, "removeFirst", "()Ljava/lang/Object;"⟩
def dkwJ14_removeFirst_0 : List UInt8 := [42, 180, 0, 18, 76, 43, 199, 0, 11, 187, 0, 43, 89, 183, 0, 45, 191, 42, 43, 182, 0, 46, 176]
abbrev dktJ14_removeFirst_0 : List UInt8 := dkwJ14_removeFirst_0 ++ []
theorem dksJ14_removeFirst_0 : cJ14_removeFirst.data.toList.drop 0 = dktJ14_removeFirst_0 := by decide +kernel
theorem dJ14_removeFirst_0 : decode cJ14_removeFirst 0 = .ok (.aload_n 0, 1) := dk_42 (dk_at dksJ14_removeFirst_0 0 rfl rfl)
theorem dJ14_removeFirst_1 : decode cJ14_removeFirst 1 = .ok (.getfield 18, 3) := dk_180 0 18 (dk_at dksJ14_removeFirst_0 1 rfl rfl)
theorem dJ14_removeFirst_4 : decode cJ14_removeFirst 4 = .ok (.astore_n 1, 1) := dk_76 (dk_at dksJ14_removeFirst_0 4 rfl rfl)
theorem dJ14_removeFirst_5 : decode cJ14_removeFirst 5 = .ok (.aload_n 1, 1) := dk_43 (dk_at dksJ14_removeFirst_0 5 rfl rfl)
theorem dJ14_removeFirst_6 : decode cJ14_removeFirst 6 = .ok (.ifnonnull 11, 3) := dk_199 0 11 (dk_at dksJ14_removeFirst_0 6 rfl rfl)
theorem dJ14_removeFirst_9 : decode cJ14_removeFirst 9 = .ok (.new 43, 3) := dk_187 0 43 (dk_at dksJ14_removeFirst_0 9 rfl rfl)
theorem dJ14_removeFirst_12 : decode cJ14_removeFirst 12 = .ok (.dup, 1) := dk_89 (dk_at dksJ14_removeFirst_0 12 rfl rfl)
theorem dJ14_removeFirst_13 : decode cJ14_removeFirst 13 = .ok (.invokespecial 45, 3) := dk_183 0 45 (dk_at dksJ14_removeFirst_0 13 rfl rfl)
theorem dJ14_removeFirst_16 : decode cJ14_removeFirst 16 = .ok (.athrow, 1) := dk_191 (dk_at dksJ14_removeFirst_0 16 rfl rfl)
theorem dJ14_removeFirst_17 : decode cJ14_removeFirst 17 = .ok (.aload_n 0, 1) := dk_42 (dk_at dksJ14_removeFirst_0 17 rfl rfl)
theorem dJ14_removeFirst_18 : decode cJ14_removeFirst 18 = .ok (.aload_n 1, 1) := dk_43 (dk_at dksJ14_removeFirst_0 18 rfl rfl)
theorem dJ14_removeFirst_19 : decode cJ14_removeFirst 19 = .ok (.invokevirtual 46, 3) := dk_182 0 46 (dk_at dksJ14_removeFirst_0 19 rfl rfl)
theorem dJ14_removeFirst_22 : decode cJ14_removeFirst 22 = .ok (.areturn, 1) := dk_176 (dk_at dksJ14_removeFirst_0 22 rfl rfl)
abbrev cJ14_unlinkFirst : ByteArray := prog_48_method_6_code
def yJ14_unlinkFirst : MethodName := ⟨RJ14, "unlinkFirst", "(Ljava/util/LinkedList$Node;)Ljava/lang/Object;"⟩
def dkwJ14_unlinkFirst_2 : List UInt8 := [180, 0, 7, 4, 100, 181, 0, 7, 42, 89, 180, 0, 33, 4, 96, 181, 0, 33, 44, 176]
abbrev dktJ14_unlinkFirst_2 : List UInt8 := dkwJ14_unlinkFirst_2 ++ []
def dkwJ14_unlinkFirst_1 : List UInt8 := [181, 0, 18, 45, 199, 0, 11, 42, 1, 181, 0, 27, 167, 0, 8, 45, 1, 181, 0, 30, 42, 89]
abbrev dktJ14_unlinkFirst_1 : List UInt8 := dkwJ14_unlinkFirst_1 ++ dktJ14_unlinkFirst_2
def dkwJ14_unlinkFirst_0 : List UInt8 := [43, 180, 0, 39, 77, 43, 180, 0, 36, 78, 43, 1, 181, 0, 39, 43, 1, 181, 0, 36, 42, 45]
abbrev dktJ14_unlinkFirst_0 : List UInt8 := dkwJ14_unlinkFirst_0 ++ dktJ14_unlinkFirst_1
theorem dksJ14_unlinkFirst_0 : cJ14_unlinkFirst.data.toList.drop 0 = dktJ14_unlinkFirst_0 := by decide +kernel
theorem dksJ14_unlinkFirst_1 : cJ14_unlinkFirst.data.toList.drop 22 = dktJ14_unlinkFirst_1 := dk_seg dksJ14_unlinkFirst_0 22 rfl rfl
theorem dksJ14_unlinkFirst_2 : cJ14_unlinkFirst.data.toList.drop 44 = dktJ14_unlinkFirst_2 := dk_seg dksJ14_unlinkFirst_1 22 rfl rfl
theorem dJ14_unlinkFirst_0 : decode cJ14_unlinkFirst 0 = .ok (.aload_n 1, 1) := dk_43 (dk_at dksJ14_unlinkFirst_0 0 rfl rfl)
theorem dJ14_unlinkFirst_1 : decode cJ14_unlinkFirst 1 = .ok (.getfield 39, 3) := dk_180 0 39 (dk_at dksJ14_unlinkFirst_0 1 rfl rfl)
theorem dJ14_unlinkFirst_4 : decode cJ14_unlinkFirst 4 = .ok (.astore_n 2, 1) := dk_77 (dk_at dksJ14_unlinkFirst_0 4 rfl rfl)
theorem dJ14_unlinkFirst_5 : decode cJ14_unlinkFirst 5 = .ok (.aload_n 1, 1) := dk_43 (dk_at dksJ14_unlinkFirst_0 5 rfl rfl)
theorem dJ14_unlinkFirst_6 : decode cJ14_unlinkFirst 6 = .ok (.getfield 36, 3) := dk_180 0 36 (dk_at dksJ14_unlinkFirst_0 6 rfl rfl)
theorem dJ14_unlinkFirst_9 : decode cJ14_unlinkFirst 9 = .ok (.astore_n 3, 1) := dk_78 (dk_at dksJ14_unlinkFirst_0 9 rfl rfl)
theorem dJ14_unlinkFirst_10 : decode cJ14_unlinkFirst 10 = .ok (.aload_n 1, 1) := dk_43 (dk_at dksJ14_unlinkFirst_0 10 rfl rfl)
theorem dJ14_unlinkFirst_11 : decode cJ14_unlinkFirst 11 = .ok (.aconst_null, 1) := dk_1 (dk_at dksJ14_unlinkFirst_0 11 rfl rfl)
theorem dJ14_unlinkFirst_12 : decode cJ14_unlinkFirst 12 = .ok (.putfield 39, 3) := dk_181 0 39 (dk_at dksJ14_unlinkFirst_0 12 rfl rfl)
theorem dJ14_unlinkFirst_15 : decode cJ14_unlinkFirst 15 = .ok (.aload_n 1, 1) := dk_43 (dk_at dksJ14_unlinkFirst_0 15 rfl rfl)
theorem dJ14_unlinkFirst_16 : decode cJ14_unlinkFirst 16 = .ok (.aconst_null, 1) := dk_1 (dk_at dksJ14_unlinkFirst_0 16 rfl rfl)
theorem dJ14_unlinkFirst_17 : decode cJ14_unlinkFirst 17 = .ok (.putfield 36, 3) := dk_181 0 36 (dk_at dksJ14_unlinkFirst_0 17 rfl rfl)
theorem dJ14_unlinkFirst_20 : decode cJ14_unlinkFirst 20 = .ok (.aload_n 0, 1) := dk_42 (dk_at dksJ14_unlinkFirst_0 20 rfl rfl)
theorem dJ14_unlinkFirst_21 : decode cJ14_unlinkFirst 21 = .ok (.aload_n 3, 1) := dk_45 (dk_at dksJ14_unlinkFirst_0 21 rfl rfl)
theorem dJ14_unlinkFirst_22 : decode cJ14_unlinkFirst 22 = .ok (.putfield 18, 3) := dk_181 0 18 (dk_at dksJ14_unlinkFirst_1 0 rfl rfl)
theorem dJ14_unlinkFirst_25 : decode cJ14_unlinkFirst 25 = .ok (.aload_n 3, 1) := dk_45 (dk_at dksJ14_unlinkFirst_1 3 rfl rfl)
theorem dJ14_unlinkFirst_26 : decode cJ14_unlinkFirst 26 = .ok (.ifnonnull 11, 3) := dk_199 0 11 (dk_at dksJ14_unlinkFirst_1 4 rfl rfl)
theorem dJ14_unlinkFirst_29 : decode cJ14_unlinkFirst 29 = .ok (.aload_n 0, 1) := dk_42 (dk_at dksJ14_unlinkFirst_1 7 rfl rfl)
theorem dJ14_unlinkFirst_30 : decode cJ14_unlinkFirst 30 = .ok (.aconst_null, 1) := dk_1 (dk_at dksJ14_unlinkFirst_1 8 rfl rfl)
theorem dJ14_unlinkFirst_31 : decode cJ14_unlinkFirst 31 = .ok (.putfield 27, 3) := dk_181 0 27 (dk_at dksJ14_unlinkFirst_1 9 rfl rfl)
theorem dJ14_unlinkFirst_34 : decode cJ14_unlinkFirst 34 = .ok (.goto 8, 3) := dk_167 0 8 (dk_at dksJ14_unlinkFirst_1 12 rfl rfl)
theorem dJ14_unlinkFirst_37 : decode cJ14_unlinkFirst 37 = .ok (.aload_n 3, 1) := dk_45 (dk_at dksJ14_unlinkFirst_1 15 rfl rfl)
theorem dJ14_unlinkFirst_38 : decode cJ14_unlinkFirst 38 = .ok (.aconst_null, 1) := dk_1 (dk_at dksJ14_unlinkFirst_1 16 rfl rfl)
theorem dJ14_unlinkFirst_39 : decode cJ14_unlinkFirst 39 = .ok (.putfield 30, 3) := dk_181 0 30 (dk_at dksJ14_unlinkFirst_1 17 rfl rfl)
theorem dJ14_unlinkFirst_42 : decode cJ14_unlinkFirst 42 = .ok (.aload_n 0, 1) := dk_42 (dk_at dksJ14_unlinkFirst_1 20 rfl rfl)
theorem dJ14_unlinkFirst_43 : decode cJ14_unlinkFirst 43 = .ok (.dup, 1) := dk_89 (dk_at dksJ14_unlinkFirst_1 21 rfl rfl)
theorem dJ14_unlinkFirst_44 : decode cJ14_unlinkFirst 44 = .ok (.getfield 7, 3) := dk_180 0 7 (dk_at dksJ14_unlinkFirst_2 0 rfl rfl)
theorem dJ14_unlinkFirst_47 : decode cJ14_unlinkFirst 47 = .ok (.iconst 1, 1) := dk_4 (dk_at dksJ14_unlinkFirst_2 3 rfl rfl)
theorem dJ14_unlinkFirst_48 : decode cJ14_unlinkFirst 48 = .ok (.isub, 1) := dk_100 (dk_at dksJ14_unlinkFirst_2 4 rfl rfl)
theorem dJ14_unlinkFirst_49 : decode cJ14_unlinkFirst 49 = .ok (.putfield 7, 3) := dk_181 0 7 (dk_at dksJ14_unlinkFirst_2 5 rfl rfl)
theorem dJ14_unlinkFirst_52 : decode cJ14_unlinkFirst 52 = .ok (.aload_n 0, 1) := dk_42 (dk_at dksJ14_unlinkFirst_2 8 rfl rfl)
theorem dJ14_unlinkFirst_53 : decode cJ14_unlinkFirst 53 = .ok (.dup, 1) := dk_89 (dk_at dksJ14_unlinkFirst_2 9 rfl rfl)
theorem dJ14_unlinkFirst_54 : decode cJ14_unlinkFirst 54 = .ok (.getfield 33, 3) := dk_180 0 33 (dk_at dksJ14_unlinkFirst_2 10 rfl rfl)
theorem dJ14_unlinkFirst_57 : decode cJ14_unlinkFirst 57 = .ok (.iconst 1, 1) := dk_4 (dk_at dksJ14_unlinkFirst_2 13 rfl rfl)
theorem dJ14_unlinkFirst_58 : decode cJ14_unlinkFirst 58 = .ok (.iadd, 1) := dk_96 (dk_at dksJ14_unlinkFirst_2 14 rfl rfl)
theorem dJ14_unlinkFirst_59 : decode cJ14_unlinkFirst 59 = .ok (.putfield 33, 3) := dk_181 0 33 (dk_at dksJ14_unlinkFirst_2 15 rfl rfl)
theorem dJ14_unlinkFirst_62 : decode cJ14_unlinkFirst 62 = .ok (.aload_n 2, 1) := dk_44 (dk_at dksJ14_unlinkFirst_2 18 rfl rfl)
theorem dJ14_unlinkFirst_63 : decode cJ14_unlinkFirst 63 = .ok (.areturn, 1) := dk_176 (dk_at dksJ14_unlinkFirst_2 19 rfl rfl)
abbrev cJ14_getFirst : ByteArray := prog_48_method_9_code
def yJ14_getFirst : MethodName := ⟨RJ14, "getFirst", "()Ljava/lang/Object;"⟩
def dkwJ14_getFirst_0 : List UInt8 := [42, 180, 0, 18, 76, 43, 199, 0, 11, 187, 0, 43, 89, 183, 0, 45, 191, 43, 180, 0, 39, 176]
abbrev dktJ14_getFirst_0 : List UInt8 := dkwJ14_getFirst_0 ++ []
theorem dksJ14_getFirst_0 : cJ14_getFirst.data.toList.drop 0 = dktJ14_getFirst_0 := by decide +kernel
theorem dJ14_getFirst_0 : decode cJ14_getFirst 0 = .ok (.aload_n 0, 1) := dk_42 (dk_at dksJ14_getFirst_0 0 rfl rfl)
theorem dJ14_getFirst_1 : decode cJ14_getFirst 1 = .ok (.getfield 18, 3) := dk_180 0 18 (dk_at dksJ14_getFirst_0 1 rfl rfl)
theorem dJ14_getFirst_4 : decode cJ14_getFirst 4 = .ok (.astore_n 1, 1) := dk_76 (dk_at dksJ14_getFirst_0 4 rfl rfl)
theorem dJ14_getFirst_5 : decode cJ14_getFirst 5 = .ok (.aload_n 1, 1) := dk_43 (dk_at dksJ14_getFirst_0 5 rfl rfl)
theorem dJ14_getFirst_6 : decode cJ14_getFirst 6 = .ok (.ifnonnull 11, 3) := dk_199 0 11 (dk_at dksJ14_getFirst_0 6 rfl rfl)
theorem dJ14_getFirst_9 : decode cJ14_getFirst 9 = .ok (.new 43, 3) := dk_187 0 43 (dk_at dksJ14_getFirst_0 9 rfl rfl)
theorem dJ14_getFirst_12 : decode cJ14_getFirst 12 = .ok (.dup, 1) := dk_89 (dk_at dksJ14_getFirst_0 12 rfl rfl)
theorem dJ14_getFirst_13 : decode cJ14_getFirst 13 = .ok (.invokespecial 45, 3) := dk_183 0 45 (dk_at dksJ14_getFirst_0 13 rfl rfl)
theorem dJ14_getFirst_16 : decode cJ14_getFirst 16 = .ok (.athrow, 1) := dk_191 (dk_at dksJ14_getFirst_0 16 rfl rfl)
theorem dJ14_getFirst_17 : decode cJ14_getFirst 17 = .ok (.aload_n 1, 1) := dk_43 (dk_at dksJ14_getFirst_0 17 rfl rfl)
theorem dJ14_getFirst_18 : decode cJ14_getFirst 18 = .ok (.getfield 39, 3) := dk_180 0 39 (dk_at dksJ14_getFirst_0 18 rfl rfl)
theorem dJ14_getFirst_21 : decode cJ14_getFirst 21 = .ok (.areturn, 1) := dk_176 (dk_at dksJ14_getFirst_0 21 rfl rfl)
abbrev cJ14_removeFirstOccurrence : ByteArray := prog_48_method_47_code
def yJ14_removeFirstOccurrence : MethodName := ⟨RJ14, "removeFirstOccurrence", "(Ljava/lang/Object;)Z"⟩
def dkwJ14_removeFirstOccurrence_0 : List UInt8 := [42, 43, 182, 0, 147, 172]
abbrev dktJ14_removeFirstOccurrence_0 : List UInt8 := dkwJ14_removeFirstOccurrence_0 ++ []
theorem dksJ14_removeFirstOccurrence_0 : cJ14_removeFirstOccurrence.data.toList.drop 0 = dktJ14_removeFirstOccurrence_0 := by decide +kernel
theorem dJ14_removeFirstOccurrence_0 : decode cJ14_removeFirstOccurrence 0 = .ok (.aload_n 0, 1) := dk_42 (dk_at dksJ14_removeFirstOccurrence_0 0 rfl rfl)
theorem dJ14_removeFirstOccurrence_1 : decode cJ14_removeFirstOccurrence 1 = .ok (.aload_n 1, 1) := dk_43 (dk_at dksJ14_removeFirstOccurrence_0 1 rfl rfl)
theorem dJ14_removeFirstOccurrence_2 : decode cJ14_removeFirstOccurrence 2 = .ok (.invokevirtual 147, 3) := dk_182 0 147 (dk_at dksJ14_removeFirstOccurrence_0 2 rfl rfl)
theorem dJ14_removeFirstOccurrence_5 : decode cJ14_removeFirstOccurrence 5 = .ok (.ireturn, 1) := dk_172 (dk_at dksJ14_removeFirstOccurrence_0 5 rfl rfl)
abbrev cJ14_remove_2 : ByteArray := prog_48_method_18_code
def yJ14_remove_2 : MethodName := ⟨RJ14, "remove", "(Ljava/lang/Object;)Z"⟩
def dkwJ14_remove_2_3 : List UInt8 := [180, 0, 36, 77, 167, 255, 228, 3, 172]
abbrev dktJ14_remove_2_3 : List UInt8 := dkwJ14_remove_2_3 ++ []
def dkwJ14_remove_2_2 : List UInt8 := [198, 0, 30, 43, 44, 180, 0, 39, 182, 0, 67, 153, 0, 11, 42, 44, 182, 0, 64, 87, 4, 172, 44]
abbrev dktJ14_remove_2_2 : List UInt8 := dkwJ14_remove_2_2 ++ dktJ14_remove_2_3
def dkwJ14_remove_2_1 : List UInt8 := [182, 0, 64, 87, 4, 172, 44, 180, 0, 36, 77, 167, 255, 232, 167, 0, 39, 42, 180, 0, 18, 77, 44]
abbrev dktJ14_remove_2_1 : List UInt8 := dkwJ14_remove_2_1 ++ dktJ14_remove_2_2
def dkwJ14_remove_2_0 : List UInt8 := [43, 199, 0, 38, 42, 180, 0, 18, 77, 44, 198, 0, 26, 44, 180, 0, 39, 199, 0, 11, 42, 44]
abbrev dktJ14_remove_2_0 : List UInt8 := dkwJ14_remove_2_0 ++ dktJ14_remove_2_1
theorem dksJ14_remove_2_0 : cJ14_remove_2.data.toList.drop 0 = dktJ14_remove_2_0 := by decide +kernel
theorem dksJ14_remove_2_1 : cJ14_remove_2.data.toList.drop 22 = dktJ14_remove_2_1 := dk_seg dksJ14_remove_2_0 22 rfl rfl
theorem dksJ14_remove_2_2 : cJ14_remove_2.data.toList.drop 45 = dktJ14_remove_2_2 := dk_seg dksJ14_remove_2_1 23 rfl rfl
theorem dksJ14_remove_2_3 : cJ14_remove_2.data.toList.drop 68 = dktJ14_remove_2_3 := dk_seg dksJ14_remove_2_2 23 rfl rfl
theorem dJ14_remove_2_0 : decode cJ14_remove_2 0 = .ok (.aload_n 1, 1) := dk_43 (dk_at dksJ14_remove_2_0 0 rfl rfl)
theorem dJ14_remove_2_1 : decode cJ14_remove_2 1 = .ok (.ifnonnull 38, 3) := dk_199 0 38 (dk_at dksJ14_remove_2_0 1 rfl rfl)
theorem dJ14_remove_2_4 : decode cJ14_remove_2 4 = .ok (.aload_n 0, 1) := dk_42 (dk_at dksJ14_remove_2_0 4 rfl rfl)
theorem dJ14_remove_2_5 : decode cJ14_remove_2 5 = .ok (.getfield 18, 3) := dk_180 0 18 (dk_at dksJ14_remove_2_0 5 rfl rfl)
theorem dJ14_remove_2_8 : decode cJ14_remove_2 8 = .ok (.astore_n 2, 1) := dk_77 (dk_at dksJ14_remove_2_0 8 rfl rfl)
theorem dJ14_remove_2_9 : decode cJ14_remove_2 9 = .ok (.aload_n 2, 1) := dk_44 (dk_at dksJ14_remove_2_0 9 rfl rfl)
theorem dJ14_remove_2_10 : decode cJ14_remove_2 10 = .ok (.ifnull 26, 3) := dk_198 0 26 (dk_at dksJ14_remove_2_0 10 rfl rfl)
theorem dJ14_remove_2_13 : decode cJ14_remove_2 13 = .ok (.aload_n 2, 1) := dk_44 (dk_at dksJ14_remove_2_0 13 rfl rfl)
theorem dJ14_remove_2_14 : decode cJ14_remove_2 14 = .ok (.getfield 39, 3) := dk_180 0 39 (dk_at dksJ14_remove_2_0 14 rfl rfl)
theorem dJ14_remove_2_17 : decode cJ14_remove_2 17 = .ok (.ifnonnull 11, 3) := dk_199 0 11 (dk_at dksJ14_remove_2_0 17 rfl rfl)
theorem dJ14_remove_2_20 : decode cJ14_remove_2 20 = .ok (.aload_n 0, 1) := dk_42 (dk_at dksJ14_remove_2_0 20 rfl rfl)
theorem dJ14_remove_2_21 : decode cJ14_remove_2 21 = .ok (.aload_n 2, 1) := dk_44 (dk_at dksJ14_remove_2_0 21 rfl rfl)
theorem dJ14_remove_2_22 : decode cJ14_remove_2 22 = .ok (.invokevirtual 64, 3) := dk_182 0 64 (dk_at dksJ14_remove_2_1 0 rfl rfl)
theorem dJ14_remove_2_25 : decode cJ14_remove_2 25 = .ok (.pop, 1) := dk_87 (dk_at dksJ14_remove_2_1 3 rfl rfl)
theorem dJ14_remove_2_26 : decode cJ14_remove_2 26 = .ok (.iconst 1, 1) := dk_4 (dk_at dksJ14_remove_2_1 4 rfl rfl)
theorem dJ14_remove_2_27 : decode cJ14_remove_2 27 = .ok (.ireturn, 1) := dk_172 (dk_at dksJ14_remove_2_1 5 rfl rfl)
theorem dJ14_remove_2_28 : decode cJ14_remove_2 28 = .ok (.aload_n 2, 1) := dk_44 (dk_at dksJ14_remove_2_1 6 rfl rfl)
theorem dJ14_remove_2_29 : decode cJ14_remove_2 29 = .ok (.getfield 36, 3) := dk_180 0 36 (dk_at dksJ14_remove_2_1 7 rfl rfl)
theorem dJ14_remove_2_32 : decode cJ14_remove_2 32 = .ok (.astore_n 2, 1) := dk_77 (dk_at dksJ14_remove_2_1 10 rfl rfl)
theorem dJ14_remove_2_33 : decode cJ14_remove_2 33 = .ok (.goto (-24), 3) := dk_167 255 232 (dk_at dksJ14_remove_2_1 11 rfl rfl)
theorem dJ14_remove_2_36 : decode cJ14_remove_2 36 = .ok (.goto 39, 3) := dk_167 0 39 (dk_at dksJ14_remove_2_1 14 rfl rfl)
theorem dJ14_remove_2_39 : decode cJ14_remove_2 39 = .ok (.aload_n 0, 1) := dk_42 (dk_at dksJ14_remove_2_1 17 rfl rfl)
theorem dJ14_remove_2_40 : decode cJ14_remove_2 40 = .ok (.getfield 18, 3) := dk_180 0 18 (dk_at dksJ14_remove_2_1 18 rfl rfl)
theorem dJ14_remove_2_43 : decode cJ14_remove_2 43 = .ok (.astore_n 2, 1) := dk_77 (dk_at dksJ14_remove_2_1 21 rfl rfl)
theorem dJ14_remove_2_44 : decode cJ14_remove_2 44 = .ok (.aload_n 2, 1) := dk_44 (dk_at dksJ14_remove_2_1 22 rfl rfl)
theorem dJ14_remove_2_45 : decode cJ14_remove_2 45 = .ok (.ifnull 30, 3) := dk_198 0 30 (dk_at dksJ14_remove_2_2 0 rfl rfl)
theorem dJ14_remove_2_48 : decode cJ14_remove_2 48 = .ok (.aload_n 1, 1) := dk_43 (dk_at dksJ14_remove_2_2 3 rfl rfl)
theorem dJ14_remove_2_49 : decode cJ14_remove_2 49 = .ok (.aload_n 2, 1) := dk_44 (dk_at dksJ14_remove_2_2 4 rfl rfl)
theorem dJ14_remove_2_50 : decode cJ14_remove_2 50 = .ok (.getfield 39, 3) := dk_180 0 39 (dk_at dksJ14_remove_2_2 5 rfl rfl)
theorem dJ14_remove_2_53 : decode cJ14_remove_2 53 = .ok (.invokevirtual 67, 3) := dk_182 0 67 (dk_at dksJ14_remove_2_2 8 rfl rfl)
theorem dJ14_remove_2_56 : decode cJ14_remove_2 56 = .ok (.ifCond .eq 11, 3) := dk_153 0 11 (dk_at dksJ14_remove_2_2 11 rfl rfl)
theorem dJ14_remove_2_59 : decode cJ14_remove_2 59 = .ok (.aload_n 0, 1) := dk_42 (dk_at dksJ14_remove_2_2 14 rfl rfl)
theorem dJ14_remove_2_60 : decode cJ14_remove_2 60 = .ok (.aload_n 2, 1) := dk_44 (dk_at dksJ14_remove_2_2 15 rfl rfl)
theorem dJ14_remove_2_61 : decode cJ14_remove_2 61 = .ok (.invokevirtual 64, 3) := dk_182 0 64 (dk_at dksJ14_remove_2_2 16 rfl rfl)
theorem dJ14_remove_2_64 : decode cJ14_remove_2 64 = .ok (.pop, 1) := dk_87 (dk_at dksJ14_remove_2_2 19 rfl rfl)
theorem dJ14_remove_2_65 : decode cJ14_remove_2 65 = .ok (.iconst 1, 1) := dk_4 (dk_at dksJ14_remove_2_2 20 rfl rfl)
theorem dJ14_remove_2_66 : decode cJ14_remove_2 66 = .ok (.ireturn, 1) := dk_172 (dk_at dksJ14_remove_2_2 21 rfl rfl)
theorem dJ14_remove_2_67 : decode cJ14_remove_2 67 = .ok (.aload_n 2, 1) := dk_44 (dk_at dksJ14_remove_2_2 22 rfl rfl)
theorem dJ14_remove_2_68 : decode cJ14_remove_2 68 = .ok (.getfield 36, 3) := dk_180 0 36 (dk_at dksJ14_remove_2_3 0 rfl rfl)
theorem dJ14_remove_2_71 : decode cJ14_remove_2 71 = .ok (.astore_n 2, 1) := dk_77 (dk_at dksJ14_remove_2_3 3 rfl rfl)
theorem dJ14_remove_2_72 : decode cJ14_remove_2 72 = .ok (.goto (-28), 3) := dk_167 255 228 (dk_at dksJ14_remove_2_3 4 rfl rfl)
theorem dJ14_remove_2_75 : decode cJ14_remove_2 75 = .ok (.iconst 0, 1) := dk_3 (dk_at dksJ14_remove_2_3 7 rfl rfl)
theorem dJ14_remove_2_76 : decode cJ14_remove_2 76 = .ok (.ireturn, 1) := dk_172 (dk_at dksJ14_remove_2_3 8 rfl rfl)
theorem q74 : (Jvm.Cond.initialized "java/util/LinkedList") ∈ lw_all := lw_g (lw_at lw_m1 19 rfl) rfl
theorem q344 : (Jvm.Cond.instantiable "java/util/LinkedList" (4 : Nat)) ∈ lw_all := lw_g (lw_at lw_m2 49 rfl) rfl
theorem q346 : (Jvm.Cond.instanceMethod ({ cls := "java/util/LinkedList", name := "<init>", desc := "()V" } : Jvm.MethodName)) ∈ lw_all := lw_g (lw_at lw_m2 51 rfl) rfl
theorem q347 : (Jvm.Cond.code ({ cls := "java/util/LinkedList", name := "<init>", desc := "()V" } : Jvm.MethodName) prog_48_method_1_code (1 : Nat) (Option.none : Option Jvm.ClassFile.FieldType)) ∈ lw_all := lw_g (lw_at lw_m2 52 rfl) rfl
theorem q348 : (Jvm.Cond.methodLink "java/util/LinkedList" (1 : Nat) ({ cls := "java/util/AbstractSequentialList", name := "<init>", desc := "()V" } : Jvm.MethodName)) ∈ lw_all := lw_g (lw_at lw_m2 53 rfl) rfl
theorem q355 : (Jvm.Cond.fieldLink "java/util/LinkedList" (7 : Nat) "java/util/LinkedList" "size" "I") ∈ lw_all := lw_g (lw_at lw_m2 60 rfl) rfl
theorem q357 : (Jvm.Cond.fieldLink "java/util/LinkedList" (18 : Nat) "java/util/LinkedList" "first" "Ljava/util/LinkedList$Node;") ∈ lw_all := lw_g (lw_at lw_m2 62 rfl) rfl
theorem q358 : (Jvm.Cond.fieldLink "java/util/LinkedList" (27 : Nat) "java/util/LinkedList" "last" "Ljava/util/LinkedList$Node;") ∈ lw_all := lw_g (lw_at lw_m2 63 rfl) rfl
theorem q361 : (Jvm.Cond.sameField "java/util/LinkedList" "java/util/AbstractList" "modCount" "I") ∈ lw_all := lw_g (lw_at lw_m2 66 rfl) rfl
theorem q363 : (Jvm.Cond.fieldLink "java/util/LinkedList" (33 : Nat) "java/util/LinkedList" "modCount" "I") ∈ lw_all := lw_g (lw_at lw_m2 68 rfl) rfl
theorem q364 : (Jvm.Cond.lays "java/util/LinkedList" "java/util/LinkedList" "size" "I") ∈ lw_all := lw_g (lw_at lw_m2 69 rfl) rfl
theorem q365 : (Jvm.Cond.soleField "java/util/LinkedList" "size") ∈ lw_all := lw_g (lw_at lw_m2 70 rfl) rfl
theorem q366 : (Jvm.Cond.lays "java/util/LinkedList" "java/util/LinkedList" "first" "Ljava/util/LinkedList$Node;") ∈ lw_all := lw_g (lw_at lw_m2 71 rfl) rfl
theorem q367 : (Jvm.Cond.soleField "java/util/LinkedList" "first") ∈ lw_all := lw_g (lw_at lw_m2 72 rfl) rfl
theorem q368 : (Jvm.Cond.lays "java/util/LinkedList" "java/util/LinkedList" "last" "Ljava/util/LinkedList$Node;") ∈ lw_all := lw_g (lw_at lw_m2 73 rfl) rfl
theorem q369 : (Jvm.Cond.soleField "java/util/LinkedList" "last") ∈ lw_all := lw_g (lw_at lw_m2 74 rfl) rfl
theorem q370 : (Jvm.Cond.lays "java/util/LinkedList" "java/util/AbstractList" "modCount" "I") ∈ lw_all := lw_g (lw_at lw_m2 75 rfl) rfl
theorem q372 : (Jvm.Cond.superclass "java/util/LinkedList" "java/util/AbstractSequentialList") ∈ lw_all := lw_g (lw_at lw_m2 77 rfl) rfl
theorem q394 : (Jvm.Cond.instanceMethod ({ cls := "java/util/LinkedList", name := "addLast", desc := "(Ljava/lang/Object;)V" } : Jvm.MethodName)) ∈ lw_all := lw_g (lw_at lw_m2 99 rfl) rfl
theorem q395 : (Jvm.Cond.selects "java/util/LinkedList" ({ cls := "java/util/LinkedList", name := "addLast", desc := "(Ljava/lang/Object;)V" } : Jvm.MethodName) ({ cls := "java/util/LinkedList", name := "addLast", desc := "(Ljava/lang/Object;)V" } : Jvm.MethodName)) ∈ lw_all := lw_g (lw_at lw_m2 100 rfl) rfl
theorem q396 : (Jvm.Cond.code ({ cls := "java/util/LinkedList", name := "addLast", desc := "(Ljava/lang/Object;)V" } : Jvm.MethodName) prog_48_method_14_code (2 : Nat) (Option.none : Option Jvm.ClassFile.FieldType)) ∈ lw_all := lw_g (lw_at lw_m2 101 rfl) rfl
theorem q397 : (Jvm.Cond.methodLink "java/util/LinkedList" (57 : Nat) ({ cls := "java/util/LinkedList", name := "linkLast", desc := "(Ljava/lang/Object;)V" } : Jvm.MethodName)) ∈ lw_all := lw_g (lw_at lw_m2 102 rfl) rfl
theorem q398 : (Jvm.Cond.instanceMethod ({ cls := "java/util/LinkedList", name := "linkLast", desc := "(Ljava/lang/Object;)V" } : Jvm.MethodName)) ∈ lw_all := lw_g (lw_at lw_m2 103 rfl) rfl
theorem q399 : (Jvm.Cond.selects "java/util/LinkedList" ({ cls := "java/util/LinkedList", name := "linkLast", desc := "(Ljava/lang/Object;)V" } : Jvm.MethodName) ({ cls := "java/util/LinkedList", name := "linkLast", desc := "(Ljava/lang/Object;)V" } : Jvm.MethodName)) ∈ lw_all := lw_g (lw_at lw_m2 104 rfl) rfl
theorem q400 : (Jvm.Cond.code ({ cls := "java/util/LinkedList", name := "linkLast", desc := "(Ljava/lang/Object;)V" } : Jvm.MethodName) prog_48_method_4_code (4 : Nat) (Option.none : Option Jvm.ClassFile.FieldType)) ∈ lw_all := lw_g (lw_at lw_m2 105 rfl) rfl
theorem q401 : (Jvm.Cond.classLink "java/util/LinkedList" (22 : Nat) "java/util/LinkedList$Node") ∈ lw_all := lw_g (lw_at lw_m2 106 rfl) rfl
theorem q403 : (Jvm.Cond.methodLink "java/util/LinkedList" (24 : Nat) ({ cls := "java/util/LinkedList$Node", name := "<init>", desc := "(Ljava/util/LinkedList$Node;Ljava/lang/Object;Ljava/util/LinkedList$Node;)V" } : Jvm.MethodName)) ∈ lw_all := lw_g (lw_at lw_m2 108 rfl) rfl
theorem q409 : (Jvm.Cond.fieldLink "java/util/LinkedList" (39 : Nat) "java/util/LinkedList$Node" "item" "Ljava/lang/Object;") ∈ lw_all := lw_g (lw_at lw_m2 114 rfl) rfl
theorem q412 : (Jvm.Cond.fieldLink "java/util/LinkedList" (36 : Nat) "java/util/LinkedList$Node" "next" "Ljava/util/LinkedList$Node;") ∈ lw_all := lw_g (lw_at lw_m2 117 rfl) rfl
theorem q414 : (Jvm.Cond.fieldLink "java/util/LinkedList" (30 : Nat) "java/util/LinkedList$Node" "prev" "Ljava/util/LinkedList$Node;") ∈ lw_all := lw_g (lw_at lw_m2 119 rfl) rfl
theorem q423 : (Jvm.Cond.sameMethod "java/util/LinkedList" "java/util/AbstractSequentialList" "iterator" "()Ljava/util/Iterator;") ∈ lw_all := lw_g (lw_at lw_m2 128 rfl) rfl
theorem q425 : (Jvm.Cond.selects "java/util/LinkedList" ({ cls := "java/util/LinkedList", name := "iterator", desc := "()Ljava/util/Iterator;" } : Jvm.MethodName) ({ cls := "java/util/AbstractSequentialList", name := "iterator", desc := "()Ljava/util/Iterator;" } : Jvm.MethodName)) ∈ lw_all := lw_g (lw_at lw_m2 130 rfl) rfl
theorem q431 : (Jvm.Cond.selects "java/util/LinkedList" ({ cls := "java/util/AbstractSequentialList", name := "listIterator", desc := "()Ljava/util/ListIterator;" } : Jvm.MethodName) ({ cls := "java/util/AbstractList", name := "listIterator", desc := "()Ljava/util/ListIterator;" } : Jvm.MethodName)) ∈ lw_all := lw_g (lw_at lw_m2 136 rfl) rfl
theorem q437 : (Jvm.Cond.selects "java/util/LinkedList" ({ cls := "java/util/AbstractList", name := "listIterator", desc := "(I)Ljava/util/ListIterator;" } : Jvm.MethodName) ({ cls := "java/util/LinkedList", name := "listIterator", desc := "(I)Ljava/util/ListIterator;" } : Jvm.MethodName)) ∈ lw_all := lw_g (lw_at lw_m2 142 rfl) rfl
theorem q438 : (Jvm.Cond.instanceMethod ({ cls := "java/util/LinkedList", name := "listIterator", desc := "(I)Ljava/util/ListIterator;" } : Jvm.MethodName)) ∈ lw_all := lw_g (lw_at lw_m2 143 rfl) rfl
theorem q439 : (Jvm.Cond.code ({ cls := "java/util/LinkedList", name := "listIterator", desc := "(I)Ljava/util/ListIterator;" } : Jvm.MethodName) prog_48_method_49_code (2 : Nat) (Option.some (Jvm.ClassFile.FieldType.object "java/util/ListIterator"))) ∈ lw_all := lw_g (lw_at lw_m2 144 rfl) rfl
theorem q440 : (Jvm.Cond.methodLink "java/util/LinkedList" (76 : Nat) ({ cls := "java/util/LinkedList", name := "checkPositionIndex", desc := "(I)V" } : Jvm.MethodName)) ∈ lw_all := lw_g (lw_at lw_m2 145 rfl) rfl
theorem q441 : (Jvm.Cond.privateMethod ({ cls := "java/util/LinkedList", name := "checkPositionIndex", desc := "(I)V" } : Jvm.MethodName)) ∈ lw_tbl := lw_at lw_m2 146 rfl
theorem q442 : (Jvm.Cond.instanceMethod ({ cls := "java/util/LinkedList", name := "checkPositionIndex", desc := "(I)V" } : Jvm.MethodName)) ∈ lw_all := lw_g (lw_at lw_m2 147 rfl) rfl
theorem q443 : (Jvm.Cond.code ({ cls := "java/util/LinkedList", name := "checkPositionIndex", desc := "(I)V" } : Jvm.MethodName) prog_48_method_30_code (2 : Nat) (Option.none : Option Jvm.ClassFile.FieldType)) ∈ lw_all := lw_g (lw_at lw_m2 148 rfl) rfl
theorem q444 : (Jvm.Cond.methodLink "java/util/LinkedList" (128 : Nat) ({ cls := "java/util/LinkedList", name := "isPositionIndex", desc := "(I)Z" } : Jvm.MethodName)) ∈ lw_all := lw_g (lw_at lw_m2 149 rfl) rfl
theorem q445 : (Jvm.Cond.privateMethod ({ cls := "java/util/LinkedList", name := "isPositionIndex", desc := "(I)Z" } : Jvm.MethodName)) ∈ lw_tbl := lw_at lw_m2 150 rfl
theorem q446 : (Jvm.Cond.instanceMethod ({ cls := "java/util/LinkedList", name := "isPositionIndex", desc := "(I)Z" } : Jvm.MethodName)) ∈ lw_all := lw_g (lw_at lw_m2 151 rfl) rfl
theorem q447 : (Jvm.Cond.code ({ cls := "java/util/LinkedList", name := "isPositionIndex", desc := "(I)Z" } : Jvm.MethodName) prog_48_method_27_code (2 : Nat) (Option.some Jvm.ClassFile.FieldType.boolean)) ∈ lw_all := lw_g (lw_at lw_m2 152 rfl) rfl
theorem q448 : (Jvm.Cond.classLink "java/util/LinkedList" (150 : Nat) "java/util/LinkedList$ListItr") ∈ lw_all := lw_g (lw_at lw_m2 153 rfl) rfl
theorem q450 : (Jvm.Cond.methodLink "java/util/LinkedList" (152 : Nat) ({ cls := "java/util/LinkedList$ListItr", name := "<init>", desc := "(Ljava/util/LinkedList;I)V" } : Jvm.MethodName)) ∈ lw_all := lw_g (lw_at lw_m2 155 rfl) rfl
theorem q455 : (Jvm.Cond.instanceMethod ({ cls := "java/util/LinkedList", name := "node", desc := "(I)Ljava/util/LinkedList$Node;" } : Jvm.MethodName)) ∈ lw_all := lw_g (lw_at lw_m2 160 rfl) rfl
theorem q456 : (Jvm.Cond.selects "java/util/LinkedList" ({ cls := "java/util/LinkedList", name := "node", desc := "(I)Ljava/util/LinkedList$Node;" } : Jvm.MethodName) ({ cls := "java/util/LinkedList", name := "node", desc := "(I)Ljava/util/LinkedList$Node;" } : Jvm.MethodName)) ∈ lw_all := lw_g (lw_at lw_m2 161 rfl) rfl
theorem q457 : (Jvm.Cond.code ({ cls := "java/util/LinkedList", name := "node", desc := "(I)Ljava/util/LinkedList$Node;" } : Jvm.MethodName) prog_48_method_31_code (4 : Nat) (Option.some (Jvm.ClassFile.FieldType.object "java/util/LinkedList$Node"))) ∈ lw_all := lw_g (lw_at lw_m2 162 rfl) rfl
theorem q488 : (Jvm.Cond.selects "java/util/LinkedList" ({ cls := "java/util/AbstractList", name := "size", desc := "()I" } : Jvm.MethodName) ({ cls := "java/util/LinkedList", name := "size", desc := "()I" } : Jvm.MethodName)) ∈ lw_all := lw_g (lw_at lw_m2 193 rfl) rfl
theorem q489 : (Jvm.Cond.instanceMethod ({ cls := "java/util/LinkedList", name := "size", desc := "()I" } : Jvm.MethodName)) ∈ lw_all := lw_g (lw_at lw_m2 194 rfl) rfl
theorem q490 : (Jvm.Cond.code ({ cls := "java/util/LinkedList", name := "size", desc := "()I" } : Jvm.MethodName) prog_48_method_16_code (1 : Nat) (Option.some Jvm.ClassFile.FieldType.int)) ∈ lw_all := lw_g (lw_at lw_m2 195 rfl) rfl
theorem q520 : (Jvm.Cond.selects "java/util/LinkedList" ({ cls := "java/util/AbstractList", name := "get", desc := "(I)Ljava/lang/Object;" } : Jvm.MethodName) ({ cls := "java/util/LinkedList", name := "get", desc := "(I)Ljava/lang/Object;" } : Jvm.MethodName)) ∈ lw_all := lw_g (lw_at lw_m2 225 rfl) rfl
theorem q521 : (Jvm.Cond.instanceMethod ({ cls := "java/util/LinkedList", name := "get", desc := "(I)Ljava/lang/Object;" } : Jvm.MethodName)) ∈ lw_all := lw_g (lw_at lw_m2 226 rfl) rfl
theorem q522 : (Jvm.Cond.code ({ cls := "java/util/LinkedList", name := "get", desc := "(I)Ljava/lang/Object;" } : Jvm.MethodName) prog_48_method_22_code (2 : Nat) (Option.some (Jvm.ClassFile.FieldType.object "java/lang/Object"))) ∈ lw_all := lw_g (lw_at lw_m2 227 rfl) rfl
theorem q523 : (Jvm.Cond.methodLink "java/util/LinkedList" (90 : Nat) ({ cls := "java/util/LinkedList", name := "checkElementIndex", desc := "(I)V" } : Jvm.MethodName)) ∈ lw_all := lw_g (lw_at lw_m2 228 rfl) rfl
theorem q524 : (Jvm.Cond.privateMethod ({ cls := "java/util/LinkedList", name := "checkElementIndex", desc := "(I)V" } : Jvm.MethodName)) ∈ lw_tbl := lw_at lw_m2 229 rfl
theorem q525 : (Jvm.Cond.instanceMethod ({ cls := "java/util/LinkedList", name := "checkElementIndex", desc := "(I)V" } : Jvm.MethodName)) ∈ lw_all := lw_g (lw_at lw_m2 230 rfl) rfl
theorem q526 : (Jvm.Cond.code ({ cls := "java/util/LinkedList", name := "checkElementIndex", desc := "(I)V" } : Jvm.MethodName) prog_48_method_29_code (2 : Nat) (Option.none : Option Jvm.ClassFile.FieldType)) ∈ lw_all := lw_g (lw_at lw_m2 231 rfl) rfl
theorem q527 : (Jvm.Cond.methodLink "java/util/LinkedList" (115 : Nat) ({ cls := "java/util/LinkedList", name := "isElementIndex", desc := "(I)Z" } : Jvm.MethodName)) ∈ lw_all := lw_g (lw_at lw_m2 232 rfl) rfl
theorem q528 : (Jvm.Cond.privateMethod ({ cls := "java/util/LinkedList", name := "isElementIndex", desc := "(I)Z" } : Jvm.MethodName)) ∈ lw_tbl := lw_at lw_m2 233 rfl
theorem q529 : (Jvm.Cond.instanceMethod ({ cls := "java/util/LinkedList", name := "isElementIndex", desc := "(I)Z" } : Jvm.MethodName)) ∈ lw_all := lw_g (lw_at lw_m2 234 rfl) rfl
theorem q530 : (Jvm.Cond.code ({ cls := "java/util/LinkedList", name := "isElementIndex", desc := "(I)Z" } : Jvm.MethodName) prog_48_method_26_code (2 : Nat) (Option.some Jvm.ClassFile.FieldType.boolean)) ∈ lw_all := lw_g (lw_at lw_m2 235 rfl) rfl
theorem q531 : (Jvm.Cond.methodLink "java/util/LinkedList" (86 : Nat) ({ cls := "java/util/LinkedList", name := "node", desc := "(I)Ljava/util/LinkedList$Node;" } : Jvm.MethodName)) ∈ lw_all := lw_g (lw_at lw_m2 236 rfl) rfl
theorem q608 : (Jvm.Cond.selects "java/util/LinkedList" ({ cls := "java/lang/Object", name := "getClass", desc := "()Ljava/lang/Class;" } : Jvm.MethodName) ({ cls := "java/lang/Object", name := "getClass", desc := "()Ljava/lang/Class;" } : Jvm.MethodName)) ∈ lw_all := lw_g (lw_at lw_m3 73 rfl) rfl
theorem q902 : (Jvm.Cond.selects "java/util/LinkedList" ({ cls := "java/util/AbstractList", name := "remove", desc := "(I)Ljava/lang/Object;" } : Jvm.MethodName) ({ cls := "java/util/LinkedList", name := "remove", desc := "(I)Ljava/lang/Object;" } : Jvm.MethodName)) ∈ lw_all := lw_g (lw_at lw_m4 127 rfl) rfl
theorem q903 : (Jvm.Cond.instanceMethod ({ cls := "java/util/LinkedList", name := "remove", desc := "(I)Ljava/lang/Object;" } : Jvm.MethodName)) ∈ lw_all := lw_g (lw_at lw_m4 128 rfl) rfl
theorem q904 : (Jvm.Cond.code ({ cls := "java/util/LinkedList", name := "remove", desc := "(I)Ljava/lang/Object;" } : Jvm.MethodName) prog_48_method_25_code (2 : Nat) (Option.some (Jvm.ClassFile.FieldType.object "java/lang/Object"))) ∈ lw_all := lw_g (lw_at lw_m4 129 rfl) rfl
theorem q905 : (Jvm.Cond.methodLink "java/util/LinkedList" (64 : Nat) ({ cls := "java/util/LinkedList", name := "unlink", desc := "(Ljava/util/LinkedList$Node;)Ljava/lang/Object;" } : Jvm.MethodName)) ∈ lw_all := lw_g (lw_at lw_m4 130 rfl) rfl
theorem q906 : (Jvm.Cond.instanceMethod ({ cls := "java/util/LinkedList", name := "unlink", desc := "(Ljava/util/LinkedList$Node;)Ljava/lang/Object;" } : Jvm.MethodName)) ∈ lw_all := lw_g (lw_at lw_m4 131 rfl) rfl
theorem q907 : (Jvm.Cond.selects "java/util/LinkedList" ({ cls := "java/util/LinkedList", name := "unlink", desc := "(Ljava/util/LinkedList$Node;)Ljava/lang/Object;" } : Jvm.MethodName) ({ cls := "java/util/LinkedList", name := "unlink", desc := "(Ljava/util/LinkedList$Node;)Ljava/lang/Object;" } : Jvm.MethodName)) ∈ lw_all := lw_g (lw_at lw_m4 132 rfl) rfl
theorem q908 : (Jvm.Cond.code ({ cls := "java/util/LinkedList", name := "unlink", desc := "(Ljava/util/LinkedList$Node;)Ljava/lang/Object;" } : Jvm.MethodName) prog_48_method_8_code (5 : Nat) (Option.some (Jvm.ClassFile.FieldType.object "java/lang/Object"))) ∈ lw_all := lw_g (lw_at lw_m4 133 rfl) rfl
theorem q954 : (Jvm.Cond.sameMethod "java/util/LinkedList" "java/util/AbstractCollection" "isEmpty" "()Z") ∈ lw_all := lw_g (lw_at lw_m4 179 rfl) rfl
theorem q956 : (Jvm.Cond.selects "java/util/LinkedList" ({ cls := "java/util/LinkedList", name := "isEmpty", desc := "()Z" } : Jvm.MethodName) ({ cls := "java/util/AbstractCollection", name := "isEmpty", desc := "()Z" } : Jvm.MethodName)) ∈ lw_all := lw_g (lw_at lw_m4 181 rfl) rfl
theorem q967 : (Jvm.Cond.instanceMethod ({ cls := "java/util/LinkedList", name := "removeFirst", desc := "()Ljava/lang/Object;" } : Jvm.MethodName)) ∈ lw_all := lw_g (lw_at lw_m4 192 rfl) rfl
theorem q968 : (Jvm.Cond.selects "java/util/LinkedList" ({ cls := "java/util/LinkedList", name := "removeFirst", desc := "()Ljava/lang/Object;" } : Jvm.MethodName) ({ cls := "java/util/LinkedList", name := "removeFirst", desc := "()Ljava/lang/Object;" } : Jvm.MethodName)) ∈ lw_all := lw_g (lw_at lw_m4 193 rfl) rfl
theorem q969 : (Jvm.Cond.code ({ cls := "java/util/LinkedList", name := "removeFirst", desc := "()Ljava/lang/Object;" } : Jvm.MethodName) prog_48_method_11_code (2 : Nat) (Option.some (Jvm.ClassFile.FieldType.object "java/lang/Object"))) ∈ lw_all := lw_g (lw_at lw_m4 194 rfl) rfl
theorem q970 : (Jvm.Cond.methodLink "java/util/LinkedList" (46 : Nat) ({ cls := "java/util/LinkedList", name := "unlinkFirst", desc := "(Ljava/util/LinkedList$Node;)Ljava/lang/Object;" } : Jvm.MethodName)) ∈ lw_all := lw_g (lw_at lw_m4 195 rfl) rfl
theorem q971 : (Jvm.Cond.privateMethod ({ cls := "java/util/LinkedList", name := "unlinkFirst", desc := "(Ljava/util/LinkedList$Node;)Ljava/lang/Object;" } : Jvm.MethodName)) ∈ lw_tbl := lw_at lw_m4 196 rfl
theorem q972 : (Jvm.Cond.instanceMethod ({ cls := "java/util/LinkedList", name := "unlinkFirst", desc := "(Ljava/util/LinkedList$Node;)Ljava/lang/Object;" } : Jvm.MethodName)) ∈ lw_all := lw_g (lw_at lw_m4 197 rfl) rfl
theorem q973 : (Jvm.Cond.code ({ cls := "java/util/LinkedList", name := "unlinkFirst", desc := "(Ljava/util/LinkedList$Node;)Ljava/lang/Object;" } : Jvm.MethodName) prog_48_method_6_code (4 : Nat) (Option.some (Jvm.ClassFile.FieldType.object "java/lang/Object"))) ∈ lw_all := lw_g (lw_at lw_m4 198 rfl) rfl
theorem q1106 : (Jvm.Cond.instanceMethod ({ cls := "java/util/LinkedList", name := "getFirst", desc := "()Ljava/lang/Object;" } : Jvm.MethodName)) ∈ lw_all := lw_g (lw_at lw_m5 91 rfl) rfl
theorem q1107 : (Jvm.Cond.selects "java/util/LinkedList" ({ cls := "java/util/LinkedList", name := "getFirst", desc := "()Ljava/lang/Object;" } : Jvm.MethodName) ({ cls := "java/util/LinkedList", name := "getFirst", desc := "()Ljava/lang/Object;" } : Jvm.MethodName)) ∈ lw_all := lw_g (lw_at lw_m5 92 rfl) rfl
theorem q1108 : (Jvm.Cond.code ({ cls := "java/util/LinkedList", name := "getFirst", desc := "()Ljava/lang/Object;" } : Jvm.MethodName) prog_48_method_9_code (2 : Nat) (Option.some (Jvm.ClassFile.FieldType.object "java/lang/Object"))) ∈ lw_all := lw_g (lw_at lw_m5 93 rfl) rfl
theorem q1114 : (Jvm.Cond.instanceMethod ({ cls := "java/util/LinkedList", name := "removeFirstOccurrence", desc := "(Ljava/lang/Object;)Z" } : Jvm.MethodName)) ∈ lw_all := lw_g (lw_at lw_m5 99 rfl) rfl
theorem q1115 : (Jvm.Cond.selects "java/util/LinkedList" ({ cls := "java/util/LinkedList", name := "removeFirstOccurrence", desc := "(Ljava/lang/Object;)Z" } : Jvm.MethodName) ({ cls := "java/util/LinkedList", name := "removeFirstOccurrence", desc := "(Ljava/lang/Object;)Z" } : Jvm.MethodName)) ∈ lw_all := lw_g (lw_at lw_m5 100 rfl) rfl
theorem q1116 : (Jvm.Cond.code ({ cls := "java/util/LinkedList", name := "removeFirstOccurrence", desc := "(Ljava/lang/Object;)Z" } : Jvm.MethodName) prog_48_method_47_code (2 : Nat) (Option.some Jvm.ClassFile.FieldType.boolean)) ∈ lw_all := lw_g (lw_at lw_m5 101 rfl) rfl
theorem q1117 : (Jvm.Cond.methodLink "java/util/LinkedList" (147 : Nat) ({ cls := "java/util/LinkedList", name := "remove", desc := "(Ljava/lang/Object;)Z" } : Jvm.MethodName)) ∈ lw_all := lw_g (lw_at lw_m5 102 rfl) rfl
theorem q1118 : (Jvm.Cond.instanceMethod ({ cls := "java/util/LinkedList", name := "remove", desc := "(Ljava/lang/Object;)Z" } : Jvm.MethodName)) ∈ lw_all := lw_g (lw_at lw_m5 103 rfl) rfl
theorem q1119 : (Jvm.Cond.selects "java/util/LinkedList" ({ cls := "java/util/LinkedList", name := "remove", desc := "(Ljava/lang/Object;)Z" } : Jvm.MethodName) ({ cls := "java/util/LinkedList", name := "remove", desc := "(Ljava/lang/Object;)Z" } : Jvm.MethodName)) ∈ lw_all := lw_g (lw_at lw_m5 104 rfl) rfl
theorem q1120 : (Jvm.Cond.code ({ cls := "java/util/LinkedList", name := "remove", desc := "(Ljava/lang/Object;)Z" } : Jvm.MethodName) prog_48_method_18_code (3 : Nat) (Option.some Jvm.ClassFile.FieldType.boolean)) ∈ lw_all := lw_g (lw_at lw_m5 105 rfl) rfl
theorem q1122 : (Jvm.Cond.methodLink "java/util/LinkedList" (67 : Nat) ({ cls := "java/lang/Object", name := "equals", desc := "(Ljava/lang/Object;)Z" } : Jvm.MethodName)) ∈ lw_all := lw_g (lw_at lw_m5 107 rfl) rfl
theorem q1204 : (Jvm.Cond.castable "java/util/LinkedList" "java/util/List") ∈ lw_tbl := lw_at lw_m5 189 rfl
theorem q1205 : (Jvm.Cond.selects "java/util/LinkedList" ({ cls := "java/util/List", name := "get", desc := "(I)Ljava/lang/Object;" } : Jvm.MethodName) ({ cls := "java/util/LinkedList", name := "get", desc := "(I)Ljava/lang/Object;" } : Jvm.MethodName)) ∈ lw_all := lw_g (lw_at lw_m5 190 rfl) rfl
theorem q1206 : (Jvm.Cond.unhidden "java/util/LinkedList" "get" "(I)Ljava/lang/Object;") ∈ lw_tbl := lw_at lw_m5 191 rfl
theorem q1207 : (Jvm.Cond.publicMethod ({ cls := "java/util/LinkedList", name := "get", desc := "(I)Ljava/lang/Object;" } : Jvm.MethodName)) ∈ lw_tbl := lw_at lw_m5 192 rfl
theorem q1523 : (Jvm.Cond.selects "java/util/LinkedList" ({ cls := "java/util/AbstractCollection", name := "size", desc := "()I" } : Jvm.MethodName) ({ cls := "java/util/LinkedList", name := "size", desc := "()I" } : Jvm.MethodName)) ∈ lw_all := lw_g (lw_at lw_m7 28 rfl) rfl
theorem q1535 : (Jvm.Cond.castable "java/util/LinkedList" "java/lang/Object") ∈ lw_tbl := lw_at lw_m7 40 rfl
theorem in_J14 : ∀ w ∈ wsJ140, w ∈ lw_all := lw_in wsJ140 [370, 364, 366, 368] (by decide +kernel) (by decide +kernel)

/-! java/lang/Integer -/
set_option maxRecDepth 100000
def RJ15 : String := "java/lang/Integer"
def TJ15 : u_T := fun k => match k with
  | _ => ("java/lang/Integer", "value", "I", true)
def tyJ15 : Nat → FieldType := fun k => match k with
  | _ => .int
abbrev wsJ150 : List Cond := u_ws RJ15 TJ15 1
theorem nmJ15 : ∀ a, a < 1 → ∀ b, b < 1 → a ≠ b → (TJ15 a).2.1 ≠ (TJ15 b).2.1 := by decide +kernel
theorem tyJ15_ok : ∀ k, k < 1 → parseFieldDescriptor (TJ15 k).2.2.1 = some (tyJ15 k) := by decide +kernel
abbrev cJ15_valueOf : ByteArray := prog_13_method_22_code
def yJ15_valueOf : MethodName := ⟨RJ15, "valueOf", "(I)Ljava/lang/Integer;"⟩
def dkwJ15_valueOf_1 : List UInt8 := [187, 0, 1, 89, 26, 183, 0, 199, 176]
abbrev dktJ15_valueOf_1 : List UInt8 := dkwJ15_valueOf_1 ++ []
def dkwJ15_valueOf_0 : List UInt8 := [26, 16, 128, 161, 0, 20, 26, 178, 0, 191, 163, 0, 13, 178, 0, 195, 26, 17, 0, 128, 96, 50, 176]
abbrev dktJ15_valueOf_0 : List UInt8 := dkwJ15_valueOf_0 ++ dktJ15_valueOf_1
theorem dksJ15_valueOf_0 : cJ15_valueOf.data.toList.drop 0 = dktJ15_valueOf_0 := by decide +kernel
theorem dksJ15_valueOf_1 : cJ15_valueOf.data.toList.drop 23 = dktJ15_valueOf_1 := dk_seg dksJ15_valueOf_0 23 rfl rfl
theorem dJ15_valueOf_0 : decode cJ15_valueOf 0 = .ok (.iload_n 0, 1) := dk_26 (dk_at dksJ15_valueOf_0 0 rfl rfl)
theorem dJ15_valueOf_1 : decode cJ15_valueOf 1 = .ok (.bipush (-128), 2) := dk_16 128 (dk_at dksJ15_valueOf_0 1 rfl rfl)
theorem dJ15_valueOf_3 : decode cJ15_valueOf 3 = .ok (.if_icmp .lt 20, 3) := dk_161 0 20 (dk_at dksJ15_valueOf_0 3 rfl rfl)
theorem dJ15_valueOf_6 : decode cJ15_valueOf 6 = .ok (.iload_n 0, 1) := dk_26 (dk_at dksJ15_valueOf_0 6 rfl rfl)
theorem dJ15_valueOf_7 : decode cJ15_valueOf 7 = .ok (.getstatic 191, 3) := dk_178 0 191 (dk_at dksJ15_valueOf_0 7 rfl rfl)
theorem dJ15_valueOf_10 : decode cJ15_valueOf 10 = .ok (.if_icmp .gt 13, 3) := dk_163 0 13 (dk_at dksJ15_valueOf_0 10 rfl rfl)
theorem dJ15_valueOf_13 : decode cJ15_valueOf 13 = .ok (.getstatic 195, 3) := dk_178 0 195 (dk_at dksJ15_valueOf_0 13 rfl rfl)
theorem dJ15_valueOf_16 : decode cJ15_valueOf 16 = .ok (.iload_n 0, 1) := dk_26 (dk_at dksJ15_valueOf_0 16 rfl rfl)
theorem dJ15_valueOf_17 : decode cJ15_valueOf 17 = .ok (.sipush 128, 3) := dk_17 0 128 (dk_at dksJ15_valueOf_0 17 rfl rfl)
theorem dJ15_valueOf_20 : decode cJ15_valueOf 20 = .ok (.iadd, 1) := dk_96 (dk_at dksJ15_valueOf_0 20 rfl rfl)
theorem dJ15_valueOf_21 : decode cJ15_valueOf 21 = .ok (.aaload, 1) := dk_50 (dk_at dksJ15_valueOf_0 21 rfl rfl)
theorem dJ15_valueOf_22 : decode cJ15_valueOf 22 = .ok (.areturn, 1) := dk_176 (dk_at dksJ15_valueOf_0 22 rfl rfl)
theorem dJ15_valueOf_23 : decode cJ15_valueOf 23 = .ok (.new 1, 3) := dk_187 0 1 (dk_at dksJ15_valueOf_1 0 rfl rfl)
theorem dJ15_valueOf_26 : decode cJ15_valueOf 26 = .ok (.dup, 1) := dk_89 (dk_at dksJ15_valueOf_1 3 rfl rfl)
theorem dJ15_valueOf_27 : decode cJ15_valueOf 27 = .ok (.iload_n 0, 1) := dk_26 (dk_at dksJ15_valueOf_1 4 rfl rfl)
theorem dJ15_valueOf_28 : decode cJ15_valueOf 28 = .ok (.invokespecial 199, 3) := dk_183 0 199 (dk_at dksJ15_valueOf_1 5 rfl rfl)
theorem dJ15_valueOf_31 : decode cJ15_valueOf 31 = .ok (.areturn, 1) := dk_176 (dk_at dksJ15_valueOf_1 8 rfl rfl)
abbrev cJ15_init : ByteArray := prog_13_method_23_code
def yJ15_init : MethodName := ⟨RJ15, "<init>", "(I)V"⟩
def dkwJ15_init_0 : List UInt8 := [42, 183, 0, 202, 42, 27, 181, 0, 205, 177]
abbrev dktJ15_init_0 : List UInt8 := dkwJ15_init_0 ++ []
theorem dksJ15_init_0 : cJ15_init.data.toList.drop 0 = dktJ15_init_0 := by decide +kernel
theorem dJ15_init_0 : decode cJ15_init 0 = .ok (.aload_n 0, 1) := dk_42 (dk_at dksJ15_init_0 0 rfl rfl)
theorem dJ15_init_1 : decode cJ15_init 1 = .ok (.invokespecial 202, 3) := dk_183 0 202 (dk_at dksJ15_init_0 1 rfl rfl)
theorem dJ15_init_4 : decode cJ15_init 4 = .ok (.aload_n 0, 1) := dk_42 (dk_at dksJ15_init_0 4 rfl rfl)
theorem dJ15_init_5 : decode cJ15_init 5 = .ok (.iload_n 1, 1) := dk_27 (dk_at dksJ15_init_0 5 rfl rfl)
theorem dJ15_init_6 : decode cJ15_init 6 = .ok (.putfield 205, 3) := dk_181 0 205 (dk_at dksJ15_init_0 6 rfl rfl)
theorem dJ15_init_9 : decode cJ15_init 9 = .ok (.return_, 1) := dk_177 (dk_at dksJ15_init_0 9 rfl rfl)
abbrev cJ15_intValue : ByteArray := prog_13_method_27_code
def yJ15_intValue : MethodName := ⟨RJ15, "intValue", "()I"⟩
theorem dJ15_intValue_0 : decode cJ15_intValue 0 = .ok (.aload_n 0, 1) := by decide +kernel
theorem dJ15_intValue_1 : decode cJ15_intValue 1 = .ok (.getfield 205, 3) := by decide +kernel
theorem dJ15_intValue_4 : decode cJ15_intValue 4 = .ok (.ireturn, 1) := by decide +kernel
abbrev cJ15_equals : ByteArray := prog_13_method_34_code
def yJ15_equals : MethodName := ⟨RJ15, "equals", "(Ljava/lang/Object;)Z"⟩
def dkwJ15_equals_1 : List UInt8 := [167, 0, 4, 3, 172, 3, 172]
abbrev dktJ15_equals_1 : List UInt8 := dkwJ15_equals_1 ++ []
def dkwJ15_equals_0 : List UInt8 := [43, 193, 0, 1, 153, 0, 23, 42, 180, 0, 205, 43, 192, 0, 1, 182, 0, 211, 160, 0, 7, 4]
abbrev dktJ15_equals_0 : List UInt8 := dkwJ15_equals_0 ++ dktJ15_equals_1
theorem dksJ15_equals_0 : cJ15_equals.data.toList.drop 0 = dktJ15_equals_0 := by decide +kernel
theorem dksJ15_equals_1 : cJ15_equals.data.toList.drop 22 = dktJ15_equals_1 := dk_seg dksJ15_equals_0 22 rfl rfl
theorem dJ15_equals_0 : decode cJ15_equals 0 = .ok (.aload_n 1, 1) := dk_43 (dk_at dksJ15_equals_0 0 rfl rfl)
theorem dJ15_equals_1 : decode cJ15_equals 1 = .ok (.instanceof 1, 3) := dk_193 0 1 (dk_at dksJ15_equals_0 1 rfl rfl)
theorem dJ15_equals_4 : decode cJ15_equals 4 = .ok (.ifCond .eq 23, 3) := dk_153 0 23 (dk_at dksJ15_equals_0 4 rfl rfl)
theorem dJ15_equals_7 : decode cJ15_equals 7 = .ok (.aload_n 0, 1) := dk_42 (dk_at dksJ15_equals_0 7 rfl rfl)
theorem dJ15_equals_8 : decode cJ15_equals 8 = .ok (.getfield 205, 3) := dk_180 0 205 (dk_at dksJ15_equals_0 8 rfl rfl)
theorem dJ15_equals_11 : decode cJ15_equals 11 = .ok (.aload_n 1, 1) := dk_43 (dk_at dksJ15_equals_0 11 rfl rfl)
theorem dJ15_equals_12 : decode cJ15_equals 12 = .ok (.checkcast 1, 3) := dk_192 0 1 (dk_at dksJ15_equals_0 12 rfl rfl)
theorem dJ15_equals_15 : decode cJ15_equals 15 = .ok (.invokevirtual 211, 3) := dk_182 0 211 (dk_at dksJ15_equals_0 15 rfl rfl)
theorem dJ15_equals_18 : decode cJ15_equals 18 = .ok (.if_icmp .ne 7, 3) := dk_160 0 7 (dk_at dksJ15_equals_0 18 rfl rfl)
theorem dJ15_equals_21 : decode cJ15_equals 21 = .ok (.iconst 1, 1) := dk_4 (dk_at dksJ15_equals_0 21 rfl rfl)
theorem dJ15_equals_22 : decode cJ15_equals 22 = .ok (.goto 4, 3) := dk_167 0 4 (dk_at dksJ15_equals_1 0 rfl rfl)
theorem dJ15_equals_25 : decode cJ15_equals 25 = .ok (.iconst 0, 1) := dk_3 (dk_at dksJ15_equals_1 3 rfl rfl)
theorem dJ15_equals_26 : decode cJ15_equals 26 = .ok (.ireturn, 1) := dk_172 (dk_at dksJ15_equals_1 4 rfl rfl)
theorem dJ15_equals_27 : decode cJ15_equals 27 = .ok (.iconst 0, 1) := dk_3 (dk_at dksJ15_equals_1 5 rfl rfl)
theorem dJ15_equals_28 : decode cJ15_equals 28 = .ok (.ireturn, 1) := dk_172 (dk_at dksJ15_equals_1 6 rfl rfl)
theorem q75 : (Jvm.Cond.initialized "java/lang/Integer") ∈ lw_all := lw_g (lw_at lw_m1 20 rfl) rfl
theorem q374 : (Jvm.Cond.static ({ cls := "java/lang/Integer", name := "valueOf", desc := "(I)Ljava/lang/Integer;" } : Jvm.MethodName)) ∈ lw_all := lw_g (lw_at lw_m2 79 rfl) rfl
theorem q375 : (Jvm.Cond.code ({ cls := "java/lang/Integer", name := "valueOf", desc := "(I)Ljava/lang/Integer;" } : Jvm.MethodName) prog_13_method_22_code (1 : Nat) (Option.some (Jvm.ClassFile.FieldType.object "java/lang/Integer"))) ∈ lw_all := lw_g (lw_at lw_m2 80 rfl) rfl
theorem q376 : (Jvm.Cond.fieldLink "java/lang/Integer" (191 : Nat) "java/lang/Integer$IntegerCache" "high" "I") ∈ lw_all := lw_g (lw_at lw_m2 81 rfl) rfl
theorem q378 : (Jvm.Cond.fieldLink "java/lang/Integer" (195 : Nat) "java/lang/Integer$IntegerCache" "cache" "[Ljava/lang/Integer;") ∈ lw_all := lw_g (lw_at lw_m2 83 rfl) rfl
theorem q380 : (Jvm.Cond.classLink "java/lang/Integer" (1 : Nat) "java/lang/Integer") ∈ lw_all := lw_g (lw_at lw_m2 85 rfl) rfl
theorem q381 : (Jvm.Cond.instantiable "java/lang/Integer" (1 : Nat)) ∈ lw_all := lw_g (lw_at lw_m2 86 rfl) rfl
theorem q382 : (Jvm.Cond.methodLink "java/lang/Integer" (199 : Nat) ({ cls := "java/lang/Integer", name := "<init>", desc := "(I)V" } : Jvm.MethodName)) ∈ lw_all := lw_g (lw_at lw_m2 87 rfl) rfl
theorem q383 : (Jvm.Cond.instanceMethod ({ cls := "java/lang/Integer", name := "<init>", desc := "(I)V" } : Jvm.MethodName)) ∈ lw_all := lw_g (lw_at lw_m2 88 rfl) rfl
theorem q384 : (Jvm.Cond.code ({ cls := "java/lang/Integer", name := "<init>", desc := "(I)V" } : Jvm.MethodName) prog_13_method_23_code (2 : Nat) (Option.none : Option Jvm.ClassFile.FieldType)) ∈ lw_all := lw_g (lw_at lw_m2 89 rfl) rfl
theorem q385 : (Jvm.Cond.methodLink "java/lang/Integer" (202 : Nat) ({ cls := "java/lang/Number", name := "<init>", desc := "()V" } : Jvm.MethodName)) ∈ lw_all := lw_g (lw_at lw_m2 90 rfl) rfl
theorem q389 : (Jvm.Cond.fieldLink "java/lang/Integer" (205 : Nat) "java/lang/Integer" "value" "I") ∈ lw_all := lw_g (lw_at lw_m2 94 rfl) rfl
theorem q390 : (Jvm.Cond.laysFinal "java/lang/Integer" "java/lang/Integer" "value" "I") ∈ lw_all := lw_g (lw_at lw_m2 95 rfl) rfl
theorem q391 : (Jvm.Cond.soleField "java/lang/Integer" "value") ∈ lw_all := lw_g (lw_at lw_m2 96 rfl) rfl
theorem q392 : (Jvm.Cond.superclass "java/lang/Integer" "java/lang/Number") ∈ lw_all := lw_g (lw_at lw_m2 97 rfl) rfl
theorem q599 : (Jvm.Cond.selects "java/lang/Integer" ({ cls := "java/lang/Object", name := "getClass", desc := "()Ljava/lang/Class;" } : Jvm.MethodName) ({ cls := "java/lang/Object", name := "getClass", desc := "()Ljava/lang/Class;" } : Jvm.MethodName)) ∈ lw_all := lw_g (lw_at lw_m3 64 rfl) rfl
theorem q866 : (Jvm.Cond.instanceMethod ({ cls := "java/lang/Integer", name := "intValue", desc := "()I" } : Jvm.MethodName)) ∈ lw_all := lw_g (lw_at lw_m4 91 rfl) rfl
theorem q867 : (Jvm.Cond.selects "java/lang/Integer" ({ cls := "java/lang/Integer", name := "intValue", desc := "()I" } : Jvm.MethodName) ({ cls := "java/lang/Integer", name := "intValue", desc := "()I" } : Jvm.MethodName)) ∈ lw_all := lw_g (lw_at lw_m4 92 rfl) rfl
theorem q868 : (Jvm.Cond.code ({ cls := "java/lang/Integer", name := "intValue", desc := "()I" } : Jvm.MethodName) prog_13_method_27_code (1 : Nat) (Option.some Jvm.ClassFile.FieldType.int)) ∈ lw_all := lw_g (lw_at lw_m4 93 rfl) rfl
theorem q1129 : (Jvm.Cond.selects "java/lang/Integer" ({ cls := "java/lang/Object", name := "equals", desc := "(Ljava/lang/Object;)Z" } : Jvm.MethodName) ({ cls := "java/lang/Integer", name := "equals", desc := "(Ljava/lang/Object;)Z" } : Jvm.MethodName)) ∈ lw_all := lw_g (lw_at lw_m5 114 rfl) rfl
theorem q1130 : (Jvm.Cond.instanceMethod ({ cls := "java/lang/Integer", name := "equals", desc := "(Ljava/lang/Object;)Z" } : Jvm.MethodName)) ∈ lw_all := lw_g (lw_at lw_m5 115 rfl) rfl
theorem q1131 : (Jvm.Cond.code ({ cls := "java/lang/Integer", name := "equals", desc := "(Ljava/lang/Object;)Z" } : Jvm.MethodName) prog_13_method_34_code (2 : Nat) (Option.some Jvm.ClassFile.FieldType.boolean)) ∈ lw_all := lw_g (lw_at lw_m5 116 rfl) rfl
theorem q1132 : (Jvm.Cond.methodLink "java/lang/Integer" (211 : Nat) ({ cls := "java/lang/Integer", name := "intValue", desc := "()I" } : Jvm.MethodName)) ∈ lw_all := lw_g (lw_at lw_m5 117 rfl) rfl
theorem q1536 : (Jvm.Cond.castable "java/lang/Integer" "java/lang/Object") ∈ lw_tbl := lw_at lw_m7 41 rfl
theorem in_J15 : ∀ w ∈ wsJ150, w ∈ lw_all := lw_in wsJ150 [390] (by decide +kernel) (by decide +kernel)

/-! java/util/LinkedList$Node -/
set_option maxRecDepth 100000
def RJ16 : String := "java/util/LinkedList$Node"
def TJ16 : u_T := fun k => match k with
  | 0 => ("java/util/LinkedList$Node", "item", "Ljava/lang/Object;", false)
  | 1 => ("java/util/LinkedList$Node", "next", "Ljava/util/LinkedList$Node;", false)
  | _ => ("java/util/LinkedList$Node", "prev", "Ljava/util/LinkedList$Node;", false)
def tyJ16 : Nat → FieldType := fun k => match k with
  | 0 => .object "java/lang/Object"
  | 1 => .object "java/util/LinkedList$Node"
  | _ => .object "java/util/LinkedList$Node"
abbrev wsJ160 : List Cond := u_ws RJ16 TJ16 3
theorem nmJ16 : ∀ a, a < 3 → ∀ b, b < 3 → a ≠ b → (TJ16 a).2.1 ≠ (TJ16 b).2.1 := by decide +kernel
theorem tyJ16_ok : ∀ k, k < 3 → parseFieldDescriptor (TJ16 k).2.2.1 = some (tyJ16 k) := by decide +kernel
abbrev cJ16_init : ByteArray := prog_50_method_1_code
def yJ16_init : MethodName := ⟨RJ16, "<init>", "(Ljava/util/LinkedList$Node;Ljava/lang/Object;Ljava/util/LinkedList$Node;)V"⟩
def dkwJ16_init_0 : List UInt8 := [42, 183, 0, 1, 42, 44, 181, 0, 7, 42, 45, 181, 0, 13, 42, 43, 181, 0, 17, 177]
abbrev dktJ16_init_0 : List UInt8 := dkwJ16_init_0 ++ []
theorem dksJ16_init_0 : cJ16_init.data.toList.drop 0 = dktJ16_init_0 := by decide +kernel
theorem dJ16_init_0 : decode cJ16_init 0 = .ok (.aload_n 0, 1) := dk_42 (dk_at dksJ16_init_0 0 rfl rfl)
theorem dJ16_init_1 : decode cJ16_init 1 = .ok (.invokespecial 1, 3) := dk_183 0 1 (dk_at dksJ16_init_0 1 rfl rfl)
theorem dJ16_init_4 : decode cJ16_init 4 = .ok (.aload_n 0, 1) := dk_42 (dk_at dksJ16_init_0 4 rfl rfl)
theorem dJ16_init_5 : decode cJ16_init 5 = .ok (.aload_n 2, 1) := dk_44 (dk_at dksJ16_init_0 5 rfl rfl)
theorem dJ16_init_6 : decode cJ16_init 6 = .ok (.putfield 7, 3) := dk_181 0 7 (dk_at dksJ16_init_0 6 rfl rfl)
theorem dJ16_init_9 : decode cJ16_init 9 = .ok (.aload_n 0, 1) := dk_42 (dk_at dksJ16_init_0 9 rfl rfl)
theorem dJ16_init_10 : decode cJ16_init 10 = .ok (.aload_n 3, 1) := dk_45 (dk_at dksJ16_init_0 10 rfl rfl)
theorem dJ16_init_11 : decode cJ16_init 11 = .ok (.putfield 13, 3) := dk_181 0 13 (dk_at dksJ16_init_0 11 rfl rfl)
theorem dJ16_init_14 : decode cJ16_init 14 = .ok (.aload_n 0, 1) := dk_42 (dk_at dksJ16_init_0 14 rfl rfl)
theorem dJ16_init_15 : decode cJ16_init 15 = .ok (.aload_n 1, 1) := dk_43 (dk_at dksJ16_init_0 15 rfl rfl)
theorem dJ16_init_16 : decode cJ16_init 16 = .ok (.putfield 17, 3) := dk_181 0 17 (dk_at dksJ16_init_0 16 rfl rfl)
theorem dJ16_init_19 : decode cJ16_init 19 = .ok (.return_, 1) := dk_177 (dk_at dksJ16_init_0 19 rfl rfl)
theorem q77 : (Jvm.Cond.initialized "java/util/LinkedList$Node") ∈ lw_all := lw_g (lw_at lw_m1 22 rfl) rfl
theorem q402 : (Jvm.Cond.instantiable "java/util/LinkedList$Node" (3 : Nat)) ∈ lw_all := lw_g (lw_at lw_m2 107 rfl) rfl
theorem q404 : (Jvm.Cond.instanceMethod ({ cls := "java/util/LinkedList$Node", name := "<init>", desc := "(Ljava/util/LinkedList$Node;Ljava/lang/Object;Ljava/util/LinkedList$Node;)V" } : Jvm.MethodName)) ∈ lw_all := lw_g (lw_at lw_m2 109 rfl) rfl
theorem q405 : (Jvm.Cond.code ({ cls := "java/util/LinkedList$Node", name := "<init>", desc := "(Ljava/util/LinkedList$Node;Ljava/lang/Object;Ljava/util/LinkedList$Node;)V" } : Jvm.MethodName) prog_50_method_1_code (4 : Nat) (Option.none : Option Jvm.ClassFile.FieldType)) ∈ lw_all := lw_g (lw_at lw_m2 110 rfl) rfl
theorem q406 : (Jvm.Cond.methodLink "java/util/LinkedList$Node" (1 : Nat) ({ cls := "java/lang/Object", name := "<init>", desc := "()V" } : Jvm.MethodName)) ∈ lw_all := lw_g (lw_at lw_m2 111 rfl) rfl
theorem q407 : (Jvm.Cond.fieldLink "java/util/LinkedList$Node" (7 : Nat) "java/util/LinkedList$Node" "item" "Ljava/lang/Object;") ∈ lw_all := lw_g (lw_at lw_m2 112 rfl) rfl
theorem q410 : (Jvm.Cond.fieldLink "java/util/LinkedList$Node" (13 : Nat) "java/util/LinkedList$Node" "next" "Ljava/util/LinkedList$Node;") ∈ lw_all := lw_g (lw_at lw_m2 115 rfl) rfl
theorem q413 : (Jvm.Cond.fieldLink "java/util/LinkedList$Node" (17 : Nat) "java/util/LinkedList$Node" "prev" "Ljava/util/LinkedList$Node;") ∈ lw_all := lw_g (lw_at lw_m2 118 rfl) rfl
theorem q415 : (Jvm.Cond.lays "java/util/LinkedList$Node" "java/util/LinkedList$Node" "item" "Ljava/lang/Object;") ∈ lw_all := lw_g (lw_at lw_m2 120 rfl) rfl
theorem q416 : (Jvm.Cond.soleField "java/util/LinkedList$Node" "item") ∈ lw_all := lw_g (lw_at lw_m2 121 rfl) rfl
theorem q417 : (Jvm.Cond.lays "java/util/LinkedList$Node" "java/util/LinkedList$Node" "next" "Ljava/util/LinkedList$Node;") ∈ lw_all := lw_g (lw_at lw_m2 122 rfl) rfl
theorem q418 : (Jvm.Cond.soleField "java/util/LinkedList$Node" "next") ∈ lw_all := lw_g (lw_at lw_m2 123 rfl) rfl
theorem q419 : (Jvm.Cond.lays "java/util/LinkedList$Node" "java/util/LinkedList$Node" "prev" "Ljava/util/LinkedList$Node;") ∈ lw_all := lw_g (lw_at lw_m2 124 rfl) rfl
theorem q420 : (Jvm.Cond.soleField "java/util/LinkedList$Node" "prev") ∈ lw_all := lw_g (lw_at lw_m2 125 rfl) rfl
theorem q421 : (Jvm.Cond.superclass "java/util/LinkedList$Node" "java/lang/Object") ∈ lw_all := lw_g (lw_at lw_m2 126 rfl) rfl
theorem q610 : (Jvm.Cond.selects "java/util/LinkedList$Node" ({ cls := "java/lang/Object", name := "getClass", desc := "()Ljava/lang/Class;" } : Jvm.MethodName) ({ cls := "java/lang/Object", name := "getClass", desc := "()Ljava/lang/Class;" } : Jvm.MethodName)) ∈ lw_all := lw_g (lw_at lw_m3 75 rfl) rfl
theorem q1537 : (Jvm.Cond.castable "java/util/LinkedList$Node" "java/lang/Object") ∈ lw_tbl := lw_at lw_m7 42 rfl
theorem in_J16 : ∀ w ∈ wsJ160, w ∈ lw_all := lw_in wsJ160 [415, 417, 419] (by decide +kernel) (by decide +kernel)

/-! java/util/LinkedList$ListItr -/
set_option maxRecDepth 100000
def RJ18 : String := "java/util/LinkedList$ListItr"
def TJ18 : u_T := fun k => match k with
  | 0 => ("java/util/LinkedList$ListItr", "lastReturned", "Ljava/util/LinkedList$Node;", false)
  | 1 => ("java/util/LinkedList$ListItr", "next", "Ljava/util/LinkedList$Node;", false)
  | 2 => ("java/util/LinkedList$ListItr", "nextIndex", "I", false)
  | 3 => ("java/util/LinkedList$ListItr", "expectedModCount", "I", false)
  | _ => ("java/util/LinkedList$ListItr", "this$0", "Ljava/util/LinkedList;", true)
def tyJ18 : Nat → FieldType := fun k => match k with
  | 0 => .object "java/util/LinkedList$Node"
  | 1 => .object "java/util/LinkedList$Node"
  | 2 => .int
  | 3 => .int
  | _ => .object "java/util/LinkedList"
abbrev wsJ180 : List Cond := u_ws RJ18 TJ18 5
theorem nmJ18 : ∀ a, a < 5 → ∀ b, b < 5 → a ≠ b → (TJ18 a).2.1 ≠ (TJ18 b).2.1 := by decide +kernel
theorem tyJ18_ok : ∀ k, k < 5 → parseFieldDescriptor (TJ18 k).2.2.1 = some (tyJ18 k) := by decide +kernel
abbrev cJ18_init : ByteArray := prog_49_method_1_code
def yJ18_init : MethodName := ⟨RJ18, "<init>", "(Ljava/util/LinkedList;I)V"⟩
def dkwJ18_init_1 : List UInt8 := [180, 0, 22, 160, 0, 7, 1, 167, 0, 8, 43, 28, 182, 0, 25, 181, 0, 29, 42, 28, 181, 0, 33, 177]
abbrev dktJ18_init_1 : List UInt8 := dkwJ18_init_1 ++ []
def dkwJ18_init_0 : List UInt8 := [42, 43, 181, 0, 1, 42, 183, 0, 7, 42, 42, 180, 0, 1, 180, 0, 13, 181, 0, 19, 42, 28, 43]
abbrev dktJ18_init_0 : List UInt8 := dkwJ18_init_0 ++ dktJ18_init_1
theorem dksJ18_init_0 : cJ18_init.data.toList.drop 0 = dktJ18_init_0 := by decide +kernel
theorem dksJ18_init_1 : cJ18_init.data.toList.drop 23 = dktJ18_init_1 := dk_seg dksJ18_init_0 23 rfl rfl
theorem dJ18_init_0 : decode cJ18_init 0 = .ok (.aload_n 0, 1) := dk_42 (dk_at dksJ18_init_0 0 rfl rfl)
theorem dJ18_init_1 : decode cJ18_init 1 = .ok (.aload_n 1, 1) := dk_43 (dk_at dksJ18_init_0 1 rfl rfl)
theorem dJ18_init_2 : decode cJ18_init 2 = .ok (.putfield 1, 3) := dk_181 0 1 (dk_at dksJ18_init_0 2 rfl rfl)
theorem dJ18_init_5 : decode cJ18_init 5 = .ok (.aload_n 0, 1) := dk_42 (dk_at dksJ18_init_0 5 rfl rfl)
theorem dJ18_init_6 : decode cJ18_init 6 = .ok (.invokespecial 7, 3) := dk_183 0 7 (dk_at dksJ18_init_0 6 rfl rfl)
theorem dJ18_init_9 : decode cJ18_init 9 = .ok (.aload_n 0, 1) := dk_42 (dk_at dksJ18_init_0 9 rfl rfl)
theorem dJ18_init_10 : decode cJ18_init 10 = .ok (.aload_n 0, 1) := dk_42 (dk_at dksJ18_init_0 10 rfl rfl)
theorem dJ18_init_11 : decode cJ18_init 11 = .ok (.getfield 1, 3) := dk_180 0 1 (dk_at dksJ18_init_0 11 rfl rfl)
theorem dJ18_init_14 : decode cJ18_init 14 = .ok (.getfield 13, 3) := dk_180 0 13 (dk_at dksJ18_init_0 14 rfl rfl)
theorem dJ18_init_17 : decode cJ18_init 17 = .ok (.putfield 19, 3) := dk_181 0 19 (dk_at dksJ18_init_0 17 rfl rfl)
theorem dJ18_init_20 : decode cJ18_init 20 = .ok (.aload_n 0, 1) := dk_42 (dk_at dksJ18_init_0 20 rfl rfl)
theorem dJ18_init_21 : decode cJ18_init 21 = .ok (.iload_n 2, 1) := dk_28 (dk_at dksJ18_init_0 21 rfl rfl)
theorem dJ18_init_22 : decode cJ18_init 22 = .ok (.aload_n 1, 1) := dk_43 (dk_at dksJ18_init_0 22 rfl rfl)
theorem dJ18_init_23 : decode cJ18_init 23 = .ok (.getfield 22, 3) := dk_180 0 22 (dk_at dksJ18_init_1 0 rfl rfl)
theorem dJ18_init_26 : decode cJ18_init 26 = .ok (.if_icmp .ne 7, 3) := dk_160 0 7 (dk_at dksJ18_init_1 3 rfl rfl)
theorem dJ18_init_29 : decode cJ18_init 29 = .ok (.aconst_null, 1) := dk_1 (dk_at dksJ18_init_1 6 rfl rfl)
theorem dJ18_init_30 : decode cJ18_init 30 = .ok (.goto 8, 3) := dk_167 0 8 (dk_at dksJ18_init_1 7 rfl rfl)
theorem dJ18_init_33 : decode cJ18_init 33 = .ok (.aload_n 1, 1) := dk_43 (dk_at dksJ18_init_1 10 rfl rfl)
theorem dJ18_init_34 : decode cJ18_init 34 = .ok (.iload_n 2, 1) := dk_28 (dk_at dksJ18_init_1 11 rfl rfl)
theorem dJ18_init_35 : decode cJ18_init 35 = .ok (.invokevirtual 25, 3) := dk_182 0 25 (dk_at dksJ18_init_1 12 rfl rfl)
theorem dJ18_init_38 : decode cJ18_init 38 = .ok (.putfield 29, 3) := dk_181 0 29 (dk_at dksJ18_init_1 15 rfl rfl)
theorem dJ18_init_41 : decode cJ18_init 41 = .ok (.aload_n 0, 1) := dk_42 (dk_at dksJ18_init_1 18 rfl rfl)
theorem dJ18_init_42 : decode cJ18_init 42 = .ok (.iload_n 2, 1) := dk_28 (dk_at dksJ18_init_1 19 rfl rfl)
theorem dJ18_init_43 : decode cJ18_init 43 = .ok (.putfield 33, 3) := dk_181 0 33 (dk_at dksJ18_init_1 20 rfl rfl)
theorem dJ18_init_46 : decode cJ18_init 46 = .ok (.return_, 1) := dk_177 (dk_at dksJ18_init_1 23 rfl rfl)
abbrev cJ18_hasNext : ByteArray := prog_49_method_2_code
def yJ18_hasNext : MethodName := ⟨RJ18, "hasNext", "()Z"⟩
def dkwJ18_hasNext_0 : List UInt8 := [42, 180, 0, 33, 42, 180, 0, 1, 180, 0, 22, 162, 0, 7, 4, 167, 0, 4, 3, 172]
abbrev dktJ18_hasNext_0 : List UInt8 := dkwJ18_hasNext_0 ++ []
theorem dksJ18_hasNext_0 : cJ18_hasNext.data.toList.drop 0 = dktJ18_hasNext_0 := by decide +kernel
theorem dJ18_hasNext_0 : decode cJ18_hasNext 0 = .ok (.aload_n 0, 1) := dk_42 (dk_at dksJ18_hasNext_0 0 rfl rfl)
theorem dJ18_hasNext_1 : decode cJ18_hasNext 1 = .ok (.getfield 33, 3) := dk_180 0 33 (dk_at dksJ18_hasNext_0 1 rfl rfl)
theorem dJ18_hasNext_4 : decode cJ18_hasNext 4 = .ok (.aload_n 0, 1) := dk_42 (dk_at dksJ18_hasNext_0 4 rfl rfl)
theorem dJ18_hasNext_5 : decode cJ18_hasNext 5 = .ok (.getfield 1, 3) := dk_180 0 1 (dk_at dksJ18_hasNext_0 5 rfl rfl)
theorem dJ18_hasNext_8 : decode cJ18_hasNext 8 = .ok (.getfield 22, 3) := dk_180 0 22 (dk_at dksJ18_hasNext_0 8 rfl rfl)
theorem dJ18_hasNext_11 : decode cJ18_hasNext 11 = .ok (.if_icmp .ge 7, 3) := dk_162 0 7 (dk_at dksJ18_hasNext_0 11 rfl rfl)
theorem dJ18_hasNext_14 : decode cJ18_hasNext 14 = .ok (.iconst 1, 1) := dk_4 (dk_at dksJ18_hasNext_0 14 rfl rfl)
theorem dJ18_hasNext_15 : decode cJ18_hasNext 15 = .ok (.goto 4, 3) := dk_167 0 4 (dk_at dksJ18_hasNext_0 15 rfl rfl)
theorem dJ18_hasNext_18 : decode cJ18_hasNext 18 = .ok (.iconst 0, 1) := dk_3 (dk_at dksJ18_hasNext_0 18 rfl rfl)
theorem dJ18_hasNext_19 : decode cJ18_hasNext 19 = .ok (.ireturn, 1) := dk_172 (dk_at dksJ18_hasNext_0 19 rfl rfl)
abbrev cJ18_next : ByteArray := prog_49_method_3_code
def yJ18_next : MethodName := ⟨RJ18, "next", "()Ljava/lang/Object;"⟩
def dkwJ18_next_2 : List UInt8 := [42, 180, 0, 46, 180, 0, 52, 176]
abbrev dktJ18_next_2 : List UInt8 := dkwJ18_next_2 ++ []
def dkwJ18_next_1 : List UInt8 := [181, 0, 46, 42, 42, 180, 0, 29, 180, 0, 49, 181, 0, 29, 42, 89, 180, 0, 33, 4, 96, 181, 0, 33]
abbrev dktJ18_next_1 : List UInt8 := dkwJ18_next_1 ++ dktJ18_next_2
def dkwJ18_next_0 : List UInt8 := [42, 182, 0, 36, 42, 182, 0, 39, 154, 0, 11, 187, 0, 43, 89, 183, 0, 45, 191, 42, 42, 180, 0, 29]
abbrev dktJ18_next_0 : List UInt8 := dkwJ18_next_0 ++ dktJ18_next_1
theorem dksJ18_next_0 : cJ18_next.data.toList.drop 0 = dktJ18_next_0 := by decide +kernel
theorem dksJ18_next_1 : cJ18_next.data.toList.drop 24 = dktJ18_next_1 := dk_seg dksJ18_next_0 24 rfl rfl
theorem dksJ18_next_2 : cJ18_next.data.toList.drop 48 = dktJ18_next_2 := dk_seg dksJ18_next_1 24 rfl rfl
theorem dJ18_next_0 : decode cJ18_next 0 = .ok (.aload_n 0, 1) := dk_42 (dk_at dksJ18_next_0 0 rfl rfl)
theorem dJ18_next_1 : decode cJ18_next 1 = .ok (.invokevirtual 36, 3) := dk_182 0 36 (dk_at dksJ18_next_0 1 rfl rfl)
theorem dJ18_next_4 : decode cJ18_next 4 = .ok (.aload_n 0, 1) := dk_42 (dk_at dksJ18_next_0 4 rfl rfl)
theorem dJ18_next_5 : decode cJ18_next 5 = .ok (.invokevirtual 39, 3) := dk_182 0 39 (dk_at dksJ18_next_0 5 rfl rfl)
theorem dJ18_next_8 : decode cJ18_next 8 = .ok (.ifCond .ne 11, 3) := dk_154 0 11 (dk_at dksJ18_next_0 8 rfl rfl)
theorem dJ18_next_11 : decode cJ18_next 11 = .ok (.new 43, 3) := dk_187 0 43 (dk_at dksJ18_next_0 11 rfl rfl)
theorem dJ18_next_14 : decode cJ18_next 14 = .ok (.dup, 1) := dk_89 (dk_at dksJ18_next_0 14 rfl rfl)
theorem dJ18_next_15 : decode cJ18_next 15 = .ok (.invokespecial 45, 3) := dk_183 0 45 (dk_at dksJ18_next_0 15 rfl rfl)
theorem dJ18_next_18 : decode cJ18_next 18 = .ok (.athrow, 1) := dk_191 (dk_at dksJ18_next_0 18 rfl rfl)
theorem dJ18_next_19 : decode cJ18_next 19 = .ok (.aload_n 0, 1) := dk_42 (dk_at dksJ18_next_0 19 rfl rfl)
theorem dJ18_next_20 : decode cJ18_next 20 = .ok (.aload_n 0, 1) := dk_42 (dk_at dksJ18_next_0 20 rfl rfl)
theorem dJ18_next_21 : decode cJ18_next 21 = .ok (.getfield 29, 3) := dk_180 0 29 (dk_at dksJ18_next_0 21 rfl rfl)
theorem dJ18_next_24 : decode cJ18_next 24 = .ok (.putfield 46, 3) := dk_181 0 46 (dk_at dksJ18_next_1 0 rfl rfl)
theorem dJ18_next_27 : decode cJ18_next 27 = .ok (.aload_n 0, 1) := dk_42 (dk_at dksJ18_next_1 3 rfl rfl)
theorem dJ18_next_28 : decode cJ18_next 28 = .ok (.aload_n 0, 1) := dk_42 (dk_at dksJ18_next_1 4 rfl rfl)
theorem dJ18_next_29 : decode cJ18_next 29 = .ok (.getfield 29, 3) := dk_180 0 29 (dk_at dksJ18_next_1 5 rfl rfl)
theorem dJ18_next_32 : decode cJ18_next 32 = .ok (.getfield 49, 3) := dk_180 0 49 (dk_at dksJ18_next_1 8 rfl rfl)
theorem dJ18_next_35 : decode cJ18_next 35 = .ok (.putfield 29, 3) := dk_181 0 29 (dk_at dksJ18_next_1 11 rfl rfl)
theorem dJ18_next_38 : decode cJ18_next 38 = .ok (.aload_n 0, 1) := dk_42 (dk_at dksJ18_next_1 14 rfl rfl)
theorem dJ18_next_39 : decode cJ18_next 39 = .ok (.dup, 1) := dk_89 (dk_at dksJ18_next_1 15 rfl rfl)
theorem dJ18_next_40 : decode cJ18_next 40 = .ok (.getfield 33, 3) := dk_180 0 33 (dk_at dksJ18_next_1 16 rfl rfl)
theorem dJ18_next_43 : decode cJ18_next 43 = .ok (.iconst 1, 1) := dk_4 (dk_at dksJ18_next_1 19 rfl rfl)
theorem dJ18_next_44 : decode cJ18_next 44 = .ok (.iadd, 1) := dk_96 (dk_at dksJ18_next_1 20 rfl rfl)
theorem dJ18_next_45 : decode cJ18_next 45 = .ok (.putfield 33, 3) := dk_181 0 33 (dk_at dksJ18_next_1 21 rfl rfl)
theorem dJ18_next_48 : decode cJ18_next 48 = .ok (.aload_n 0, 1) := dk_42 (dk_at dksJ18_next_2 0 rfl rfl)
theorem dJ18_next_49 : decode cJ18_next 49 = .ok (.getfield 46, 3) := dk_180 0 46 (dk_at dksJ18_next_2 1 rfl rfl)
theorem dJ18_next_52 : decode cJ18_next 52 = .ok (.getfield 52, 3) := dk_180 0 52 (dk_at dksJ18_next_2 4 rfl rfl)
theorem dJ18_next_55 : decode cJ18_next 55 = .ok (.areturn, 1) := dk_176 (dk_at dksJ18_next_2 7 rfl rfl)
abbrev cJ18_checkForComodification : ByteArray := prog_49_method_12_code
def yJ18_checkForComodification : MethodName := ⟨RJ18, "checkForComodification", "()V"⟩
def dkwJ18_checkForComodification_0 : List UInt8 := [42, 180, 0, 1, 180, 0, 13, 42, 180, 0, 19, 159, 0, 11, 187, 0, 91, 89, 183, 0, 93, 191, 177]
abbrev dktJ18_checkForComodification_0 : List UInt8 := dkwJ18_checkForComodification_0 ++ []
theorem dksJ18_checkForComodification_0 : cJ18_checkForComodification.data.toList.drop 0 = dktJ18_checkForComodification_0 := by decide +kernel
theorem dJ18_checkForComodification_0 : decode cJ18_checkForComodification 0 = .ok (.aload_n 0, 1) := dk_42 (dk_at dksJ18_checkForComodification_0 0 rfl rfl)
theorem dJ18_checkForComodification_1 : decode cJ18_checkForComodification 1 = .ok (.getfield 1, 3) := dk_180 0 1 (dk_at dksJ18_checkForComodification_0 1 rfl rfl)
theorem dJ18_checkForComodification_4 : decode cJ18_checkForComodification 4 = .ok (.getfield 13, 3) := dk_180 0 13 (dk_at dksJ18_checkForComodification_0 4 rfl rfl)
theorem dJ18_checkForComodification_7 : decode cJ18_checkForComodification 7 = .ok (.aload_n 0, 1) := dk_42 (dk_at dksJ18_checkForComodification_0 7 rfl rfl)
theorem dJ18_checkForComodification_8 : decode cJ18_checkForComodification 8 = .ok (.getfield 19, 3) := dk_180 0 19 (dk_at dksJ18_checkForComodification_0 8 rfl rfl)
theorem dJ18_checkForComodification_11 : decode cJ18_checkForComodification 11 = .ok (.if_icmp .eq 11, 3) := dk_159 0 11 (dk_at dksJ18_checkForComodification_0 11 rfl rfl)
theorem dJ18_checkForComodification_14 : decode cJ18_checkForComodification 14 = .ok (.new 91, 3) := dk_187 0 91 (dk_at dksJ18_checkForComodification_0 14 rfl rfl)
theorem dJ18_checkForComodification_17 : decode cJ18_checkForComodification 17 = .ok (.dup, 1) := dk_89 (dk_at dksJ18_checkForComodification_0 17 rfl rfl)
theorem dJ18_checkForComodification_18 : decode cJ18_checkForComodification 18 = .ok (.invokespecial 93, 3) := dk_183 0 93 (dk_at dksJ18_checkForComodification_0 18 rfl rfl)
theorem dJ18_checkForComodification_21 : decode cJ18_checkForComodification 21 = .ok (.athrow, 1) := dk_191 (dk_at dksJ18_checkForComodification_0 21 rfl rfl)
theorem dJ18_checkForComodification_22 : decode cJ18_checkForComodification 22 = .ok (.return_, 1) := dk_177 (dk_at dksJ18_checkForComodification_0 22 rfl rfl)
abbrev cJ18_remove : ByteArray := prog_49_method_8_code
def yJ18_remove : MethodName := ⟨RJ18, "remove", "()V"⟩
def dkwJ18_remove_3 : List UInt8 := [181, 0, 46, 42, 89, 180, 0, 19, 4, 96, 181, 0, 19, 177]
abbrev dktJ18_remove_3 : List UInt8 := dkwJ18_remove_3 ++ []
def dkwJ18_remove_2 : List UInt8 := [166, 0, 11, 42, 43, 181, 0, 29, 167, 0, 13, 42, 89, 180, 0, 33, 4, 100, 181, 0, 33, 42, 1]
abbrev dktJ18_remove_2 : List UInt8 := dkwJ18_remove_2 ++ dktJ18_remove_3
def dkwJ18_remove_1 : List UInt8 := [180, 0, 49, 76, 42, 180, 0, 1, 42, 180, 0, 46, 182, 0, 68, 87, 42, 180, 0, 29, 42, 180, 0, 46]
abbrev dktJ18_remove_1 : List UInt8 := dkwJ18_remove_1 ++ dktJ18_remove_2
def dkwJ18_remove_0 : List UInt8 := [42, 182, 0, 36, 42, 180, 0, 46, 199, 0, 11, 187, 0, 65, 89, 183, 0, 67, 191, 42, 180, 0, 46]
abbrev dktJ18_remove_0 : List UInt8 := dkwJ18_remove_0 ++ dktJ18_remove_1
theorem dksJ18_remove_0 : cJ18_remove.data.toList.drop 0 = dktJ18_remove_0 := by decide +kernel
theorem dksJ18_remove_1 : cJ18_remove.data.toList.drop 23 = dktJ18_remove_1 := dk_seg dksJ18_remove_0 23 rfl rfl
theorem dksJ18_remove_2 : cJ18_remove.data.toList.drop 47 = dktJ18_remove_2 := dk_seg dksJ18_remove_1 24 rfl rfl
theorem dksJ18_remove_3 : cJ18_remove.data.toList.drop 70 = dktJ18_remove_3 := dk_seg dksJ18_remove_2 23 rfl rfl
theorem dJ18_remove_0 : decode cJ18_remove 0 = .ok (.aload_n 0, 1) := dk_42 (dk_at dksJ18_remove_0 0 rfl rfl)
theorem dJ18_remove_1 : decode cJ18_remove 1 = .ok (.invokevirtual 36, 3) := dk_182 0 36 (dk_at dksJ18_remove_0 1 rfl rfl)
theorem dJ18_remove_4 : decode cJ18_remove 4 = .ok (.aload_n 0, 1) := dk_42 (dk_at dksJ18_remove_0 4 rfl rfl)
theorem dJ18_remove_5 : decode cJ18_remove 5 = .ok (.getfield 46, 3) := dk_180 0 46 (dk_at dksJ18_remove_0 5 rfl rfl)
theorem dJ18_remove_8 : decode cJ18_remove 8 = .ok (.ifnonnull 11, 3) := dk_199 0 11 (dk_at dksJ18_remove_0 8 rfl rfl)
theorem dJ18_remove_11 : decode cJ18_remove 11 = .ok (.new 65, 3) := dk_187 0 65 (dk_at dksJ18_remove_0 11 rfl rfl)
theorem dJ18_remove_14 : decode cJ18_remove 14 = .ok (.dup, 1) := dk_89 (dk_at dksJ18_remove_0 14 rfl rfl)
theorem dJ18_remove_15 : decode cJ18_remove 15 = .ok (.invokespecial 67, 3) := dk_183 0 67 (dk_at dksJ18_remove_0 15 rfl rfl)
theorem dJ18_remove_18 : decode cJ18_remove 18 = .ok (.athrow, 1) := dk_191 (dk_at dksJ18_remove_0 18 rfl rfl)
theorem dJ18_remove_19 : decode cJ18_remove 19 = .ok (.aload_n 0, 1) := dk_42 (dk_at dksJ18_remove_0 19 rfl rfl)
theorem dJ18_remove_20 : decode cJ18_remove 20 = .ok (.getfield 46, 3) := dk_180 0 46 (dk_at dksJ18_remove_0 20 rfl rfl)
theorem dJ18_remove_23 : decode cJ18_remove 23 = .ok (.getfield 49, 3) := dk_180 0 49 (dk_at dksJ18_remove_1 0 rfl rfl)
theorem dJ18_remove_26 : decode cJ18_remove 26 = .ok (.astore_n 1, 1) := dk_76 (dk_at dksJ18_remove_1 3 rfl rfl)
theorem dJ18_remove_27 : decode cJ18_remove 27 = .ok (.aload_n 0, 1) := dk_42 (dk_at dksJ18_remove_1 4 rfl rfl)
theorem dJ18_remove_28 : decode cJ18_remove 28 = .ok (.getfield 1, 3) := dk_180 0 1 (dk_at dksJ18_remove_1 5 rfl rfl)
theorem dJ18_remove_31 : decode cJ18_remove 31 = .ok (.aload_n 0, 1) := dk_42 (dk_at dksJ18_remove_1 8 rfl rfl)
theorem dJ18_remove_32 : decode cJ18_remove 32 = .ok (.getfield 46, 3) := dk_180 0 46 (dk_at dksJ18_remove_1 9 rfl rfl)
theorem dJ18_remove_35 : decode cJ18_remove 35 = .ok (.invokevirtual 68, 3) := dk_182 0 68 (dk_at dksJ18_remove_1 12 rfl rfl)
theorem dJ18_remove_38 : decode cJ18_remove 38 = .ok (.pop, 1) := dk_87 (dk_at dksJ18_remove_1 15 rfl rfl)
theorem dJ18_remove_39 : decode cJ18_remove 39 = .ok (.aload_n 0, 1) := dk_42 (dk_at dksJ18_remove_1 16 rfl rfl)
theorem dJ18_remove_40 : decode cJ18_remove 40 = .ok (.getfield 29, 3) := dk_180 0 29 (dk_at dksJ18_remove_1 17 rfl rfl)
theorem dJ18_remove_43 : decode cJ18_remove 43 = .ok (.aload_n 0, 1) := dk_42 (dk_at dksJ18_remove_1 20 rfl rfl)
theorem dJ18_remove_44 : decode cJ18_remove 44 = .ok (.getfield 46, 3) := dk_180 0 46 (dk_at dksJ18_remove_1 21 rfl rfl)
theorem dJ18_remove_47 : decode cJ18_remove 47 = .ok (.if_acmp .ne 11, 3) := dk_166 0 11 (dk_at dksJ18_remove_2 0 rfl rfl)
theorem dJ18_remove_50 : decode cJ18_remove 50 = .ok (.aload_n 0, 1) := dk_42 (dk_at dksJ18_remove_2 3 rfl rfl)
theorem dJ18_remove_51 : decode cJ18_remove 51 = .ok (.aload_n 1, 1) := dk_43 (dk_at dksJ18_remove_2 4 rfl rfl)
theorem dJ18_remove_52 : decode cJ18_remove 52 = .ok (.putfield 29, 3) := dk_181 0 29 (dk_at dksJ18_remove_2 5 rfl rfl)
theorem dJ18_remove_55 : decode cJ18_remove 55 = .ok (.goto 13, 3) := dk_167 0 13 (dk_at dksJ18_remove_2 8 rfl rfl)
theorem dJ18_remove_58 : decode cJ18_remove 58 = .ok (.aload_n 0, 1) := dk_42 (dk_at dksJ18_remove_2 11 rfl rfl)
theorem dJ18_remove_59 : decode cJ18_remove 59 = .ok (.dup, 1) := dk_89 (dk_at dksJ18_remove_2 12 rfl rfl)
theorem dJ18_remove_60 : decode cJ18_remove 60 = .ok (.getfield 33, 3) := dk_180 0 33 (dk_at dksJ18_remove_2 13 rfl rfl)
theorem dJ18_remove_63 : decode cJ18_remove 63 = .ok (.iconst 1, 1) := dk_4 (dk_at dksJ18_remove_2 16 rfl rfl)
theorem dJ18_remove_64 : decode cJ18_remove 64 = .ok (.isub, 1) := dk_100 (dk_at dksJ18_remove_2 17 rfl rfl)
theorem dJ18_remove_65 : decode cJ18_remove 65 = .ok (.putfield 33, 3) := dk_181 0 33 (dk_at dksJ18_remove_2 18 rfl rfl)
theorem dJ18_remove_68 : decode cJ18_remove 68 = .ok (.aload_n 0, 1) := dk_42 (dk_at dksJ18_remove_2 21 rfl rfl)
theorem dJ18_remove_69 : decode cJ18_remove 69 = .ok (.aconst_null, 1) := dk_1 (dk_at dksJ18_remove_2 22 rfl rfl)
theorem dJ18_remove_70 : decode cJ18_remove 70 = .ok (.putfield 46, 3) := dk_181 0 46 (dk_at dksJ18_remove_3 0 rfl rfl)
theorem dJ18_remove_73 : decode cJ18_remove 73 = .ok (.aload_n 0, 1) := dk_42 (dk_at dksJ18_remove_3 3 rfl rfl)
theorem dJ18_remove_74 : decode cJ18_remove 74 = .ok (.dup, 1) := dk_89 (dk_at dksJ18_remove_3 4 rfl rfl)
theorem dJ18_remove_75 : decode cJ18_remove 75 = .ok (.getfield 19, 3) := dk_180 0 19 (dk_at dksJ18_remove_3 5 rfl rfl)
theorem dJ18_remove_78 : decode cJ18_remove 78 = .ok (.iconst 1, 1) := dk_4 (dk_at dksJ18_remove_3 8 rfl rfl)
theorem dJ18_remove_79 : decode cJ18_remove 79 = .ok (.iadd, 1) := dk_96 (dk_at dksJ18_remove_3 9 rfl rfl)
theorem dJ18_remove_80 : decode cJ18_remove 80 = .ok (.putfield 19, 3) := dk_181 0 19 (dk_at dksJ18_remove_3 10 rfl rfl)
theorem dJ18_remove_83 : decode cJ18_remove 83 = .ok (.return_, 1) := dk_177 (dk_at dksJ18_remove_3 13 rfl rfl)
theorem q80 : (Jvm.Cond.initialized "java/util/LinkedList$ListItr") ∈ lw_all := lw_g (lw_at lw_m1 25 rfl) rfl
theorem q356 : (Jvm.Cond.fieldLink "java/util/LinkedList$ListItr" (22 : Nat) "java/util/LinkedList" "size" "I") ∈ lw_all := lw_g (lw_at lw_m2 61 rfl) rfl
theorem q360 : (Jvm.Cond.fieldLink "java/util/LinkedList$ListItr" (13 : Nat) "java/util/LinkedList" "modCount" "I") ∈ lw_all := lw_g (lw_at lw_m2 65 rfl) rfl
theorem q408 : (Jvm.Cond.fieldLink "java/util/LinkedList$ListItr" (52 : Nat) "java/util/LinkedList$Node" "item" "Ljava/lang/Object;") ∈ lw_all := lw_g (lw_at lw_m2 113 rfl) rfl
theorem q411 : (Jvm.Cond.fieldLink "java/util/LinkedList$ListItr" (49 : Nat) "java/util/LinkedList$Node" "next" "Ljava/util/LinkedList$Node;") ∈ lw_all := lw_g (lw_at lw_m2 116 rfl) rfl
theorem q449 : (Jvm.Cond.instantiable "java/util/LinkedList$ListItr" (5 : Nat)) ∈ lw_all := lw_g (lw_at lw_m2 154 rfl) rfl
theorem q451 : (Jvm.Cond.instanceMethod ({ cls := "java/util/LinkedList$ListItr", name := "<init>", desc := "(Ljava/util/LinkedList;I)V" } : Jvm.MethodName)) ∈ lw_all := lw_g (lw_at lw_m2 156 rfl) rfl
theorem q452 : (Jvm.Cond.code ({ cls := "java/util/LinkedList$ListItr", name := "<init>", desc := "(Ljava/util/LinkedList;I)V" } : Jvm.MethodName) prog_49_method_1_code (3 : Nat) (Option.none : Option Jvm.ClassFile.FieldType)) ∈ lw_all := lw_g (lw_at lw_m2 157 rfl) rfl
theorem q453 : (Jvm.Cond.methodLink "java/util/LinkedList$ListItr" (7 : Nat) ({ cls := "java/lang/Object", name := "<init>", desc := "()V" } : Jvm.MethodName)) ∈ lw_all := lw_g (lw_at lw_m2 158 rfl) rfl
theorem q454 : (Jvm.Cond.methodLink "java/util/LinkedList$ListItr" (25 : Nat) ({ cls := "java/util/LinkedList", name := "node", desc := "(I)Ljava/util/LinkedList$Node;" } : Jvm.MethodName)) ∈ lw_all := lw_g (lw_at lw_m2 159 rfl) rfl
theorem q458 : (Jvm.Cond.fieldLink "java/util/LinkedList$ListItr" (46 : Nat) "java/util/LinkedList$ListItr" "lastReturned" "Ljava/util/LinkedList$Node;") ∈ lw_all := lw_g (lw_at lw_m2 163 rfl) rfl
theorem q459 : (Jvm.Cond.fieldLink "java/util/LinkedList$ListItr" (29 : Nat) "java/util/LinkedList$ListItr" "next" "Ljava/util/LinkedList$Node;") ∈ lw_all := lw_g (lw_at lw_m2 164 rfl) rfl
theorem q460 : (Jvm.Cond.fieldLink "java/util/LinkedList$ListItr" (33 : Nat) "java/util/LinkedList$ListItr" "nextIndex" "I") ∈ lw_all := lw_g (lw_at lw_m2 165 rfl) rfl
theorem q461 : (Jvm.Cond.fieldLink "java/util/LinkedList$ListItr" (19 : Nat) "java/util/LinkedList$ListItr" "expectedModCount" "I") ∈ lw_all := lw_g (lw_at lw_m2 166 rfl) rfl
theorem q462 : (Jvm.Cond.fieldLink "java/util/LinkedList$ListItr" (1 : Nat) "java/util/LinkedList$ListItr" "this$0" "Ljava/util/LinkedList;") ∈ lw_all := lw_g (lw_at lw_m2 167 rfl) rfl
theorem q463 : (Jvm.Cond.lays "java/util/LinkedList$ListItr" "java/util/LinkedList$ListItr" "lastReturned" "Ljava/util/LinkedList$Node;") ∈ lw_all := lw_g (lw_at lw_m2 168 rfl) rfl
theorem q464 : (Jvm.Cond.soleField "java/util/LinkedList$ListItr" "lastReturned") ∈ lw_all := lw_g (lw_at lw_m2 169 rfl) rfl
theorem q465 : (Jvm.Cond.lays "java/util/LinkedList$ListItr" "java/util/LinkedList$ListItr" "next" "Ljava/util/LinkedList$Node;") ∈ lw_all := lw_g (lw_at lw_m2 170 rfl) rfl
theorem q466 : (Jvm.Cond.soleField "java/util/LinkedList$ListItr" "next") ∈ lw_all := lw_g (lw_at lw_m2 171 rfl) rfl
theorem q467 : (Jvm.Cond.lays "java/util/LinkedList$ListItr" "java/util/LinkedList$ListItr" "nextIndex" "I") ∈ lw_all := lw_g (lw_at lw_m2 172 rfl) rfl
theorem q468 : (Jvm.Cond.soleField "java/util/LinkedList$ListItr" "nextIndex") ∈ lw_all := lw_g (lw_at lw_m2 173 rfl) rfl
theorem q469 : (Jvm.Cond.lays "java/util/LinkedList$ListItr" "java/util/LinkedList$ListItr" "expectedModCount" "I") ∈ lw_all := lw_g (lw_at lw_m2 174 rfl) rfl
theorem q470 : (Jvm.Cond.soleField "java/util/LinkedList$ListItr" "expectedModCount") ∈ lw_all := lw_g (lw_at lw_m2 175 rfl) rfl
theorem q471 : (Jvm.Cond.laysFinal "java/util/LinkedList$ListItr" "java/util/LinkedList$ListItr" "this$0" "Ljava/util/LinkedList;") ∈ lw_all := lw_g (lw_at lw_m2 176 rfl) rfl
theorem q472 : (Jvm.Cond.soleField "java/util/LinkedList$ListItr" "this$0") ∈ lw_all := lw_g (lw_at lw_m2 177 rfl) rfl
theorem q473 : (Jvm.Cond.superclass "java/util/LinkedList$ListItr" "java/lang/Object") ∈ lw_all := lw_g (lw_at lw_m2 178 rfl) rfl
theorem q497 : (Jvm.Cond.castable "java/util/LinkedList$ListItr" "java/util/Iterator") ∈ lw_tbl := lw_at lw_m2 202 rfl
theorem q498 : (Jvm.Cond.selects "java/util/LinkedList$ListItr" ({ cls := "java/util/Iterator", name := "hasNext", desc := "()Z" } : Jvm.MethodName) ({ cls := "java/util/LinkedList$ListItr", name := "hasNext", desc := "()Z" } : Jvm.MethodName)) ∈ lw_all := lw_g (lw_at lw_m2 203 rfl) rfl
theorem q499 : (Jvm.Cond.unhidden "java/util/LinkedList$ListItr" "hasNext" "()Z") ∈ lw_tbl := lw_at lw_m2 204 rfl
theorem q500 : (Jvm.Cond.instanceMethod ({ cls := "java/util/LinkedList$ListItr", name := "hasNext", desc := "()Z" } : Jvm.MethodName)) ∈ lw_all := lw_g (lw_at lw_m2 205 rfl) rfl
theorem q501 : (Jvm.Cond.publicMethod ({ cls := "java/util/LinkedList$ListItr", name := "hasNext", desc := "()Z" } : Jvm.MethodName)) ∈ lw_tbl := lw_at lw_m2 206 rfl
theorem q502 : (Jvm.Cond.code ({ cls := "java/util/LinkedList$ListItr", name := "hasNext", desc := "()Z" } : Jvm.MethodName) prog_49_method_2_code (1 : Nat) (Option.some Jvm.ClassFile.FieldType.boolean)) ∈ lw_all := lw_g (lw_at lw_m2 207 rfl) rfl
theorem q609 : (Jvm.Cond.selects "java/util/LinkedList$ListItr" ({ cls := "java/lang/Object", name := "getClass", desc := "()Ljava/lang/Class;" } : Jvm.MethodName) ({ cls := "java/lang/Object", name := "getClass", desc := "()Ljava/lang/Class;" } : Jvm.MethodName)) ∈ lw_all := lw_g (lw_at lw_m3 74 rfl) rfl
theorem q854 : (Jvm.Cond.selects "java/util/LinkedList$ListItr" ({ cls := "java/util/Iterator", name := "next", desc := "()Ljava/lang/Object;" } : Jvm.MethodName) ({ cls := "java/util/LinkedList$ListItr", name := "next", desc := "()Ljava/lang/Object;" } : Jvm.MethodName)) ∈ lw_all := lw_g (lw_at lw_m4 79 rfl) rfl
theorem q855 : (Jvm.Cond.unhidden "java/util/LinkedList$ListItr" "next" "()Ljava/lang/Object;") ∈ lw_tbl := lw_at lw_m4 80 rfl
theorem q856 : (Jvm.Cond.instanceMethod ({ cls := "java/util/LinkedList$ListItr", name := "next", desc := "()Ljava/lang/Object;" } : Jvm.MethodName)) ∈ lw_all := lw_g (lw_at lw_m4 81 rfl) rfl
theorem q857 : (Jvm.Cond.publicMethod ({ cls := "java/util/LinkedList$ListItr", name := "next", desc := "()Ljava/lang/Object;" } : Jvm.MethodName)) ∈ lw_tbl := lw_at lw_m4 82 rfl
theorem q858 : (Jvm.Cond.code ({ cls := "java/util/LinkedList$ListItr", name := "next", desc := "()Ljava/lang/Object;" } : Jvm.MethodName) prog_49_method_3_code (1 : Nat) (Option.some (Jvm.ClassFile.FieldType.object "java/lang/Object"))) ∈ lw_all := lw_g (lw_at lw_m4 83 rfl) rfl
theorem q859 : (Jvm.Cond.methodLink "java/util/LinkedList$ListItr" (36 : Nat) ({ cls := "java/util/LinkedList$ListItr", name := "checkForComodification", desc := "()V" } : Jvm.MethodName)) ∈ lw_all := lw_g (lw_at lw_m4 84 rfl) rfl
theorem q860 : (Jvm.Cond.instanceMethod ({ cls := "java/util/LinkedList$ListItr", name := "checkForComodification", desc := "()V" } : Jvm.MethodName)) ∈ lw_all := lw_g (lw_at lw_m4 85 rfl) rfl
theorem q861 : (Jvm.Cond.selects "java/util/LinkedList$ListItr" ({ cls := "java/util/LinkedList$ListItr", name := "checkForComodification", desc := "()V" } : Jvm.MethodName) ({ cls := "java/util/LinkedList$ListItr", name := "checkForComodification", desc := "()V" } : Jvm.MethodName)) ∈ lw_all := lw_g (lw_at lw_m4 86 rfl) rfl
theorem q862 : (Jvm.Cond.code ({ cls := "java/util/LinkedList$ListItr", name := "checkForComodification", desc := "()V" } : Jvm.MethodName) prog_49_method_12_code (1 : Nat) (Option.none : Option Jvm.ClassFile.FieldType)) ∈ lw_all := lw_g (lw_at lw_m4 87 rfl) rfl
theorem q863 : (Jvm.Cond.methodLink "java/util/LinkedList$ListItr" (39 : Nat) ({ cls := "java/util/LinkedList$ListItr", name := "hasNext", desc := "()Z" } : Jvm.MethodName)) ∈ lw_all := lw_g (lw_at lw_m4 88 rfl) rfl
theorem q947 : (Jvm.Cond.selects "java/util/LinkedList$ListItr" ({ cls := "java/util/Iterator", name := "remove", desc := "()V" } : Jvm.MethodName) ({ cls := "java/util/LinkedList$ListItr", name := "remove", desc := "()V" } : Jvm.MethodName)) ∈ lw_all := lw_g (lw_at lw_m4 172 rfl) rfl
theorem q948 : (Jvm.Cond.unhidden "java/util/LinkedList$ListItr" "remove" "()V") ∈ lw_tbl := lw_at lw_m4 173 rfl
theorem q949 : (Jvm.Cond.instanceMethod ({ cls := "java/util/LinkedList$ListItr", name := "remove", desc := "()V" } : Jvm.MethodName)) ∈ lw_all := lw_g (lw_at lw_m4 174 rfl) rfl
theorem q950 : (Jvm.Cond.publicMethod ({ cls := "java/util/LinkedList$ListItr", name := "remove", desc := "()V" } : Jvm.MethodName)) ∈ lw_tbl := lw_at lw_m4 175 rfl
theorem q951 : (Jvm.Cond.code ({ cls := "java/util/LinkedList$ListItr", name := "remove", desc := "()V" } : Jvm.MethodName) prog_49_method_8_code (2 : Nat) (Option.none : Option Jvm.ClassFile.FieldType)) ∈ lw_all := lw_g (lw_at lw_m4 176 rfl) rfl
theorem q952 : (Jvm.Cond.methodLink "java/util/LinkedList$ListItr" (68 : Nat) ({ cls := "java/util/LinkedList", name := "unlink", desc := "(Ljava/util/LinkedList$Node;)Ljava/lang/Object;" } : Jvm.MethodName)) ∈ lw_all := lw_g (lw_at lw_m4 177 rfl) rfl
theorem q1519 : (Jvm.Cond.selects "java/util/LinkedList$ListItr" ({ cls := "java/util/LinkedList$ListItr", name := "hasNext", desc := "()Z" } : Jvm.MethodName) ({ cls := "java/util/LinkedList$ListItr", name := "hasNext", desc := "()Z" } : Jvm.MethodName)) ∈ lw_all := lw_g (lw_at lw_m7 24 rfl) rfl
theorem q1539 : (Jvm.Cond.castable "java/util/LinkedList$ListItr" "java/lang/Object") ∈ lw_tbl := lw_at lw_m7 44 rfl
theorem in_J18 : ∀ w ∈ wsJ180, w ∈ lw_all := lw_in wsJ180 [463, 465, 467, 469, 471] (by decide +kernel) (by decide +kernel)

/-! java/util/ArrayDeque$DeqIterator -/
set_option maxRecDepth 100000
def RJ32 : String := "java/util/ArrayDeque$DeqIterator"
def TJ32 : u_T := fun k => match k with
  | 0 => ("java/util/ArrayDeque$DeqIterator", "cursor", "I", false)
  | 1 => ("java/util/ArrayDeque$DeqIterator", "remaining", "I", false)
  | 2 => ("java/util/ArrayDeque$DeqIterator", "lastRet", "I", false)
  | _ => ("java/util/ArrayDeque$DeqIterator", "this$0", "Ljava/util/ArrayDeque;", true)
def tyJ32 : Nat → FieldType := fun k => match k with
  | 0 => .int
  | 1 => .int
  | 2 => .int
  | _ => .object "java/util/ArrayDeque"
abbrev wsJ320 : List Cond := u_ws RJ32 TJ32 4
theorem nmJ32 : ∀ a, a < 4 → ∀ b, b < 4 → a ≠ b → (TJ32 a).2.1 ≠ (TJ32 b).2.1 := by decide +kernel
theorem tyJ32_ok : ∀ k, k < 4 → parseFieldDescriptor (TJ32 k).2.2.1 = some (tyJ32 k) := by decide +kernel
abbrev cJ32_hasNext : ByteArray := prog_34_method_2_code
def yJ32_hasNext : MethodName := ⟨RJ32, "hasNext", "()Z"⟩
def dkwJ32_hasNext_0 : List UInt8 := [42, 180, 0, 19, 158, 0, 7, 4, 167, 0, 4, 3, 172]
abbrev dktJ32_hasNext_0 : List UInt8 := dkwJ32_hasNext_0 ++ []
theorem dksJ32_hasNext_0 : cJ32_hasNext.data.toList.drop 0 = dktJ32_hasNext_0 := by decide +kernel
theorem dJ32_hasNext_0 : decode cJ32_hasNext 0 = .ok (.aload_n 0, 1) := dk_42 (dk_at dksJ32_hasNext_0 0 rfl rfl)
theorem dJ32_hasNext_1 : decode cJ32_hasNext 1 = .ok (.getfield 19, 3) := dk_180 0 19 (dk_at dksJ32_hasNext_0 1 rfl rfl)
theorem dJ32_hasNext_4 : decode cJ32_hasNext 4 = .ok (.ifCond .le 7, 3) := dk_158 0 7 (dk_at dksJ32_hasNext_0 4 rfl rfl)
theorem dJ32_hasNext_7 : decode cJ32_hasNext 7 = .ok (.iconst 1, 1) := dk_4 (dk_at dksJ32_hasNext_0 7 rfl rfl)
theorem dJ32_hasNext_8 : decode cJ32_hasNext 8 = .ok (.goto 4, 3) := dk_167 0 4 (dk_at dksJ32_hasNext_0 8 rfl rfl)
theorem dJ32_hasNext_11 : decode cJ32_hasNext 11 = .ok (.iconst 0, 1) := dk_3 (dk_at dksJ32_hasNext_0 11 rfl rfl)
theorem dJ32_hasNext_12 : decode cJ32_hasNext 12 = .ok (.ireturn, 1) := dk_172 (dk_at dksJ32_hasNext_0 12 rfl rfl)
abbrev cJ32_next : ByteArray := prog_34_method_3_code
def yJ32_next : MethodName := ⟨RJ32, "next", "()Ljava/lang/Object;"⟩
def dkwJ32_next_2 : List UInt8 := [181, 0, 29, 42, 89, 180, 0, 19, 4, 100, 181, 0, 19, 44, 176]
abbrev dktJ32_next_2 : List UInt8 := dkwJ32_next_2 ++ []
def dkwJ32_next_1 : List UInt8 := [42, 180, 0, 29, 184, 0, 39, 77, 42, 42, 42, 180, 0, 29, 90, 181, 0, 23, 43, 190, 184, 0, 43]
abbrev dktJ32_next_1 : List UInt8 := dkwJ32_next_1 ++ dktJ32_next_2
def dkwJ32_next_0 : List UInt8 := [42, 180, 0, 19, 157, 0, 11, 187, 0, 32, 89, 183, 0, 34, 191, 42, 180, 0, 1, 180, 0, 35, 76, 43]
abbrev dktJ32_next_0 : List UInt8 := dkwJ32_next_0 ++ dktJ32_next_1
theorem dksJ32_next_0 : cJ32_next.data.toList.drop 0 = dktJ32_next_0 := by decide +kernel
theorem dksJ32_next_1 : cJ32_next.data.toList.drop 24 = dktJ32_next_1 := dk_seg dksJ32_next_0 24 rfl rfl
theorem dksJ32_next_2 : cJ32_next.data.toList.drop 47 = dktJ32_next_2 := dk_seg dksJ32_next_1 23 rfl rfl
theorem dJ32_next_0 : decode cJ32_next 0 = .ok (.aload_n 0, 1) := dk_42 (dk_at dksJ32_next_0 0 rfl rfl)
theorem dJ32_next_1 : decode cJ32_next 1 = .ok (.getfield 19, 3) := dk_180 0 19 (dk_at dksJ32_next_0 1 rfl rfl)
theorem dJ32_next_4 : decode cJ32_next 4 = .ok (.ifCond .gt 11, 3) := dk_157 0 11 (dk_at dksJ32_next_0 4 rfl rfl)
theorem dJ32_next_7 : decode cJ32_next 7 = .ok (.new 32, 3) := dk_187 0 32 (dk_at dksJ32_next_0 7 rfl rfl)
theorem dJ32_next_10 : decode cJ32_next 10 = .ok (.dup, 1) := dk_89 (dk_at dksJ32_next_0 10 rfl rfl)
theorem dJ32_next_11 : decode cJ32_next 11 = .ok (.invokespecial 34, 3) := dk_183 0 34 (dk_at dksJ32_next_0 11 rfl rfl)
theorem dJ32_next_14 : decode cJ32_next 14 = .ok (.athrow, 1) := dk_191 (dk_at dksJ32_next_0 14 rfl rfl)
theorem dJ32_next_15 : decode cJ32_next 15 = .ok (.aload_n 0, 1) := dk_42 (dk_at dksJ32_next_0 15 rfl rfl)
theorem dJ32_next_16 : decode cJ32_next 16 = .ok (.getfield 1, 3) := dk_180 0 1 (dk_at dksJ32_next_0 16 rfl rfl)
theorem dJ32_next_19 : decode cJ32_next 19 = .ok (.getfield 35, 3) := dk_180 0 35 (dk_at dksJ32_next_0 19 rfl rfl)
theorem dJ32_next_22 : decode cJ32_next 22 = .ok (.astore_n 1, 1) := dk_76 (dk_at dksJ32_next_0 22 rfl rfl)
theorem dJ32_next_23 : decode cJ32_next 23 = .ok (.aload_n 1, 1) := dk_43 (dk_at dksJ32_next_0 23 rfl rfl)
theorem dJ32_next_24 : decode cJ32_next 24 = .ok (.aload_n 0, 1) := dk_42 (dk_at dksJ32_next_1 0 rfl rfl)
theorem dJ32_next_25 : decode cJ32_next 25 = .ok (.getfield 29, 3) := dk_180 0 29 (dk_at dksJ32_next_1 1 rfl rfl)
theorem dJ32_next_28 : decode cJ32_next 28 = .ok (.invokestatic 39, 3) := dk_184 0 39 (dk_at dksJ32_next_1 4 rfl rfl)
theorem dJ32_next_31 : decode cJ32_next 31 = .ok (.astore_n 2, 1) := dk_77 (dk_at dksJ32_next_1 7 rfl rfl)
theorem dJ32_next_32 : decode cJ32_next 32 = .ok (.aload_n 0, 1) := dk_42 (dk_at dksJ32_next_1 8 rfl rfl)
theorem dJ32_next_33 : decode cJ32_next 33 = .ok (.aload_n 0, 1) := dk_42 (dk_at dksJ32_next_1 9 rfl rfl)
theorem dJ32_next_34 : decode cJ32_next 34 = .ok (.aload_n 0, 1) := dk_42 (dk_at dksJ32_next_1 10 rfl rfl)
theorem dJ32_next_35 : decode cJ32_next 35 = .ok (.getfield 29, 3) := dk_180 0 29 (dk_at dksJ32_next_1 11 rfl rfl)
theorem dJ32_next_38 : decode cJ32_next 38 = .ok (.dup_x1, 1) := dk_90 (dk_at dksJ32_next_1 14 rfl rfl)
theorem dJ32_next_39 : decode cJ32_next 39 = .ok (.putfield 23, 3) := dk_181 0 23 (dk_at dksJ32_next_1 15 rfl rfl)
theorem dJ32_next_42 : decode cJ32_next 42 = .ok (.aload_n 1, 1) := dk_43 (dk_at dksJ32_next_1 18 rfl rfl)
theorem dJ32_next_43 : decode cJ32_next 43 = .ok (.arraylength, 1) := dk_190 (dk_at dksJ32_next_1 19 rfl rfl)
theorem dJ32_next_44 : decode cJ32_next 44 = .ok (.invokestatic 43, 3) := dk_184 0 43 (dk_at dksJ32_next_1 20 rfl rfl)
theorem dJ32_next_47 : decode cJ32_next 47 = .ok (.putfield 29, 3) := dk_181 0 29 (dk_at dksJ32_next_2 0 rfl rfl)
theorem dJ32_next_50 : decode cJ32_next 50 = .ok (.aload_n 0, 1) := dk_42 (dk_at dksJ32_next_2 3 rfl rfl)
theorem dJ32_next_51 : decode cJ32_next 51 = .ok (.dup, 1) := dk_89 (dk_at dksJ32_next_2 4 rfl rfl)
theorem dJ32_next_52 : decode cJ32_next 52 = .ok (.getfield 19, 3) := dk_180 0 19 (dk_at dksJ32_next_2 5 rfl rfl)
theorem dJ32_next_55 : decode cJ32_next 55 = .ok (.iconst 1, 1) := dk_4 (dk_at dksJ32_next_2 8 rfl rfl)
theorem dJ32_next_56 : decode cJ32_next 56 = .ok (.isub, 1) := dk_100 (dk_at dksJ32_next_2 9 rfl rfl)
theorem dJ32_next_57 : decode cJ32_next 57 = .ok (.putfield 19, 3) := dk_181 0 19 (dk_at dksJ32_next_2 10 rfl rfl)
theorem dJ32_next_60 : decode cJ32_next 60 = .ok (.aload_n 2, 1) := dk_44 (dk_at dksJ32_next_2 13 rfl rfl)
theorem dJ32_next_61 : decode cJ32_next 61 = .ok (.areturn, 1) := dk_176 (dk_at dksJ32_next_2 14 rfl rfl)
abbrev cJ32_remove : ByteArray := prog_34_method_5_code
def yJ32_remove : MethodName := ⟨RJ32, "remove", "()V"⟩
def dkwJ32_remove_1 : List UInt8 := [182, 0, 53, 182, 0, 57, 42, 2, 181, 0, 23, 177]
abbrev dktJ32_remove_1 : List UInt8 := dkwJ32_remove_1 ++ []
def dkwJ32_remove_0 : List UInt8 := [42, 180, 0, 23, 156, 0, 11, 187, 0, 50, 89, 183, 0, 52, 191, 42, 42, 180, 0, 1, 42, 180, 0, 23]
abbrev dktJ32_remove_0 : List UInt8 := dkwJ32_remove_0 ++ dktJ32_remove_1
theorem dksJ32_remove_0 : cJ32_remove.data.toList.drop 0 = dktJ32_remove_0 := by decide +kernel
theorem dksJ32_remove_1 : cJ32_remove.data.toList.drop 24 = dktJ32_remove_1 := dk_seg dksJ32_remove_0 24 rfl rfl
theorem dJ32_remove_0 : decode cJ32_remove 0 = .ok (.aload_n 0, 1) := dk_42 (dk_at dksJ32_remove_0 0 rfl rfl)
theorem dJ32_remove_1 : decode cJ32_remove 1 = .ok (.getfield 23, 3) := dk_180 0 23 (dk_at dksJ32_remove_0 1 rfl rfl)
theorem dJ32_remove_4 : decode cJ32_remove 4 = .ok (.ifCond .ge 11, 3) := dk_156 0 11 (dk_at dksJ32_remove_0 4 rfl rfl)
theorem dJ32_remove_7 : decode cJ32_remove 7 = .ok (.new 50, 3) := dk_187 0 50 (dk_at dksJ32_remove_0 7 rfl rfl)
theorem dJ32_remove_10 : decode cJ32_remove 10 = .ok (.dup, 1) := dk_89 (dk_at dksJ32_remove_0 10 rfl rfl)
theorem dJ32_remove_11 : decode cJ32_remove 11 = .ok (.invokespecial 52, 3) := dk_183 0 52 (dk_at dksJ32_remove_0 11 rfl rfl)
theorem dJ32_remove_14 : decode cJ32_remove 14 = .ok (.athrow, 1) := dk_191 (dk_at dksJ32_remove_0 14 rfl rfl)
theorem dJ32_remove_15 : decode cJ32_remove 15 = .ok (.aload_n 0, 1) := dk_42 (dk_at dksJ32_remove_0 15 rfl rfl)
theorem dJ32_remove_16 : decode cJ32_remove 16 = .ok (.aload_n 0, 1) := dk_42 (dk_at dksJ32_remove_0 16 rfl rfl)
theorem dJ32_remove_17 : decode cJ32_remove 17 = .ok (.getfield 1, 3) := dk_180 0 1 (dk_at dksJ32_remove_0 17 rfl rfl)
theorem dJ32_remove_20 : decode cJ32_remove 20 = .ok (.aload_n 0, 1) := dk_42 (dk_at dksJ32_remove_0 20 rfl rfl)
theorem dJ32_remove_21 : decode cJ32_remove 21 = .ok (.getfield 23, 3) := dk_180 0 23 (dk_at dksJ32_remove_0 21 rfl rfl)
theorem dJ32_remove_24 : decode cJ32_remove 24 = .ok (.invokevirtual 53, 3) := dk_182 0 53 (dk_at dksJ32_remove_1 0 rfl rfl)
theorem dJ32_remove_27 : decode cJ32_remove 27 = .ok (.invokevirtual 57, 3) := dk_182 0 57 (dk_at dksJ32_remove_1 3 rfl rfl)
theorem dJ32_remove_30 : decode cJ32_remove 30 = .ok (.aload_n 0, 1) := dk_42 (dk_at dksJ32_remove_1 6 rfl rfl)
theorem dJ32_remove_31 : decode cJ32_remove 31 = .ok (.iconst (-1), 1) := dk_2 (dk_at dksJ32_remove_1 7 rfl rfl)
theorem dJ32_remove_32 : decode cJ32_remove 32 = .ok (.putfield 23, 3) := dk_181 0 23 (dk_at dksJ32_remove_1 8 rfl rfl)
theorem dJ32_remove_35 : decode cJ32_remove 35 = .ok (.return_, 1) := dk_177 (dk_at dksJ32_remove_1 11 rfl rfl)
abbrev cJ32_postDelete : ByteArray := prog_34_method_4_code
def yJ32_postDelete : MethodName := ⟨RJ32, "postDelete", "(Z)V"⟩
def dkwJ32_postDelete_0 : List UInt8 := [27, 153, 0, 22, 42, 42, 180, 0, 29, 42, 180, 0, 1, 180, 0, 35, 190, 184, 0, 47, 181, 0, 29, 177]
abbrev dktJ32_postDelete_0 : List UInt8 := dkwJ32_postDelete_0 ++ []
theorem dksJ32_postDelete_0 : cJ32_postDelete.data.toList.drop 0 = dktJ32_postDelete_0 := by decide +kernel
theorem dJ32_postDelete_0 : decode cJ32_postDelete 0 = .ok (.iload_n 1, 1) := dk_27 (dk_at dksJ32_postDelete_0 0 rfl rfl)
theorem dJ32_postDelete_1 : decode cJ32_postDelete 1 = .ok (.ifCond .eq 22, 3) := dk_153 0 22 (dk_at dksJ32_postDelete_0 1 rfl rfl)
theorem dJ32_postDelete_4 : decode cJ32_postDelete 4 = .ok (.aload_n 0, 1) := dk_42 (dk_at dksJ32_postDelete_0 4 rfl rfl)
theorem dJ32_postDelete_5 : decode cJ32_postDelete 5 = .ok (.aload_n 0, 1) := dk_42 (dk_at dksJ32_postDelete_0 5 rfl rfl)
theorem dJ32_postDelete_6 : decode cJ32_postDelete 6 = .ok (.getfield 29, 3) := dk_180 0 29 (dk_at dksJ32_postDelete_0 6 rfl rfl)
theorem dJ32_postDelete_9 : decode cJ32_postDelete 9 = .ok (.aload_n 0, 1) := dk_42 (dk_at dksJ32_postDelete_0 9 rfl rfl)
theorem dJ32_postDelete_10 : decode cJ32_postDelete 10 = .ok (.getfield 1, 3) := dk_180 0 1 (dk_at dksJ32_postDelete_0 10 rfl rfl)
theorem dJ32_postDelete_13 : decode cJ32_postDelete 13 = .ok (.getfield 35, 3) := dk_180 0 35 (dk_at dksJ32_postDelete_0 13 rfl rfl)
theorem dJ32_postDelete_16 : decode cJ32_postDelete 16 = .ok (.arraylength, 1) := dk_190 (dk_at dksJ32_postDelete_0 16 rfl rfl)
theorem dJ32_postDelete_17 : decode cJ32_postDelete 17 = .ok (.invokestatic 47, 3) := dk_184 0 47 (dk_at dksJ32_postDelete_0 17 rfl rfl)
theorem dJ32_postDelete_20 : decode cJ32_postDelete 20 = .ok (.putfield 29, 3) := dk_181 0 29 (dk_at dksJ32_postDelete_0 20 rfl rfl)
theorem dJ32_postDelete_23 : decode cJ32_postDelete 23 = .ok (.return_, 1) := dk_177 (dk_at dksJ32_postDelete_0 23 rfl rfl)
abbrev cJ32_init : ByteArray := prog_34_method_1_code
def yJ32_init : MethodName := ⟨RJ32, "<init>", "(Ljava/util/ArrayDeque;)V"⟩
def dkwJ32_init_1 : List UInt8 := [181, 0, 23, 42, 43, 180, 0, 26, 181, 0, 29, 177]
abbrev dktJ32_init_1 : List UInt8 := dkwJ32_init_1 ++ []
def dkwJ32_init_0 : List UInt8 := [42, 43, 181, 0, 1, 42, 183, 0, 7, 42, 42, 180, 0, 1, 182, 0, 13, 181, 0, 19, 42, 2]
abbrev dktJ32_init_0 : List UInt8 := dkwJ32_init_0 ++ dktJ32_init_1
theorem dksJ32_init_0 : cJ32_init.data.toList.drop 0 = dktJ32_init_0 := by decide +kernel
theorem dksJ32_init_1 : cJ32_init.data.toList.drop 22 = dktJ32_init_1 := dk_seg dksJ32_init_0 22 rfl rfl
theorem dJ32_init_0 : decode cJ32_init 0 = .ok (.aload_n 0, 1) := dk_42 (dk_at dksJ32_init_0 0 rfl rfl)
theorem dJ32_init_1 : decode cJ32_init 1 = .ok (.aload_n 1, 1) := dk_43 (dk_at dksJ32_init_0 1 rfl rfl)
theorem dJ32_init_2 : decode cJ32_init 2 = .ok (.putfield 1, 3) := dk_181 0 1 (dk_at dksJ32_init_0 2 rfl rfl)
theorem dJ32_init_5 : decode cJ32_init 5 = .ok (.aload_n 0, 1) := dk_42 (dk_at dksJ32_init_0 5 rfl rfl)
theorem dJ32_init_6 : decode cJ32_init 6 = .ok (.invokespecial 7, 3) := dk_183 0 7 (dk_at dksJ32_init_0 6 rfl rfl)
theorem dJ32_init_9 : decode cJ32_init 9 = .ok (.aload_n 0, 1) := dk_42 (dk_at dksJ32_init_0 9 rfl rfl)
theorem dJ32_init_10 : decode cJ32_init 10 = .ok (.aload_n 0, 1) := dk_42 (dk_at dksJ32_init_0 10 rfl rfl)
theorem dJ32_init_11 : decode cJ32_init 11 = .ok (.getfield 1, 3) := dk_180 0 1 (dk_at dksJ32_init_0 11 rfl rfl)
theorem dJ32_init_14 : decode cJ32_init 14 = .ok (.invokevirtual 13, 3) := dk_182 0 13 (dk_at dksJ32_init_0 14 rfl rfl)
theorem dJ32_init_17 : decode cJ32_init 17 = .ok (.putfield 19, 3) := dk_181 0 19 (dk_at dksJ32_init_0 17 rfl rfl)
theorem dJ32_init_20 : decode cJ32_init 20 = .ok (.aload_n 0, 1) := dk_42 (dk_at dksJ32_init_0 20 rfl rfl)
theorem dJ32_init_21 : decode cJ32_init 21 = .ok (.iconst (-1), 1) := dk_2 (dk_at dksJ32_init_0 21 rfl rfl)
theorem dJ32_init_22 : decode cJ32_init 22 = .ok (.putfield 23, 3) := dk_181 0 23 (dk_at dksJ32_init_1 0 rfl rfl)
theorem dJ32_init_25 : decode cJ32_init 25 = .ok (.aload_n 0, 1) := dk_42 (dk_at dksJ32_init_1 3 rfl rfl)
theorem dJ32_init_26 : decode cJ32_init 26 = .ok (.aload_n 1, 1) := dk_43 (dk_at dksJ32_init_1 4 rfl rfl)
theorem dJ32_init_27 : decode cJ32_init 27 = .ok (.getfield 26, 3) := dk_180 0 26 (dk_at dksJ32_init_1 5 rfl rfl)
theorem dJ32_init_30 : decode cJ32_init 30 = .ok (.putfield 29, 3) := dk_181 0 29 (dk_at dksJ32_init_1 8 rfl rfl)
theorem dJ32_init_33 : decode cJ32_init 33 = .ok (.return_, 1) := dk_177 (dk_at dksJ32_init_1 11 rfl rfl)
theorem q95 : (Jvm.Cond.initialized "java/util/ArrayDeque$DeqIterator") ∈ lw_all := lw_g (lw_at lw_m1 40 rfl) rfl
theorem q147 : (Jvm.Cond.fieldLink "java/util/ArrayDeque$DeqIterator" (35 : Nat) "java/util/ArrayDeque" "elements" "[Ljava/lang/Object;") ∈ lw_all := lw_g (lw_at lw_m1 92 rfl) rfl
theorem q148 : (Jvm.Cond.fieldLink "java/util/ArrayDeque$DeqIterator" (26 : Nat) "java/util/ArrayDeque" "head" "I") ∈ lw_all := lw_g (lw_at lw_m1 93 rfl) rfl
theorem q491 : (Jvm.Cond.castable "java/util/ArrayDeque$DeqIterator" "java/util/Iterator") ∈ lw_tbl := lw_at lw_m2 196 rfl
theorem q492 : (Jvm.Cond.selects "java/util/ArrayDeque$DeqIterator" ({ cls := "java/util/Iterator", name := "hasNext", desc := "()Z" } : Jvm.MethodName) ({ cls := "java/util/ArrayDeque$DeqIterator", name := "hasNext", desc := "()Z" } : Jvm.MethodName)) ∈ lw_all := lw_g (lw_at lw_m2 197 rfl) rfl
theorem q493 : (Jvm.Cond.unhidden "java/util/ArrayDeque$DeqIterator" "hasNext" "()Z") ∈ lw_tbl := lw_at lw_m2 198 rfl
theorem q494 : (Jvm.Cond.instanceMethod ({ cls := "java/util/ArrayDeque$DeqIterator", name := "hasNext", desc := "()Z" } : Jvm.MethodName)) ∈ lw_all := lw_g (lw_at lw_m2 199 rfl) rfl
theorem q495 : (Jvm.Cond.publicMethod ({ cls := "java/util/ArrayDeque$DeqIterator", name := "hasNext", desc := "()Z" } : Jvm.MethodName)) ∈ lw_tbl := lw_at lw_m2 200 rfl
theorem q496 : (Jvm.Cond.code ({ cls := "java/util/ArrayDeque$DeqIterator", name := "hasNext", desc := "()Z" } : Jvm.MethodName) prog_34_method_2_code (1 : Nat) (Option.some Jvm.ClassFile.FieldType.boolean)) ∈ lw_all := lw_g (lw_at lw_m2 201 rfl) rfl
theorem q604 : (Jvm.Cond.selects "java/util/ArrayDeque$DeqIterator" ({ cls := "java/lang/Object", name := "getClass", desc := "()Ljava/lang/Class;" } : Jvm.MethodName) ({ cls := "java/lang/Object", name := "getClass", desc := "()Ljava/lang/Class;" } : Jvm.MethodName)) ∈ lw_all := lw_g (lw_at lw_m3 69 rfl) rfl
theorem q843 : (Jvm.Cond.selects "java/util/ArrayDeque$DeqIterator" ({ cls := "java/util/Iterator", name := "next", desc := "()Ljava/lang/Object;" } : Jvm.MethodName) ({ cls := "java/util/ArrayDeque$DeqIterator", name := "next", desc := "()Ljava/lang/Object;" } : Jvm.MethodName)) ∈ lw_all := lw_g (lw_at lw_m4 68 rfl) rfl
theorem q844 : (Jvm.Cond.unhidden "java/util/ArrayDeque$DeqIterator" "next" "()Ljava/lang/Object;") ∈ lw_tbl := lw_at lw_m4 69 rfl
theorem q845 : (Jvm.Cond.instanceMethod ({ cls := "java/util/ArrayDeque$DeqIterator", name := "next", desc := "()Ljava/lang/Object;" } : Jvm.MethodName)) ∈ lw_all := lw_g (lw_at lw_m4 70 rfl) rfl
theorem q846 : (Jvm.Cond.publicMethod ({ cls := "java/util/ArrayDeque$DeqIterator", name := "next", desc := "()Ljava/lang/Object;" } : Jvm.MethodName)) ∈ lw_tbl := lw_at lw_m4 71 rfl
theorem q847 : (Jvm.Cond.code ({ cls := "java/util/ArrayDeque$DeqIterator", name := "next", desc := "()Ljava/lang/Object;" } : Jvm.MethodName) prog_34_method_3_code (3 : Nat) (Option.some (Jvm.ClassFile.FieldType.object "java/lang/Object"))) ∈ lw_all := lw_g (lw_at lw_m4 72 rfl) rfl
theorem q848 : (Jvm.Cond.methodLink "java/util/ArrayDeque$DeqIterator" (39 : Nat) ({ cls := "java/util/ArrayDeque", name := "nonNullElementAt", desc := "([Ljava/lang/Object;I)Ljava/lang/Object;" } : Jvm.MethodName)) ∈ lw_all := lw_g (lw_at lw_m4 73 rfl) rfl
theorem q851 : (Jvm.Cond.methodLink "java/util/ArrayDeque$DeqIterator" (43 : Nat) ({ cls := "java/util/ArrayDeque", name := "inc", desc := "(II)I" } : Jvm.MethodName)) ∈ lw_all := lw_g (lw_at lw_m4 76 rfl) rfl
theorem q925 : (Jvm.Cond.selects "java/util/ArrayDeque$DeqIterator" ({ cls := "java/util/Iterator", name := "remove", desc := "()V" } : Jvm.MethodName) ({ cls := "java/util/ArrayDeque$DeqIterator", name := "remove", desc := "()V" } : Jvm.MethodName)) ∈ lw_all := lw_g (lw_at lw_m4 150 rfl) rfl
theorem q926 : (Jvm.Cond.unhidden "java/util/ArrayDeque$DeqIterator" "remove" "()V") ∈ lw_tbl := lw_at lw_m4 151 rfl
theorem q927 : (Jvm.Cond.instanceMethod ({ cls := "java/util/ArrayDeque$DeqIterator", name := "remove", desc := "()V" } : Jvm.MethodName)) ∈ lw_all := lw_g (lw_at lw_m4 152 rfl) rfl
theorem q928 : (Jvm.Cond.publicMethod ({ cls := "java/util/ArrayDeque$DeqIterator", name := "remove", desc := "()V" } : Jvm.MethodName)) ∈ lw_tbl := lw_at lw_m4 153 rfl
theorem q929 : (Jvm.Cond.code ({ cls := "java/util/ArrayDeque$DeqIterator", name := "remove", desc := "()V" } : Jvm.MethodName) prog_34_method_5_code (1 : Nat) (Option.none : Option Jvm.ClassFile.FieldType)) ∈ lw_all := lw_g (lw_at lw_m4 154 rfl) rfl
theorem q930 : (Jvm.Cond.methodLink "java/util/ArrayDeque$DeqIterator" (53 : Nat) ({ cls := "java/util/ArrayDeque", name := "delete", desc := "(I)Z" } : Jvm.MethodName)) ∈ lw_all := lw_g (lw_at lw_m4 155 rfl) rfl
theorem q942 : (Jvm.Cond.methodLink "java/util/ArrayDeque$DeqIterator" (57 : Nat) ({ cls := "java/util/ArrayDeque$DeqIterator", name := "postDelete", desc := "(Z)V" } : Jvm.MethodName)) ∈ lw_all := lw_g (lw_at lw_m4 167 rfl) rfl
theorem q943 : (Jvm.Cond.instanceMethod ({ cls := "java/util/ArrayDeque$DeqIterator", name := "postDelete", desc := "(Z)V" } : Jvm.MethodName)) ∈ lw_all := lw_g (lw_at lw_m4 168 rfl) rfl
theorem q944 : (Jvm.Cond.selects "java/util/ArrayDeque$DeqIterator" ({ cls := "java/util/ArrayDeque$DeqIterator", name := "postDelete", desc := "(Z)V" } : Jvm.MethodName) ({ cls := "java/util/ArrayDeque$DeqIterator", name := "postDelete", desc := "(Z)V" } : Jvm.MethodName)) ∈ lw_all := lw_g (lw_at lw_m4 169 rfl) rfl
theorem q945 : (Jvm.Cond.code ({ cls := "java/util/ArrayDeque$DeqIterator", name := "postDelete", desc := "(Z)V" } : Jvm.MethodName) prog_34_method_4_code (2 : Nat) (Option.none : Option Jvm.ClassFile.FieldType)) ∈ lw_all := lw_g (lw_at lw_m4 170 rfl) rfl
theorem q946 : (Jvm.Cond.methodLink "java/util/ArrayDeque$DeqIterator" (47 : Nat) ({ cls := "java/util/ArrayDeque", name := "dec", desc := "(II)I" } : Jvm.MethodName)) ∈ lw_all := lw_g (lw_at lw_m4 171 rfl) rfl
theorem q1239 : (Jvm.Cond.instantiable "java/util/ArrayDeque$DeqIterator" (4 : Nat)) ∈ lw_all := lw_g (lw_at lw_m5 224 rfl) rfl
theorem q1241 : (Jvm.Cond.instanceMethod ({ cls := "java/util/ArrayDeque$DeqIterator", name := "<init>", desc := "(Ljava/util/ArrayDeque;)V" } : Jvm.MethodName)) ∈ lw_all := lw_g (lw_at lw_m5 226 rfl) rfl
theorem q1242 : (Jvm.Cond.code ({ cls := "java/util/ArrayDeque$DeqIterator", name := "<init>", desc := "(Ljava/util/ArrayDeque;)V" } : Jvm.MethodName) prog_34_method_1_code (2 : Nat) (Option.none : Option Jvm.ClassFile.FieldType)) ∈ lw_all := lw_g (lw_at lw_m5 227 rfl) rfl
theorem q1243 : (Jvm.Cond.methodLink "java/util/ArrayDeque$DeqIterator" (7 : Nat) ({ cls := "java/lang/Object", name := "<init>", desc := "()V" } : Jvm.MethodName)) ∈ lw_all := lw_g (lw_at lw_m5 228 rfl) rfl
theorem q1244 : (Jvm.Cond.methodLink "java/util/ArrayDeque$DeqIterator" (13 : Nat) ({ cls := "java/util/ArrayDeque", name := "size", desc := "()I" } : Jvm.MethodName)) ∈ lw_all := lw_g (lw_at lw_m5 229 rfl) rfl
theorem q1245 : (Jvm.Cond.fieldLink "java/util/ArrayDeque$DeqIterator" (29 : Nat) "java/util/ArrayDeque$DeqIterator" "cursor" "I") ∈ lw_all := lw_g (lw_at lw_m5 230 rfl) rfl
theorem q1246 : (Jvm.Cond.fieldLink "java/util/ArrayDeque$DeqIterator" (19 : Nat) "java/util/ArrayDeque$DeqIterator" "remaining" "I") ∈ lw_all := lw_g (lw_at lw_m5 231 rfl) rfl
theorem q1247 : (Jvm.Cond.fieldLink "java/util/ArrayDeque$DeqIterator" (23 : Nat) "java/util/ArrayDeque$DeqIterator" "lastRet" "I") ∈ lw_all := lw_g (lw_at lw_m5 232 rfl) rfl
theorem q1248 : (Jvm.Cond.fieldLink "java/util/ArrayDeque$DeqIterator" (1 : Nat) "java/util/ArrayDeque$DeqIterator" "this$0" "Ljava/util/ArrayDeque;") ∈ lw_all := lw_g (lw_at lw_m5 233 rfl) rfl
theorem q1249 : (Jvm.Cond.lays "java/util/ArrayDeque$DeqIterator" "java/util/ArrayDeque$DeqIterator" "cursor" "I") ∈ lw_all := lw_g (lw_at lw_m5 234 rfl) rfl
theorem q1250 : (Jvm.Cond.soleField "java/util/ArrayDeque$DeqIterator" "cursor") ∈ lw_all := lw_g (lw_at lw_m5 235 rfl) rfl
theorem q1251 : (Jvm.Cond.lays "java/util/ArrayDeque$DeqIterator" "java/util/ArrayDeque$DeqIterator" "remaining" "I") ∈ lw_all := lw_g (lw_at lw_m5 236 rfl) rfl
theorem q1252 : (Jvm.Cond.soleField "java/util/ArrayDeque$DeqIterator" "remaining") ∈ lw_all := lw_g (lw_at lw_m5 237 rfl) rfl
theorem q1253 : (Jvm.Cond.lays "java/util/ArrayDeque$DeqIterator" "java/util/ArrayDeque$DeqIterator" "lastRet" "I") ∈ lw_all := lw_g (lw_at lw_m5 238 rfl) rfl
theorem q1254 : (Jvm.Cond.soleField "java/util/ArrayDeque$DeqIterator" "lastRet") ∈ lw_all := lw_g (lw_at lw_m5 239 rfl) rfl
theorem q1255 : (Jvm.Cond.laysFinal "java/util/ArrayDeque$DeqIterator" "java/util/ArrayDeque$DeqIterator" "this$0" "Ljava/util/ArrayDeque;") ∈ lw_all := lw_g (lw_at lw_m6 0 rfl) rfl
theorem q1256 : (Jvm.Cond.soleField "java/util/ArrayDeque$DeqIterator" "this$0") ∈ lw_all := lw_g (lw_at lw_m6 1 rfl) rfl
theorem q1257 : (Jvm.Cond.superclass "java/util/ArrayDeque$DeqIterator" "java/lang/Object") ∈ lw_all := lw_g (lw_at lw_m6 2 rfl) rfl
theorem q1545 : (Jvm.Cond.castable "java/util/ArrayDeque$DeqIterator" "java/lang/Object") ∈ lw_tbl := lw_at lw_m7 50 rfl
theorem in_J32 : ∀ w ∈ wsJ320, w ∈ lw_all := lw_in wsJ320 [1249, 1251, 1253, 1255] (by decide +kernel) (by decide +kernel)

/-! java/lang/Object -/
set_option maxRecDepth 100000
def RJ33 : String := "java/lang/Object"
abbrev cJ33_init : ByteArray := object_method_1_code
def yJ33_init : MethodName := ⟨RJ33, "<init>", "()V"⟩
theorem dJ33_init_0 : decode cJ33_init 0 = .ok (.return_, 1) := by decide +kernel
abbrev cJ33_equals : ByteArray := object_method_4_code
def yJ33_equals : MethodName := ⟨RJ33, "equals", "(Ljava/lang/Object;)Z"⟩
def dkwJ33_equals_0 : List UInt8 := [42, 43, 166, 0, 7, 4, 167, 0, 4, 3, 172]
abbrev dktJ33_equals_0 : List UInt8 := dkwJ33_equals_0 ++ []
theorem dksJ33_equals_0 : cJ33_equals.data.toList.drop 0 = dktJ33_equals_0 := by decide +kernel
theorem dJ33_equals_0 : decode cJ33_equals 0 = .ok (.aload_n 0, 1) := dk_42 (dk_at dksJ33_equals_0 0 rfl rfl)
theorem dJ33_equals_1 : decode cJ33_equals 1 = .ok (.aload_n 1, 1) := dk_43 (dk_at dksJ33_equals_0 1 rfl rfl)
theorem dJ33_equals_2 : decode cJ33_equals 2 = .ok (.if_acmp .ne 7, 3) := dk_166 0 7 (dk_at dksJ33_equals_0 2 rfl rfl)
theorem dJ33_equals_5 : decode cJ33_equals 5 = .ok (.iconst 1, 1) := dk_4 (dk_at dksJ33_equals_0 5 rfl rfl)
theorem dJ33_equals_6 : decode cJ33_equals 6 = .ok (.goto 4, 3) := dk_167 0 4 (dk_at dksJ33_equals_0 6 rfl rfl)
theorem dJ33_equals_9 : decode cJ33_equals 9 = .ok (.iconst 0, 1) := dk_3 (dk_at dksJ33_equals_0 9 rfl rfl)
theorem dJ33_equals_10 : decode cJ33_equals 10 = .ok (.ireturn, 1) := dk_172 (dk_at dksJ33_equals_0 10 rfl rfl)
theorem q102 : (Jvm.Cond.instanceMethod ({ cls := "java/lang/Object", name := "<init>", desc := "()V" } : Jvm.MethodName)) ∈ lw_all := lw_g (lw_at lw_m1 47 rfl) rfl
theorem q103 : (Jvm.Cond.code ({ cls := "java/lang/Object", name := "<init>", desc := "()V" } : Jvm.MethodName) object_method_1_code (1 : Nat) (Option.none : Option Jvm.ClassFile.FieldType)) ∈ lw_all := lw_g (lw_at lw_m1 48 rfl) rfl
theorem q296 : (Jvm.Cond.native ({ cls := "java/lang/Object", name := "clone", desc := "()Ljava/lang/Object;" } : Jvm.MethodName)) ∈ lw_all := lw_g (lw_at lw_m2 1 rfl) rfl
theorem q297 : (Jvm.Cond.instanceMethod ({ cls := "java/lang/Object", name := "clone", desc := "()Ljava/lang/Object;" } : Jvm.MethodName)) ∈ lw_all := lw_g (lw_at lw_m2 2 rfl) rfl
theorem q593 : (Jvm.Cond.instanceMethod ({ cls := "java/lang/Object", name := "getClass", desc := "()Ljava/lang/Class;" } : Jvm.MethodName)) ∈ lw_all := lw_g (lw_at lw_m3 58 rfl) rfl
theorem q594 : (Jvm.Cond.sameMethod "java/lang/Object" "java/lang/Object" "getClass" "()Ljava/lang/Class;") ∈ lw_all := lw_g (lw_at lw_m3 59 rfl) rfl
theorem q612 : (Jvm.Cond.native ({ cls := "java/lang/Object", name := "getClass", desc := "()Ljava/lang/Class;" } : Jvm.MethodName)) ∈ lw_all := lw_g (lw_at lw_m3 77 rfl) rfl
theorem q1121 : (Jvm.Cond.declares ({ cls := "java/lang/Object", name := "equals", desc := "(Ljava/lang/Object;)Z" } : Jvm.MethodName)) ∈ lw_tbl := lw_at lw_m5 106 rfl
theorem q1123 : (Jvm.Cond.instanceMethod ({ cls := "java/lang/Object", name := "equals", desc := "(Ljava/lang/Object;)Z" } : Jvm.MethodName)) ∈ lw_all := lw_g (lw_at lw_m5 108 rfl) rfl
theorem q1124 : (Jvm.Cond.sameMethod "java/lang/Object" "java/lang/Object" "equals" "(Ljava/lang/Object;)Z") ∈ lw_all := lw_g (lw_at lw_m5 109 rfl) rfl
theorem q1141 : (Jvm.Cond.code ({ cls := "java/lang/Object", name := "equals", desc := "(Ljava/lang/Object;)Z" } : Jvm.MethodName) object_method_4_code (2 : Nat) (Option.some Jvm.ClassFile.FieldType.boolean)) ∈ lw_all := lw_g (lw_at lw_m5 126 rfl) rfl
theorem q1525 : (Jvm.Cond.sameMethod "java/lang/Object" "java/lang/Object" "clone" "()Ljava/lang/Object;") ∈ lw_all := lw_g (lw_at lw_m7 30 rfl) rfl
theorem q1526 : (Jvm.Cond.initialized "java/lang/Object") ∈ lw_all := lw_g (lw_at lw_m7 31 rfl) rfl
theorem q1527 : (Jvm.Cond.selects "java/lang/Object" ({ cls := "java/lang/Object", name := "equals", desc := "(Ljava/lang/Object;)Z" } : Jvm.MethodName) ({ cls := "java/lang/Object", name := "equals", desc := "(Ljava/lang/Object;)Z" } : Jvm.MethodName)) ∈ lw_all := lw_g (lw_at lw_m7 32 rfl) rfl
theorem q1547 : (Jvm.Cond.noSuperclass "java/lang/Object") ∈ lw_all := lw_g (lw_at lw_m7 52 rfl) rfl
theorem q1550 : (Jvm.Cond.declares ({ cls := "java/lang/Object", name := "getClass", desc := "()Ljava/lang/Class;" } : Jvm.MethodName)) ∈ lw_tbl := lw_at lw_m7 55 rfl
