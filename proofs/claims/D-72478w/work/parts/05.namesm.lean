/-! RiverWordsModel -/
set_option maxRecDepth 100000
def RX2 : String := "RiverWordsModel"
def TX2 : u_T := fun k => match k with
  | 0 => ("RiverWordsModel", "pageLength", "I", false)
  | 1 => ("RiverWordsModel", "page", "[I", true)
  | 2 => ("RiverWordsModel", "roads", "I", false)
  | 3 => ("RiverWordsModel", "lengths", "[I", true)
  | 4 => ("RiverWordsModel", "signs", "[I", true)
  | 5 => ("RiverWordsModel", "wordsRead", "I", false)
  | 6 => ("RiverWordsModel", "disc", "I", false)
  | 7 => ("RiverWordsModel", "forms", "I", false)
  | 8 => ("RiverWordsModel", "formA", "[I", true)
  | 9 => ("RiverWordsModel", "formB", "[I", true)
  | 10 => ("RiverWordsModel", "formC", "[I", true)
  | 11 => ("RiverWordsModel", "nextOf", "[I", true)
  | 12 => ("RiverWordsModel", "cycleOf", "[I", true)
  | 13 => ("RiverWordsModel", "cycles", "I", false)
  | 14 => ("RiverWordsModel", "firstOf", "[I", true)
  | 15 => ("RiverWordsModel", "newLength", "I", false)
  | 16 => ("RiverWordsModel", "newSigns", "[I", true)
  | 17 => ("RiverWordsModel", "mayRun", "Z", false)
  | 18 => ("RiverWordsModel", "size", "I", false)
  | 19 => ("RiverWordsModel", "at", "[I", true)
  | 20 => ("RiverWordsModel", "otherSize", "I", false)
  | 21 => ("RiverWordsModel", "other", "[I", true)
  | 22 => ("RiverWordsModel", "tableA", "I", false)
  | 23 => ("RiverWordsModel", "tableB", "I", false)
  | 24 => ("RiverWordsModel", "tableC", "I", false)
  | 25 => ("RiverWordsModel", "tableD", "I", false)
  | 26 => ("RiverWordsModel", "a", "I", false)
  | 27 => ("RiverWordsModel", "b", "I", false)
  | 28 => ("RiverWordsModel", "c", "I", false)
  | 29 => ("RiverWordsModel", "grade", "I", false)
  | 30 => ("RiverWordsModel", "flowA", "I", false)
  | 31 => ("RiverWordsModel", "flowB", "I", false)
  | 32 => ("RiverWordsModel", "flowC", "I", false)
  | 33 => ("RiverWordsModel", "seedNow", "J", false)
  | _ => ("RiverWordsModel", "h", "J", false)
def tyX2 : Nat → FieldType := fun k => match k with
  | 0 => .int
  | 1 => .array .int
  | 2 => .int
  | 3 => .array .int
  | 4 => .array .int
  | 5 => .int
  | 6 => .int
  | 7 => .int
  | 8 => .array .int
  | 9 => .array .int
  | 10 => .array .int
  | 11 => .array .int
  | 12 => .array .int
  | 13 => .int
  | 14 => .array .int
  | 15 => .int
  | 16 => .array .int
  | 17 => .boolean
  | 18 => .int
  | 19 => .array .int
  | 20 => .int
  | 21 => .array .int
  | 22 => .int
  | 23 => .int
  | 24 => .int
  | 25 => .int
  | 26 => .int
  | 27 => .int
  | 28 => .int
  | 29 => .int
  | 30 => .int
  | 31 => .int
  | 32 => .int
  | 33 => .long
  | _ => .long
abbrev wsX20 : List Cond := u_ws RX2 TX2 35
set_option maxRecDepth 100000 in
theorem nmX2 : ∀ a, a < 35 → ∀ b, b < 35 → a ≠ b → (TX2 a).2.1 ≠ (TX2 b).2.1 := by decide +kernel
set_option maxRecDepth 100000 in
theorem tyX2_ok : ∀ k, k < 35 → parseFieldDescriptor (TX2 k).2.2.1 = some (tyX2 k) := by decide +kernel
abbrev cX2_init : ByteArray := prog_9_method_1_code
def yX2_init : MethodName := ⟨RX2, "<init>", "()V"⟩
def dkwX2_init_4 : List UInt8 := [188, 10, 181, 0, 40, 42, 16, 20, 188, 10, 181, 0, 43, 177]
abbrev dktX2_init_4 : List UInt8 := dkwX2_init_4 ++ []
def dkwX2_init_3 : List UInt8 := [181, 0, 31, 42, 17, 4, 176, 188, 10, 181, 0, 34, 42, 16, 20, 188, 10, 181, 0, 37, 42, 16, 20]
abbrev dktX2_init_3 : List UInt8 := dkwX2_init_3 ++ dktX2_init_4
def dkwX2_init_2 : List UInt8 := [17, 4, 176, 188, 10, 181, 0, 25, 42, 17, 4, 176, 188, 10, 181, 0, 28, 42, 17, 4, 176, 188, 10]
abbrev dktX2_init_2 : List UInt8 := dkwX2_init_2 ++ dktX2_init_3
def dkwX2_init_1 : List UInt8 := [188, 10, 181, 0, 16, 42, 17, 4, 176, 188, 10, 181, 0, 19, 42, 17, 4, 176, 188, 10, 181, 0, 22, 42]
abbrev dktX2_init_1 : List UInt8 := dkwX2_init_1 ++ dktX2_init_2
def dkwX2_init_0 : List UInt8 := [42, 183, 0, 1, 42, 16, 20, 188, 10, 181, 0, 7, 42, 16, 6, 188, 10, 181, 0, 13, 42, 16, 120]
abbrev dktX2_init_0 : List UInt8 := dkwX2_init_0 ++ dktX2_init_1
theorem dksX2_init_0 : cX2_init.data.toList.drop 0 = dktX2_init_0 := by decide +kernel
theorem dksX2_init_1 : cX2_init.data.toList.drop 23 = dktX2_init_1 := dk_seg dksX2_init_0 23 rfl rfl
theorem dksX2_init_2 : cX2_init.data.toList.drop 47 = dktX2_init_2 := dk_seg dksX2_init_1 24 rfl rfl
theorem dksX2_init_3 : cX2_init.data.toList.drop 70 = dktX2_init_3 := dk_seg dksX2_init_2 23 rfl rfl
theorem dksX2_init_4 : cX2_init.data.toList.drop 93 = dktX2_init_4 := dk_seg dksX2_init_3 23 rfl rfl
theorem dX2_init_0 : decode cX2_init 0 = .ok (.aload_n 0, 1) := dk_42 (dk_at dksX2_init_0 0 rfl rfl)
theorem dX2_init_1 : decode cX2_init 1 = .ok (.invokespecial 1, 3) := dk_183 0 1 (dk_at dksX2_init_0 1 rfl rfl)
theorem dX2_init_4 : decode cX2_init 4 = .ok (.aload_n 0, 1) := dk_42 (dk_at dksX2_init_0 4 rfl rfl)
theorem dX2_init_5 : decode cX2_init 5 = .ok (.bipush 20, 2) := dk_16 20 (dk_at dksX2_init_0 5 rfl rfl)
theorem dX2_init_7 : decode cX2_init 7 = .ok (.newarray .int, 2) := dk_188_10 (dk_at dksX2_init_0 7 rfl rfl)
theorem dX2_init_9 : decode cX2_init 9 = .ok (.putfield 7, 3) := dk_181 0 7 (dk_at dksX2_init_0 9 rfl rfl)
theorem dX2_init_12 : decode cX2_init 12 = .ok (.aload_n 0, 1) := dk_42 (dk_at dksX2_init_0 12 rfl rfl)
theorem dX2_init_13 : decode cX2_init 13 = .ok (.bipush 6, 2) := dk_16 6 (dk_at dksX2_init_0 13 rfl rfl)
theorem dX2_init_15 : decode cX2_init 15 = .ok (.newarray .int, 2) := dk_188_10 (dk_at dksX2_init_0 15 rfl rfl)
theorem dX2_init_17 : decode cX2_init 17 = .ok (.putfield 13, 3) := dk_181 0 13 (dk_at dksX2_init_0 17 rfl rfl)
theorem dX2_init_20 : decode cX2_init 20 = .ok (.aload_n 0, 1) := dk_42 (dk_at dksX2_init_0 20 rfl rfl)
theorem dX2_init_21 : decode cX2_init 21 = .ok (.bipush 120, 2) := dk_16 120 (dk_at dksX2_init_0 21 rfl rfl)
theorem dX2_init_23 : decode cX2_init 23 = .ok (.newarray .int, 2) := dk_188_10 (dk_at dksX2_init_1 0 rfl rfl)
theorem dX2_init_25 : decode cX2_init 25 = .ok (.putfield 16, 3) := dk_181 0 16 (dk_at dksX2_init_1 2 rfl rfl)
theorem dX2_init_28 : decode cX2_init 28 = .ok (.aload_n 0, 1) := dk_42 (dk_at dksX2_init_1 5 rfl rfl)
theorem dX2_init_29 : decode cX2_init 29 = .ok (.sipush 1200, 3) := dk_17 4 176 (dk_at dksX2_init_1 6 rfl rfl)
theorem dX2_init_32 : decode cX2_init 32 = .ok (.newarray .int, 2) := dk_188_10 (dk_at dksX2_init_1 9 rfl rfl)
theorem dX2_init_34 : decode cX2_init 34 = .ok (.putfield 19, 3) := dk_181 0 19 (dk_at dksX2_init_1 11 rfl rfl)
theorem dX2_init_37 : decode cX2_init 37 = .ok (.aload_n 0, 1) := dk_42 (dk_at dksX2_init_1 14 rfl rfl)
theorem dX2_init_38 : decode cX2_init 38 = .ok (.sipush 1200, 3) := dk_17 4 176 (dk_at dksX2_init_1 15 rfl rfl)
theorem dX2_init_41 : decode cX2_init 41 = .ok (.newarray .int, 2) := dk_188_10 (dk_at dksX2_init_1 18 rfl rfl)
theorem dX2_init_43 : decode cX2_init 43 = .ok (.putfield 22, 3) := dk_181 0 22 (dk_at dksX2_init_1 20 rfl rfl)
theorem dX2_init_46 : decode cX2_init 46 = .ok (.aload_n 0, 1) := dk_42 (dk_at dksX2_init_1 23 rfl rfl)
theorem dX2_init_47 : decode cX2_init 47 = .ok (.sipush 1200, 3) := dk_17 4 176 (dk_at dksX2_init_2 0 rfl rfl)
theorem dX2_init_50 : decode cX2_init 50 = .ok (.newarray .int, 2) := dk_188_10 (dk_at dksX2_init_2 3 rfl rfl)
theorem dX2_init_52 : decode cX2_init 52 = .ok (.putfield 25, 3) := dk_181 0 25 (dk_at dksX2_init_2 5 rfl rfl)
theorem dX2_init_55 : decode cX2_init 55 = .ok (.aload_n 0, 1) := dk_42 (dk_at dksX2_init_2 8 rfl rfl)
theorem dX2_init_56 : decode cX2_init 56 = .ok (.sipush 1200, 3) := dk_17 4 176 (dk_at dksX2_init_2 9 rfl rfl)
theorem dX2_init_59 : decode cX2_init 59 = .ok (.newarray .int, 2) := dk_188_10 (dk_at dksX2_init_2 12 rfl rfl)
theorem dX2_init_61 : decode cX2_init 61 = .ok (.putfield 28, 3) := dk_181 0 28 (dk_at dksX2_init_2 14 rfl rfl)
theorem dX2_init_64 : decode cX2_init 64 = .ok (.aload_n 0, 1) := dk_42 (dk_at dksX2_init_2 17 rfl rfl)
theorem dX2_init_65 : decode cX2_init 65 = .ok (.sipush 1200, 3) := dk_17 4 176 (dk_at dksX2_init_2 18 rfl rfl)
theorem dX2_init_68 : decode cX2_init 68 = .ok (.newarray .int, 2) := dk_188_10 (dk_at dksX2_init_2 21 rfl rfl)
theorem dX2_init_70 : decode cX2_init 70 = .ok (.putfield 31, 3) := dk_181 0 31 (dk_at dksX2_init_3 0 rfl rfl)
theorem dX2_init_73 : decode cX2_init 73 = .ok (.aload_n 0, 1) := dk_42 (dk_at dksX2_init_3 3 rfl rfl)
theorem dX2_init_74 : decode cX2_init 74 = .ok (.sipush 1200, 3) := dk_17 4 176 (dk_at dksX2_init_3 4 rfl rfl)
theorem dX2_init_77 : decode cX2_init 77 = .ok (.newarray .int, 2) := dk_188_10 (dk_at dksX2_init_3 7 rfl rfl)
theorem dX2_init_79 : decode cX2_init 79 = .ok (.putfield 34, 3) := dk_181 0 34 (dk_at dksX2_init_3 9 rfl rfl)
theorem dX2_init_82 : decode cX2_init 82 = .ok (.aload_n 0, 1) := dk_42 (dk_at dksX2_init_3 12 rfl rfl)
theorem dX2_init_83 : decode cX2_init 83 = .ok (.bipush 20, 2) := dk_16 20 (dk_at dksX2_init_3 13 rfl rfl)
theorem dX2_init_85 : decode cX2_init 85 = .ok (.newarray .int, 2) := dk_188_10 (dk_at dksX2_init_3 15 rfl rfl)
theorem dX2_init_87 : decode cX2_init 87 = .ok (.putfield 37, 3) := dk_181 0 37 (dk_at dksX2_init_3 17 rfl rfl)
theorem dX2_init_90 : decode cX2_init 90 = .ok (.aload_n 0, 1) := dk_42 (dk_at dksX2_init_3 20 rfl rfl)
theorem dX2_init_91 : decode cX2_init 91 = .ok (.bipush 20, 2) := dk_16 20 (dk_at dksX2_init_3 21 rfl rfl)
theorem dX2_init_93 : decode cX2_init 93 = .ok (.newarray .int, 2) := dk_188_10 (dk_at dksX2_init_4 0 rfl rfl)
theorem dX2_init_95 : decode cX2_init 95 = .ok (.putfield 40, 3) := dk_181 0 40 (dk_at dksX2_init_4 2 rfl rfl)
theorem dX2_init_98 : decode cX2_init 98 = .ok (.aload_n 0, 1) := dk_42 (dk_at dksX2_init_4 5 rfl rfl)
theorem dX2_init_99 : decode cX2_init 99 = .ok (.bipush 20, 2) := dk_16 20 (dk_at dksX2_init_4 6 rfl rfl)
theorem dX2_init_101 : decode cX2_init 101 = .ok (.newarray .int, 2) := dk_188_10 (dk_at dksX2_init_4 8 rfl rfl)
theorem dX2_init_103 : decode cX2_init 103 = .ok (.putfield 43, 3) := dk_181 0 43 (dk_at dksX2_init_4 10 rfl rfl)
theorem dX2_init_106 : decode cX2_init 106 = .ok (.return_, 1) := dk_177 (dk_at dksX2_init_4 13 rfl rfl)
abbrev cX2_letter : ByteArray := prog_9_method_6_code
def yX2_letter : MethodName := ⟨RX2, "letter", "(I)I"⟩
def dkwX2_letter_2 : List UInt8 := [180, 0, 55, 172]
abbrev dktX2_letter_2 : List UInt8 := dkwX2_letter_2 ++ []
def dkwX2_letter_1 : List UInt8 := [18, 59, 172, 42, 180, 0, 7, 42, 180, 0, 55, 27, 79, 42, 89, 180, 0, 55, 4, 96, 181, 0, 55, 42]
abbrev dktX2_letter_1 : List UInt8 := dkwX2_letter_1 ++ dktX2_letter_2
def dkwX2_letter_0 : List UInt8 := [27, 16, 32, 16, 126, 184, 0, 50, 154, 0, 6, 18, 54, 172, 42, 180, 0, 55, 16, 20, 160, 0, 6]
abbrev dktX2_letter_0 : List UInt8 := dkwX2_letter_0 ++ dktX2_letter_1
theorem dksX2_letter_0 : cX2_letter.data.toList.drop 0 = dktX2_letter_0 := by decide +kernel
theorem dksX2_letter_1 : cX2_letter.data.toList.drop 23 = dktX2_letter_1 := dk_seg dksX2_letter_0 23 rfl rfl
theorem dksX2_letter_2 : cX2_letter.data.toList.drop 47 = dktX2_letter_2 := dk_seg dksX2_letter_1 24 rfl rfl
theorem dX2_letter_0 : decode cX2_letter 0 = .ok (.iload_n 1, 1) := dk_27 (dk_at dksX2_letter_0 0 rfl rfl)
theorem dX2_letter_1 : decode cX2_letter 1 = .ok (.bipush 32, 2) := dk_16 32 (dk_at dksX2_letter_0 1 rfl rfl)
theorem dX2_letter_3 : decode cX2_letter 3 = .ok (.bipush 126, 2) := dk_16 126 (dk_at dksX2_letter_0 3 rfl rfl)
theorem dX2_letter_5 : decode cX2_letter 5 = .ok (.invokestatic 50, 3) := dk_184 0 50 (dk_at dksX2_letter_0 5 rfl rfl)
theorem dX2_letter_8 : decode cX2_letter 8 = .ok (.ifCond .ne 6, 3) := dk_154 0 6 (dk_at dksX2_letter_0 8 rfl rfl)
theorem dX2_letter_11 : decode cX2_letter 11 = .ok (.ldc 54, 2) := dk_18 54 (dk_at dksX2_letter_0 11 rfl rfl)
theorem dX2_letter_13 : decode cX2_letter 13 = .ok (.ireturn, 1) := dk_172 (dk_at dksX2_letter_0 13 rfl rfl)
theorem dX2_letter_14 : decode cX2_letter 14 = .ok (.aload_n 0, 1) := dk_42 (dk_at dksX2_letter_0 14 rfl rfl)
theorem dX2_letter_15 : decode cX2_letter 15 = .ok (.getfield 55, 3) := dk_180 0 55 (dk_at dksX2_letter_0 15 rfl rfl)
theorem dX2_letter_18 : decode cX2_letter 18 = .ok (.bipush 20, 2) := dk_16 20 (dk_at dksX2_letter_0 18 rfl rfl)
theorem dX2_letter_20 : decode cX2_letter 20 = .ok (.if_icmp .ne 6, 3) := dk_160 0 6 (dk_at dksX2_letter_0 20 rfl rfl)
theorem dX2_letter_23 : decode cX2_letter 23 = .ok (.ldc 59, 2) := dk_18 59 (dk_at dksX2_letter_1 0 rfl rfl)
theorem dX2_letter_25 : decode cX2_letter 25 = .ok (.ireturn, 1) := dk_172 (dk_at dksX2_letter_1 2 rfl rfl)
theorem dX2_letter_26 : decode cX2_letter 26 = .ok (.aload_n 0, 1) := dk_42 (dk_at dksX2_letter_1 3 rfl rfl)
theorem dX2_letter_27 : decode cX2_letter 27 = .ok (.getfield 7, 3) := dk_180 0 7 (dk_at dksX2_letter_1 4 rfl rfl)
theorem dX2_letter_30 : decode cX2_letter 30 = .ok (.aload_n 0, 1) := dk_42 (dk_at dksX2_letter_1 7 rfl rfl)
theorem dX2_letter_31 : decode cX2_letter 31 = .ok (.getfield 55, 3) := dk_180 0 55 (dk_at dksX2_letter_1 8 rfl rfl)
theorem dX2_letter_34 : decode cX2_letter 34 = .ok (.iload_n 1, 1) := dk_27 (dk_at dksX2_letter_1 11 rfl rfl)
theorem dX2_letter_35 : decode cX2_letter 35 = .ok (.iastore, 1) := dk_79 (dk_at dksX2_letter_1 12 rfl rfl)
theorem dX2_letter_36 : decode cX2_letter 36 = .ok (.aload_n 0, 1) := dk_42 (dk_at dksX2_letter_1 13 rfl rfl)
theorem dX2_letter_37 : decode cX2_letter 37 = .ok (.dup, 1) := dk_89 (dk_at dksX2_letter_1 14 rfl rfl)
theorem dX2_letter_38 : decode cX2_letter 38 = .ok (.getfield 55, 3) := dk_180 0 55 (dk_at dksX2_letter_1 15 rfl rfl)
theorem dX2_letter_41 : decode cX2_letter 41 = .ok (.iconst 1, 1) := dk_4 (dk_at dksX2_letter_1 18 rfl rfl)
theorem dX2_letter_42 : decode cX2_letter 42 = .ok (.iadd, 1) := dk_96 (dk_at dksX2_letter_1 19 rfl rfl)
theorem dX2_letter_43 : decode cX2_letter 43 = .ok (.putfield 55, 3) := dk_181 0 55 (dk_at dksX2_letter_1 20 rfl rfl)
theorem dX2_letter_46 : decode cX2_letter 46 = .ok (.aload_n 0, 1) := dk_42 (dk_at dksX2_letter_1 23 rfl rfl)
theorem dX2_letter_47 : decode cX2_letter 47 = .ok (.getfield 55, 3) := dk_180 0 55 (dk_at dksX2_letter_2 0 rfl rfl)
theorem dX2_letter_50 : decode cX2_letter 50 = .ok (.ireturn, 1) := dk_172 (dk_at dksX2_letter_2 3 rfl rfl)
abbrev cX2_within : ByteArray := prog_9_method_3_code
def yX2_within : MethodName := ⟨RX2, "within", "(III)Z"⟩
def dkwX2_within_0 : List UInt8 := [26, 27, 161, 0, 12, 26, 28, 163, 0, 7, 4, 167, 0, 4, 3, 172]
abbrev dktX2_within_0 : List UInt8 := dkwX2_within_0 ++ []
theorem dksX2_within_0 : cX2_within.data.toList.drop 0 = dktX2_within_0 := by decide +kernel
theorem dX2_within_0 : decode cX2_within 0 = .ok (.iload_n 0, 1) := dk_26 (dk_at dksX2_within_0 0 rfl rfl)
theorem dX2_within_1 : decode cX2_within 1 = .ok (.iload_n 1, 1) := dk_27 (dk_at dksX2_within_0 1 rfl rfl)
theorem dX2_within_2 : decode cX2_within 2 = .ok (.if_icmp .lt 12, 3) := dk_161 0 12 (dk_at dksX2_within_0 2 rfl rfl)
theorem dX2_within_5 : decode cX2_within 5 = .ok (.iload_n 0, 1) := dk_26 (dk_at dksX2_within_0 5 rfl rfl)
theorem dX2_within_6 : decode cX2_within 6 = .ok (.iload_n 2, 1) := dk_28 (dk_at dksX2_within_0 6 rfl rfl)
theorem dX2_within_7 : decode cX2_within 7 = .ok (.if_icmp .gt 7, 3) := dk_163 0 7 (dk_at dksX2_within_0 7 rfl rfl)
theorem dX2_within_10 : decode cX2_within 10 = .ok (.iconst 1, 1) := dk_4 (dk_at dksX2_within_0 10 rfl rfl)
theorem dX2_within_11 : decode cX2_within 11 = .ok (.goto 4, 3) := dk_167 0 4 (dk_at dksX2_within_0 11 rfl rfl)
theorem dX2_within_14 : decode cX2_within 14 = .ok (.iconst 0, 1) := dk_3 (dk_at dksX2_within_0 14 rfl rfl)
theorem dX2_within_15 : decode cX2_within 15 = .ok (.ireturn, 1) := dk_172 (dk_at dksX2_within_0 15 rfl rfl)
abbrev cX2_blank : ByteArray := prog_9_method_7_code
def yX2_blank : MethodName := ⟨RX2, "blank", "()I"⟩
def dkwX2_blank_0 : List UInt8 := [42, 180, 0, 55, 60, 42, 3, 181, 0, 55, 27, 172]
abbrev dktX2_blank_0 : List UInt8 := dkwX2_blank_0 ++ []
theorem dksX2_blank_0 : cX2_blank.data.toList.drop 0 = dktX2_blank_0 := by decide +kernel
theorem dX2_blank_0 : decode cX2_blank 0 = .ok (.aload_n 0, 1) := dk_42 (dk_at dksX2_blank_0 0 rfl rfl)
theorem dX2_blank_1 : decode cX2_blank 1 = .ok (.getfield 55, 3) := dk_180 0 55 (dk_at dksX2_blank_0 1 rfl rfl)
theorem dX2_blank_4 : decode cX2_blank 4 = .ok (.istore_n 1, 1) := dk_60 (dk_at dksX2_blank_0 4 rfl rfl)
theorem dX2_blank_5 : decode cX2_blank 5 = .ok (.aload_n 0, 1) := dk_42 (dk_at dksX2_blank_0 5 rfl rfl)
theorem dX2_blank_6 : decode cX2_blank 6 = .ok (.iconst 0, 1) := dk_3 (dk_at dksX2_blank_0 6 rfl rfl)
theorem dX2_blank_7 : decode cX2_blank 7 = .ok (.putfield 55, 3) := dk_181 0 55 (dk_at dksX2_blank_0 7 rfl rfl)
theorem dX2_blank_10 : decode cX2_blank 10 = .ok (.iload_n 1, 1) := dk_27 (dk_at dksX2_blank_0 10 rfl rfl)
theorem dX2_blank_11 : decode cX2_blank 11 = .ok (.ireturn, 1) := dk_172 (dk_at dksX2_blank_0 11 rfl rfl)
abbrev cX2_fault : ByteArray := prog_9_method_10_code
def yX2_fault : MethodName := ⟨RX2, "fault", "()I"⟩
theorem dX2_fault_0 : decode cX2_fault 0 = .ok (.aload_n 0, 1) := by decide +kernel
theorem dX2_fault_1 : decode cX2_fault 1 = .ok (.invokevirtual 71, 3) := by decide +kernel
theorem dX2_fault_4 : decode cX2_fault 4 = .ok (.ireturn, 1) := by decide +kernel
abbrev cX2_read : ByteArray := prog_9_method_9_code
def yX2_read : MethodName := ⟨RX2, "read", "()I"⟩
def dkwX2_read_1 : List UInt8 := [180, 0, 7, 27, 46, 182, 0, 67, 153, 0, 9, 132, 1, 1, 167, 255, 232, 27, 172]
abbrev dktX2_read_1 : List UInt8 := dkwX2_read_1 ++ []
def dkwX2_read_0 : List UInt8 := [42, 3, 181, 0, 60, 42, 3, 181, 0, 63, 3, 60, 27, 42, 180, 0, 55, 162, 0, 22, 42, 42]
abbrev dktX2_read_0 : List UInt8 := dkwX2_read_0 ++ dktX2_read_1
theorem dksX2_read_0 : cX2_read.data.toList.drop 0 = dktX2_read_0 := by decide +kernel
theorem dksX2_read_1 : cX2_read.data.toList.drop 22 = dktX2_read_1 := dk_seg dksX2_read_0 22 rfl rfl
theorem dX2_read_0 : decode cX2_read 0 = .ok (.aload_n 0, 1) := dk_42 (dk_at dksX2_read_0 0 rfl rfl)
theorem dX2_read_1 : decode cX2_read 1 = .ok (.iconst 0, 1) := dk_3 (dk_at dksX2_read_0 1 rfl rfl)
theorem dX2_read_2 : decode cX2_read 2 = .ok (.putfield 60, 3) := dk_181 0 60 (dk_at dksX2_read_0 2 rfl rfl)
theorem dX2_read_5 : decode cX2_read 5 = .ok (.aload_n 0, 1) := dk_42 (dk_at dksX2_read_0 5 rfl rfl)
theorem dX2_read_6 : decode cX2_read 6 = .ok (.iconst 0, 1) := dk_3 (dk_at dksX2_read_0 6 rfl rfl)
theorem dX2_read_7 : decode cX2_read 7 = .ok (.putfield 63, 3) := dk_181 0 63 (dk_at dksX2_read_0 7 rfl rfl)
theorem dX2_read_10 : decode cX2_read 10 = .ok (.iconst 0, 1) := dk_3 (dk_at dksX2_read_0 10 rfl rfl)
theorem dX2_read_11 : decode cX2_read 11 = .ok (.istore_n 1, 1) := dk_60 (dk_at dksX2_read_0 11 rfl rfl)
theorem dX2_read_12 : decode cX2_read 12 = .ok (.iload_n 1, 1) := dk_27 (dk_at dksX2_read_0 12 rfl rfl)
theorem dX2_read_13 : decode cX2_read 13 = .ok (.aload_n 0, 1) := dk_42 (dk_at dksX2_read_0 13 rfl rfl)
theorem dX2_read_14 : decode cX2_read 14 = .ok (.getfield 55, 3) := dk_180 0 55 (dk_at dksX2_read_0 14 rfl rfl)
theorem dX2_read_17 : decode cX2_read 17 = .ok (.if_icmp .ge 22, 3) := dk_162 0 22 (dk_at dksX2_read_0 17 rfl rfl)
theorem dX2_read_20 : decode cX2_read 20 = .ok (.aload_n 0, 1) := dk_42 (dk_at dksX2_read_0 20 rfl rfl)
theorem dX2_read_21 : decode cX2_read 21 = .ok (.aload_n 0, 1) := dk_42 (dk_at dksX2_read_0 21 rfl rfl)
theorem dX2_read_22 : decode cX2_read 22 = .ok (.getfield 7, 3) := dk_180 0 7 (dk_at dksX2_read_1 0 rfl rfl)
theorem dX2_read_25 : decode cX2_read 25 = .ok (.iload_n 1, 1) := dk_27 (dk_at dksX2_read_1 3 rfl rfl)
theorem dX2_read_26 : decode cX2_read 26 = .ok (.iaload, 1) := dk_46 (dk_at dksX2_read_1 4 rfl rfl)
theorem dX2_read_27 : decode cX2_read 27 = .ok (.invokevirtual 67, 3) := dk_182 0 67 (dk_at dksX2_read_1 5 rfl rfl)
theorem dX2_read_30 : decode cX2_read 30 = .ok (.ifCond .eq 9, 3) := dk_153 0 9 (dk_at dksX2_read_1 8 rfl rfl)
theorem dX2_read_33 : decode cX2_read 33 = .ok (.iinc 1 1, 3) := dk_132 1 1 (dk_at dksX2_read_1 11 rfl rfl)
theorem dX2_read_36 : decode cX2_read 36 = .ok (.goto (-24), 3) := dk_167 255 232 (dk_at dksX2_read_1 14 rfl rfl)
theorem dX2_read_39 : decode cX2_read 39 = .ok (.iload_n 1, 1) := dk_27 (dk_at dksX2_read_1 17 rfl rfl)
theorem dX2_read_40 : decode cX2_read 40 = .ok (.ireturn, 1) := dk_172 (dk_at dksX2_read_1 18 rfl rfl)
abbrev cX2_takes : ByteArray := prog_9_method_8_code
def yX2_takes : MethodName := ⟨RX2, "takes", "(I)Z"⟩
def dkwX2_takes_6 : List UInt8 := [172]
abbrev dktX2_takes_6 : List UInt8 := dkwX2_takes_6 ++ []
def dkwX2_takes_5 : List UInt8 := [46, 79, 42, 89, 180, 0, 60, 4, 96, 181, 0, 60, 132, 3, 1, 167, 255, 218, 42, 3, 181, 0, 63, 4]
abbrev dktX2_takes_5 : List UInt8 := dkwX2_takes_5 ++ dktX2_takes_6
def dkwX2_takes_4 : List UInt8 := [62, 29, 28, 162, 0, 39, 42, 180, 0, 37, 42, 180, 0, 60, 42, 180, 0, 37, 42, 180, 0, 60, 4, 100]
abbrev dktX2_takes_4 : List UInt8 := dkwX2_takes_4 ++ dktX2_takes_5
def dkwX2_takes_3 : List UInt8 := [28, 4, 16, 8, 184, 0, 50, 153, 0, 14, 42, 180, 0, 60, 28, 96, 16, 20, 164, 0, 5, 3, 172, 3]
abbrev dktX2_takes_3 : List UInt8 := dkwX2_takes_3 ++ dktX2_takes_4
def dkwX2_takes_2 : List UInt8 := [4, 96, 181, 0, 60, 42, 4, 181, 0, 63, 4, 172, 27, 16, 49, 100, 61, 42, 180, 0, 63, 153, 0, 24]
abbrev dktX2_takes_2 : List UInt8 := dkwX2_takes_2 ++ dktX2_takes_3
def dkwX2_takes_1 : List UInt8 := [180, 0, 37, 42, 180, 0, 60, 27, 16, 76, 160, 0, 7, 3, 167, 0, 4, 4, 79, 42, 89, 180, 0, 60]
abbrev dktX2_takes_1 : List UInt8 := dkwX2_takes_1 ++ dktX2_takes_2
def dkwX2_takes_0 : List UInt8 := [27, 16, 76, 159, 0, 9, 27, 16, 82, 160, 0, 51, 42, 180, 0, 60, 16, 20, 160, 0, 5, 3, 172, 42]
abbrev dktX2_takes_0 : List UInt8 := dkwX2_takes_0 ++ dktX2_takes_1
theorem dksX2_takes_0 : cX2_takes.data.toList.drop 0 = dktX2_takes_0 := by decide +kernel
theorem dksX2_takes_1 : cX2_takes.data.toList.drop 24 = dktX2_takes_1 := dk_seg dksX2_takes_0 24 rfl rfl
theorem dksX2_takes_2 : cX2_takes.data.toList.drop 48 = dktX2_takes_2 := dk_seg dksX2_takes_1 24 rfl rfl
theorem dksX2_takes_3 : cX2_takes.data.toList.drop 72 = dktX2_takes_3 := dk_seg dksX2_takes_2 24 rfl rfl
theorem dksX2_takes_4 : cX2_takes.data.toList.drop 96 = dktX2_takes_4 := dk_seg dksX2_takes_3 24 rfl rfl
theorem dksX2_takes_5 : cX2_takes.data.toList.drop 120 = dktX2_takes_5 := dk_seg dksX2_takes_4 24 rfl rfl
theorem dksX2_takes_6 : cX2_takes.data.toList.drop 144 = dktX2_takes_6 := dk_seg dksX2_takes_5 24 rfl rfl
theorem dX2_takes_0 : decode cX2_takes 0 = .ok (.iload_n 1, 1) := dk_27 (dk_at dksX2_takes_0 0 rfl rfl)
theorem dX2_takes_1 : decode cX2_takes 1 = .ok (.bipush 76, 2) := dk_16 76 (dk_at dksX2_takes_0 1 rfl rfl)
theorem dX2_takes_3 : decode cX2_takes 3 = .ok (.if_icmp .eq 9, 3) := dk_159 0 9 (dk_at dksX2_takes_0 3 rfl rfl)
theorem dX2_takes_6 : decode cX2_takes 6 = .ok (.iload_n 1, 1) := dk_27 (dk_at dksX2_takes_0 6 rfl rfl)
theorem dX2_takes_7 : decode cX2_takes 7 = .ok (.bipush 82, 2) := dk_16 82 (dk_at dksX2_takes_0 7 rfl rfl)
theorem dX2_takes_9 : decode cX2_takes 9 = .ok (.if_icmp .ne 51, 3) := dk_160 0 51 (dk_at dksX2_takes_0 9 rfl rfl)
theorem dX2_takes_12 : decode cX2_takes 12 = .ok (.aload_n 0, 1) := dk_42 (dk_at dksX2_takes_0 12 rfl rfl)
theorem dX2_takes_13 : decode cX2_takes 13 = .ok (.getfield 60, 3) := dk_180 0 60 (dk_at dksX2_takes_0 13 rfl rfl)
theorem dX2_takes_16 : decode cX2_takes 16 = .ok (.bipush 20, 2) := dk_16 20 (dk_at dksX2_takes_0 16 rfl rfl)
theorem dX2_takes_18 : decode cX2_takes 18 = .ok (.if_icmp .ne 5, 3) := dk_160 0 5 (dk_at dksX2_takes_0 18 rfl rfl)
theorem dX2_takes_21 : decode cX2_takes 21 = .ok (.iconst 0, 1) := dk_3 (dk_at dksX2_takes_0 21 rfl rfl)
theorem dX2_takes_22 : decode cX2_takes 22 = .ok (.ireturn, 1) := dk_172 (dk_at dksX2_takes_0 22 rfl rfl)
theorem dX2_takes_23 : decode cX2_takes 23 = .ok (.aload_n 0, 1) := dk_42 (dk_at dksX2_takes_0 23 rfl rfl)
theorem dX2_takes_24 : decode cX2_takes 24 = .ok (.getfield 37, 3) := dk_180 0 37 (dk_at dksX2_takes_1 0 rfl rfl)
theorem dX2_takes_27 : decode cX2_takes 27 = .ok (.aload_n 0, 1) := dk_42 (dk_at dksX2_takes_1 3 rfl rfl)
theorem dX2_takes_28 : decode cX2_takes 28 = .ok (.getfield 60, 3) := dk_180 0 60 (dk_at dksX2_takes_1 4 rfl rfl)
theorem dX2_takes_31 : decode cX2_takes 31 = .ok (.iload_n 1, 1) := dk_27 (dk_at dksX2_takes_1 7 rfl rfl)
theorem dX2_takes_32 : decode cX2_takes 32 = .ok (.bipush 76, 2) := dk_16 76 (dk_at dksX2_takes_1 8 rfl rfl)
theorem dX2_takes_34 : decode cX2_takes 34 = .ok (.if_icmp .ne 7, 3) := dk_160 0 7 (dk_at dksX2_takes_1 10 rfl rfl)
theorem dX2_takes_37 : decode cX2_takes 37 = .ok (.iconst 0, 1) := dk_3 (dk_at dksX2_takes_1 13 rfl rfl)
theorem dX2_takes_38 : decode cX2_takes 38 = .ok (.goto 4, 3) := dk_167 0 4 (dk_at dksX2_takes_1 14 rfl rfl)
theorem dX2_takes_41 : decode cX2_takes 41 = .ok (.iconst 1, 1) := dk_4 (dk_at dksX2_takes_1 17 rfl rfl)
theorem dX2_takes_42 : decode cX2_takes 42 = .ok (.iastore, 1) := dk_79 (dk_at dksX2_takes_1 18 rfl rfl)
theorem dX2_takes_43 : decode cX2_takes 43 = .ok (.aload_n 0, 1) := dk_42 (dk_at dksX2_takes_1 19 rfl rfl)
theorem dX2_takes_44 : decode cX2_takes 44 = .ok (.dup, 1) := dk_89 (dk_at dksX2_takes_1 20 rfl rfl)
theorem dX2_takes_45 : decode cX2_takes 45 = .ok (.getfield 60, 3) := dk_180 0 60 (dk_at dksX2_takes_1 21 rfl rfl)
theorem dX2_takes_48 : decode cX2_takes 48 = .ok (.iconst 1, 1) := dk_4 (dk_at dksX2_takes_2 0 rfl rfl)
theorem dX2_takes_49 : decode cX2_takes 49 = .ok (.iadd, 1) := dk_96 (dk_at dksX2_takes_2 1 rfl rfl)
theorem dX2_takes_50 : decode cX2_takes 50 = .ok (.putfield 60, 3) := dk_181 0 60 (dk_at dksX2_takes_2 2 rfl rfl)
theorem dX2_takes_53 : decode cX2_takes 53 = .ok (.aload_n 0, 1) := dk_42 (dk_at dksX2_takes_2 5 rfl rfl)
theorem dX2_takes_54 : decode cX2_takes 54 = .ok (.iconst 1, 1) := dk_4 (dk_at dksX2_takes_2 6 rfl rfl)
theorem dX2_takes_55 : decode cX2_takes 55 = .ok (.putfield 63, 3) := dk_181 0 63 (dk_at dksX2_takes_2 7 rfl rfl)
theorem dX2_takes_58 : decode cX2_takes 58 = .ok (.iconst 1, 1) := dk_4 (dk_at dksX2_takes_2 10 rfl rfl)
theorem dX2_takes_59 : decode cX2_takes 59 = .ok (.ireturn, 1) := dk_172 (dk_at dksX2_takes_2 11 rfl rfl)
theorem dX2_takes_60 : decode cX2_takes 60 = .ok (.iload_n 1, 1) := dk_27 (dk_at dksX2_takes_2 12 rfl rfl)
theorem dX2_takes_61 : decode cX2_takes 61 = .ok (.bipush 49, 2) := dk_16 49 (dk_at dksX2_takes_2 13 rfl rfl)
theorem dX2_takes_63 : decode cX2_takes 63 = .ok (.isub, 1) := dk_100 (dk_at dksX2_takes_2 15 rfl rfl)
theorem dX2_takes_64 : decode cX2_takes 64 = .ok (.istore_n 2, 1) := dk_61 (dk_at dksX2_takes_2 16 rfl rfl)
theorem dX2_takes_65 : decode cX2_takes 65 = .ok (.aload_n 0, 1) := dk_42 (dk_at dksX2_takes_2 17 rfl rfl)
theorem dX2_takes_66 : decode cX2_takes 66 = .ok (.getfield 63, 3) := dk_180 0 63 (dk_at dksX2_takes_2 18 rfl rfl)
theorem dX2_takes_69 : decode cX2_takes 69 = .ok (.ifCond .eq 24, 3) := dk_153 0 24 (dk_at dksX2_takes_2 21 rfl rfl)
theorem dX2_takes_72 : decode cX2_takes 72 = .ok (.iload_n 2, 1) := dk_28 (dk_at dksX2_takes_3 0 rfl rfl)
theorem dX2_takes_73 : decode cX2_takes 73 = .ok (.iconst 1, 1) := dk_4 (dk_at dksX2_takes_3 1 rfl rfl)
theorem dX2_takes_74 : decode cX2_takes 74 = .ok (.bipush 8, 2) := dk_16 8 (dk_at dksX2_takes_3 2 rfl rfl)
theorem dX2_takes_76 : decode cX2_takes 76 = .ok (.invokestatic 50, 3) := dk_184 0 50 (dk_at dksX2_takes_3 4 rfl rfl)
theorem dX2_takes_79 : decode cX2_takes 79 = .ok (.ifCond .eq 14, 3) := dk_153 0 14 (dk_at dksX2_takes_3 7 rfl rfl)
theorem dX2_takes_82 : decode cX2_takes 82 = .ok (.aload_n 0, 1) := dk_42 (dk_at dksX2_takes_3 10 rfl rfl)
theorem dX2_takes_83 : decode cX2_takes 83 = .ok (.getfield 60, 3) := dk_180 0 60 (dk_at dksX2_takes_3 11 rfl rfl)
theorem dX2_takes_86 : decode cX2_takes 86 = .ok (.iload_n 2, 1) := dk_28 (dk_at dksX2_takes_3 14 rfl rfl)
theorem dX2_takes_87 : decode cX2_takes 87 = .ok (.iadd, 1) := dk_96 (dk_at dksX2_takes_3 15 rfl rfl)
theorem dX2_takes_88 : decode cX2_takes 88 = .ok (.bipush 20, 2) := dk_16 20 (dk_at dksX2_takes_3 16 rfl rfl)
theorem dX2_takes_90 : decode cX2_takes 90 = .ok (.if_icmp .le 5, 3) := dk_164 0 5 (dk_at dksX2_takes_3 18 rfl rfl)
theorem dX2_takes_93 : decode cX2_takes 93 = .ok (.iconst 0, 1) := dk_3 (dk_at dksX2_takes_3 21 rfl rfl)
theorem dX2_takes_94 : decode cX2_takes 94 = .ok (.ireturn, 1) := dk_172 (dk_at dksX2_takes_3 22 rfl rfl)
theorem dX2_takes_95 : decode cX2_takes 95 = .ok (.iconst 0, 1) := dk_3 (dk_at dksX2_takes_3 23 rfl rfl)
theorem dX2_takes_96 : decode cX2_takes 96 = .ok (.istore_n 3, 1) := dk_62 (dk_at dksX2_takes_4 0 rfl rfl)
theorem dX2_takes_97 : decode cX2_takes 97 = .ok (.iload_n 3, 1) := dk_29 (dk_at dksX2_takes_4 1 rfl rfl)
theorem dX2_takes_98 : decode cX2_takes 98 = .ok (.iload_n 2, 1) := dk_28 (dk_at dksX2_takes_4 2 rfl rfl)
theorem dX2_takes_99 : decode cX2_takes 99 = .ok (.if_icmp .ge 39, 3) := dk_162 0 39 (dk_at dksX2_takes_4 3 rfl rfl)
theorem dX2_takes_102 : decode cX2_takes 102 = .ok (.aload_n 0, 1) := dk_42 (dk_at dksX2_takes_4 6 rfl rfl)
theorem dX2_takes_103 : decode cX2_takes 103 = .ok (.getfield 37, 3) := dk_180 0 37 (dk_at dksX2_takes_4 7 rfl rfl)
theorem dX2_takes_106 : decode cX2_takes 106 = .ok (.aload_n 0, 1) := dk_42 (dk_at dksX2_takes_4 10 rfl rfl)
theorem dX2_takes_107 : decode cX2_takes 107 = .ok (.getfield 60, 3) := dk_180 0 60 (dk_at dksX2_takes_4 11 rfl rfl)
theorem dX2_takes_110 : decode cX2_takes 110 = .ok (.aload_n 0, 1) := dk_42 (dk_at dksX2_takes_4 14 rfl rfl)
theorem dX2_takes_111 : decode cX2_takes 111 = .ok (.getfield 37, 3) := dk_180 0 37 (dk_at dksX2_takes_4 15 rfl rfl)
theorem dX2_takes_114 : decode cX2_takes 114 = .ok (.aload_n 0, 1) := dk_42 (dk_at dksX2_takes_4 18 rfl rfl)
theorem dX2_takes_115 : decode cX2_takes 115 = .ok (.getfield 60, 3) := dk_180 0 60 (dk_at dksX2_takes_4 19 rfl rfl)
theorem dX2_takes_118 : decode cX2_takes 118 = .ok (.iconst 1, 1) := dk_4 (dk_at dksX2_takes_4 22 rfl rfl)
theorem dX2_takes_119 : decode cX2_takes 119 = .ok (.isub, 1) := dk_100 (dk_at dksX2_takes_4 23 rfl rfl)
theorem dX2_takes_120 : decode cX2_takes 120 = .ok (.iaload, 1) := dk_46 (dk_at dksX2_takes_5 0 rfl rfl)
theorem dX2_takes_121 : decode cX2_takes 121 = .ok (.iastore, 1) := dk_79 (dk_at dksX2_takes_5 1 rfl rfl)
theorem dX2_takes_122 : decode cX2_takes 122 = .ok (.aload_n 0, 1) := dk_42 (dk_at dksX2_takes_5 2 rfl rfl)
theorem dX2_takes_123 : decode cX2_takes 123 = .ok (.dup, 1) := dk_89 (dk_at dksX2_takes_5 3 rfl rfl)
theorem dX2_takes_124 : decode cX2_takes 124 = .ok (.getfield 60, 3) := dk_180 0 60 (dk_at dksX2_takes_5 4 rfl rfl)
theorem dX2_takes_127 : decode cX2_takes 127 = .ok (.iconst 1, 1) := dk_4 (dk_at dksX2_takes_5 7 rfl rfl)
theorem dX2_takes_128 : decode cX2_takes 128 = .ok (.iadd, 1) := dk_96 (dk_at dksX2_takes_5 8 rfl rfl)
theorem dX2_takes_129 : decode cX2_takes 129 = .ok (.putfield 60, 3) := dk_181 0 60 (dk_at dksX2_takes_5 9 rfl rfl)
theorem dX2_takes_132 : decode cX2_takes 132 = .ok (.iinc 3 1, 3) := dk_132 3 1 (dk_at dksX2_takes_5 12 rfl rfl)
theorem dX2_takes_135 : decode cX2_takes 135 = .ok (.goto (-38), 3) := dk_167 255 218 (dk_at dksX2_takes_5 15 rfl rfl)
theorem dX2_takes_138 : decode cX2_takes 138 = .ok (.aload_n 0, 1) := dk_42 (dk_at dksX2_takes_5 18 rfl rfl)
theorem dX2_takes_139 : decode cX2_takes 139 = .ok (.iconst 0, 1) := dk_3 (dk_at dksX2_takes_5 19 rfl rfl)
theorem dX2_takes_140 : decode cX2_takes 140 = .ok (.putfield 63, 3) := dk_181 0 63 (dk_at dksX2_takes_5 20 rfl rfl)
theorem dX2_takes_143 : decode cX2_takes 143 = .ok (.iconst 1, 1) := dk_4 (dk_at dksX2_takes_5 23 rfl rfl)
theorem dX2_takes_144 : decode cX2_takes 144 = .ok (.ireturn, 1) := dk_172 (dk_at dksX2_takes_6 0 rfl rfl)
abbrev cX2_word : ByteArray := prog_9_method_12_code
def yX2_word : MethodName := ⟨RX2, "word", "()I"⟩
def dkwX2_word_2 : List UInt8 := [181, 0, 55, 42, 182, 0, 82, 172]
abbrev dktX2_word_2 : List UInt8 := dkwX2_word_2 ++ []
def dkwX2_word_1 : List UInt8 := [180, 0, 75, 16, 6, 160, 0, 6, 18, 59, 172, 42, 89, 180, 0, 79, 4, 96, 181, 0, 79, 42, 3]
abbrev dktX2_word_1 : List UInt8 := dkwX2_word_1 ++ dktX2_word_2
def dkwX2_word_0 : List UInt8 := [42, 182, 0, 71, 42, 180, 0, 55, 161, 0, 10, 42, 180, 0, 60, 154, 0, 6, 18, 78, 172, 42]
abbrev dktX2_word_0 : List UInt8 := dkwX2_word_0 ++ dktX2_word_1
theorem dksX2_word_0 : cX2_word.data.toList.drop 0 = dktX2_word_0 := by decide +kernel
theorem dksX2_word_1 : cX2_word.data.toList.drop 22 = dktX2_word_1 := dk_seg dksX2_word_0 22 rfl rfl
theorem dksX2_word_2 : cX2_word.data.toList.drop 45 = dktX2_word_2 := dk_seg dksX2_word_1 23 rfl rfl
theorem dX2_word_0 : decode cX2_word 0 = .ok (.aload_n 0, 1) := dk_42 (dk_at dksX2_word_0 0 rfl rfl)
theorem dX2_word_1 : decode cX2_word 1 = .ok (.invokevirtual 71, 3) := dk_182 0 71 (dk_at dksX2_word_0 1 rfl rfl)
theorem dX2_word_4 : decode cX2_word 4 = .ok (.aload_n 0, 1) := dk_42 (dk_at dksX2_word_0 4 rfl rfl)
theorem dX2_word_5 : decode cX2_word 5 = .ok (.getfield 55, 3) := dk_180 0 55 (dk_at dksX2_word_0 5 rfl rfl)
theorem dX2_word_8 : decode cX2_word 8 = .ok (.if_icmp .lt 10, 3) := dk_161 0 10 (dk_at dksX2_word_0 8 rfl rfl)
theorem dX2_word_11 : decode cX2_word 11 = .ok (.aload_n 0, 1) := dk_42 (dk_at dksX2_word_0 11 rfl rfl)
theorem dX2_word_12 : decode cX2_word 12 = .ok (.getfield 60, 3) := dk_180 0 60 (dk_at dksX2_word_0 12 rfl rfl)
theorem dX2_word_15 : decode cX2_word 15 = .ok (.ifCond .ne 6, 3) := dk_154 0 6 (dk_at dksX2_word_0 15 rfl rfl)
theorem dX2_word_18 : decode cX2_word 18 = .ok (.ldc 78, 2) := dk_18 78 (dk_at dksX2_word_0 18 rfl rfl)
theorem dX2_word_20 : decode cX2_word 20 = .ok (.ireturn, 1) := dk_172 (dk_at dksX2_word_0 20 rfl rfl)
theorem dX2_word_21 : decode cX2_word 21 = .ok (.aload_n 0, 1) := dk_42 (dk_at dksX2_word_0 21 rfl rfl)
theorem dX2_word_22 : decode cX2_word 22 = .ok (.getfield 75, 3) := dk_180 0 75 (dk_at dksX2_word_1 0 rfl rfl)
theorem dX2_word_25 : decode cX2_word 25 = .ok (.bipush 6, 2) := dk_16 6 (dk_at dksX2_word_1 3 rfl rfl)
theorem dX2_word_27 : decode cX2_word 27 = .ok (.if_icmp .ne 6, 3) := dk_160 0 6 (dk_at dksX2_word_1 5 rfl rfl)
theorem dX2_word_30 : decode cX2_word 30 = .ok (.ldc 59, 2) := dk_18 59 (dk_at dksX2_word_1 8 rfl rfl)
theorem dX2_word_32 : decode cX2_word 32 = .ok (.ireturn, 1) := dk_172 (dk_at dksX2_word_1 10 rfl rfl)
theorem dX2_word_33 : decode cX2_word 33 = .ok (.aload_n 0, 1) := dk_42 (dk_at dksX2_word_1 11 rfl rfl)
theorem dX2_word_34 : decode cX2_word 34 = .ok (.dup, 1) := dk_89 (dk_at dksX2_word_1 12 rfl rfl)
theorem dX2_word_35 : decode cX2_word 35 = .ok (.getfield 79, 3) := dk_180 0 79 (dk_at dksX2_word_1 13 rfl rfl)
theorem dX2_word_38 : decode cX2_word 38 = .ok (.iconst 1, 1) := dk_4 (dk_at dksX2_word_1 16 rfl rfl)
theorem dX2_word_39 : decode cX2_word 39 = .ok (.iadd, 1) := dk_96 (dk_at dksX2_word_1 17 rfl rfl)
theorem dX2_word_40 : decode cX2_word 40 = .ok (.putfield 79, 3) := dk_181 0 79 (dk_at dksX2_word_1 18 rfl rfl)
theorem dX2_word_43 : decode cX2_word 43 = .ok (.aload_n 0, 1) := dk_42 (dk_at dksX2_word_1 21 rfl rfl)
theorem dX2_word_44 : decode cX2_word 44 = .ok (.iconst 0, 1) := dk_3 (dk_at dksX2_word_1 22 rfl rfl)
theorem dX2_word_45 : decode cX2_word 45 = .ok (.putfield 55, 3) := dk_181 0 55 (dk_at dksX2_word_2 0 rfl rfl)
theorem dX2_word_48 : decode cX2_word 48 = .ok (.aload_n 0, 1) := dk_42 (dk_at dksX2_word_2 3 rfl rfl)
theorem dX2_word_49 : decode cX2_word 49 = .ok (.invokevirtual 82, 3) := dk_182 0 82 (dk_at dksX2_word_2 4 rfl rfl)
theorem dX2_word_52 : decode cX2_word 52 = .ok (.ireturn, 1) := dk_172 (dk_at dksX2_word_2 7 rfl rfl)
abbrev cX2_keepNew : ByteArray := prog_9_method_11_code
def yX2_keepNew : MethodName := ⟨RX2, "keepNew", "()I"⟩
def dkwX2_keepNew_2 : List UInt8 := [167, 255, 225, 42, 89, 180, 0, 75, 4, 96, 181, 0, 75, 42, 180, 0, 75, 4, 100, 172]
abbrev dktX2_keepNew_2 : List UInt8 := dkwX2_keepNew_2 ++ []
def dkwX2_keepNew_1 : List UInt8 := [180, 0, 16, 16, 20, 42, 180, 0, 75, 104, 27, 96, 42, 180, 0, 37, 27, 46, 79, 132, 1, 1]
abbrev dktX2_keepNew_1 : List UInt8 := dkwX2_keepNew_1 ++ dktX2_keepNew_2
def dkwX2_keepNew_0 : List UInt8 := [42, 180, 0, 13, 42, 180, 0, 75, 42, 180, 0, 60, 79, 3, 60, 27, 42, 180, 0, 60, 162, 0, 29, 42]
abbrev dktX2_keepNew_0 : List UInt8 := dkwX2_keepNew_0 ++ dktX2_keepNew_1
theorem dksX2_keepNew_0 : cX2_keepNew.data.toList.drop 0 = dktX2_keepNew_0 := by decide +kernel
theorem dksX2_keepNew_1 : cX2_keepNew.data.toList.drop 24 = dktX2_keepNew_1 := dk_seg dksX2_keepNew_0 24 rfl rfl
theorem dksX2_keepNew_2 : cX2_keepNew.data.toList.drop 46 = dktX2_keepNew_2 := dk_seg dksX2_keepNew_1 22 rfl rfl
theorem dX2_keepNew_0 : decode cX2_keepNew 0 = .ok (.aload_n 0, 1) := dk_42 (dk_at dksX2_keepNew_0 0 rfl rfl)
theorem dX2_keepNew_1 : decode cX2_keepNew 1 = .ok (.getfield 13, 3) := dk_180 0 13 (dk_at dksX2_keepNew_0 1 rfl rfl)
theorem dX2_keepNew_4 : decode cX2_keepNew 4 = .ok (.aload_n 0, 1) := dk_42 (dk_at dksX2_keepNew_0 4 rfl rfl)
theorem dX2_keepNew_5 : decode cX2_keepNew 5 = .ok (.getfield 75, 3) := dk_180 0 75 (dk_at dksX2_keepNew_0 5 rfl rfl)
theorem dX2_keepNew_8 : decode cX2_keepNew 8 = .ok (.aload_n 0, 1) := dk_42 (dk_at dksX2_keepNew_0 8 rfl rfl)
theorem dX2_keepNew_9 : decode cX2_keepNew 9 = .ok (.getfield 60, 3) := dk_180 0 60 (dk_at dksX2_keepNew_0 9 rfl rfl)
theorem dX2_keepNew_12 : decode cX2_keepNew 12 = .ok (.iastore, 1) := dk_79 (dk_at dksX2_keepNew_0 12 rfl rfl)
theorem dX2_keepNew_13 : decode cX2_keepNew 13 = .ok (.iconst 0, 1) := dk_3 (dk_at dksX2_keepNew_0 13 rfl rfl)
theorem dX2_keepNew_14 : decode cX2_keepNew 14 = .ok (.istore_n 1, 1) := dk_60 (dk_at dksX2_keepNew_0 14 rfl rfl)
theorem dX2_keepNew_15 : decode cX2_keepNew 15 = .ok (.iload_n 1, 1) := dk_27 (dk_at dksX2_keepNew_0 15 rfl rfl)
theorem dX2_keepNew_16 : decode cX2_keepNew 16 = .ok (.aload_n 0, 1) := dk_42 (dk_at dksX2_keepNew_0 16 rfl rfl)
theorem dX2_keepNew_17 : decode cX2_keepNew 17 = .ok (.getfield 60, 3) := dk_180 0 60 (dk_at dksX2_keepNew_0 17 rfl rfl)
theorem dX2_keepNew_20 : decode cX2_keepNew 20 = .ok (.if_icmp .ge 29, 3) := dk_162 0 29 (dk_at dksX2_keepNew_0 20 rfl rfl)
theorem dX2_keepNew_23 : decode cX2_keepNew 23 = .ok (.aload_n 0, 1) := dk_42 (dk_at dksX2_keepNew_0 23 rfl rfl)
theorem dX2_keepNew_24 : decode cX2_keepNew 24 = .ok (.getfield 16, 3) := dk_180 0 16 (dk_at dksX2_keepNew_1 0 rfl rfl)
theorem dX2_keepNew_27 : decode cX2_keepNew 27 = .ok (.bipush 20, 2) := dk_16 20 (dk_at dksX2_keepNew_1 3 rfl rfl)
theorem dX2_keepNew_29 : decode cX2_keepNew 29 = .ok (.aload_n 0, 1) := dk_42 (dk_at dksX2_keepNew_1 5 rfl rfl)
theorem dX2_keepNew_30 : decode cX2_keepNew 30 = .ok (.getfield 75, 3) := dk_180 0 75 (dk_at dksX2_keepNew_1 6 rfl rfl)
theorem dX2_keepNew_33 : decode cX2_keepNew 33 = .ok (.imul, 1) := dk_104 (dk_at dksX2_keepNew_1 9 rfl rfl)
theorem dX2_keepNew_34 : decode cX2_keepNew 34 = .ok (.iload_n 1, 1) := dk_27 (dk_at dksX2_keepNew_1 10 rfl rfl)
theorem dX2_keepNew_35 : decode cX2_keepNew 35 = .ok (.iadd, 1) := dk_96 (dk_at dksX2_keepNew_1 11 rfl rfl)
theorem dX2_keepNew_36 : decode cX2_keepNew 36 = .ok (.aload_n 0, 1) := dk_42 (dk_at dksX2_keepNew_1 12 rfl rfl)
theorem dX2_keepNew_37 : decode cX2_keepNew 37 = .ok (.getfield 37, 3) := dk_180 0 37 (dk_at dksX2_keepNew_1 13 rfl rfl)
theorem dX2_keepNew_40 : decode cX2_keepNew 40 = .ok (.iload_n 1, 1) := dk_27 (dk_at dksX2_keepNew_1 16 rfl rfl)
theorem dX2_keepNew_41 : decode cX2_keepNew 41 = .ok (.iaload, 1) := dk_46 (dk_at dksX2_keepNew_1 17 rfl rfl)
theorem dX2_keepNew_42 : decode cX2_keepNew 42 = .ok (.iastore, 1) := dk_79 (dk_at dksX2_keepNew_1 18 rfl rfl)
theorem dX2_keepNew_43 : decode cX2_keepNew 43 = .ok (.iinc 1 1, 3) := dk_132 1 1 (dk_at dksX2_keepNew_1 19 rfl rfl)
theorem dX2_keepNew_46 : decode cX2_keepNew 46 = .ok (.goto (-31), 3) := dk_167 255 225 (dk_at dksX2_keepNew_2 0 rfl rfl)
theorem dX2_keepNew_49 : decode cX2_keepNew 49 = .ok (.aload_n 0, 1) := dk_42 (dk_at dksX2_keepNew_2 3 rfl rfl)
theorem dX2_keepNew_50 : decode cX2_keepNew 50 = .ok (.dup, 1) := dk_89 (dk_at dksX2_keepNew_2 4 rfl rfl)
theorem dX2_keepNew_51 : decode cX2_keepNew 51 = .ok (.getfield 75, 3) := dk_180 0 75 (dk_at dksX2_keepNew_2 5 rfl rfl)
theorem dX2_keepNew_54 : decode cX2_keepNew 54 = .ok (.iconst 1, 1) := dk_4 (dk_at dksX2_keepNew_2 8 rfl rfl)
theorem dX2_keepNew_55 : decode cX2_keepNew 55 = .ok (.iadd, 1) := dk_96 (dk_at dksX2_keepNew_2 9 rfl rfl)
theorem dX2_keepNew_56 : decode cX2_keepNew 56 = .ok (.putfield 75, 3) := dk_181 0 75 (dk_at dksX2_keepNew_2 10 rfl rfl)
theorem dX2_keepNew_59 : decode cX2_keepNew 59 = .ok (.aload_n 0, 1) := dk_42 (dk_at dksX2_keepNew_2 13 rfl rfl)
theorem dX2_keepNew_60 : decode cX2_keepNew 60 = .ok (.getfield 75, 3) := dk_180 0 75 (dk_at dksX2_keepNew_2 14 rfl rfl)
theorem dX2_keepNew_63 : decode cX2_keepNew 63 = .ok (.iconst 1, 1) := dk_4 (dk_at dksX2_keepNew_2 17 rfl rfl)
theorem dX2_keepNew_64 : decode cX2_keepNew 64 = .ok (.isub, 1) := dk_100 (dk_at dksX2_keepNew_2 18 rfl rfl)
theorem dX2_keepNew_65 : decode cX2_keepNew 65 = .ok (.ireturn, 1) := dk_172 (dk_at dksX2_keepNew_2 19 rfl rfl)
abbrev cX2_road : ByteArray := prog_9_method_27_code
def yX2_road : MethodName := ⟨RX2, "road", "(II)I"⟩
def dkwX2_road_1 : List UInt8 := [27, 28, 182, 0, 146, 167, 0, 5, 18, 54, 172]
abbrev dktX2_road_1 : List UInt8 := dkwX2_road_1 ++ []
def dkwX2_road_0 : List UInt8 := [42, 27, 182, 0, 142, 154, 0, 8, 18, 145, 167, 0, 24, 28, 3, 16, 9, 184, 0, 50, 153, 0, 12, 42]
abbrev dktX2_road_0 : List UInt8 := dkwX2_road_0 ++ dktX2_road_1
theorem dksX2_road_0 : cX2_road.data.toList.drop 0 = dktX2_road_0 := by decide +kernel
theorem dksX2_road_1 : cX2_road.data.toList.drop 24 = dktX2_road_1 := dk_seg dksX2_road_0 24 rfl rfl
theorem dX2_road_0 : decode cX2_road 0 = .ok (.aload_n 0, 1) := dk_42 (dk_at dksX2_road_0 0 rfl rfl)
theorem dX2_road_1 : decode cX2_road 1 = .ok (.iload_n 1, 1) := dk_27 (dk_at dksX2_road_0 1 rfl rfl)
theorem dX2_road_2 : decode cX2_road 2 = .ok (.invokevirtual 142, 3) := dk_182 0 142 (dk_at dksX2_road_0 2 rfl rfl)
theorem dX2_road_5 : decode cX2_road 5 = .ok (.ifCond .ne 8, 3) := dk_154 0 8 (dk_at dksX2_road_0 5 rfl rfl)
theorem dX2_road_8 : decode cX2_road 8 = .ok (.ldc 145, 2) := dk_18 145 (dk_at dksX2_road_0 8 rfl rfl)
theorem dX2_road_10 : decode cX2_road 10 = .ok (.goto 24, 3) := dk_167 0 24 (dk_at dksX2_road_0 10 rfl rfl)
theorem dX2_road_13 : decode cX2_road 13 = .ok (.iload_n 2, 1) := dk_28 (dk_at dksX2_road_0 13 rfl rfl)
theorem dX2_road_14 : decode cX2_road 14 = .ok (.iconst 0, 1) := dk_3 (dk_at dksX2_road_0 14 rfl rfl)
theorem dX2_road_15 : decode cX2_road 15 = .ok (.bipush 9, 2) := dk_16 9 (dk_at dksX2_road_0 15 rfl rfl)
theorem dX2_road_17 : decode cX2_road 17 = .ok (.invokestatic 50, 3) := dk_184 0 50 (dk_at dksX2_road_0 17 rfl rfl)
theorem dX2_road_20 : decode cX2_road 20 = .ok (.ifCond .eq 12, 3) := dk_153 0 12 (dk_at dksX2_road_0 20 rfl rfl)
theorem dX2_road_23 : decode cX2_road 23 = .ok (.aload_n 0, 1) := dk_42 (dk_at dksX2_road_0 23 rfl rfl)
theorem dX2_road_24 : decode cX2_road 24 = .ok (.iload_n 1, 1) := dk_27 (dk_at dksX2_road_1 0 rfl rfl)
theorem dX2_road_25 : decode cX2_road 25 = .ok (.iload_n 2, 1) := dk_28 (dk_at dksX2_road_1 1 rfl rfl)
theorem dX2_road_26 : decode cX2_road 26 = .ok (.invokevirtual 146, 3) := dk_182 0 146 (dk_at dksX2_road_1 2 rfl rfl)
theorem dX2_road_29 : decode cX2_road 29 = .ok (.goto 5, 3) := dk_167 0 5 (dk_at dksX2_road_1 5 rfl rfl)
theorem dX2_road_32 : decode cX2_road 32 = .ok (.ldc 54, 2) := dk_18 54 (dk_at dksX2_road_1 8 rfl rfl)
theorem dX2_road_34 : decode cX2_road 34 = .ok (.ireturn, 1) := dk_172 (dk_at dksX2_road_1 10 rfl rfl)
abbrev cX2_isRoad : ByteArray := prog_9_method_25_code
def yX2_isRoad : MethodName := ⟨RX2, "isRoad", "(I)Z"⟩
def dkwX2_isRoad_0 : List UInt8 := [27, 3, 42, 180, 0, 75, 4, 100, 184, 0, 50, 172]
abbrev dktX2_isRoad_0 : List UInt8 := dkwX2_isRoad_0 ++ []
theorem dksX2_isRoad_0 : cX2_isRoad.data.toList.drop 0 = dktX2_isRoad_0 := by decide +kernel
theorem dX2_isRoad_0 : decode cX2_isRoad 0 = .ok (.iload_n 1, 1) := dk_27 (dk_at dksX2_isRoad_0 0 rfl rfl)
theorem dX2_isRoad_1 : decode cX2_isRoad 1 = .ok (.iconst 0, 1) := dk_3 (dk_at dksX2_isRoad_0 1 rfl rfl)
theorem dX2_isRoad_2 : decode cX2_isRoad 2 = .ok (.aload_n 0, 1) := dk_42 (dk_at dksX2_isRoad_0 2 rfl rfl)
theorem dX2_isRoad_3 : decode cX2_isRoad 3 = .ok (.getfield 75, 3) := dk_180 0 75 (dk_at dksX2_isRoad_0 3 rfl rfl)
theorem dX2_isRoad_6 : decode cX2_isRoad 6 = .ok (.iconst 1, 1) := dk_4 (dk_at dksX2_isRoad_0 6 rfl rfl)
theorem dX2_isRoad_7 : decode cX2_isRoad 7 = .ok (.isub, 1) := dk_100 (dk_at dksX2_isRoad_0 7 rfl rfl)
theorem dX2_isRoad_8 : decode cX2_isRoad 8 = .ok (.invokestatic 50, 3) := dk_184 0 50 (dk_at dksX2_isRoad_0 8 rfl rfl)
theorem dX2_isRoad_11 : decode cX2_isRoad 11 = .ok (.ireturn, 1) := dk_172 (dk_at dksX2_isRoad_0 11 rfl rfl)
abbrev cX2_roadNow : ByteArray := prog_9_method_26_code
def yX2_roadNow : MethodName := ⟨RX2, "roadNow", "(II)I"⟩
def dkwX2_roadNow_5 : List UInt8 := [4, 167, 0, 4, 3, 172, 42, 4, 4, 182, 0, 138, 153, 0, 7, 4, 167, 0, 4, 3, 172]
abbrev dktX2_roadNow_5 : List UInt8 := dkwX2_roadNow_5 ++ []
def dkwX2_roadNow_4 : List UInt8 := [42, 4, 3, 182, 0, 138, 153, 0, 7, 4, 167, 0, 4, 3, 172, 42, 3, 4, 182, 0, 138, 153, 0, 7]
abbrev dktX2_roadNow_4 : List UInt8 := dkwX2_roadNow_4 ++ dktX2_roadNow_5
def dkwX2_roadNow_3 : List UInt8 := [172, 42, 182, 0, 132, 172, 42, 182, 0, 135, 172, 42, 182, 0, 95, 153, 0, 7, 4, 167, 0, 4, 3, 172]
abbrev dktX2_roadNow_3 : List UInt8 := dkwX2_roadNow_3 ++ dktX2_roadNow_4
def dkwX2_roadNow_2 : List UInt8 := [42, 180, 0, 85, 172, 42, 182, 0, 88, 172, 42, 180, 0, 85, 42, 182, 0, 88, 100, 172, 42, 182, 0, 129]
abbrev dktX2_roadNow_2 : List UInt8 := dkwX2_roadNow_2 ++ dktX2_roadNow_3
def dkwX2_roadNow_1 : List UInt8 := [170, 0, 0, 0, 0, 128, 0, 0, 0, 0, 0, 0, 0, 8, 0, 0, 0, 50, 0, 0, 0, 55, 0, 0, 0, 60, 0, 0, 0, 70, 0, 0, 0, 75, 0, 0, 0, 80, 0, 0, 0, 85, 0, 0, 0, 98, 0, 0, 0, 113]
abbrev dktX2_roadNow_1 : List UInt8 := dkwX2_roadNow_1 ++ dktX2_roadNow_2
def dkwX2_roadNow_0 : List UInt8 := [42, 27, 182, 0, 91, 28]
abbrev dktX2_roadNow_0 : List UInt8 := dkwX2_roadNow_0 ++ dktX2_roadNow_1
theorem dksX2_roadNow_0 : cX2_roadNow.data.toList.drop 0 = dktX2_roadNow_0 := by decide +kernel
theorem dksX2_roadNow_1 : cX2_roadNow.data.toList.drop 6 = dktX2_roadNow_1 := dk_seg dksX2_roadNow_0 6 rfl rfl
theorem dksX2_roadNow_2 : cX2_roadNow.data.toList.drop 56 = dktX2_roadNow_2 := dk_seg dksX2_roadNow_1 50 rfl rfl
theorem dksX2_roadNow_3 : cX2_roadNow.data.toList.drop 80 = dktX2_roadNow_3 := dk_seg dksX2_roadNow_2 24 rfl rfl
theorem dksX2_roadNow_4 : cX2_roadNow.data.toList.drop 104 = dktX2_roadNow_4 := dk_seg dksX2_roadNow_3 24 rfl rfl
theorem dksX2_roadNow_5 : cX2_roadNow.data.toList.drop 128 = dktX2_roadNow_5 := dk_seg dksX2_roadNow_4 24 rfl rfl
theorem dX2_roadNow_0 : decode cX2_roadNow 0 = .ok (.aload_n 0, 1) := dk_42 (dk_at dksX2_roadNow_0 0 rfl rfl)
theorem dX2_roadNow_1 : decode cX2_roadNow 1 = .ok (.iload_n 1, 1) := dk_27 (dk_at dksX2_roadNow_0 1 rfl rfl)
theorem dX2_roadNow_2 : decode cX2_roadNow 2 = .ok (.invokevirtual 91, 3) := dk_182 0 91 (dk_at dksX2_roadNow_0 2 rfl rfl)
theorem dX2_roadNow_5 : decode cX2_roadNow 5 = .ok (.iload_n 2, 1) := dk_28 (dk_at dksX2_roadNow_0 5 rfl rfl)
theorem dX2_roadNow_6 : decode cX2_roadNow 6 = .ok (.tableswitch 128 0 8 #[50, 55, 60, 70, 75, 80, 85, 98, 113], 50) := by decide +kernel
theorem dX2_roadNow_56 : decode cX2_roadNow 56 = .ok (.aload_n 0, 1) := dk_42 (dk_at dksX2_roadNow_2 0 rfl rfl)
theorem dX2_roadNow_57 : decode cX2_roadNow 57 = .ok (.getfield 85, 3) := dk_180 0 85 (dk_at dksX2_roadNow_2 1 rfl rfl)
theorem dX2_roadNow_60 : decode cX2_roadNow 60 = .ok (.ireturn, 1) := dk_172 (dk_at dksX2_roadNow_2 4 rfl rfl)
theorem dX2_roadNow_61 : decode cX2_roadNow 61 = .ok (.aload_n 0, 1) := dk_42 (dk_at dksX2_roadNow_2 5 rfl rfl)
theorem dX2_roadNow_62 : decode cX2_roadNow 62 = .ok (.invokevirtual 88, 3) := dk_182 0 88 (dk_at dksX2_roadNow_2 6 rfl rfl)
theorem dX2_roadNow_65 : decode cX2_roadNow 65 = .ok (.ireturn, 1) := dk_172 (dk_at dksX2_roadNow_2 9 rfl rfl)
theorem dX2_roadNow_66 : decode cX2_roadNow 66 = .ok (.aload_n 0, 1) := dk_42 (dk_at dksX2_roadNow_2 10 rfl rfl)
theorem dX2_roadNow_67 : decode cX2_roadNow 67 = .ok (.getfield 85, 3) := dk_180 0 85 (dk_at dksX2_roadNow_2 11 rfl rfl)
theorem dX2_roadNow_70 : decode cX2_roadNow 70 = .ok (.aload_n 0, 1) := dk_42 (dk_at dksX2_roadNow_2 14 rfl rfl)
theorem dX2_roadNow_71 : decode cX2_roadNow 71 = .ok (.invokevirtual 88, 3) := dk_182 0 88 (dk_at dksX2_roadNow_2 15 rfl rfl)
theorem dX2_roadNow_74 : decode cX2_roadNow 74 = .ok (.isub, 1) := dk_100 (dk_at dksX2_roadNow_2 18 rfl rfl)
theorem dX2_roadNow_75 : decode cX2_roadNow 75 = .ok (.ireturn, 1) := dk_172 (dk_at dksX2_roadNow_2 19 rfl rfl)
theorem dX2_roadNow_76 : decode cX2_roadNow 76 = .ok (.aload_n 0, 1) := dk_42 (dk_at dksX2_roadNow_2 20 rfl rfl)
theorem dX2_roadNow_77 : decode cX2_roadNow 77 = .ok (.invokevirtual 129, 3) := dk_182 0 129 (dk_at dksX2_roadNow_2 21 rfl rfl)
theorem dX2_roadNow_80 : decode cX2_roadNow 80 = .ok (.ireturn, 1) := dk_172 (dk_at dksX2_roadNow_3 0 rfl rfl)
theorem dX2_roadNow_81 : decode cX2_roadNow 81 = .ok (.aload_n 0, 1) := dk_42 (dk_at dksX2_roadNow_3 1 rfl rfl)
theorem dX2_roadNow_82 : decode cX2_roadNow 82 = .ok (.invokevirtual 132, 3) := dk_182 0 132 (dk_at dksX2_roadNow_3 2 rfl rfl)
theorem dX2_roadNow_85 : decode cX2_roadNow 85 = .ok (.ireturn, 1) := dk_172 (dk_at dksX2_roadNow_3 5 rfl rfl)
theorem dX2_roadNow_86 : decode cX2_roadNow 86 = .ok (.aload_n 0, 1) := dk_42 (dk_at dksX2_roadNow_3 6 rfl rfl)
theorem dX2_roadNow_87 : decode cX2_roadNow 87 = .ok (.invokevirtual 135, 3) := dk_182 0 135 (dk_at dksX2_roadNow_3 7 rfl rfl)
theorem dX2_roadNow_90 : decode cX2_roadNow 90 = .ok (.ireturn, 1) := dk_172 (dk_at dksX2_roadNow_3 10 rfl rfl)
theorem dX2_roadNow_91 : decode cX2_roadNow 91 = .ok (.aload_n 0, 1) := dk_42 (dk_at dksX2_roadNow_3 11 rfl rfl)
theorem dX2_roadNow_92 : decode cX2_roadNow 92 = .ok (.invokevirtual 95, 3) := dk_182 0 95 (dk_at dksX2_roadNow_3 12 rfl rfl)
theorem dX2_roadNow_95 : decode cX2_roadNow 95 = .ok (.ifCond .eq 7, 3) := dk_153 0 7 (dk_at dksX2_roadNow_3 15 rfl rfl)
theorem dX2_roadNow_98 : decode cX2_roadNow 98 = .ok (.iconst 1, 1) := dk_4 (dk_at dksX2_roadNow_3 18 rfl rfl)
theorem dX2_roadNow_99 : decode cX2_roadNow 99 = .ok (.goto 4, 3) := dk_167 0 4 (dk_at dksX2_roadNow_3 19 rfl rfl)
theorem dX2_roadNow_102 : decode cX2_roadNow 102 = .ok (.iconst 0, 1) := dk_3 (dk_at dksX2_roadNow_3 22 rfl rfl)
theorem dX2_roadNow_103 : decode cX2_roadNow 103 = .ok (.ireturn, 1) := dk_172 (dk_at dksX2_roadNow_3 23 rfl rfl)
theorem dX2_roadNow_104 : decode cX2_roadNow 104 = .ok (.aload_n 0, 1) := dk_42 (dk_at dksX2_roadNow_4 0 rfl rfl)
theorem dX2_roadNow_105 : decode cX2_roadNow 105 = .ok (.iconst 1, 1) := dk_4 (dk_at dksX2_roadNow_4 1 rfl rfl)
theorem dX2_roadNow_106 : decode cX2_roadNow 106 = .ok (.iconst 0, 1) := dk_3 (dk_at dksX2_roadNow_4 2 rfl rfl)
theorem dX2_roadNow_107 : decode cX2_roadNow 107 = .ok (.invokevirtual 138, 3) := dk_182 0 138 (dk_at dksX2_roadNow_4 3 rfl rfl)
theorem dX2_roadNow_110 : decode cX2_roadNow 110 = .ok (.ifCond .eq 7, 3) := dk_153 0 7 (dk_at dksX2_roadNow_4 6 rfl rfl)
theorem dX2_roadNow_113 : decode cX2_roadNow 113 = .ok (.iconst 1, 1) := dk_4 (dk_at dksX2_roadNow_4 9 rfl rfl)
theorem dX2_roadNow_114 : decode cX2_roadNow 114 = .ok (.goto 4, 3) := dk_167 0 4 (dk_at dksX2_roadNow_4 10 rfl rfl)
theorem dX2_roadNow_117 : decode cX2_roadNow 117 = .ok (.iconst 0, 1) := dk_3 (dk_at dksX2_roadNow_4 13 rfl rfl)
theorem dX2_roadNow_118 : decode cX2_roadNow 118 = .ok (.ireturn, 1) := dk_172 (dk_at dksX2_roadNow_4 14 rfl rfl)
theorem dX2_roadNow_119 : decode cX2_roadNow 119 = .ok (.aload_n 0, 1) := dk_42 (dk_at dksX2_roadNow_4 15 rfl rfl)
theorem dX2_roadNow_120 : decode cX2_roadNow 120 = .ok (.iconst 0, 1) := dk_3 (dk_at dksX2_roadNow_4 16 rfl rfl)
theorem dX2_roadNow_121 : decode cX2_roadNow 121 = .ok (.iconst 1, 1) := dk_4 (dk_at dksX2_roadNow_4 17 rfl rfl)
theorem dX2_roadNow_122 : decode cX2_roadNow 122 = .ok (.invokevirtual 138, 3) := dk_182 0 138 (dk_at dksX2_roadNow_4 18 rfl rfl)
theorem dX2_roadNow_125 : decode cX2_roadNow 125 = .ok (.ifCond .eq 7, 3) := dk_153 0 7 (dk_at dksX2_roadNow_4 21 rfl rfl)
theorem dX2_roadNow_128 : decode cX2_roadNow 128 = .ok (.iconst 1, 1) := dk_4 (dk_at dksX2_roadNow_5 0 rfl rfl)
theorem dX2_roadNow_129 : decode cX2_roadNow 129 = .ok (.goto 4, 3) := dk_167 0 4 (dk_at dksX2_roadNow_5 1 rfl rfl)
theorem dX2_roadNow_132 : decode cX2_roadNow 132 = .ok (.iconst 0, 1) := dk_3 (dk_at dksX2_roadNow_5 4 rfl rfl)
theorem dX2_roadNow_133 : decode cX2_roadNow 133 = .ok (.ireturn, 1) := dk_172 (dk_at dksX2_roadNow_5 5 rfl rfl)
theorem dX2_roadNow_134 : decode cX2_roadNow 134 = .ok (.aload_n 0, 1) := dk_42 (dk_at dksX2_roadNow_5 6 rfl rfl)
theorem dX2_roadNow_135 : decode cX2_roadNow 135 = .ok (.iconst 1, 1) := dk_4 (dk_at dksX2_roadNow_5 7 rfl rfl)
theorem dX2_roadNow_136 : decode cX2_roadNow 136 = .ok (.iconst 1, 1) := dk_4 (dk_at dksX2_roadNow_5 8 rfl rfl)
theorem dX2_roadNow_137 : decode cX2_roadNow 137 = .ok (.invokevirtual 138, 3) := dk_182 0 138 (dk_at dksX2_roadNow_5 9 rfl rfl)
theorem dX2_roadNow_140 : decode cX2_roadNow 140 = .ok (.ifCond .eq 7, 3) := dk_153 0 7 (dk_at dksX2_roadNow_5 12 rfl rfl)
theorem dX2_roadNow_143 : decode cX2_roadNow 143 = .ok (.iconst 1, 1) := dk_4 (dk_at dksX2_roadNow_5 15 rfl rfl)
theorem dX2_roadNow_144 : decode cX2_roadNow 144 = .ok (.goto 4, 3) := dk_167 0 4 (dk_at dksX2_roadNow_5 16 rfl rfl)
theorem dX2_roadNow_147 : decode cX2_roadNow 147 = .ok (.iconst 0, 1) := dk_3 (dk_at dksX2_roadNow_5 19 rfl rfl)
theorem dX2_roadNow_148 : decode cX2_roadNow 148 = .ok (.ireturn, 1) := dk_172 (dk_at dksX2_roadNow_5 20 rfl rfl)
abbrev cX2_look : ByteArray := prog_9_method_13_code
def yX2_look : MethodName := ⟨RX2, "look", "(I)V"⟩
def dkwX2_look_1 : List UInt8 := [28, 42, 180, 0, 16, 16, 20, 27, 104, 28, 96, 46, 79, 132, 2, 1, 167, 255, 228, 177]
abbrev dktX2_look_1 : List UInt8 := dkwX2_look_1 ++ []
def dkwX2_look_0 : List UInt8 := [42, 42, 180, 0, 13, 27, 46, 181, 0, 85, 3, 61, 28, 42, 180, 0, 85, 162, 0, 26, 42, 180, 0, 40]
abbrev dktX2_look_0 : List UInt8 := dkwX2_look_0 ++ dktX2_look_1
theorem dksX2_look_0 : cX2_look.data.toList.drop 0 = dktX2_look_0 := by decide +kernel
theorem dksX2_look_1 : cX2_look.data.toList.drop 24 = dktX2_look_1 := dk_seg dksX2_look_0 24 rfl rfl
theorem dX2_look_0 : decode cX2_look 0 = .ok (.aload_n 0, 1) := dk_42 (dk_at dksX2_look_0 0 rfl rfl)
theorem dX2_look_1 : decode cX2_look 1 = .ok (.aload_n 0, 1) := dk_42 (dk_at dksX2_look_0 1 rfl rfl)
theorem dX2_look_2 : decode cX2_look 2 = .ok (.getfield 13, 3) := dk_180 0 13 (dk_at dksX2_look_0 2 rfl rfl)
theorem dX2_look_5 : decode cX2_look 5 = .ok (.iload_n 1, 1) := dk_27 (dk_at dksX2_look_0 5 rfl rfl)
theorem dX2_look_6 : decode cX2_look 6 = .ok (.iaload, 1) := dk_46 (dk_at dksX2_look_0 6 rfl rfl)
theorem dX2_look_7 : decode cX2_look 7 = .ok (.putfield 85, 3) := dk_181 0 85 (dk_at dksX2_look_0 7 rfl rfl)
theorem dX2_look_10 : decode cX2_look 10 = .ok (.iconst 0, 1) := dk_3 (dk_at dksX2_look_0 10 rfl rfl)
theorem dX2_look_11 : decode cX2_look 11 = .ok (.istore_n 2, 1) := dk_61 (dk_at dksX2_look_0 11 rfl rfl)
theorem dX2_look_12 : decode cX2_look 12 = .ok (.iload_n 2, 1) := dk_28 (dk_at dksX2_look_0 12 rfl rfl)
theorem dX2_look_13 : decode cX2_look 13 = .ok (.aload_n 0, 1) := dk_42 (dk_at dksX2_look_0 13 rfl rfl)
theorem dX2_look_14 : decode cX2_look 14 = .ok (.getfield 85, 3) := dk_180 0 85 (dk_at dksX2_look_0 14 rfl rfl)
theorem dX2_look_17 : decode cX2_look 17 = .ok (.if_icmp .ge 26, 3) := dk_162 0 26 (dk_at dksX2_look_0 17 rfl rfl)
theorem dX2_look_20 : decode cX2_look 20 = .ok (.aload_n 0, 1) := dk_42 (dk_at dksX2_look_0 20 rfl rfl)
theorem dX2_look_21 : decode cX2_look 21 = .ok (.getfield 40, 3) := dk_180 0 40 (dk_at dksX2_look_0 21 rfl rfl)
theorem dX2_look_24 : decode cX2_look 24 = .ok (.iload_n 2, 1) := dk_28 (dk_at dksX2_look_1 0 rfl rfl)
theorem dX2_look_25 : decode cX2_look 25 = .ok (.aload_n 0, 1) := dk_42 (dk_at dksX2_look_1 1 rfl rfl)
theorem dX2_look_26 : decode cX2_look 26 = .ok (.getfield 16, 3) := dk_180 0 16 (dk_at dksX2_look_1 2 rfl rfl)
theorem dX2_look_29 : decode cX2_look 29 = .ok (.bipush 20, 2) := dk_16 20 (dk_at dksX2_look_1 5 rfl rfl)
theorem dX2_look_31 : decode cX2_look 31 = .ok (.iload_n 1, 1) := dk_27 (dk_at dksX2_look_1 7 rfl rfl)
theorem dX2_look_32 : decode cX2_look 32 = .ok (.imul, 1) := dk_104 (dk_at dksX2_look_1 8 rfl rfl)
theorem dX2_look_33 : decode cX2_look 33 = .ok (.iload_n 2, 1) := dk_28 (dk_at dksX2_look_1 9 rfl rfl)
theorem dX2_look_34 : decode cX2_look 34 = .ok (.iadd, 1) := dk_96 (dk_at dksX2_look_1 10 rfl rfl)
theorem dX2_look_35 : decode cX2_look 35 = .ok (.iaload, 1) := dk_46 (dk_at dksX2_look_1 11 rfl rfl)
theorem dX2_look_36 : decode cX2_look 36 = .ok (.iastore, 1) := dk_79 (dk_at dksX2_look_1 12 rfl rfl)
theorem dX2_look_37 : decode cX2_look 37 = .ok (.iinc 2 1, 3) := dk_132 2 1 (dk_at dksX2_look_1 13 rfl rfl)
theorem dX2_look_40 : decode cX2_look 40 = .ok (.goto (-28), 3) := dk_167 255 228 (dk_at dksX2_look_1 16 rfl rfl)
theorem dX2_look_43 : decode cX2_look 43 = .ok (.return_, 1) := dk_177 (dk_at dksX2_look_1 19 rfl rfl)
abbrev cX2_lefts : ByteArray := prog_9_method_14_code
def yX2_lefts : MethodName := ⟨RX2, "lefts", "()I"⟩
def dkwX2_lefts_1 : List UInt8 := [167, 0, 4, 3, 96, 60, 132, 2, 1, 167, 255, 228, 27, 172]
abbrev dktX2_lefts_1 : List UInt8 := dkwX2_lefts_1 ++ []
def dkwX2_lefts_0 : List UInt8 := [3, 60, 3, 61, 28, 42, 180, 0, 85, 162, 0, 26, 27, 42, 180, 0, 40, 28, 46, 154, 0, 7, 4]
abbrev dktX2_lefts_0 : List UInt8 := dkwX2_lefts_0 ++ dktX2_lefts_1
theorem dksX2_lefts_0 : cX2_lefts.data.toList.drop 0 = dktX2_lefts_0 := by decide +kernel
theorem dksX2_lefts_1 : cX2_lefts.data.toList.drop 23 = dktX2_lefts_1 := dk_seg dksX2_lefts_0 23 rfl rfl
theorem dX2_lefts_0 : decode cX2_lefts 0 = .ok (.iconst 0, 1) := dk_3 (dk_at dksX2_lefts_0 0 rfl rfl)
theorem dX2_lefts_1 : decode cX2_lefts 1 = .ok (.istore_n 1, 1) := dk_60 (dk_at dksX2_lefts_0 1 rfl rfl)
theorem dX2_lefts_2 : decode cX2_lefts 2 = .ok (.iconst 0, 1) := dk_3 (dk_at dksX2_lefts_0 2 rfl rfl)
theorem dX2_lefts_3 : decode cX2_lefts 3 = .ok (.istore_n 2, 1) := dk_61 (dk_at dksX2_lefts_0 3 rfl rfl)
theorem dX2_lefts_4 : decode cX2_lefts 4 = .ok (.iload_n 2, 1) := dk_28 (dk_at dksX2_lefts_0 4 rfl rfl)
theorem dX2_lefts_5 : decode cX2_lefts 5 = .ok (.aload_n 0, 1) := dk_42 (dk_at dksX2_lefts_0 5 rfl rfl)
theorem dX2_lefts_6 : decode cX2_lefts 6 = .ok (.getfield 85, 3) := dk_180 0 85 (dk_at dksX2_lefts_0 6 rfl rfl)
theorem dX2_lefts_9 : decode cX2_lefts 9 = .ok (.if_icmp .ge 26, 3) := dk_162 0 26 (dk_at dksX2_lefts_0 9 rfl rfl)
theorem dX2_lefts_12 : decode cX2_lefts 12 = .ok (.iload_n 1, 1) := dk_27 (dk_at dksX2_lefts_0 12 rfl rfl)
theorem dX2_lefts_13 : decode cX2_lefts 13 = .ok (.aload_n 0, 1) := dk_42 (dk_at dksX2_lefts_0 13 rfl rfl)
theorem dX2_lefts_14 : decode cX2_lefts 14 = .ok (.getfield 40, 3) := dk_180 0 40 (dk_at dksX2_lefts_0 14 rfl rfl)
theorem dX2_lefts_17 : decode cX2_lefts 17 = .ok (.iload_n 2, 1) := dk_28 (dk_at dksX2_lefts_0 17 rfl rfl)
theorem dX2_lefts_18 : decode cX2_lefts 18 = .ok (.iaload, 1) := dk_46 (dk_at dksX2_lefts_0 18 rfl rfl)
theorem dX2_lefts_19 : decode cX2_lefts 19 = .ok (.ifCond .ne 7, 3) := dk_154 0 7 (dk_at dksX2_lefts_0 19 rfl rfl)
theorem dX2_lefts_22 : decode cX2_lefts 22 = .ok (.iconst 1, 1) := dk_4 (dk_at dksX2_lefts_0 22 rfl rfl)
theorem dX2_lefts_23 : decode cX2_lefts 23 = .ok (.goto 4, 3) := dk_167 0 4 (dk_at dksX2_lefts_1 0 rfl rfl)
theorem dX2_lefts_26 : decode cX2_lefts 26 = .ok (.iconst 0, 1) := dk_3 (dk_at dksX2_lefts_1 3 rfl rfl)
theorem dX2_lefts_27 : decode cX2_lefts 27 = .ok (.iadd, 1) := dk_96 (dk_at dksX2_lefts_1 4 rfl rfl)
theorem dX2_lefts_28 : decode cX2_lefts 28 = .ok (.istore_n 1, 1) := dk_60 (dk_at dksX2_lefts_1 5 rfl rfl)
theorem dX2_lefts_29 : decode cX2_lefts 29 = .ok (.iinc 2 1, 3) := dk_132 2 1 (dk_at dksX2_lefts_1 6 rfl rfl)
theorem dX2_lefts_32 : decode cX2_lefts 32 = .ok (.goto (-28), 3) := dk_167 255 228 (dk_at dksX2_lefts_1 9 rfl rfl)
theorem dX2_lefts_35 : decode cX2_lefts 35 = .ok (.iload_n 1, 1) := dk_27 (dk_at dksX2_lefts_1 12 rfl rfl)
theorem dX2_lefts_36 : decode cX2_lefts 36 = .ok (.ireturn, 1) := dk_172 (dk_at dksX2_lefts_1 13 rfl rfl)
abbrev cX2_periodNow : ByteArray := prog_9_method_18_code
def yX2_periodNow : MethodName := ⟨RX2, "periodNow", "()I"⟩
def dkwX2_periodNow_0 : List UInt8 := [4, 60, 42, 27, 42, 180, 0, 85, 112, 3, 182, 0, 99, 153, 0, 9, 132, 1, 1, 167, 255, 239, 27, 172]
abbrev dktX2_periodNow_0 : List UInt8 := dkwX2_periodNow_0 ++ []
theorem dksX2_periodNow_0 : cX2_periodNow.data.toList.drop 0 = dktX2_periodNow_0 := by decide +kernel
theorem dX2_periodNow_0 : decode cX2_periodNow 0 = .ok (.iconst 1, 1) := dk_4 (dk_at dksX2_periodNow_0 0 rfl rfl)
theorem dX2_periodNow_1 : decode cX2_periodNow 1 = .ok (.istore_n 1, 1) := dk_60 (dk_at dksX2_periodNow_0 1 rfl rfl)
theorem dX2_periodNow_2 : decode cX2_periodNow 2 = .ok (.aload_n 0, 1) := dk_42 (dk_at dksX2_periodNow_0 2 rfl rfl)
theorem dX2_periodNow_3 : decode cX2_periodNow 3 = .ok (.iload_n 1, 1) := dk_27 (dk_at dksX2_periodNow_0 3 rfl rfl)
theorem dX2_periodNow_4 : decode cX2_periodNow 4 = .ok (.aload_n 0, 1) := dk_42 (dk_at dksX2_periodNow_0 4 rfl rfl)
theorem dX2_periodNow_5 : decode cX2_periodNow 5 = .ok (.getfield 85, 3) := dk_180 0 85 (dk_at dksX2_periodNow_0 5 rfl rfl)
theorem dX2_periodNow_8 : decode cX2_periodNow 8 = .ok (.irem, 1) := dk_112 (dk_at dksX2_periodNow_0 8 rfl rfl)
theorem dX2_periodNow_9 : decode cX2_periodNow 9 = .ok (.iconst 0, 1) := dk_3 (dk_at dksX2_periodNow_0 9 rfl rfl)
theorem dX2_periodNow_10 : decode cX2_periodNow 10 = .ok (.invokevirtual 99, 3) := dk_182 0 99 (dk_at dksX2_periodNow_0 10 rfl rfl)
theorem dX2_periodNow_13 : decode cX2_periodNow 13 = .ok (.ifCond .eq 9, 3) := dk_153 0 9 (dk_at dksX2_periodNow_0 13 rfl rfl)
theorem dX2_periodNow_16 : decode cX2_periodNow 16 = .ok (.iinc 1 1, 3) := dk_132 1 1 (dk_at dksX2_periodNow_0 16 rfl rfl)
theorem dX2_periodNow_19 : decode cX2_periodNow 19 = .ok (.goto (-17), 3) := dk_167 255 239 (dk_at dksX2_periodNow_0 19 rfl rfl)
theorem dX2_periodNow_22 : decode cX2_periodNow 22 = .ok (.iload_n 1, 1) := dk_27 (dk_at dksX2_periodNow_0 22 rfl rfl)
theorem dX2_periodNow_23 : decode cX2_periodNow 23 = .ok (.ireturn, 1) := dk_172 (dk_at dksX2_periodNow_0 23 rfl rfl)
abbrev cX2_compareTurns : ByteArray := prog_9_method_17_code
def yX2_compareTurns : MethodName := ⟨RX2, "compareTurns", "(II)I"⟩
def dkwX2_compareTurns_2 : List UInt8 := [132, 3, 1, 167, 255, 208, 3, 172]
abbrev dktX2_compareTurns_2 : List UInt8 := dkwX2_compareTurns_2 ++ []
def dkwX2_compareTurns_1 : List UInt8 := [180, 0, 40, 28, 29, 96, 42, 180, 0, 85, 112, 46, 100, 54, 4, 21, 4, 153, 0, 6, 21, 4, 172]
abbrev dktX2_compareTurns_1 : List UInt8 := dkwX2_compareTurns_1 ++ dktX2_compareTurns_2
def dkwX2_compareTurns_0 : List UInt8 := [3, 62, 29, 42, 180, 0, 85, 162, 0, 46, 42, 180, 0, 40, 27, 29, 96, 42, 180, 0, 85, 112, 46, 42]
abbrev dktX2_compareTurns_0 : List UInt8 := dkwX2_compareTurns_0 ++ dktX2_compareTurns_1
theorem dksX2_compareTurns_0 : cX2_compareTurns.data.toList.drop 0 = dktX2_compareTurns_0 := by decide +kernel
theorem dksX2_compareTurns_1 : cX2_compareTurns.data.toList.drop 24 = dktX2_compareTurns_1 := dk_seg dksX2_compareTurns_0 24 rfl rfl
theorem dksX2_compareTurns_2 : cX2_compareTurns.data.toList.drop 47 = dktX2_compareTurns_2 := dk_seg dksX2_compareTurns_1 23 rfl rfl
theorem dX2_compareTurns_0 : decode cX2_compareTurns 0 = .ok (.iconst 0, 1) := dk_3 (dk_at dksX2_compareTurns_0 0 rfl rfl)
theorem dX2_compareTurns_1 : decode cX2_compareTurns 1 = .ok (.istore_n 3, 1) := dk_62 (dk_at dksX2_compareTurns_0 1 rfl rfl)
theorem dX2_compareTurns_2 : decode cX2_compareTurns 2 = .ok (.iload_n 3, 1) := dk_29 (dk_at dksX2_compareTurns_0 2 rfl rfl)
theorem dX2_compareTurns_3 : decode cX2_compareTurns 3 = .ok (.aload_n 0, 1) := dk_42 (dk_at dksX2_compareTurns_0 3 rfl rfl)
theorem dX2_compareTurns_4 : decode cX2_compareTurns 4 = .ok (.getfield 85, 3) := dk_180 0 85 (dk_at dksX2_compareTurns_0 4 rfl rfl)
theorem dX2_compareTurns_7 : decode cX2_compareTurns 7 = .ok (.if_icmp .ge 46, 3) := dk_162 0 46 (dk_at dksX2_compareTurns_0 7 rfl rfl)
theorem dX2_compareTurns_10 : decode cX2_compareTurns 10 = .ok (.aload_n 0, 1) := dk_42 (dk_at dksX2_compareTurns_0 10 rfl rfl)
theorem dX2_compareTurns_11 : decode cX2_compareTurns 11 = .ok (.getfield 40, 3) := dk_180 0 40 (dk_at dksX2_compareTurns_0 11 rfl rfl)
theorem dX2_compareTurns_14 : decode cX2_compareTurns 14 = .ok (.iload_n 1, 1) := dk_27 (dk_at dksX2_compareTurns_0 14 rfl rfl)
theorem dX2_compareTurns_15 : decode cX2_compareTurns 15 = .ok (.iload_n 3, 1) := dk_29 (dk_at dksX2_compareTurns_0 15 rfl rfl)
theorem dX2_compareTurns_16 : decode cX2_compareTurns 16 = .ok (.iadd, 1) := dk_96 (dk_at dksX2_compareTurns_0 16 rfl rfl)
theorem dX2_compareTurns_17 : decode cX2_compareTurns 17 = .ok (.aload_n 0, 1) := dk_42 (dk_at dksX2_compareTurns_0 17 rfl rfl)
theorem dX2_compareTurns_18 : decode cX2_compareTurns 18 = .ok (.getfield 85, 3) := dk_180 0 85 (dk_at dksX2_compareTurns_0 18 rfl rfl)
theorem dX2_compareTurns_21 : decode cX2_compareTurns 21 = .ok (.irem, 1) := dk_112 (dk_at dksX2_compareTurns_0 21 rfl rfl)
theorem dX2_compareTurns_22 : decode cX2_compareTurns 22 = .ok (.iaload, 1) := dk_46 (dk_at dksX2_compareTurns_0 22 rfl rfl)
theorem dX2_compareTurns_23 : decode cX2_compareTurns 23 = .ok (.aload_n 0, 1) := dk_42 (dk_at dksX2_compareTurns_0 23 rfl rfl)
theorem dX2_compareTurns_24 : decode cX2_compareTurns 24 = .ok (.getfield 40, 3) := dk_180 0 40 (dk_at dksX2_compareTurns_1 0 rfl rfl)
theorem dX2_compareTurns_27 : decode cX2_compareTurns 27 = .ok (.iload_n 2, 1) := dk_28 (dk_at dksX2_compareTurns_1 3 rfl rfl)
theorem dX2_compareTurns_28 : decode cX2_compareTurns 28 = .ok (.iload_n 3, 1) := dk_29 (dk_at dksX2_compareTurns_1 4 rfl rfl)
theorem dX2_compareTurns_29 : decode cX2_compareTurns 29 = .ok (.iadd, 1) := dk_96 (dk_at dksX2_compareTurns_1 5 rfl rfl)
theorem dX2_compareTurns_30 : decode cX2_compareTurns 30 = .ok (.aload_n 0, 1) := dk_42 (dk_at dksX2_compareTurns_1 6 rfl rfl)
theorem dX2_compareTurns_31 : decode cX2_compareTurns 31 = .ok (.getfield 85, 3) := dk_180 0 85 (dk_at dksX2_compareTurns_1 7 rfl rfl)
theorem dX2_compareTurns_34 : decode cX2_compareTurns 34 = .ok (.irem, 1) := dk_112 (dk_at dksX2_compareTurns_1 10 rfl rfl)
theorem dX2_compareTurns_35 : decode cX2_compareTurns 35 = .ok (.iaload, 1) := dk_46 (dk_at dksX2_compareTurns_1 11 rfl rfl)
theorem dX2_compareTurns_36 : decode cX2_compareTurns 36 = .ok (.isub, 1) := dk_100 (dk_at dksX2_compareTurns_1 12 rfl rfl)
theorem dX2_compareTurns_37 : decode cX2_compareTurns 37 = .ok (.istore 4, 2) := dk_54 4 (dk_at dksX2_compareTurns_1 13 rfl rfl)
theorem dX2_compareTurns_39 : decode cX2_compareTurns 39 = .ok (.iload 4, 2) := dk_21 4 (dk_at dksX2_compareTurns_1 15 rfl rfl)
theorem dX2_compareTurns_41 : decode cX2_compareTurns 41 = .ok (.ifCond .eq 6, 3) := dk_153 0 6 (dk_at dksX2_compareTurns_1 17 rfl rfl)
theorem dX2_compareTurns_44 : decode cX2_compareTurns 44 = .ok (.iload 4, 2) := dk_21 4 (dk_at dksX2_compareTurns_1 20 rfl rfl)
theorem dX2_compareTurns_46 : decode cX2_compareTurns 46 = .ok (.ireturn, 1) := dk_172 (dk_at dksX2_compareTurns_1 22 rfl rfl)
theorem dX2_compareTurns_47 : decode cX2_compareTurns 47 = .ok (.iinc 3 1, 3) := dk_132 3 1 (dk_at dksX2_compareTurns_2 0 rfl rfl)
theorem dX2_compareTurns_50 : decode cX2_compareTurns 50 = .ok (.goto (-48), 3) := dk_167 255 208 (dk_at dksX2_compareTurns_2 3 rfl rfl)
theorem dX2_compareTurns_53 : decode cX2_compareTurns 53 = .ok (.iconst 0, 1) := dk_3 (dk_at dksX2_compareTurns_2 6 rfl rfl)
theorem dX2_compareTurns_54 : decode cX2_compareTurns 54 = .ok (.ireturn, 1) := dk_172 (dk_at dksX2_compareTurns_2 7 rfl rfl)
abbrev cX2_leastTurnNow : ByteArray := prog_9_method_19_code
def yX2_leastTurnNow : MethodName := ⟨RX2, "leastTurnNow", "()I"⟩
def dkwX2_leastTurnNow_1 : List UInt8 := [167, 0, 4, 27, 60, 132, 2, 1, 167, 255, 230, 27, 172]
abbrev dktX2_leastTurnNow_1 : List UInt8 := dkwX2_leastTurnNow_1 ++ []
def dkwX2_leastTurnNow_0 : List UInt8 := [3, 60, 4, 61, 28, 42, 180, 0, 85, 162, 0, 24, 42, 28, 27, 182, 0, 99, 156, 0, 7, 28]
abbrev dktX2_leastTurnNow_0 : List UInt8 := dkwX2_leastTurnNow_0 ++ dktX2_leastTurnNow_1
theorem dksX2_leastTurnNow_0 : cX2_leastTurnNow.data.toList.drop 0 = dktX2_leastTurnNow_0 := by decide +kernel
theorem dksX2_leastTurnNow_1 : cX2_leastTurnNow.data.toList.drop 22 = dktX2_leastTurnNow_1 := dk_seg dksX2_leastTurnNow_0 22 rfl rfl
theorem dX2_leastTurnNow_0 : decode cX2_leastTurnNow 0 = .ok (.iconst 0, 1) := dk_3 (dk_at dksX2_leastTurnNow_0 0 rfl rfl)
theorem dX2_leastTurnNow_1 : decode cX2_leastTurnNow 1 = .ok (.istore_n 1, 1) := dk_60 (dk_at dksX2_leastTurnNow_0 1 rfl rfl)
theorem dX2_leastTurnNow_2 : decode cX2_leastTurnNow 2 = .ok (.iconst 1, 1) := dk_4 (dk_at dksX2_leastTurnNow_0 2 rfl rfl)
theorem dX2_leastTurnNow_3 : decode cX2_leastTurnNow 3 = .ok (.istore_n 2, 1) := dk_61 (dk_at dksX2_leastTurnNow_0 3 rfl rfl)
theorem dX2_leastTurnNow_4 : decode cX2_leastTurnNow 4 = .ok (.iload_n 2, 1) := dk_28 (dk_at dksX2_leastTurnNow_0 4 rfl rfl)
theorem dX2_leastTurnNow_5 : decode cX2_leastTurnNow 5 = .ok (.aload_n 0, 1) := dk_42 (dk_at dksX2_leastTurnNow_0 5 rfl rfl)
theorem dX2_leastTurnNow_6 : decode cX2_leastTurnNow 6 = .ok (.getfield 85, 3) := dk_180 0 85 (dk_at dksX2_leastTurnNow_0 6 rfl rfl)
theorem dX2_leastTurnNow_9 : decode cX2_leastTurnNow 9 = .ok (.if_icmp .ge 24, 3) := dk_162 0 24 (dk_at dksX2_leastTurnNow_0 9 rfl rfl)
theorem dX2_leastTurnNow_12 : decode cX2_leastTurnNow 12 = .ok (.aload_n 0, 1) := dk_42 (dk_at dksX2_leastTurnNow_0 12 rfl rfl)
theorem dX2_leastTurnNow_13 : decode cX2_leastTurnNow 13 = .ok (.iload_n 2, 1) := dk_28 (dk_at dksX2_leastTurnNow_0 13 rfl rfl)
theorem dX2_leastTurnNow_14 : decode cX2_leastTurnNow 14 = .ok (.iload_n 1, 1) := dk_27 (dk_at dksX2_leastTurnNow_0 14 rfl rfl)
theorem dX2_leastTurnNow_15 : decode cX2_leastTurnNow 15 = .ok (.invokevirtual 99, 3) := dk_182 0 99 (dk_at dksX2_leastTurnNow_0 15 rfl rfl)
theorem dX2_leastTurnNow_18 : decode cX2_leastTurnNow 18 = .ok (.ifCond .ge 7, 3) := dk_156 0 7 (dk_at dksX2_leastTurnNow_0 18 rfl rfl)
theorem dX2_leastTurnNow_21 : decode cX2_leastTurnNow 21 = .ok (.iload_n 2, 1) := dk_28 (dk_at dksX2_leastTurnNow_0 21 rfl rfl)
theorem dX2_leastTurnNow_22 : decode cX2_leastTurnNow 22 = .ok (.goto 4, 3) := dk_167 0 4 (dk_at dksX2_leastTurnNow_1 0 rfl rfl)
theorem dX2_leastTurnNow_25 : decode cX2_leastTurnNow 25 = .ok (.iload_n 1, 1) := dk_27 (dk_at dksX2_leastTurnNow_1 3 rfl rfl)
theorem dX2_leastTurnNow_26 : decode cX2_leastTurnNow 26 = .ok (.istore_n 1, 1) := dk_60 (dk_at dksX2_leastTurnNow_1 4 rfl rfl)
theorem dX2_leastTurnNow_27 : decode cX2_leastTurnNow 27 = .ok (.iinc 2 1, 3) := dk_132 2 1 (dk_at dksX2_leastTurnNow_1 5 rfl rfl)
theorem dX2_leastTurnNow_30 : decode cX2_leastTurnNow 30 = .ok (.goto (-26), 3) := dk_167 255 230 (dk_at dksX2_leastTurnNow_1 8 rfl rfl)
theorem dX2_leastTurnNow_33 : decode cX2_leastTurnNow 33 = .ok (.iload_n 1, 1) := dk_27 (dk_at dksX2_leastTurnNow_1 11 rfl rfl)
theorem dX2_leastTurnNow_34 : decode cX2_leastTurnNow 34 = .ok (.ireturn, 1) := dk_172 (dk_at dksX2_leastTurnNow_1 12 rfl rfl)
abbrev cX2_traceNow : ByteArray := prog_9_method_24_code
def yX2_traceNow : MethodName := ⟨RX2, "traceNow", "()I"⟩
def dkwX2_traceNow_0 : List UInt8 := [42, 182, 0, 126, 42, 180, 0, 114, 42, 180, 0, 123, 96, 172]
abbrev dktX2_traceNow_0 : List UInt8 := dkwX2_traceNow_0 ++ []
theorem dksX2_traceNow_0 : cX2_traceNow.data.toList.drop 0 = dktX2_traceNow_0 := by decide +kernel
theorem dX2_traceNow_0 : decode cX2_traceNow 0 = .ok (.aload_n 0, 1) := dk_42 (dk_at dksX2_traceNow_0 0 rfl rfl)
theorem dX2_traceNow_1 : decode cX2_traceNow 1 = .ok (.invokevirtual 126, 3) := dk_182 0 126 (dk_at dksX2_traceNow_0 1 rfl rfl)
theorem dX2_traceNow_4 : decode cX2_traceNow 4 = .ok (.aload_n 0, 1) := dk_42 (dk_at dksX2_traceNow_0 4 rfl rfl)
theorem dX2_traceNow_5 : decode cX2_traceNow 5 = .ok (.getfield 114, 3) := dk_180 0 114 (dk_at dksX2_traceNow_0 5 rfl rfl)
theorem dX2_traceNow_8 : decode cX2_traceNow 8 = .ok (.aload_n 0, 1) := dk_42 (dk_at dksX2_traceNow_0 8 rfl rfl)
theorem dX2_traceNow_9 : decode cX2_traceNow 9 = .ok (.getfield 123, 3) := dk_180 0 123 (dk_at dksX2_traceNow_0 9 rfl rfl)
theorem dX2_traceNow_12 : decode cX2_traceNow 12 = .ok (.iadd, 1) := dk_96 (dk_at dksX2_traceNow_0 12 rfl rfl)
theorem dX2_traceNow_13 : decode cX2_traceNow 13 = .ok (.ireturn, 1) := dk_172 (dk_at dksX2_traceNow_0 13 rfl rfl)
abbrev cX2_layTable : ByteArray := prog_9_method_23_code
def yX2_layTable : MethodName := ⟨RX2, "layTable", "()V"⟩
def dkwX2_layTable_4 : List UInt8 := [181, 0, 117, 132, 1, 255, 167, 255, 185, 177]
abbrev dktX2_layTable_4 : List UInt8 := dkwX2_layTable_4 ++ []
def dkwX2_layTable_3 : List UInt8 := [89, 180, 0, 114, 42, 180, 0, 120, 96, 181, 0, 114, 42, 89, 180, 0, 117, 42, 180, 0, 123, 96]
abbrev dktX2_layTable_3 : List UInt8 := dkwX2_layTable_3 ++ dktX2_layTable_4
def dkwX2_layTable_2 : List UInt8 := [180, 0, 114, 96, 181, 0, 120, 42, 89, 180, 0, 123, 42, 180, 0, 117, 96, 181, 0, 123, 167, 0, 29, 42]
abbrev dktX2_layTable_2 : List UInt8 := dkwX2_layTable_2 ++ dktX2_layTable_3
def dkwX2_layTable_1 : List UInt8 := [4, 100, 60, 27, 155, 0, 73, 42, 180, 0, 40, 27, 46, 154, 0, 32, 42, 89, 180, 0, 120, 42]
abbrev dktX2_layTable_1 : List UInt8 := dkwX2_layTable_1 ++ dktX2_layTable_2
def dkwX2_layTable_0 : List UInt8 := [42, 4, 181, 0, 114, 42, 3, 181, 0, 117, 42, 3, 181, 0, 120, 42, 4, 181, 0, 123, 42, 180, 0, 85]
abbrev dktX2_layTable_0 : List UInt8 := dkwX2_layTable_0 ++ dktX2_layTable_1
theorem dksX2_layTable_0 : cX2_layTable.data.toList.drop 0 = dktX2_layTable_0 := by decide +kernel
theorem dksX2_layTable_1 : cX2_layTable.data.toList.drop 24 = dktX2_layTable_1 := dk_seg dksX2_layTable_0 24 rfl rfl
theorem dksX2_layTable_2 : cX2_layTable.data.toList.drop 46 = dktX2_layTable_2 := dk_seg dksX2_layTable_1 22 rfl rfl
theorem dksX2_layTable_3 : cX2_layTable.data.toList.drop 70 = dktX2_layTable_3 := dk_seg dksX2_layTable_2 24 rfl rfl
theorem dksX2_layTable_4 : cX2_layTable.data.toList.drop 92 = dktX2_layTable_4 := dk_seg dksX2_layTable_3 22 rfl rfl
theorem dX2_layTable_0 : decode cX2_layTable 0 = .ok (.aload_n 0, 1) := dk_42 (dk_at dksX2_layTable_0 0 rfl rfl)
theorem dX2_layTable_1 : decode cX2_layTable 1 = .ok (.iconst 1, 1) := dk_4 (dk_at dksX2_layTable_0 1 rfl rfl)
theorem dX2_layTable_2 : decode cX2_layTable 2 = .ok (.putfield 114, 3) := dk_181 0 114 (dk_at dksX2_layTable_0 2 rfl rfl)
theorem dX2_layTable_5 : decode cX2_layTable 5 = .ok (.aload_n 0, 1) := dk_42 (dk_at dksX2_layTable_0 5 rfl rfl)
theorem dX2_layTable_6 : decode cX2_layTable 6 = .ok (.iconst 0, 1) := dk_3 (dk_at dksX2_layTable_0 6 rfl rfl)
theorem dX2_layTable_7 : decode cX2_layTable 7 = .ok (.putfield 117, 3) := dk_181 0 117 (dk_at dksX2_layTable_0 7 rfl rfl)
theorem dX2_layTable_10 : decode cX2_layTable 10 = .ok (.aload_n 0, 1) := dk_42 (dk_at dksX2_layTable_0 10 rfl rfl)
theorem dX2_layTable_11 : decode cX2_layTable 11 = .ok (.iconst 0, 1) := dk_3 (dk_at dksX2_layTable_0 11 rfl rfl)
theorem dX2_layTable_12 : decode cX2_layTable 12 = .ok (.putfield 120, 3) := dk_181 0 120 (dk_at dksX2_layTable_0 12 rfl rfl)
theorem dX2_layTable_15 : decode cX2_layTable 15 = .ok (.aload_n 0, 1) := dk_42 (dk_at dksX2_layTable_0 15 rfl rfl)
theorem dX2_layTable_16 : decode cX2_layTable 16 = .ok (.iconst 1, 1) := dk_4 (dk_at dksX2_layTable_0 16 rfl rfl)
theorem dX2_layTable_17 : decode cX2_layTable 17 = .ok (.putfield 123, 3) := dk_181 0 123 (dk_at dksX2_layTable_0 17 rfl rfl)
theorem dX2_layTable_20 : decode cX2_layTable 20 = .ok (.aload_n 0, 1) := dk_42 (dk_at dksX2_layTable_0 20 rfl rfl)
theorem dX2_layTable_21 : decode cX2_layTable 21 = .ok (.getfield 85, 3) := dk_180 0 85 (dk_at dksX2_layTable_0 21 rfl rfl)
theorem dX2_layTable_24 : decode cX2_layTable 24 = .ok (.iconst 1, 1) := dk_4 (dk_at dksX2_layTable_1 0 rfl rfl)
theorem dX2_layTable_25 : decode cX2_layTable 25 = .ok (.isub, 1) := dk_100 (dk_at dksX2_layTable_1 1 rfl rfl)
theorem dX2_layTable_26 : decode cX2_layTable 26 = .ok (.istore_n 1, 1) := dk_60 (dk_at dksX2_layTable_1 2 rfl rfl)
theorem dX2_layTable_27 : decode cX2_layTable 27 = .ok (.iload_n 1, 1) := dk_27 (dk_at dksX2_layTable_1 3 rfl rfl)
theorem dX2_layTable_28 : decode cX2_layTable 28 = .ok (.ifCond .lt 73, 3) := dk_155 0 73 (dk_at dksX2_layTable_1 4 rfl rfl)
theorem dX2_layTable_31 : decode cX2_layTable 31 = .ok (.aload_n 0, 1) := dk_42 (dk_at dksX2_layTable_1 7 rfl rfl)
theorem dX2_layTable_32 : decode cX2_layTable 32 = .ok (.getfield 40, 3) := dk_180 0 40 (dk_at dksX2_layTable_1 8 rfl rfl)
theorem dX2_layTable_35 : decode cX2_layTable 35 = .ok (.iload_n 1, 1) := dk_27 (dk_at dksX2_layTable_1 11 rfl rfl)
theorem dX2_layTable_36 : decode cX2_layTable 36 = .ok (.iaload, 1) := dk_46 (dk_at dksX2_layTable_1 12 rfl rfl)
theorem dX2_layTable_37 : decode cX2_layTable 37 = .ok (.ifCond .ne 32, 3) := dk_154 0 32 (dk_at dksX2_layTable_1 13 rfl rfl)
theorem dX2_layTable_40 : decode cX2_layTable 40 = .ok (.aload_n 0, 1) := dk_42 (dk_at dksX2_layTable_1 16 rfl rfl)
theorem dX2_layTable_41 : decode cX2_layTable 41 = .ok (.dup, 1) := dk_89 (dk_at dksX2_layTable_1 17 rfl rfl)
theorem dX2_layTable_42 : decode cX2_layTable 42 = .ok (.getfield 120, 3) := dk_180 0 120 (dk_at dksX2_layTable_1 18 rfl rfl)
theorem dX2_layTable_45 : decode cX2_layTable 45 = .ok (.aload_n 0, 1) := dk_42 (dk_at dksX2_layTable_1 21 rfl rfl)
theorem dX2_layTable_46 : decode cX2_layTable 46 = .ok (.getfield 114, 3) := dk_180 0 114 (dk_at dksX2_layTable_2 0 rfl rfl)
theorem dX2_layTable_49 : decode cX2_layTable 49 = .ok (.iadd, 1) := dk_96 (dk_at dksX2_layTable_2 3 rfl rfl)
theorem dX2_layTable_50 : decode cX2_layTable 50 = .ok (.putfield 120, 3) := dk_181 0 120 (dk_at dksX2_layTable_2 4 rfl rfl)
theorem dX2_layTable_53 : decode cX2_layTable 53 = .ok (.aload_n 0, 1) := dk_42 (dk_at dksX2_layTable_2 7 rfl rfl)
theorem dX2_layTable_54 : decode cX2_layTable 54 = .ok (.dup, 1) := dk_89 (dk_at dksX2_layTable_2 8 rfl rfl)
theorem dX2_layTable_55 : decode cX2_layTable 55 = .ok (.getfield 123, 3) := dk_180 0 123 (dk_at dksX2_layTable_2 9 rfl rfl)
theorem dX2_layTable_58 : decode cX2_layTable 58 = .ok (.aload_n 0, 1) := dk_42 (dk_at dksX2_layTable_2 12 rfl rfl)
theorem dX2_layTable_59 : decode cX2_layTable 59 = .ok (.getfield 117, 3) := dk_180 0 117 (dk_at dksX2_layTable_2 13 rfl rfl)
theorem dX2_layTable_62 : decode cX2_layTable 62 = .ok (.iadd, 1) := dk_96 (dk_at dksX2_layTable_2 16 rfl rfl)
theorem dX2_layTable_63 : decode cX2_layTable 63 = .ok (.putfield 123, 3) := dk_181 0 123 (dk_at dksX2_layTable_2 17 rfl rfl)
theorem dX2_layTable_66 : decode cX2_layTable 66 = .ok (.goto 29, 3) := dk_167 0 29 (dk_at dksX2_layTable_2 20 rfl rfl)
theorem dX2_layTable_69 : decode cX2_layTable 69 = .ok (.aload_n 0, 1) := dk_42 (dk_at dksX2_layTable_2 23 rfl rfl)
theorem dX2_layTable_70 : decode cX2_layTable 70 = .ok (.dup, 1) := dk_89 (dk_at dksX2_layTable_3 0 rfl rfl)
theorem dX2_layTable_71 : decode cX2_layTable 71 = .ok (.getfield 114, 3) := dk_180 0 114 (dk_at dksX2_layTable_3 1 rfl rfl)
theorem dX2_layTable_74 : decode cX2_layTable 74 = .ok (.aload_n 0, 1) := dk_42 (dk_at dksX2_layTable_3 4 rfl rfl)
theorem dX2_layTable_75 : decode cX2_layTable 75 = .ok (.getfield 120, 3) := dk_180 0 120 (dk_at dksX2_layTable_3 5 rfl rfl)
theorem dX2_layTable_78 : decode cX2_layTable 78 = .ok (.iadd, 1) := dk_96 (dk_at dksX2_layTable_3 8 rfl rfl)
theorem dX2_layTable_79 : decode cX2_layTable 79 = .ok (.putfield 114, 3) := dk_181 0 114 (dk_at dksX2_layTable_3 9 rfl rfl)
theorem dX2_layTable_82 : decode cX2_layTable 82 = .ok (.aload_n 0, 1) := dk_42 (dk_at dksX2_layTable_3 12 rfl rfl)
theorem dX2_layTable_83 : decode cX2_layTable 83 = .ok (.dup, 1) := dk_89 (dk_at dksX2_layTable_3 13 rfl rfl)
theorem dX2_layTable_84 : decode cX2_layTable 84 = .ok (.getfield 117, 3) := dk_180 0 117 (dk_at dksX2_layTable_3 14 rfl rfl)
theorem dX2_layTable_87 : decode cX2_layTable 87 = .ok (.aload_n 0, 1) := dk_42 (dk_at dksX2_layTable_3 17 rfl rfl)
theorem dX2_layTable_88 : decode cX2_layTable 88 = .ok (.getfield 123, 3) := dk_180 0 123 (dk_at dksX2_layTable_3 18 rfl rfl)
theorem dX2_layTable_91 : decode cX2_layTable 91 = .ok (.iadd, 1) := dk_96 (dk_at dksX2_layTable_3 21 rfl rfl)
theorem dX2_layTable_92 : decode cX2_layTable 92 = .ok (.putfield 117, 3) := dk_181 0 117 (dk_at dksX2_layTable_4 0 rfl rfl)
theorem dX2_layTable_95 : decode cX2_layTable 95 = .ok (.iinc 1 (-1), 3) := dk_132 1 255 (dk_at dksX2_layTable_4 3 rfl rfl)
theorem dX2_layTable_98 : decode cX2_layTable 98 = .ok (.goto (-71), 3) := dk_167 255 185 (dk_at dksX2_layTable_4 6 rfl rfl)
theorem dX2_layTable_101 : decode cX2_layTable 101 = .ok (.return_, 1) := dk_177 (dk_at dksX2_layTable_4 9 rfl rfl)
abbrev cX2_isClosedNow : ByteArray := prog_9_method_15_code
def yX2_isClosedNow : MethodName := ⟨RX2, "isClosedNow", "()Z"⟩
def dkwX2_isClosedNow_0 : List UInt8 := [42, 182, 0, 88, 158, 0, 18, 42, 182, 0, 88, 42, 180, 0, 85, 162, 0, 7, 4, 167, 0, 4, 3, 172]
abbrev dktX2_isClosedNow_0 : List UInt8 := dkwX2_isClosedNow_0 ++ []
theorem dksX2_isClosedNow_0 : cX2_isClosedNow.data.toList.drop 0 = dktX2_isClosedNow_0 := by decide +kernel
theorem dX2_isClosedNow_0 : decode cX2_isClosedNow 0 = .ok (.aload_n 0, 1) := dk_42 (dk_at dksX2_isClosedNow_0 0 rfl rfl)
theorem dX2_isClosedNow_1 : decode cX2_isClosedNow 1 = .ok (.invokevirtual 88, 3) := dk_182 0 88 (dk_at dksX2_isClosedNow_0 1 rfl rfl)
theorem dX2_isClosedNow_4 : decode cX2_isClosedNow 4 = .ok (.ifCond .le 18, 3) := dk_158 0 18 (dk_at dksX2_isClosedNow_0 4 rfl rfl)
theorem dX2_isClosedNow_7 : decode cX2_isClosedNow 7 = .ok (.aload_n 0, 1) := dk_42 (dk_at dksX2_isClosedNow_0 7 rfl rfl)
theorem dX2_isClosedNow_8 : decode cX2_isClosedNow 8 = .ok (.invokevirtual 88, 3) := dk_182 0 88 (dk_at dksX2_isClosedNow_0 8 rfl rfl)
theorem dX2_isClosedNow_11 : decode cX2_isClosedNow 11 = .ok (.aload_n 0, 1) := dk_42 (dk_at dksX2_isClosedNow_0 11 rfl rfl)
theorem dX2_isClosedNow_12 : decode cX2_isClosedNow 12 = .ok (.getfield 85, 3) := dk_180 0 85 (dk_at dksX2_isClosedNow_0 12 rfl rfl)
theorem dX2_isClosedNow_15 : decode cX2_isClosedNow 15 = .ok (.if_icmp .ge 7, 3) := dk_162 0 7 (dk_at dksX2_isClosedNow_0 15 rfl rfl)
theorem dX2_isClosedNow_18 : decode cX2_isClosedNow 18 = .ok (.iconst 1, 1) := dk_4 (dk_at dksX2_isClosedNow_0 18 rfl rfl)
theorem dX2_isClosedNow_19 : decode cX2_isClosedNow 19 = .ok (.goto 4, 3) := dk_167 0 4 (dk_at dksX2_isClosedNow_0 19 rfl rfl)
theorem dX2_isClosedNow_22 : decode cX2_isClosedNow 22 = .ok (.iconst 0, 1) := dk_3 (dk_at dksX2_isClosedNow_0 22 rfl rfl)
theorem dX2_isClosedNow_23 : decode cX2_isClosedNow 23 = .ok (.ireturn, 1) := dk_172 (dk_at dksX2_isClosedNow_0 23 rfl rfl)
abbrev cX2_isAlike : ByteArray := prog_9_method_22_code
def yX2_isAlike : MethodName := ⟨RX2, "isAlike", "(ZZ)Z"⟩
def dkwX2_isAlike_0 : List UInt8 := [42, 27, 28, 182, 0, 107, 42, 182, 0, 111, 18, 106, 159, 0, 7, 4, 167, 0, 4, 3, 172]
abbrev dktX2_isAlike_0 : List UInt8 := dkwX2_isAlike_0 ++ []
theorem dksX2_isAlike_0 : cX2_isAlike.data.toList.drop 0 = dktX2_isAlike_0 := by decide +kernel
theorem dX2_isAlike_0 : decode cX2_isAlike 0 = .ok (.aload_n 0, 1) := dk_42 (dk_at dksX2_isAlike_0 0 rfl rfl)
theorem dX2_isAlike_1 : decode cX2_isAlike 1 = .ok (.iload_n 1, 1) := dk_27 (dk_at dksX2_isAlike_0 1 rfl rfl)
theorem dX2_isAlike_2 : decode cX2_isAlike 2 = .ok (.iload_n 2, 1) := dk_28 (dk_at dksX2_isAlike_0 2 rfl rfl)
theorem dX2_isAlike_3 : decode cX2_isAlike 3 = .ok (.invokevirtual 107, 3) := dk_182 0 107 (dk_at dksX2_isAlike_0 3 rfl rfl)
theorem dX2_isAlike_6 : decode cX2_isAlike 6 = .ok (.aload_n 0, 1) := dk_42 (dk_at dksX2_isAlike_0 6 rfl rfl)
theorem dX2_isAlike_7 : decode cX2_isAlike 7 = .ok (.invokevirtual 111, 3) := dk_182 0 111 (dk_at dksX2_isAlike_0 7 rfl rfl)
theorem dX2_isAlike_10 : decode cX2_isAlike 10 = .ok (.ldc 106, 2) := dk_18 106 (dk_at dksX2_isAlike_0 10 rfl rfl)
theorem dX2_isAlike_12 : decode cX2_isAlike 12 = .ok (.if_icmp .eq 7, 3) := dk_159 0 7 (dk_at dksX2_isAlike_0 12 rfl rfl)
theorem dX2_isAlike_15 : decode cX2_isAlike 15 = .ok (.iconst 1, 1) := dk_4 (dk_at dksX2_isAlike_0 15 rfl rfl)
theorem dX2_isAlike_16 : decode cX2_isAlike 16 = .ok (.goto 4, 3) := dk_167 0 4 (dk_at dksX2_isAlike_0 16 rfl rfl)
theorem dX2_isAlike_19 : decode cX2_isAlike 19 = .ok (.iconst 0, 1) := dk_3 (dk_at dksX2_isAlike_0 19 rfl rfl)
theorem dX2_isAlike_20 : decode cX2_isAlike 20 = .ok (.ireturn, 1) := dk_172 (dk_at dksX2_isAlike_0 20 rfl rfl)
abbrev cX2_layOther : ByteArray := prog_9_method_21_code
def yX2_layOther : MethodName := ⟨RX2, "layOther", "(ZZ)V"⟩
def dkwX2_layOther_2 : List UInt8 := [153, 0, 10, 4, 21, 4, 100, 167, 0, 5, 21, 4, 79, 132, 3, 1, 167, 255, 203, 177]
abbrev dktX2_layOther_2 : List UInt8 := dkwX2_layOther_2 ++ []
def dkwX2_layOther_1 : List UInt8 := [153, 0, 14, 42, 180, 0, 85, 4, 100, 29, 100, 167, 0, 4, 29, 46, 54, 4, 42, 180, 0, 43, 29, 28]
abbrev dktX2_layOther_1 : List UInt8 := dkwX2_layOther_1 ++ dktX2_layOther_2
def dkwX2_layOther_0 : List UInt8 := [42, 42, 180, 0, 85, 181, 0, 103, 3, 62, 29, 42, 180, 0, 85, 162, 0, 51, 42, 180, 0, 40, 27]
abbrev dktX2_layOther_0 : List UInt8 := dkwX2_layOther_0 ++ dktX2_layOther_1
theorem dksX2_layOther_0 : cX2_layOther.data.toList.drop 0 = dktX2_layOther_0 := by decide +kernel
theorem dksX2_layOther_1 : cX2_layOther.data.toList.drop 23 = dktX2_layOther_1 := dk_seg dksX2_layOther_0 23 rfl rfl
theorem dksX2_layOther_2 : cX2_layOther.data.toList.drop 47 = dktX2_layOther_2 := dk_seg dksX2_layOther_1 24 rfl rfl
theorem dX2_layOther_0 : decode cX2_layOther 0 = .ok (.aload_n 0, 1) := dk_42 (dk_at dksX2_layOther_0 0 rfl rfl)
theorem dX2_layOther_1 : decode cX2_layOther 1 = .ok (.aload_n 0, 1) := dk_42 (dk_at dksX2_layOther_0 1 rfl rfl)
theorem dX2_layOther_2 : decode cX2_layOther 2 = .ok (.getfield 85, 3) := dk_180 0 85 (dk_at dksX2_layOther_0 2 rfl rfl)
theorem dX2_layOther_5 : decode cX2_layOther 5 = .ok (.putfield 103, 3) := dk_181 0 103 (dk_at dksX2_layOther_0 5 rfl rfl)
theorem dX2_layOther_8 : decode cX2_layOther 8 = .ok (.iconst 0, 1) := dk_3 (dk_at dksX2_layOther_0 8 rfl rfl)
theorem dX2_layOther_9 : decode cX2_layOther 9 = .ok (.istore_n 3, 1) := dk_62 (dk_at dksX2_layOther_0 9 rfl rfl)
theorem dX2_layOther_10 : decode cX2_layOther 10 = .ok (.iload_n 3, 1) := dk_29 (dk_at dksX2_layOther_0 10 rfl rfl)
theorem dX2_layOther_11 : decode cX2_layOther 11 = .ok (.aload_n 0, 1) := dk_42 (dk_at dksX2_layOther_0 11 rfl rfl)
theorem dX2_layOther_12 : decode cX2_layOther 12 = .ok (.getfield 85, 3) := dk_180 0 85 (dk_at dksX2_layOther_0 12 rfl rfl)
theorem dX2_layOther_15 : decode cX2_layOther 15 = .ok (.if_icmp .ge 51, 3) := dk_162 0 51 (dk_at dksX2_layOther_0 15 rfl rfl)
theorem dX2_layOther_18 : decode cX2_layOther 18 = .ok (.aload_n 0, 1) := dk_42 (dk_at dksX2_layOther_0 18 rfl rfl)
theorem dX2_layOther_19 : decode cX2_layOther 19 = .ok (.getfield 40, 3) := dk_180 0 40 (dk_at dksX2_layOther_0 19 rfl rfl)
theorem dX2_layOther_22 : decode cX2_layOther 22 = .ok (.iload_n 1, 1) := dk_27 (dk_at dksX2_layOther_0 22 rfl rfl)
theorem dX2_layOther_23 : decode cX2_layOther 23 = .ok (.ifCond .eq 14, 3) := dk_153 0 14 (dk_at dksX2_layOther_1 0 rfl rfl)
theorem dX2_layOther_26 : decode cX2_layOther 26 = .ok (.aload_n 0, 1) := dk_42 (dk_at dksX2_layOther_1 3 rfl rfl)
theorem dX2_layOther_27 : decode cX2_layOther 27 = .ok (.getfield 85, 3) := dk_180 0 85 (dk_at dksX2_layOther_1 4 rfl rfl)
theorem dX2_layOther_30 : decode cX2_layOther 30 = .ok (.iconst 1, 1) := dk_4 (dk_at dksX2_layOther_1 7 rfl rfl)
theorem dX2_layOther_31 : decode cX2_layOther 31 = .ok (.isub, 1) := dk_100 (dk_at dksX2_layOther_1 8 rfl rfl)
theorem dX2_layOther_32 : decode cX2_layOther 32 = .ok (.iload_n 3, 1) := dk_29 (dk_at dksX2_layOther_1 9 rfl rfl)
theorem dX2_layOther_33 : decode cX2_layOther 33 = .ok (.isub, 1) := dk_100 (dk_at dksX2_layOther_1 10 rfl rfl)
theorem dX2_layOther_34 : decode cX2_layOther 34 = .ok (.goto 4, 3) := dk_167 0 4 (dk_at dksX2_layOther_1 11 rfl rfl)
theorem dX2_layOther_37 : decode cX2_layOther 37 = .ok (.iload_n 3, 1) := dk_29 (dk_at dksX2_layOther_1 14 rfl rfl)
theorem dX2_layOther_38 : decode cX2_layOther 38 = .ok (.iaload, 1) := dk_46 (dk_at dksX2_layOther_1 15 rfl rfl)
theorem dX2_layOther_39 : decode cX2_layOther 39 = .ok (.istore 4, 2) := dk_54 4 (dk_at dksX2_layOther_1 16 rfl rfl)
theorem dX2_layOther_41 : decode cX2_layOther 41 = .ok (.aload_n 0, 1) := dk_42 (dk_at dksX2_layOther_1 18 rfl rfl)
theorem dX2_layOther_42 : decode cX2_layOther 42 = .ok (.getfield 43, 3) := dk_180 0 43 (dk_at dksX2_layOther_1 19 rfl rfl)
theorem dX2_layOther_45 : decode cX2_layOther 45 = .ok (.iload_n 3, 1) := dk_29 (dk_at dksX2_layOther_1 22 rfl rfl)
theorem dX2_layOther_46 : decode cX2_layOther 46 = .ok (.iload_n 2, 1) := dk_28 (dk_at dksX2_layOther_1 23 rfl rfl)
theorem dX2_layOther_47 : decode cX2_layOther 47 = .ok (.ifCond .eq 10, 3) := dk_153 0 10 (dk_at dksX2_layOther_2 0 rfl rfl)
theorem dX2_layOther_50 : decode cX2_layOther 50 = .ok (.iconst 1, 1) := dk_4 (dk_at dksX2_layOther_2 3 rfl rfl)
theorem dX2_layOther_51 : decode cX2_layOther 51 = .ok (.iload 4, 2) := dk_21 4 (dk_at dksX2_layOther_2 4 rfl rfl)
theorem dX2_layOther_53 : decode cX2_layOther 53 = .ok (.isub, 1) := dk_100 (dk_at dksX2_layOther_2 6 rfl rfl)
theorem dX2_layOther_54 : decode cX2_layOther 54 = .ok (.goto 5, 3) := dk_167 0 5 (dk_at dksX2_layOther_2 7 rfl rfl)
theorem dX2_layOther_57 : decode cX2_layOther 57 = .ok (.iload 4, 2) := dk_21 4 (dk_at dksX2_layOther_2 10 rfl rfl)
theorem dX2_layOther_59 : decode cX2_layOther 59 = .ok (.iastore, 1) := dk_79 (dk_at dksX2_layOther_2 12 rfl rfl)
theorem dX2_layOther_60 : decode cX2_layOther 60 = .ok (.iinc 3 1, 3) := dk_132 3 1 (dk_at dksX2_layOther_2 13 rfl rfl)
theorem dX2_layOther_63 : decode cX2_layOther 63 = .ok (.goto (-53), 3) := dk_167 255 203 (dk_at dksX2_layOther_2 16 rfl rfl)
theorem dX2_layOther_66 : decode cX2_layOther 66 = .ok (.return_, 1) := dk_177 (dk_at dksX2_layOther_2 19 rfl rfl)
abbrev cX2_turnTo : ByteArray := prog_9_method_20_code
def yX2_turnTo : MethodName := ⟨RX2, "turnTo", "()I"⟩
def dkwX2_turnTo_3 : List UInt8 := [153, 0, 5, 27, 172, 132, 1, 1, 167, 255, 178, 18, 106, 172]
abbrev dktX2_turnTo_3 : List UInt8 := dkwX2_turnTo_3 ++ []
def dkwX2_turnTo_2 : List UInt8 := [112, 46, 42, 180, 0, 43, 29, 46, 160, 0, 7, 4, 167, 0, 4, 3, 61, 132, 3, 1, 167, 255, 213, 28]
abbrev dktX2_turnTo_2 : List UInt8 := dkwX2_turnTo_2 ++ dktX2_turnTo_3
def dkwX2_turnTo_1 : List UInt8 := [62, 29, 42, 180, 0, 85, 162, 0, 41, 28, 153, 0, 29, 42, 180, 0, 40, 27, 29, 96, 42, 180, 0, 85]
abbrev dktX2_turnTo_1 : List UInt8 := dkwX2_turnTo_1 ++ dktX2_turnTo_2
def dkwX2_turnTo_0 : List UInt8 := [3, 60, 27, 42, 180, 0, 85, 162, 0, 76, 42, 180, 0, 85, 42, 180, 0, 103, 160, 0, 65, 4, 61, 3]
abbrev dktX2_turnTo_0 : List UInt8 := dkwX2_turnTo_0 ++ dktX2_turnTo_1
theorem dksX2_turnTo_0 : cX2_turnTo.data.toList.drop 0 = dktX2_turnTo_0 := by decide +kernel
theorem dksX2_turnTo_1 : cX2_turnTo.data.toList.drop 24 = dktX2_turnTo_1 := dk_seg dksX2_turnTo_0 24 rfl rfl
theorem dksX2_turnTo_2 : cX2_turnTo.data.toList.drop 48 = dktX2_turnTo_2 := dk_seg dksX2_turnTo_1 24 rfl rfl
theorem dksX2_turnTo_3 : cX2_turnTo.data.toList.drop 72 = dktX2_turnTo_3 := dk_seg dksX2_turnTo_2 24 rfl rfl
theorem dX2_turnTo_0 : decode cX2_turnTo 0 = .ok (.iconst 0, 1) := dk_3 (dk_at dksX2_turnTo_0 0 rfl rfl)
theorem dX2_turnTo_1 : decode cX2_turnTo 1 = .ok (.istore_n 1, 1) := dk_60 (dk_at dksX2_turnTo_0 1 rfl rfl)
theorem dX2_turnTo_2 : decode cX2_turnTo 2 = .ok (.iload_n 1, 1) := dk_27 (dk_at dksX2_turnTo_0 2 rfl rfl)
theorem dX2_turnTo_3 : decode cX2_turnTo 3 = .ok (.aload_n 0, 1) := dk_42 (dk_at dksX2_turnTo_0 3 rfl rfl)
theorem dX2_turnTo_4 : decode cX2_turnTo 4 = .ok (.getfield 85, 3) := dk_180 0 85 (dk_at dksX2_turnTo_0 4 rfl rfl)
theorem dX2_turnTo_7 : decode cX2_turnTo 7 = .ok (.if_icmp .ge 76, 3) := dk_162 0 76 (dk_at dksX2_turnTo_0 7 rfl rfl)
theorem dX2_turnTo_10 : decode cX2_turnTo 10 = .ok (.aload_n 0, 1) := dk_42 (dk_at dksX2_turnTo_0 10 rfl rfl)
theorem dX2_turnTo_11 : decode cX2_turnTo 11 = .ok (.getfield 85, 3) := dk_180 0 85 (dk_at dksX2_turnTo_0 11 rfl rfl)
theorem dX2_turnTo_14 : decode cX2_turnTo 14 = .ok (.aload_n 0, 1) := dk_42 (dk_at dksX2_turnTo_0 14 rfl rfl)
theorem dX2_turnTo_15 : decode cX2_turnTo 15 = .ok (.getfield 103, 3) := dk_180 0 103 (dk_at dksX2_turnTo_0 15 rfl rfl)
theorem dX2_turnTo_18 : decode cX2_turnTo 18 = .ok (.if_icmp .ne 65, 3) := dk_160 0 65 (dk_at dksX2_turnTo_0 18 rfl rfl)
theorem dX2_turnTo_21 : decode cX2_turnTo 21 = .ok (.iconst 1, 1) := dk_4 (dk_at dksX2_turnTo_0 21 rfl rfl)
theorem dX2_turnTo_22 : decode cX2_turnTo 22 = .ok (.istore_n 2, 1) := dk_61 (dk_at dksX2_turnTo_0 22 rfl rfl)
theorem dX2_turnTo_23 : decode cX2_turnTo 23 = .ok (.iconst 0, 1) := dk_3 (dk_at dksX2_turnTo_0 23 rfl rfl)
theorem dX2_turnTo_24 : decode cX2_turnTo 24 = .ok (.istore_n 3, 1) := dk_62 (dk_at dksX2_turnTo_1 0 rfl rfl)
theorem dX2_turnTo_25 : decode cX2_turnTo 25 = .ok (.iload_n 3, 1) := dk_29 (dk_at dksX2_turnTo_1 1 rfl rfl)
theorem dX2_turnTo_26 : decode cX2_turnTo 26 = .ok (.aload_n 0, 1) := dk_42 (dk_at dksX2_turnTo_1 2 rfl rfl)
theorem dX2_turnTo_27 : decode cX2_turnTo 27 = .ok (.getfield 85, 3) := dk_180 0 85 (dk_at dksX2_turnTo_1 3 rfl rfl)
theorem dX2_turnTo_30 : decode cX2_turnTo 30 = .ok (.if_icmp .ge 41, 3) := dk_162 0 41 (dk_at dksX2_turnTo_1 6 rfl rfl)
theorem dX2_turnTo_33 : decode cX2_turnTo 33 = .ok (.iload_n 2, 1) := dk_28 (dk_at dksX2_turnTo_1 9 rfl rfl)
theorem dX2_turnTo_34 : decode cX2_turnTo 34 = .ok (.ifCond .eq 29, 3) := dk_153 0 29 (dk_at dksX2_turnTo_1 10 rfl rfl)
theorem dX2_turnTo_37 : decode cX2_turnTo 37 = .ok (.aload_n 0, 1) := dk_42 (dk_at dksX2_turnTo_1 13 rfl rfl)
theorem dX2_turnTo_38 : decode cX2_turnTo 38 = .ok (.getfield 40, 3) := dk_180 0 40 (dk_at dksX2_turnTo_1 14 rfl rfl)
theorem dX2_turnTo_41 : decode cX2_turnTo 41 = .ok (.iload_n 1, 1) := dk_27 (dk_at dksX2_turnTo_1 17 rfl rfl)
theorem dX2_turnTo_42 : decode cX2_turnTo 42 = .ok (.iload_n 3, 1) := dk_29 (dk_at dksX2_turnTo_1 18 rfl rfl)
theorem dX2_turnTo_43 : decode cX2_turnTo 43 = .ok (.iadd, 1) := dk_96 (dk_at dksX2_turnTo_1 19 rfl rfl)
theorem dX2_turnTo_44 : decode cX2_turnTo 44 = .ok (.aload_n 0, 1) := dk_42 (dk_at dksX2_turnTo_1 20 rfl rfl)
theorem dX2_turnTo_45 : decode cX2_turnTo 45 = .ok (.getfield 85, 3) := dk_180 0 85 (dk_at dksX2_turnTo_1 21 rfl rfl)
theorem dX2_turnTo_48 : decode cX2_turnTo 48 = .ok (.irem, 1) := dk_112 (dk_at dksX2_turnTo_2 0 rfl rfl)
theorem dX2_turnTo_49 : decode cX2_turnTo 49 = .ok (.iaload, 1) := dk_46 (dk_at dksX2_turnTo_2 1 rfl rfl)
theorem dX2_turnTo_50 : decode cX2_turnTo 50 = .ok (.aload_n 0, 1) := dk_42 (dk_at dksX2_turnTo_2 2 rfl rfl)
theorem dX2_turnTo_51 : decode cX2_turnTo 51 = .ok (.getfield 43, 3) := dk_180 0 43 (dk_at dksX2_turnTo_2 3 rfl rfl)
theorem dX2_turnTo_54 : decode cX2_turnTo 54 = .ok (.iload_n 3, 1) := dk_29 (dk_at dksX2_turnTo_2 6 rfl rfl)
theorem dX2_turnTo_55 : decode cX2_turnTo 55 = .ok (.iaload, 1) := dk_46 (dk_at dksX2_turnTo_2 7 rfl rfl)
theorem dX2_turnTo_56 : decode cX2_turnTo 56 = .ok (.if_icmp .ne 7, 3) := dk_160 0 7 (dk_at dksX2_turnTo_2 8 rfl rfl)
theorem dX2_turnTo_59 : decode cX2_turnTo 59 = .ok (.iconst 1, 1) := dk_4 (dk_at dksX2_turnTo_2 11 rfl rfl)
theorem dX2_turnTo_60 : decode cX2_turnTo 60 = .ok (.goto 4, 3) := dk_167 0 4 (dk_at dksX2_turnTo_2 12 rfl rfl)
theorem dX2_turnTo_63 : decode cX2_turnTo 63 = .ok (.iconst 0, 1) := dk_3 (dk_at dksX2_turnTo_2 15 rfl rfl)
theorem dX2_turnTo_64 : decode cX2_turnTo 64 = .ok (.istore_n 2, 1) := dk_61 (dk_at dksX2_turnTo_2 16 rfl rfl)
theorem dX2_turnTo_65 : decode cX2_turnTo 65 = .ok (.iinc 3 1, 3) := dk_132 3 1 (dk_at dksX2_turnTo_2 17 rfl rfl)
theorem dX2_turnTo_68 : decode cX2_turnTo 68 = .ok (.goto (-43), 3) := dk_167 255 213 (dk_at dksX2_turnTo_2 20 rfl rfl)
theorem dX2_turnTo_71 : decode cX2_turnTo 71 = .ok (.iload_n 2, 1) := dk_28 (dk_at dksX2_turnTo_2 23 rfl rfl)
theorem dX2_turnTo_72 : decode cX2_turnTo 72 = .ok (.ifCond .eq 5, 3) := dk_153 0 5 (dk_at dksX2_turnTo_3 0 rfl rfl)
theorem dX2_turnTo_75 : decode cX2_turnTo 75 = .ok (.iload_n 1, 1) := dk_27 (dk_at dksX2_turnTo_3 3 rfl rfl)
theorem dX2_turnTo_76 : decode cX2_turnTo 76 = .ok (.ireturn, 1) := dk_172 (dk_at dksX2_turnTo_3 4 rfl rfl)
theorem dX2_turnTo_77 : decode cX2_turnTo 77 = .ok (.iinc 1 1, 3) := dk_132 1 1 (dk_at dksX2_turnTo_3 5 rfl rfl)
theorem dX2_turnTo_80 : decode cX2_turnTo 80 = .ok (.goto (-78), 3) := dk_167 255 178 (dk_at dksX2_turnTo_3 8 rfl rfl)
theorem dX2_turnTo_83 : decode cX2_turnTo 83 = .ok (.ldc 106, 2) := dk_18 106 (dk_at dksX2_turnTo_3 11 rfl rfl)
theorem dX2_turnTo_85 : decode cX2_turnTo 85 = .ok (.ireturn, 1) := dk_172 (dk_at dksX2_turnTo_3 13 rfl rfl)
abbrev cX2_sign : ByteArray := prog_9_method_29_code
def yX2_sign : MethodName := ⟨RX2, "sign", "(II)I"⟩
def dkwX2_sign_1 : List UInt8 := [42, 180, 0, 16, 16, 20, 27, 104, 28, 96, 46, 184, 0, 149, 167, 0, 5, 18, 145, 172]
abbrev dktX2_sign_1 : List UInt8 := dkwX2_sign_1 ++ []
def dkwX2_sign_0 : List UInt8 := [42, 27, 182, 0, 142, 153, 0, 36, 28, 3, 42, 180, 0, 13, 27, 46, 4, 100, 184, 0, 50, 153, 0, 20]
abbrev dktX2_sign_0 : List UInt8 := dkwX2_sign_0 ++ dktX2_sign_1
theorem dksX2_sign_0 : cX2_sign.data.toList.drop 0 = dktX2_sign_0 := by decide +kernel
theorem dksX2_sign_1 : cX2_sign.data.toList.drop 24 = dktX2_sign_1 := dk_seg dksX2_sign_0 24 rfl rfl
theorem dX2_sign_0 : decode cX2_sign 0 = .ok (.aload_n 0, 1) := dk_42 (dk_at dksX2_sign_0 0 rfl rfl)
theorem dX2_sign_1 : decode cX2_sign 1 = .ok (.iload_n 1, 1) := dk_27 (dk_at dksX2_sign_0 1 rfl rfl)
theorem dX2_sign_2 : decode cX2_sign 2 = .ok (.invokevirtual 142, 3) := dk_182 0 142 (dk_at dksX2_sign_0 2 rfl rfl)
theorem dX2_sign_5 : decode cX2_sign 5 = .ok (.ifCond .eq 36, 3) := dk_153 0 36 (dk_at dksX2_sign_0 5 rfl rfl)
theorem dX2_sign_8 : decode cX2_sign 8 = .ok (.iload_n 2, 1) := dk_28 (dk_at dksX2_sign_0 8 rfl rfl)
theorem dX2_sign_9 : decode cX2_sign 9 = .ok (.iconst 0, 1) := dk_3 (dk_at dksX2_sign_0 9 rfl rfl)
theorem dX2_sign_10 : decode cX2_sign 10 = .ok (.aload_n 0, 1) := dk_42 (dk_at dksX2_sign_0 10 rfl rfl)
theorem dX2_sign_11 : decode cX2_sign 11 = .ok (.getfield 13, 3) := dk_180 0 13 (dk_at dksX2_sign_0 11 rfl rfl)
theorem dX2_sign_14 : decode cX2_sign 14 = .ok (.iload_n 1, 1) := dk_27 (dk_at dksX2_sign_0 14 rfl rfl)
theorem dX2_sign_15 : decode cX2_sign 15 = .ok (.iaload, 1) := dk_46 (dk_at dksX2_sign_0 15 rfl rfl)
theorem dX2_sign_16 : decode cX2_sign 16 = .ok (.iconst 1, 1) := dk_4 (dk_at dksX2_sign_0 16 rfl rfl)
theorem dX2_sign_17 : decode cX2_sign 17 = .ok (.isub, 1) := dk_100 (dk_at dksX2_sign_0 17 rfl rfl)
theorem dX2_sign_18 : decode cX2_sign 18 = .ok (.invokestatic 50, 3) := dk_184 0 50 (dk_at dksX2_sign_0 18 rfl rfl)
theorem dX2_sign_21 : decode cX2_sign 21 = .ok (.ifCond .eq 20, 3) := dk_153 0 20 (dk_at dksX2_sign_0 21 rfl rfl)
theorem dX2_sign_24 : decode cX2_sign 24 = .ok (.aload_n 0, 1) := dk_42 (dk_at dksX2_sign_1 0 rfl rfl)
theorem dX2_sign_25 : decode cX2_sign 25 = .ok (.getfield 16, 3) := dk_180 0 16 (dk_at dksX2_sign_1 1 rfl rfl)
theorem dX2_sign_28 : decode cX2_sign 28 = .ok (.bipush 20, 2) := dk_16 20 (dk_at dksX2_sign_1 4 rfl rfl)
theorem dX2_sign_30 : decode cX2_sign 30 = .ok (.iload_n 1, 1) := dk_27 (dk_at dksX2_sign_1 6 rfl rfl)
theorem dX2_sign_31 : decode cX2_sign 31 = .ok (.imul, 1) := dk_104 (dk_at dksX2_sign_1 7 rfl rfl)
theorem dX2_sign_32 : decode cX2_sign 32 = .ok (.iload_n 2, 1) := dk_28 (dk_at dksX2_sign_1 8 rfl rfl)
theorem dX2_sign_33 : decode cX2_sign 33 = .ok (.iadd, 1) := dk_96 (dk_at dksX2_sign_1 9 rfl rfl)
theorem dX2_sign_34 : decode cX2_sign 34 = .ok (.iaload, 1) := dk_46 (dk_at dksX2_sign_1 10 rfl rfl)
theorem dX2_sign_35 : decode cX2_sign 35 = .ok (.invokestatic 149, 3) := dk_184 0 149 (dk_at dksX2_sign_1 11 rfl rfl)
theorem dX2_sign_38 : decode cX2_sign 38 = .ok (.goto 5, 3) := dk_167 0 5 (dk_at dksX2_sign_1 14 rfl rfl)
theorem dX2_sign_41 : decode cX2_sign 41 = .ok (.ldc 145, 2) := dk_18 145 (dk_at dksX2_sign_1 17 rfl rfl)
theorem dX2_sign_43 : decode cX2_sign 43 = .ok (.ireturn, 1) := dk_172 (dk_at dksX2_sign_1 19 rfl rfl)
abbrev cX2_codeOf : ByteArray := prog_9_method_28_code
def yX2_codeOf : MethodName := ⟨RX2, "codeOf", "(I)I"⟩
def dkwX2_codeOf_0 : List UInt8 := [26, 154, 0, 8, 16, 76, 167, 0, 5, 16, 82, 172]
abbrev dktX2_codeOf_0 : List UInt8 := dkwX2_codeOf_0 ++ []
theorem dksX2_codeOf_0 : cX2_codeOf.data.toList.drop 0 = dktX2_codeOf_0 := by decide +kernel
theorem dX2_codeOf_0 : decode cX2_codeOf 0 = .ok (.iload_n 0, 1) := dk_26 (dk_at dksX2_codeOf_0 0 rfl rfl)
theorem dX2_codeOf_1 : decode cX2_codeOf 1 = .ok (.ifCond .ne 8, 3) := dk_154 0 8 (dk_at dksX2_codeOf_0 1 rfl rfl)
theorem dX2_codeOf_4 : decode cX2_codeOf 4 = .ok (.bipush 76, 2) := dk_16 76 (dk_at dksX2_codeOf_0 4 rfl rfl)
theorem dX2_codeOf_6 : decode cX2_codeOf 6 = .ok (.goto 5, 3) := dk_167 0 5 (dk_at dksX2_codeOf_0 6 rfl rfl)
theorem dX2_codeOf_9 : decode cX2_codeOf 9 = .ok (.bipush 82, 2) := dk_16 82 (dk_at dksX2_codeOf_0 9 rfl rfl)
theorem dX2_codeOf_11 : decode cX2_codeOf 11 = .ok (.ireturn, 1) := dk_172 (dk_at dksX2_codeOf_0 11 rfl rfl)
abbrev cX2_table : ByteArray := prog_9_method_31_code
def yX2_table : MethodName := ⟨RX2, "table", "(II)I"⟩
def dkwX2_table_1 : List UInt8 := [28, 182, 0, 152, 167, 0, 5, 18, 54, 172]
abbrev dktX2_table_1 : List UInt8 := dkwX2_table_1 ++ []
def dkwX2_table_0 : List UInt8 := [42, 27, 182, 0, 142, 154, 0, 8, 18, 145, 167, 0, 23, 28, 3, 6, 184, 0, 50, 153, 0, 12, 42, 27]
abbrev dktX2_table_0 : List UInt8 := dkwX2_table_0 ++ dktX2_table_1
theorem dksX2_table_0 : cX2_table.data.toList.drop 0 = dktX2_table_0 := by decide +kernel
theorem dksX2_table_1 : cX2_table.data.toList.drop 24 = dktX2_table_1 := dk_seg dksX2_table_0 24 rfl rfl
theorem dX2_table_0 : decode cX2_table 0 = .ok (.aload_n 0, 1) := dk_42 (dk_at dksX2_table_0 0 rfl rfl)
theorem dX2_table_1 : decode cX2_table 1 = .ok (.iload_n 1, 1) := dk_27 (dk_at dksX2_table_0 1 rfl rfl)
theorem dX2_table_2 : decode cX2_table 2 = .ok (.invokevirtual 142, 3) := dk_182 0 142 (dk_at dksX2_table_0 2 rfl rfl)
theorem dX2_table_5 : decode cX2_table 5 = .ok (.ifCond .ne 8, 3) := dk_154 0 8 (dk_at dksX2_table_0 5 rfl rfl)
theorem dX2_table_8 : decode cX2_table 8 = .ok (.ldc 145, 2) := dk_18 145 (dk_at dksX2_table_0 8 rfl rfl)
theorem dX2_table_10 : decode cX2_table 10 = .ok (.goto 23, 3) := dk_167 0 23 (dk_at dksX2_table_0 10 rfl rfl)
theorem dX2_table_13 : decode cX2_table 13 = .ok (.iload_n 2, 1) := dk_28 (dk_at dksX2_table_0 13 rfl rfl)
theorem dX2_table_14 : decode cX2_table 14 = .ok (.iconst 0, 1) := dk_3 (dk_at dksX2_table_0 14 rfl rfl)
theorem dX2_table_15 : decode cX2_table 15 = .ok (.iconst 3, 1) := dk_6 (dk_at dksX2_table_0 15 rfl rfl)
theorem dX2_table_16 : decode cX2_table 16 = .ok (.invokestatic 50, 3) := dk_184 0 50 (dk_at dksX2_table_0 16 rfl rfl)
theorem dX2_table_19 : decode cX2_table 19 = .ok (.ifCond .eq 12, 3) := dk_153 0 12 (dk_at dksX2_table_0 19 rfl rfl)
theorem dX2_table_22 : decode cX2_table 22 = .ok (.aload_n 0, 1) := dk_42 (dk_at dksX2_table_0 22 rfl rfl)
theorem dX2_table_23 : decode cX2_table 23 = .ok (.iload_n 1, 1) := dk_27 (dk_at dksX2_table_0 23 rfl rfl)
theorem dX2_table_24 : decode cX2_table 24 = .ok (.iload_n 2, 1) := dk_28 (dk_at dksX2_table_1 0 rfl rfl)
theorem dX2_table_25 : decode cX2_table 25 = .ok (.invokevirtual 152, 3) := dk_182 0 152 (dk_at dksX2_table_1 1 rfl rfl)
theorem dX2_table_28 : decode cX2_table 28 = .ok (.goto 5, 3) := dk_167 0 5 (dk_at dksX2_table_1 4 rfl rfl)
theorem dX2_table_31 : decode cX2_table 31 = .ok (.ldc 54, 2) := dk_18 54 (dk_at dksX2_table_1 7 rfl rfl)
theorem dX2_table_33 : decode cX2_table 33 = .ok (.ireturn, 1) := dk_172 (dk_at dksX2_table_1 9 rfl rfl)
abbrev cX2_tableNow : ByteArray := prog_9_method_30_code
def yX2_tableNow : MethodName := ⟨RX2, "tableNow", "(II)I"⟩
def dkwX2_tableNow_2 : List UInt8 := [180, 0, 123, 172]
abbrev dktX2_tableNow_2 : List UInt8 := dkwX2_tableNow_2 ++ []
def dkwX2_tableNow_1 : List UInt8 := [160, 0, 10, 42, 180, 0, 117, 167, 0, 19, 28, 5, 160, 0, 10, 42, 180, 0, 120, 167, 0, 7, 42]
abbrev dktX2_tableNow_1 : List UInt8 := dkwX2_tableNow_1 ++ dktX2_tableNow_2
def dkwX2_tableNow_0 : List UInt8 := [42, 27, 182, 0, 91, 42, 182, 0, 126, 28, 154, 0, 10, 42, 180, 0, 114, 167, 0, 31, 28, 4]
abbrev dktX2_tableNow_0 : List UInt8 := dkwX2_tableNow_0 ++ dktX2_tableNow_1
theorem dksX2_tableNow_0 : cX2_tableNow.data.toList.drop 0 = dktX2_tableNow_0 := by decide +kernel
theorem dksX2_tableNow_1 : cX2_tableNow.data.toList.drop 22 = dktX2_tableNow_1 := dk_seg dksX2_tableNow_0 22 rfl rfl
theorem dksX2_tableNow_2 : cX2_tableNow.data.toList.drop 45 = dktX2_tableNow_2 := dk_seg dksX2_tableNow_1 23 rfl rfl
theorem dX2_tableNow_0 : decode cX2_tableNow 0 = .ok (.aload_n 0, 1) := dk_42 (dk_at dksX2_tableNow_0 0 rfl rfl)
theorem dX2_tableNow_1 : decode cX2_tableNow 1 = .ok (.iload_n 1, 1) := dk_27 (dk_at dksX2_tableNow_0 1 rfl rfl)
theorem dX2_tableNow_2 : decode cX2_tableNow 2 = .ok (.invokevirtual 91, 3) := dk_182 0 91 (dk_at dksX2_tableNow_0 2 rfl rfl)
theorem dX2_tableNow_5 : decode cX2_tableNow 5 = .ok (.aload_n 0, 1) := dk_42 (dk_at dksX2_tableNow_0 5 rfl rfl)
theorem dX2_tableNow_6 : decode cX2_tableNow 6 = .ok (.invokevirtual 126, 3) := dk_182 0 126 (dk_at dksX2_tableNow_0 6 rfl rfl)
theorem dX2_tableNow_9 : decode cX2_tableNow 9 = .ok (.iload_n 2, 1) := dk_28 (dk_at dksX2_tableNow_0 9 rfl rfl)
theorem dX2_tableNow_10 : decode cX2_tableNow 10 = .ok (.ifCond .ne 10, 3) := dk_154 0 10 (dk_at dksX2_tableNow_0 10 rfl rfl)
theorem dX2_tableNow_13 : decode cX2_tableNow 13 = .ok (.aload_n 0, 1) := dk_42 (dk_at dksX2_tableNow_0 13 rfl rfl)
theorem dX2_tableNow_14 : decode cX2_tableNow 14 = .ok (.getfield 114, 3) := dk_180 0 114 (dk_at dksX2_tableNow_0 14 rfl rfl)
theorem dX2_tableNow_17 : decode cX2_tableNow 17 = .ok (.goto 31, 3) := dk_167 0 31 (dk_at dksX2_tableNow_0 17 rfl rfl)
theorem dX2_tableNow_20 : decode cX2_tableNow 20 = .ok (.iload_n 2, 1) := dk_28 (dk_at dksX2_tableNow_0 20 rfl rfl)
theorem dX2_tableNow_21 : decode cX2_tableNow 21 = .ok (.iconst 1, 1) := dk_4 (dk_at dksX2_tableNow_0 21 rfl rfl)
theorem dX2_tableNow_22 : decode cX2_tableNow 22 = .ok (.if_icmp .ne 10, 3) := dk_160 0 10 (dk_at dksX2_tableNow_1 0 rfl rfl)
theorem dX2_tableNow_25 : decode cX2_tableNow 25 = .ok (.aload_n 0, 1) := dk_42 (dk_at dksX2_tableNow_1 3 rfl rfl)
theorem dX2_tableNow_26 : decode cX2_tableNow 26 = .ok (.getfield 117, 3) := dk_180 0 117 (dk_at dksX2_tableNow_1 4 rfl rfl)
theorem dX2_tableNow_29 : decode cX2_tableNow 29 = .ok (.goto 19, 3) := dk_167 0 19 (dk_at dksX2_tableNow_1 7 rfl rfl)
theorem dX2_tableNow_32 : decode cX2_tableNow 32 = .ok (.iload_n 2, 1) := dk_28 (dk_at dksX2_tableNow_1 10 rfl rfl)
theorem dX2_tableNow_33 : decode cX2_tableNow 33 = .ok (.iconst 2, 1) := dk_5 (dk_at dksX2_tableNow_1 11 rfl rfl)
theorem dX2_tableNow_34 : decode cX2_tableNow 34 = .ok (.if_icmp .ne 10, 3) := dk_160 0 10 (dk_at dksX2_tableNow_1 12 rfl rfl)
theorem dX2_tableNow_37 : decode cX2_tableNow 37 = .ok (.aload_n 0, 1) := dk_42 (dk_at dksX2_tableNow_1 15 rfl rfl)
theorem dX2_tableNow_38 : decode cX2_tableNow 38 = .ok (.getfield 120, 3) := dk_180 0 120 (dk_at dksX2_tableNow_1 16 rfl rfl)
theorem dX2_tableNow_41 : decode cX2_tableNow 41 = .ok (.goto 7, 3) := dk_167 0 7 (dk_at dksX2_tableNow_1 19 rfl rfl)
theorem dX2_tableNow_44 : decode cX2_tableNow 44 = .ok (.aload_n 0, 1) := dk_42 (dk_at dksX2_tableNow_1 22 rfl rfl)
theorem dX2_tableNow_45 : decode cX2_tableNow 45 = .ok (.getfield 123, 3) := dk_180 0 123 (dk_at dksX2_tableNow_2 0 rfl rfl)
theorem dX2_tableNow_48 : decode cX2_tableNow 48 = .ok (.ireturn, 1) := dk_172 (dk_at dksX2_tableNow_2 3 rfl rfl)
abbrev cX2_form : ByteArray := prog_9_method_35_code
def yX2_form : MethodName := ⟨RX2, "form", "(II)I"⟩
def dkwX2_form_1 : List UInt8 := [27, 182, 0, 177, 153, 0, 12, 42, 27, 28, 182, 0, 180, 167, 0, 5, 18, 78, 172]
abbrev dktX2_form_1 : List UInt8 := dkwX2_form_1 ++ []
def dkwX2_form_0 : List UInt8 := [42, 27, 182, 0, 142, 154, 0, 6, 18, 145, 172, 28, 3, 7, 184, 0, 50, 154, 0, 6, 18, 54, 172, 42]
abbrev dktX2_form_0 : List UInt8 := dkwX2_form_0 ++ dktX2_form_1
theorem dksX2_form_0 : cX2_form.data.toList.drop 0 = dktX2_form_0 := by decide +kernel
theorem dksX2_form_1 : cX2_form.data.toList.drop 24 = dktX2_form_1 := dk_seg dksX2_form_0 24 rfl rfl
theorem dX2_form_0 : decode cX2_form 0 = .ok (.aload_n 0, 1) := dk_42 (dk_at dksX2_form_0 0 rfl rfl)
theorem dX2_form_1 : decode cX2_form 1 = .ok (.iload_n 1, 1) := dk_27 (dk_at dksX2_form_0 1 rfl rfl)
theorem dX2_form_2 : decode cX2_form 2 = .ok (.invokevirtual 142, 3) := dk_182 0 142 (dk_at dksX2_form_0 2 rfl rfl)
theorem dX2_form_5 : decode cX2_form 5 = .ok (.ifCond .ne 6, 3) := dk_154 0 6 (dk_at dksX2_form_0 5 rfl rfl)
theorem dX2_form_8 : decode cX2_form 8 = .ok (.ldc 145, 2) := dk_18 145 (dk_at dksX2_form_0 8 rfl rfl)
theorem dX2_form_10 : decode cX2_form 10 = .ok (.ireturn, 1) := dk_172 (dk_at dksX2_form_0 10 rfl rfl)
theorem dX2_form_11 : decode cX2_form 11 = .ok (.iload_n 2, 1) := dk_28 (dk_at dksX2_form_0 11 rfl rfl)
theorem dX2_form_12 : decode cX2_form 12 = .ok (.iconst 0, 1) := dk_3 (dk_at dksX2_form_0 12 rfl rfl)
theorem dX2_form_13 : decode cX2_form 13 = .ok (.iconst 4, 1) := dk_7 (dk_at dksX2_form_0 13 rfl rfl)
theorem dX2_form_14 : decode cX2_form 14 = .ok (.invokestatic 50, 3) := dk_184 0 50 (dk_at dksX2_form_0 14 rfl rfl)
theorem dX2_form_17 : decode cX2_form 17 = .ok (.ifCond .ne 6, 3) := dk_154 0 6 (dk_at dksX2_form_0 17 rfl rfl)
theorem dX2_form_20 : decode cX2_form 20 = .ok (.ldc 54, 2) := dk_18 54 (dk_at dksX2_form_0 20 rfl rfl)
theorem dX2_form_22 : decode cX2_form 22 = .ok (.ireturn, 1) := dk_172 (dk_at dksX2_form_0 22 rfl rfl)
theorem dX2_form_23 : decode cX2_form 23 = .ok (.aload_n 0, 1) := dk_42 (dk_at dksX2_form_0 23 rfl rfl)
theorem dX2_form_24 : decode cX2_form 24 = .ok (.iload_n 1, 1) := dk_27 (dk_at dksX2_form_1 0 rfl rfl)
theorem dX2_form_25 : decode cX2_form 25 = .ok (.invokevirtual 177, 3) := dk_182 0 177 (dk_at dksX2_form_1 1 rfl rfl)
theorem dX2_form_28 : decode cX2_form 28 = .ok (.ifCond .eq 12, 3) := dk_153 0 12 (dk_at dksX2_form_1 4 rfl rfl)
theorem dX2_form_31 : decode cX2_form 31 = .ok (.aload_n 0, 1) := dk_42 (dk_at dksX2_form_1 7 rfl rfl)
theorem dX2_form_32 : decode cX2_form 32 = .ok (.iload_n 1, 1) := dk_27 (dk_at dksX2_form_1 8 rfl rfl)
theorem dX2_form_33 : decode cX2_form 33 = .ok (.iload_n 2, 1) := dk_28 (dk_at dksX2_form_1 9 rfl rfl)
theorem dX2_form_34 : decode cX2_form 34 = .ok (.invokevirtual 180, 3) := dk_182 0 180 (dk_at dksX2_form_1 10 rfl rfl)
theorem dX2_form_37 : decode cX2_form 37 = .ok (.goto 5, 3) := dk_167 0 5 (dk_at dksX2_form_1 13 rfl rfl)
theorem dX2_form_40 : decode cX2_form 40 = .ok (.ldc 78, 2) := dk_18 78 (dk_at dksX2_form_1 16 rfl rfl)
theorem dX2_form_42 : decode cX2_form 42 = .ok (.ireturn, 1) := dk_172 (dk_at dksX2_form_1 18 rfl rfl)
abbrev cX2_isClosed : ByteArray := prog_9_method_16_code
def yX2_isClosed : MethodName := ⟨RX2, "isClosed", "(I)Z"⟩
def dkwX2_isClosed_0 : List UInt8 := [42, 27, 182, 0, 91, 42, 182, 0, 95, 172]
abbrev dktX2_isClosed_0 : List UInt8 := dkwX2_isClosed_0 ++ []
theorem dksX2_isClosed_0 : cX2_isClosed.data.toList.drop 0 = dktX2_isClosed_0 := by decide +kernel
theorem dX2_isClosed_0 : decode cX2_isClosed 0 = .ok (.aload_n 0, 1) := dk_42 (dk_at dksX2_isClosed_0 0 rfl rfl)
theorem dX2_isClosed_1 : decode cX2_isClosed 1 = .ok (.iload_n 1, 1) := dk_27 (dk_at dksX2_isClosed_0 1 rfl rfl)
theorem dX2_isClosed_2 : decode cX2_isClosed 2 = .ok (.invokevirtual 91, 3) := dk_182 0 91 (dk_at dksX2_isClosed_0 2 rfl rfl)
theorem dX2_isClosed_5 : decode cX2_isClosed 5 = .ok (.aload_n 0, 1) := dk_42 (dk_at dksX2_isClosed_0 5 rfl rfl)
theorem dX2_isClosed_6 : decode cX2_isClosed 6 = .ok (.invokevirtual 95, 3) := dk_182 0 95 (dk_at dksX2_isClosed_0 6 rfl rfl)
theorem dX2_isClosed_9 : decode cX2_isClosed 9 = .ok (.ireturn, 1) := dk_172 (dk_at dksX2_isClosed_0 9 rfl rfl)
abbrev cX2_formNow : ByteArray := prog_9_method_34_code
def yX2_formNow : MethodName := ⟨RX2, "formNow", "(II)I"⟩
def dkwX2_formNow_3 : List UInt8 := [42, 180, 0, 164, 42, 180, 0, 167, 184, 0, 173, 172]
abbrev dktX2_formNow_3 : List UInt8 := dkwX2_formNow_3 ++ []
def dkwX2_formNow_2 : List UInt8 := [42, 180, 0, 161, 172, 42, 180, 0, 164, 172, 42, 180, 0, 167, 172, 42, 180, 0, 158, 172, 42, 180, 0, 161]
abbrev dktX2_formNow_2 : List UInt8 := dkwX2_formNow_2 ++ dktX2_formNow_3
def dkwX2_formNow_1 : List UInt8 := [170, 0, 0, 0, 0, 50, 0, 0, 0, 0, 0, 0, 0, 3, 0, 0, 0, 30, 0, 0, 0, 35, 0, 0, 0, 40, 0, 0, 0, 45]
abbrev dktX2_formNow_1 : List UInt8 := dkwX2_formNow_1 ++ dktX2_formNow_2
def dkwX2_formNow_0 : List UInt8 := [42, 27, 182, 0, 170, 28]
abbrev dktX2_formNow_0 : List UInt8 := dkwX2_formNow_0 ++ dktX2_formNow_1
theorem dksX2_formNow_0 : cX2_formNow.data.toList.drop 0 = dktX2_formNow_0 := by decide +kernel
theorem dksX2_formNow_1 : cX2_formNow.data.toList.drop 6 = dktX2_formNow_1 := dk_seg dksX2_formNow_0 6 rfl rfl
theorem dksX2_formNow_2 : cX2_formNow.data.toList.drop 36 = dktX2_formNow_2 := dk_seg dksX2_formNow_1 30 rfl rfl
theorem dksX2_formNow_3 : cX2_formNow.data.toList.drop 60 = dktX2_formNow_3 := dk_seg dksX2_formNow_2 24 rfl rfl
theorem dX2_formNow_0 : decode cX2_formNow 0 = .ok (.aload_n 0, 1) := dk_42 (dk_at dksX2_formNow_0 0 rfl rfl)
theorem dX2_formNow_1 : decode cX2_formNow 1 = .ok (.iload_n 1, 1) := dk_27 (dk_at dksX2_formNow_0 1 rfl rfl)
theorem dX2_formNow_2 : decode cX2_formNow 2 = .ok (.invokevirtual 170, 3) := dk_182 0 170 (dk_at dksX2_formNow_0 2 rfl rfl)
theorem dX2_formNow_5 : decode cX2_formNow 5 = .ok (.iload_n 2, 1) := dk_28 (dk_at dksX2_formNow_0 5 rfl rfl)
theorem dX2_formNow_6 : decode cX2_formNow 6 = .ok (.tableswitch 50 0 3 #[30, 35, 40, 45], 30) := by decide +kernel
theorem dX2_formNow_36 : decode cX2_formNow 36 = .ok (.aload_n 0, 1) := dk_42 (dk_at dksX2_formNow_2 0 rfl rfl)
theorem dX2_formNow_37 : decode cX2_formNow 37 = .ok (.getfield 161, 3) := dk_180 0 161 (dk_at dksX2_formNow_2 1 rfl rfl)
theorem dX2_formNow_40 : decode cX2_formNow 40 = .ok (.ireturn, 1) := dk_172 (dk_at dksX2_formNow_2 4 rfl rfl)
theorem dX2_formNow_41 : decode cX2_formNow 41 = .ok (.aload_n 0, 1) := dk_42 (dk_at dksX2_formNow_2 5 rfl rfl)
theorem dX2_formNow_42 : decode cX2_formNow 42 = .ok (.getfield 164, 3) := dk_180 0 164 (dk_at dksX2_formNow_2 6 rfl rfl)
theorem dX2_formNow_45 : decode cX2_formNow 45 = .ok (.ireturn, 1) := dk_172 (dk_at dksX2_formNow_2 9 rfl rfl)
theorem dX2_formNow_46 : decode cX2_formNow 46 = .ok (.aload_n 0, 1) := dk_42 (dk_at dksX2_formNow_2 10 rfl rfl)
theorem dX2_formNow_47 : decode cX2_formNow 47 = .ok (.getfield 167, 3) := dk_180 0 167 (dk_at dksX2_formNow_2 11 rfl rfl)
theorem dX2_formNow_50 : decode cX2_formNow 50 = .ok (.ireturn, 1) := dk_172 (dk_at dksX2_formNow_2 14 rfl rfl)
theorem dX2_formNow_51 : decode cX2_formNow 51 = .ok (.aload_n 0, 1) := dk_42 (dk_at dksX2_formNow_2 15 rfl rfl)
theorem dX2_formNow_52 : decode cX2_formNow 52 = .ok (.getfield 158, 3) := dk_180 0 158 (dk_at dksX2_formNow_2 16 rfl rfl)
theorem dX2_formNow_55 : decode cX2_formNow 55 = .ok (.ireturn, 1) := dk_172 (dk_at dksX2_formNow_2 19 rfl rfl)
theorem dX2_formNow_56 : decode cX2_formNow 56 = .ok (.aload_n 0, 1) := dk_42 (dk_at dksX2_formNow_2 20 rfl rfl)
theorem dX2_formNow_57 : decode cX2_formNow 57 = .ok (.getfield 161, 3) := dk_180 0 161 (dk_at dksX2_formNow_2 21 rfl rfl)
theorem dX2_formNow_60 : decode cX2_formNow 60 = .ok (.aload_n 0, 1) := dk_42 (dk_at dksX2_formNow_3 0 rfl rfl)
theorem dX2_formNow_61 : decode cX2_formNow 61 = .ok (.getfield 164, 3) := dk_180 0 164 (dk_at dksX2_formNow_3 1 rfl rfl)
theorem dX2_formNow_64 : decode cX2_formNow 64 = .ok (.aload_n 0, 1) := dk_42 (dk_at dksX2_formNow_3 4 rfl rfl)
theorem dX2_formNow_65 : decode cX2_formNow 65 = .ok (.getfield 167, 3) := dk_180 0 167 (dk_at dksX2_formNow_3 5 rfl rfl)
theorem dX2_formNow_68 : decode cX2_formNow 68 = .ok (.invokestatic 173, 3) := dk_184 0 173 (dk_at dksX2_formNow_3 8 rfl rfl)
theorem dX2_formNow_71 : decode cX2_formNow 71 = .ok (.ireturn, 1) := dk_172 (dk_at dksX2_formNow_3 11 rfl rfl)
abbrev cX2_layForm : ByteArray := prog_9_method_32_code
def yX2_layForm : MethodName := ⟨RX2, "layForm", "(I)V"⟩
def dkwX2_layForm_3 : List UInt8 := [180, 0, 117, 116, 42, 180, 0, 158, 108, 181, 0, 167, 177]
abbrev dktX2_layForm_3 : List UInt8 := dkwX2_layForm_3 ++ []
def dkwX2_layForm_2 : List UInt8 := [181, 0, 161, 42, 42, 180, 0, 123, 42, 180, 0, 114, 100, 42, 180, 0, 158, 108, 181, 0, 164, 42, 42]
abbrev dktX2_layForm_2 : List UInt8 := dkwX2_layForm_2 ++ dktX2_layForm_3
def dkwX2_layForm_1 : List UInt8 := [184, 0, 155, 42, 180, 0, 117, 184, 0, 155, 181, 0, 158, 42, 42, 180, 0, 120, 42, 180, 0, 158, 108]
abbrev dktX2_layForm_1 : List UInt8 := dkwX2_layForm_1 ++ dktX2_layForm_2
def dkwX2_layForm_0 : List UInt8 := [42, 27, 182, 0, 91, 42, 182, 0, 126, 42, 42, 180, 0, 120, 42, 180, 0, 123, 42, 180, 0, 114, 100]
abbrev dktX2_layForm_0 : List UInt8 := dkwX2_layForm_0 ++ dktX2_layForm_1
theorem dksX2_layForm_0 : cX2_layForm.data.toList.drop 0 = dktX2_layForm_0 := by decide +kernel
theorem dksX2_layForm_1 : cX2_layForm.data.toList.drop 23 = dktX2_layForm_1 := dk_seg dksX2_layForm_0 23 rfl rfl
theorem dksX2_layForm_2 : cX2_layForm.data.toList.drop 46 = dktX2_layForm_2 := dk_seg dksX2_layForm_1 23 rfl rfl
theorem dksX2_layForm_3 : cX2_layForm.data.toList.drop 69 = dktX2_layForm_3 := dk_seg dksX2_layForm_2 23 rfl rfl
theorem dX2_layForm_0 : decode cX2_layForm 0 = .ok (.aload_n 0, 1) := dk_42 (dk_at dksX2_layForm_0 0 rfl rfl)
theorem dX2_layForm_1 : decode cX2_layForm 1 = .ok (.iload_n 1, 1) := dk_27 (dk_at dksX2_layForm_0 1 rfl rfl)
theorem dX2_layForm_2 : decode cX2_layForm 2 = .ok (.invokevirtual 91, 3) := dk_182 0 91 (dk_at dksX2_layForm_0 2 rfl rfl)
theorem dX2_layForm_5 : decode cX2_layForm 5 = .ok (.aload_n 0, 1) := dk_42 (dk_at dksX2_layForm_0 5 rfl rfl)
theorem dX2_layForm_6 : decode cX2_layForm 6 = .ok (.invokevirtual 126, 3) := dk_182 0 126 (dk_at dksX2_layForm_0 6 rfl rfl)
theorem dX2_layForm_9 : decode cX2_layForm 9 = .ok (.aload_n 0, 1) := dk_42 (dk_at dksX2_layForm_0 9 rfl rfl)
theorem dX2_layForm_10 : decode cX2_layForm 10 = .ok (.aload_n 0, 1) := dk_42 (dk_at dksX2_layForm_0 10 rfl rfl)
theorem dX2_layForm_11 : decode cX2_layForm 11 = .ok (.getfield 120, 3) := dk_180 0 120 (dk_at dksX2_layForm_0 11 rfl rfl)
theorem dX2_layForm_14 : decode cX2_layForm 14 = .ok (.aload_n 0, 1) := dk_42 (dk_at dksX2_layForm_0 14 rfl rfl)
theorem dX2_layForm_15 : decode cX2_layForm 15 = .ok (.getfield 123, 3) := dk_180 0 123 (dk_at dksX2_layForm_0 15 rfl rfl)
theorem dX2_layForm_18 : decode cX2_layForm 18 = .ok (.aload_n 0, 1) := dk_42 (dk_at dksX2_layForm_0 18 rfl rfl)
theorem dX2_layForm_19 : decode cX2_layForm 19 = .ok (.getfield 114, 3) := dk_180 0 114 (dk_at dksX2_layForm_0 19 rfl rfl)
theorem dX2_layForm_22 : decode cX2_layForm 22 = .ok (.isub, 1) := dk_100 (dk_at dksX2_layForm_0 22 rfl rfl)
theorem dX2_layForm_23 : decode cX2_layForm 23 = .ok (.invokestatic 155, 3) := dk_184 0 155 (dk_at dksX2_layForm_1 0 rfl rfl)
theorem dX2_layForm_26 : decode cX2_layForm 26 = .ok (.aload_n 0, 1) := dk_42 (dk_at dksX2_layForm_1 3 rfl rfl)
theorem dX2_layForm_27 : decode cX2_layForm 27 = .ok (.getfield 117, 3) := dk_180 0 117 (dk_at dksX2_layForm_1 4 rfl rfl)
theorem dX2_layForm_30 : decode cX2_layForm 30 = .ok (.invokestatic 155, 3) := dk_184 0 155 (dk_at dksX2_layForm_1 7 rfl rfl)
theorem dX2_layForm_33 : decode cX2_layForm 33 = .ok (.putfield 158, 3) := dk_181 0 158 (dk_at dksX2_layForm_1 10 rfl rfl)
theorem dX2_layForm_36 : decode cX2_layForm 36 = .ok (.aload_n 0, 1) := dk_42 (dk_at dksX2_layForm_1 13 rfl rfl)
theorem dX2_layForm_37 : decode cX2_layForm 37 = .ok (.aload_n 0, 1) := dk_42 (dk_at dksX2_layForm_1 14 rfl rfl)
theorem dX2_layForm_38 : decode cX2_layForm 38 = .ok (.getfield 120, 3) := dk_180 0 120 (dk_at dksX2_layForm_1 15 rfl rfl)
theorem dX2_layForm_41 : decode cX2_layForm 41 = .ok (.aload_n 0, 1) := dk_42 (dk_at dksX2_layForm_1 18 rfl rfl)
theorem dX2_layForm_42 : decode cX2_layForm 42 = .ok (.getfield 158, 3) := dk_180 0 158 (dk_at dksX2_layForm_1 19 rfl rfl)
theorem dX2_layForm_45 : decode cX2_layForm 45 = .ok (.idiv, 1) := dk_108 (dk_at dksX2_layForm_1 22 rfl rfl)
theorem dX2_layForm_46 : decode cX2_layForm 46 = .ok (.putfield 161, 3) := dk_181 0 161 (dk_at dksX2_layForm_2 0 rfl rfl)
theorem dX2_layForm_49 : decode cX2_layForm 49 = .ok (.aload_n 0, 1) := dk_42 (dk_at dksX2_layForm_2 3 rfl rfl)
theorem dX2_layForm_50 : decode cX2_layForm 50 = .ok (.aload_n 0, 1) := dk_42 (dk_at dksX2_layForm_2 4 rfl rfl)
theorem dX2_layForm_51 : decode cX2_layForm 51 = .ok (.getfield 123, 3) := dk_180 0 123 (dk_at dksX2_layForm_2 5 rfl rfl)
theorem dX2_layForm_54 : decode cX2_layForm 54 = .ok (.aload_n 0, 1) := dk_42 (dk_at dksX2_layForm_2 8 rfl rfl)
theorem dX2_layForm_55 : decode cX2_layForm 55 = .ok (.getfield 114, 3) := dk_180 0 114 (dk_at dksX2_layForm_2 9 rfl rfl)
theorem dX2_layForm_58 : decode cX2_layForm 58 = .ok (.isub, 1) := dk_100 (dk_at dksX2_layForm_2 12 rfl rfl)
theorem dX2_layForm_59 : decode cX2_layForm 59 = .ok (.aload_n 0, 1) := dk_42 (dk_at dksX2_layForm_2 13 rfl rfl)
theorem dX2_layForm_60 : decode cX2_layForm 60 = .ok (.getfield 158, 3) := dk_180 0 158 (dk_at dksX2_layForm_2 14 rfl rfl)
theorem dX2_layForm_63 : decode cX2_layForm 63 = .ok (.idiv, 1) := dk_108 (dk_at dksX2_layForm_2 17 rfl rfl)
theorem dX2_layForm_64 : decode cX2_layForm 64 = .ok (.putfield 164, 3) := dk_181 0 164 (dk_at dksX2_layForm_2 18 rfl rfl)
theorem dX2_layForm_67 : decode cX2_layForm 67 = .ok (.aload_n 0, 1) := dk_42 (dk_at dksX2_layForm_2 21 rfl rfl)
theorem dX2_layForm_68 : decode cX2_layForm 68 = .ok (.aload_n 0, 1) := dk_42 (dk_at dksX2_layForm_2 22 rfl rfl)
theorem dX2_layForm_69 : decode cX2_layForm 69 = .ok (.getfield 117, 3) := dk_180 0 117 (dk_at dksX2_layForm_3 0 rfl rfl)
theorem dX2_layForm_72 : decode cX2_layForm 72 = .ok (.ineg, 1) := dk_116 (dk_at dksX2_layForm_3 3 rfl rfl)
theorem dX2_layForm_73 : decode cX2_layForm 73 = .ok (.aload_n 0, 1) := dk_42 (dk_at dksX2_layForm_3 4 rfl rfl)
theorem dX2_layForm_74 : decode cX2_layForm 74 = .ok (.getfield 158, 3) := dk_180 0 158 (dk_at dksX2_layForm_3 5 rfl rfl)
theorem dX2_layForm_77 : decode cX2_layForm 77 = .ok (.idiv, 1) := dk_108 (dk_at dksX2_layForm_3 8 rfl rfl)
theorem dX2_layForm_78 : decode cX2_layForm 78 = .ok (.putfield 167, 3) := dk_181 0 167 (dk_at dksX2_layForm_3 9 rfl rfl)
theorem dX2_layForm_81 : decode cX2_layForm 81 = .ok (.return_, 1) := dk_177 (dk_at dksX2_layForm_3 12 rfl rfl)
abbrev cX2_common : ByteArray := prog_9_method_5_code
def yX2_common : MethodName := ⟨RX2, "common", "(II)I"⟩
def dkwX2_common_1 : List UInt8 := [167, 255, 242, 28, 172]
abbrev dktX2_common_1 : List UInt8 := dkwX2_common_1 ++ []
def dkwX2_common_0 : List UInt8 := [26, 184, 0, 46, 61, 27, 184, 0, 46, 62, 29, 153, 0, 16, 28, 29, 112, 54, 4, 29, 61, 21, 4, 62]
abbrev dktX2_common_0 : List UInt8 := dkwX2_common_0 ++ dktX2_common_1
theorem dksX2_common_0 : cX2_common.data.toList.drop 0 = dktX2_common_0 := by decide +kernel
theorem dksX2_common_1 : cX2_common.data.toList.drop 24 = dktX2_common_1 := dk_seg dksX2_common_0 24 rfl rfl
theorem dX2_common_0 : decode cX2_common 0 = .ok (.iload_n 0, 1) := dk_26 (dk_at dksX2_common_0 0 rfl rfl)
theorem dX2_common_1 : decode cX2_common 1 = .ok (.invokestatic 46, 3) := dk_184 0 46 (dk_at dksX2_common_0 1 rfl rfl)
theorem dX2_common_4 : decode cX2_common 4 = .ok (.istore_n 2, 1) := dk_61 (dk_at dksX2_common_0 4 rfl rfl)
theorem dX2_common_5 : decode cX2_common 5 = .ok (.iload_n 1, 1) := dk_27 (dk_at dksX2_common_0 5 rfl rfl)
theorem dX2_common_6 : decode cX2_common 6 = .ok (.invokestatic 46, 3) := dk_184 0 46 (dk_at dksX2_common_0 6 rfl rfl)
theorem dX2_common_9 : decode cX2_common 9 = .ok (.istore_n 3, 1) := dk_62 (dk_at dksX2_common_0 9 rfl rfl)
theorem dX2_common_10 : decode cX2_common 10 = .ok (.iload_n 3, 1) := dk_29 (dk_at dksX2_common_0 10 rfl rfl)
theorem dX2_common_11 : decode cX2_common 11 = .ok (.ifCond .eq 16, 3) := dk_153 0 16 (dk_at dksX2_common_0 11 rfl rfl)
theorem dX2_common_14 : decode cX2_common 14 = .ok (.iload_n 2, 1) := dk_28 (dk_at dksX2_common_0 14 rfl rfl)
theorem dX2_common_15 : decode cX2_common 15 = .ok (.iload_n 3, 1) := dk_29 (dk_at dksX2_common_0 15 rfl rfl)
theorem dX2_common_16 : decode cX2_common 16 = .ok (.irem, 1) := dk_112 (dk_at dksX2_common_0 16 rfl rfl)
theorem dX2_common_17 : decode cX2_common 17 = .ok (.istore 4, 2) := dk_54 4 (dk_at dksX2_common_0 17 rfl rfl)
theorem dX2_common_19 : decode cX2_common 19 = .ok (.iload_n 3, 1) := dk_29 (dk_at dksX2_common_0 19 rfl rfl)
theorem dX2_common_20 : decode cX2_common 20 = .ok (.istore_n 2, 1) := dk_61 (dk_at dksX2_common_0 20 rfl rfl)
theorem dX2_common_21 : decode cX2_common 21 = .ok (.iload 4, 2) := dk_21 4 (dk_at dksX2_common_0 21 rfl rfl)
theorem dX2_common_23 : decode cX2_common 23 = .ok (.istore_n 3, 1) := dk_62 (dk_at dksX2_common_0 23 rfl rfl)
theorem dX2_common_24 : decode cX2_common 24 = .ok (.goto (-14), 3) := dk_167 255 242 (dk_at dksX2_common_1 0 rfl rfl)
theorem dX2_common_27 : decode cX2_common 27 = .ok (.iload_n 2, 1) := dk_28 (dk_at dksX2_common_1 3 rfl rfl)
theorem dX2_common_28 : decode cX2_common 28 = .ok (.ireturn, 1) := dk_172 (dk_at dksX2_common_1 4 rfl rfl)
abbrev cX2_abs : ByteArray := prog_9_method_4_code
def yX2_abs : MethodName := ⟨RX2, "abs", "(I)I"⟩
def dkwX2_abs_0 : List UInt8 := [26, 156, 0, 8, 26, 116, 167, 0, 4, 26, 172]
abbrev dktX2_abs_0 : List UInt8 := dkwX2_abs_0 ++ []
theorem dksX2_abs_0 : cX2_abs.data.toList.drop 0 = dktX2_abs_0 := by decide +kernel
theorem dX2_abs_0 : decode cX2_abs 0 = .ok (.iload_n 0, 1) := dk_26 (dk_at dksX2_abs_0 0 rfl rfl)
theorem dX2_abs_1 : decode cX2_abs 1 = .ok (.ifCond .ge 8, 3) := dk_156 0 8 (dk_at dksX2_abs_0 1 rfl rfl)
theorem dX2_abs_4 : decode cX2_abs 4 = .ok (.iload_n 0, 1) := dk_26 (dk_at dksX2_abs_0 4 rfl rfl)
theorem dX2_abs_5 : decode cX2_abs 5 = .ok (.ineg, 1) := dk_116 (dk_at dksX2_abs_0 5 rfl rfl)
theorem dX2_abs_6 : decode cX2_abs 6 = .ok (.goto 4, 3) := dk_167 0 4 (dk_at dksX2_abs_0 6 rfl rfl)
theorem dX2_abs_9 : decode cX2_abs 9 = .ok (.iload_n 0, 1) := dk_26 (dk_at dksX2_abs_0 9 rfl rfl)
theorem dX2_abs_10 : decode cX2_abs 10 = .ok (.ireturn, 1) := dk_172 (dk_at dksX2_abs_0 10 rfl rfl)
abbrev cX2_discOf : ByteArray := prog_9_method_33_code
def yX2_discOf : MethodName := ⟨RX2, "discOf", "(III)I"⟩
def dkwX2_discOf_0 : List UInt8 := [27, 27, 104, 7, 26, 104, 28, 104, 100, 172]
abbrev dktX2_discOf_0 : List UInt8 := dkwX2_discOf_0 ++ []
theorem dksX2_discOf_0 : cX2_discOf.data.toList.drop 0 = dktX2_discOf_0 := by decide +kernel
theorem dX2_discOf_0 : decode cX2_discOf 0 = .ok (.iload_n 1, 1) := dk_27 (dk_at dksX2_discOf_0 0 rfl rfl)
theorem dX2_discOf_1 : decode cX2_discOf 1 = .ok (.iload_n 1, 1) := dk_27 (dk_at dksX2_discOf_0 1 rfl rfl)
theorem dX2_discOf_2 : decode cX2_discOf 2 = .ok (.imul, 1) := dk_104 (dk_at dksX2_discOf_0 2 rfl rfl)
theorem dX2_discOf_3 : decode cX2_discOf 3 = .ok (.iconst 4, 1) := dk_7 (dk_at dksX2_discOf_0 3 rfl rfl)
theorem dX2_discOf_4 : decode cX2_discOf 4 = .ok (.iload_n 0, 1) := dk_26 (dk_at dksX2_discOf_0 4 rfl rfl)
theorem dX2_discOf_5 : decode cX2_discOf 5 = .ok (.imul, 1) := dk_104 (dk_at dksX2_discOf_0 5 rfl rfl)
theorem dX2_discOf_6 : decode cX2_discOf 6 = .ok (.iload_n 2, 1) := dk_28 (dk_at dksX2_discOf_0 6 rfl rfl)
theorem dX2_discOf_7 : decode cX2_discOf 7 = .ok (.imul, 1) := dk_104 (dk_at dksX2_discOf_0 7 rfl rfl)
theorem dX2_discOf_8 : decode cX2_discOf 8 = .ok (.isub, 1) := dk_100 (dk_at dksX2_discOf_0 8 rfl rfl)
theorem dX2_discOf_9 : decode cX2_discOf 9 = .ok (.ireturn, 1) := dk_172 (dk_at dksX2_discOf_0 9 rfl rfl)
abbrev cX2_end : ByteArray := prog_9_method_37_code
def yX2_end : MethodName := ⟨RX2, "end", "(II)I"⟩
def dkwX2_end_1 : List UInt8 := [28, 182, 0, 183, 167, 0, 5, 18, 54, 172]
abbrev dktX2_end_1 : List UInt8 := dkwX2_end_1 ++ []
def dkwX2_end_0 : List UInt8 := [42, 27, 182, 0, 142, 154, 0, 8, 18, 145, 167, 0, 23, 28, 3, 4, 184, 0, 50, 153, 0, 12, 42, 27]
abbrev dktX2_end_0 : List UInt8 := dkwX2_end_0 ++ dktX2_end_1
theorem dksX2_end_0 : cX2_end.data.toList.drop 0 = dktX2_end_0 := by decide +kernel
theorem dksX2_end_1 : cX2_end.data.toList.drop 24 = dktX2_end_1 := dk_seg dksX2_end_0 24 rfl rfl
theorem dX2_end_0 : decode cX2_end 0 = .ok (.aload_n 0, 1) := dk_42 (dk_at dksX2_end_0 0 rfl rfl)
theorem dX2_end_1 : decode cX2_end 1 = .ok (.iload_n 1, 1) := dk_27 (dk_at dksX2_end_0 1 rfl rfl)
theorem dX2_end_2 : decode cX2_end 2 = .ok (.invokevirtual 142, 3) := dk_182 0 142 (dk_at dksX2_end_0 2 rfl rfl)
theorem dX2_end_5 : decode cX2_end 5 = .ok (.ifCond .ne 8, 3) := dk_154 0 8 (dk_at dksX2_end_0 5 rfl rfl)
theorem dX2_end_8 : decode cX2_end 8 = .ok (.ldc 145, 2) := dk_18 145 (dk_at dksX2_end_0 8 rfl rfl)
theorem dX2_end_10 : decode cX2_end 10 = .ok (.goto 23, 3) := dk_167 0 23 (dk_at dksX2_end_0 10 rfl rfl)
theorem dX2_end_13 : decode cX2_end 13 = .ok (.iload_n 2, 1) := dk_28 (dk_at dksX2_end_0 13 rfl rfl)
theorem dX2_end_14 : decode cX2_end 14 = .ok (.iconst 0, 1) := dk_3 (dk_at dksX2_end_0 14 rfl rfl)
theorem dX2_end_15 : decode cX2_end 15 = .ok (.iconst 1, 1) := dk_4 (dk_at dksX2_end_0 15 rfl rfl)
theorem dX2_end_16 : decode cX2_end 16 = .ok (.invokestatic 50, 3) := dk_184 0 50 (dk_at dksX2_end_0 16 rfl rfl)
theorem dX2_end_19 : decode cX2_end 19 = .ok (.ifCond .eq 12, 3) := dk_153 0 12 (dk_at dksX2_end_0 19 rfl rfl)
theorem dX2_end_22 : decode cX2_end 22 = .ok (.aload_n 0, 1) := dk_42 (dk_at dksX2_end_0 22 rfl rfl)
theorem dX2_end_23 : decode cX2_end 23 = .ok (.iload_n 1, 1) := dk_27 (dk_at dksX2_end_0 23 rfl rfl)
theorem dX2_end_24 : decode cX2_end 24 = .ok (.iload_n 2, 1) := dk_28 (dk_at dksX2_end_1 0 rfl rfl)
theorem dX2_end_25 : decode cX2_end 25 = .ok (.invokevirtual 183, 3) := dk_182 0 183 (dk_at dksX2_end_1 1 rfl rfl)
theorem dX2_end_28 : decode cX2_end 28 = .ok (.goto 5, 3) := dk_167 0 5 (dk_at dksX2_end_1 4 rfl rfl)
theorem dX2_end_31 : decode cX2_end 31 = .ok (.ldc 54, 2) := dk_18 54 (dk_at dksX2_end_1 7 rfl rfl)
theorem dX2_end_33 : decode cX2_end 33 = .ok (.ireturn, 1) := dk_172 (dk_at dksX2_end_1 9 rfl rfl)
abbrev cX2_endNow : ByteArray := prog_9_method_36_code
def yX2_endNow : MethodName := ⟨RX2, "endNow", "(II)I"⟩
def dkwX2_endNow_1 : List UInt8 := [167, 0, 12, 42, 180, 0, 120, 42, 180, 0, 123, 96, 172]
abbrev dktX2_endNow_1 : List UInt8 := dkwX2_endNow_1 ++ []
def dkwX2_endNow_0 : List UInt8 := [42, 27, 182, 0, 91, 42, 182, 0, 126, 28, 154, 0, 15, 42, 180, 0, 114, 42, 180, 0, 117, 96]
abbrev dktX2_endNow_0 : List UInt8 := dkwX2_endNow_0 ++ dktX2_endNow_1
theorem dksX2_endNow_0 : cX2_endNow.data.toList.drop 0 = dktX2_endNow_0 := by decide +kernel
theorem dksX2_endNow_1 : cX2_endNow.data.toList.drop 22 = dktX2_endNow_1 := dk_seg dksX2_endNow_0 22 rfl rfl
theorem dX2_endNow_0 : decode cX2_endNow 0 = .ok (.aload_n 0, 1) := dk_42 (dk_at dksX2_endNow_0 0 rfl rfl)
theorem dX2_endNow_1 : decode cX2_endNow 1 = .ok (.iload_n 1, 1) := dk_27 (dk_at dksX2_endNow_0 1 rfl rfl)
theorem dX2_endNow_2 : decode cX2_endNow 2 = .ok (.invokevirtual 91, 3) := dk_182 0 91 (dk_at dksX2_endNow_0 2 rfl rfl)
theorem dX2_endNow_5 : decode cX2_endNow 5 = .ok (.aload_n 0, 1) := dk_42 (dk_at dksX2_endNow_0 5 rfl rfl)
theorem dX2_endNow_6 : decode cX2_endNow 6 = .ok (.invokevirtual 126, 3) := dk_182 0 126 (dk_at dksX2_endNow_0 6 rfl rfl)
theorem dX2_endNow_9 : decode cX2_endNow 9 = .ok (.iload_n 2, 1) := dk_28 (dk_at dksX2_endNow_0 9 rfl rfl)
theorem dX2_endNow_10 : decode cX2_endNow 10 = .ok (.ifCond .ne 15, 3) := dk_154 0 15 (dk_at dksX2_endNow_0 10 rfl rfl)
theorem dX2_endNow_13 : decode cX2_endNow 13 = .ok (.aload_n 0, 1) := dk_42 (dk_at dksX2_endNow_0 13 rfl rfl)
theorem dX2_endNow_14 : decode cX2_endNow 14 = .ok (.getfield 114, 3) := dk_180 0 114 (dk_at dksX2_endNow_0 14 rfl rfl)
theorem dX2_endNow_17 : decode cX2_endNow 17 = .ok (.aload_n 0, 1) := dk_42 (dk_at dksX2_endNow_0 17 rfl rfl)
theorem dX2_endNow_18 : decode cX2_endNow 18 = .ok (.getfield 117, 3) := dk_180 0 117 (dk_at dksX2_endNow_0 18 rfl rfl)
theorem dX2_endNow_21 : decode cX2_endNow 21 = .ok (.iadd, 1) := dk_96 (dk_at dksX2_endNow_0 21 rfl rfl)
theorem dX2_endNow_22 : decode cX2_endNow 22 = .ok (.goto 12, 3) := dk_167 0 12 (dk_at dksX2_endNow_1 0 rfl rfl)
theorem dX2_endNow_25 : decode cX2_endNow 25 = .ok (.aload_n 0, 1) := dk_42 (dk_at dksX2_endNow_1 3 rfl rfl)
theorem dX2_endNow_26 : decode cX2_endNow 26 = .ok (.getfield 120, 3) := dk_180 0 120 (dk_at dksX2_endNow_1 4 rfl rfl)
theorem dX2_endNow_29 : decode cX2_endNow 29 = .ok (.aload_n 0, 1) := dk_42 (dk_at dksX2_endNow_1 7 rfl rfl)
theorem dX2_endNow_30 : decode cX2_endNow 30 = .ok (.getfield 123, 3) := dk_180 0 123 (dk_at dksX2_endNow_1 8 rfl rfl)
theorem dX2_endNow_33 : decode cX2_endNow 33 = .ok (.iadd, 1) := dk_96 (dk_at dksX2_endNow_1 11 rfl rfl)
theorem dX2_endNow_34 : decode cX2_endNow 34 = .ok (.ireturn, 1) := dk_172 (dk_at dksX2_endNow_1 12 rfl rfl)
abbrev cX2_alike : ByteArray := prog_9_method_39_code
def yX2_alike : MethodName := ⟨RX2, "alike", "(II)I"⟩
def dkwX2_alike_1 : List UInt8 := [167, 0, 5, 18, 145, 172]
abbrev dktX2_alike_1 : List UInt8 := dkwX2_alike_1 ++ []
def dkwX2_alike_0 : List UInt8 := [42, 27, 182, 0, 142, 153, 0, 20, 42, 28, 182, 0, 142, 153, 0, 12, 42, 27, 28, 182, 0, 186]
abbrev dktX2_alike_0 : List UInt8 := dkwX2_alike_0 ++ dktX2_alike_1
theorem dksX2_alike_0 : cX2_alike.data.toList.drop 0 = dktX2_alike_0 := by decide +kernel
theorem dksX2_alike_1 : cX2_alike.data.toList.drop 22 = dktX2_alike_1 := dk_seg dksX2_alike_0 22 rfl rfl
theorem dX2_alike_0 : decode cX2_alike 0 = .ok (.aload_n 0, 1) := dk_42 (dk_at dksX2_alike_0 0 rfl rfl)
theorem dX2_alike_1 : decode cX2_alike 1 = .ok (.iload_n 1, 1) := dk_27 (dk_at dksX2_alike_0 1 rfl rfl)
theorem dX2_alike_2 : decode cX2_alike 2 = .ok (.invokevirtual 142, 3) := dk_182 0 142 (dk_at dksX2_alike_0 2 rfl rfl)
theorem dX2_alike_5 : decode cX2_alike 5 = .ok (.ifCond .eq 20, 3) := dk_153 0 20 (dk_at dksX2_alike_0 5 rfl rfl)
theorem dX2_alike_8 : decode cX2_alike 8 = .ok (.aload_n 0, 1) := dk_42 (dk_at dksX2_alike_0 8 rfl rfl)
theorem dX2_alike_9 : decode cX2_alike 9 = .ok (.iload_n 2, 1) := dk_28 (dk_at dksX2_alike_0 9 rfl rfl)
theorem dX2_alike_10 : decode cX2_alike 10 = .ok (.invokevirtual 142, 3) := dk_182 0 142 (dk_at dksX2_alike_0 10 rfl rfl)
theorem dX2_alike_13 : decode cX2_alike 13 = .ok (.ifCond .eq 12, 3) := dk_153 0 12 (dk_at dksX2_alike_0 13 rfl rfl)
theorem dX2_alike_16 : decode cX2_alike 16 = .ok (.aload_n 0, 1) := dk_42 (dk_at dksX2_alike_0 16 rfl rfl)
theorem dX2_alike_17 : decode cX2_alike 17 = .ok (.iload_n 1, 1) := dk_27 (dk_at dksX2_alike_0 17 rfl rfl)
theorem dX2_alike_18 : decode cX2_alike 18 = .ok (.iload_n 2, 1) := dk_28 (dk_at dksX2_alike_0 18 rfl rfl)
theorem dX2_alike_19 : decode cX2_alike 19 = .ok (.invokevirtual 186, 3) := dk_182 0 186 (dk_at dksX2_alike_0 19 rfl rfl)
theorem dX2_alike_22 : decode cX2_alike 22 = .ok (.goto 5, 3) := dk_167 0 5 (dk_at dksX2_alike_1 0 rfl rfl)
theorem dX2_alike_25 : decode cX2_alike 25 = .ok (.ldc 145, 2) := dk_18 145 (dk_at dksX2_alike_1 3 rfl rfl)
theorem dX2_alike_27 : decode cX2_alike 27 = .ok (.ireturn, 1) := dk_172 (dk_at dksX2_alike_1 5 rfl rfl)
abbrev cX2_alikeNow : ByteArray := prog_9_method_38_code
def yX2_alikeNow : MethodName := ⟨RX2, "alikeNow", "(II)I"⟩
def dkwX2_alikeNow_0 : List UInt8 := [42, 28, 182, 0, 91, 42, 3, 3, 182, 0, 107, 42, 27, 182, 0, 91, 42, 182, 0, 111, 172]
abbrev dktX2_alikeNow_0 : List UInt8 := dkwX2_alikeNow_0 ++ []
theorem dksX2_alikeNow_0 : cX2_alikeNow.data.toList.drop 0 = dktX2_alikeNow_0 := by decide +kernel
theorem dX2_alikeNow_0 : decode cX2_alikeNow 0 = .ok (.aload_n 0, 1) := dk_42 (dk_at dksX2_alikeNow_0 0 rfl rfl)
theorem dX2_alikeNow_1 : decode cX2_alikeNow 1 = .ok (.iload_n 2, 1) := dk_28 (dk_at dksX2_alikeNow_0 1 rfl rfl)
theorem dX2_alikeNow_2 : decode cX2_alikeNow 2 = .ok (.invokevirtual 91, 3) := dk_182 0 91 (dk_at dksX2_alikeNow_0 2 rfl rfl)
theorem dX2_alikeNow_5 : decode cX2_alikeNow 5 = .ok (.aload_n 0, 1) := dk_42 (dk_at dksX2_alikeNow_0 5 rfl rfl)
theorem dX2_alikeNow_6 : decode cX2_alikeNow 6 = .ok (.iconst 0, 1) := dk_3 (dk_at dksX2_alikeNow_0 6 rfl rfl)
theorem dX2_alikeNow_7 : decode cX2_alikeNow 7 = .ok (.iconst 0, 1) := dk_3 (dk_at dksX2_alikeNow_0 7 rfl rfl)
theorem dX2_alikeNow_8 : decode cX2_alikeNow 8 = .ok (.invokevirtual 107, 3) := dk_182 0 107 (dk_at dksX2_alikeNow_0 8 rfl rfl)
theorem dX2_alikeNow_11 : decode cX2_alikeNow 11 = .ok (.aload_n 0, 1) := dk_42 (dk_at dksX2_alikeNow_0 11 rfl rfl)
theorem dX2_alikeNow_12 : decode cX2_alikeNow 12 = .ok (.iload_n 1, 1) := dk_27 (dk_at dksX2_alikeNow_0 12 rfl rfl)
theorem dX2_alikeNow_13 : decode cX2_alikeNow 13 = .ok (.invokevirtual 91, 3) := dk_182 0 91 (dk_at dksX2_alikeNow_0 13 rfl rfl)
theorem dX2_alikeNow_16 : decode cX2_alikeNow 16 = .ok (.aload_n 0, 1) := dk_42 (dk_at dksX2_alikeNow_0 16 rfl rfl)
theorem dX2_alikeNow_17 : decode cX2_alikeNow 17 = .ok (.invokevirtual 111, 3) := dk_182 0 111 (dk_at dksX2_alikeNow_0 17 rfl rfl)
theorem dX2_alikeNow_20 : decode cX2_alikeNow 20 = .ok (.ireturn, 1) := dk_172 (dk_at dksX2_alikeNow_0 20 rfl rfl)
abbrev cX2_cross : ByteArray := prog_9_method_43_code
def yX2_cross : MethodName := ⟨RX2, "cross", "(II)I"⟩
def dkwX2_cross_1 : List UInt8 := [153, 0, 20, 42, 28, 182, 0, 177, 153, 0, 12, 42, 27, 28, 182, 0, 196, 167, 0, 5, 18, 78, 172]
abbrev dktX2_cross_1 : List UInt8 := dkwX2_cross_1 ++ []
def dkwX2_cross_0 : List UInt8 := [42, 27, 182, 0, 142, 153, 0, 11, 42, 28, 182, 0, 142, 154, 0, 6, 18, 145, 172, 42, 27, 182, 0, 177]
abbrev dktX2_cross_0 : List UInt8 := dkwX2_cross_0 ++ dktX2_cross_1
theorem dksX2_cross_0 : cX2_cross.data.toList.drop 0 = dktX2_cross_0 := by decide +kernel
theorem dksX2_cross_1 : cX2_cross.data.toList.drop 24 = dktX2_cross_1 := dk_seg dksX2_cross_0 24 rfl rfl
theorem dX2_cross_0 : decode cX2_cross 0 = .ok (.aload_n 0, 1) := dk_42 (dk_at dksX2_cross_0 0 rfl rfl)
theorem dX2_cross_1 : decode cX2_cross 1 = .ok (.iload_n 1, 1) := dk_27 (dk_at dksX2_cross_0 1 rfl rfl)
theorem dX2_cross_2 : decode cX2_cross 2 = .ok (.invokevirtual 142, 3) := dk_182 0 142 (dk_at dksX2_cross_0 2 rfl rfl)
theorem dX2_cross_5 : decode cX2_cross 5 = .ok (.ifCond .eq 11, 3) := dk_153 0 11 (dk_at dksX2_cross_0 5 rfl rfl)
theorem dX2_cross_8 : decode cX2_cross 8 = .ok (.aload_n 0, 1) := dk_42 (dk_at dksX2_cross_0 8 rfl rfl)
theorem dX2_cross_9 : decode cX2_cross 9 = .ok (.iload_n 2, 1) := dk_28 (dk_at dksX2_cross_0 9 rfl rfl)
theorem dX2_cross_10 : decode cX2_cross 10 = .ok (.invokevirtual 142, 3) := dk_182 0 142 (dk_at dksX2_cross_0 10 rfl rfl)
theorem dX2_cross_13 : decode cX2_cross 13 = .ok (.ifCond .ne 6, 3) := dk_154 0 6 (dk_at dksX2_cross_0 13 rfl rfl)
theorem dX2_cross_16 : decode cX2_cross 16 = .ok (.ldc 145, 2) := dk_18 145 (dk_at dksX2_cross_0 16 rfl rfl)
theorem dX2_cross_18 : decode cX2_cross 18 = .ok (.ireturn, 1) := dk_172 (dk_at dksX2_cross_0 18 rfl rfl)
theorem dX2_cross_19 : decode cX2_cross 19 = .ok (.aload_n 0, 1) := dk_42 (dk_at dksX2_cross_0 19 rfl rfl)
theorem dX2_cross_20 : decode cX2_cross 20 = .ok (.iload_n 1, 1) := dk_27 (dk_at dksX2_cross_0 20 rfl rfl)
theorem dX2_cross_21 : decode cX2_cross 21 = .ok (.invokevirtual 177, 3) := dk_182 0 177 (dk_at dksX2_cross_0 21 rfl rfl)
theorem dX2_cross_24 : decode cX2_cross 24 = .ok (.ifCond .eq 20, 3) := dk_153 0 20 (dk_at dksX2_cross_1 0 rfl rfl)
theorem dX2_cross_27 : decode cX2_cross 27 = .ok (.aload_n 0, 1) := dk_42 (dk_at dksX2_cross_1 3 rfl rfl)
theorem dX2_cross_28 : decode cX2_cross 28 = .ok (.iload_n 2, 1) := dk_28 (dk_at dksX2_cross_1 4 rfl rfl)
theorem dX2_cross_29 : decode cX2_cross 29 = .ok (.invokevirtual 177, 3) := dk_182 0 177 (dk_at dksX2_cross_1 5 rfl rfl)
theorem dX2_cross_32 : decode cX2_cross 32 = .ok (.ifCond .eq 12, 3) := dk_153 0 12 (dk_at dksX2_cross_1 8 rfl rfl)
theorem dX2_cross_35 : decode cX2_cross 35 = .ok (.aload_n 0, 1) := dk_42 (dk_at dksX2_cross_1 11 rfl rfl)
theorem dX2_cross_36 : decode cX2_cross 36 = .ok (.iload_n 1, 1) := dk_27 (dk_at dksX2_cross_1 12 rfl rfl)
theorem dX2_cross_37 : decode cX2_cross 37 = .ok (.iload_n 2, 1) := dk_28 (dk_at dksX2_cross_1 13 rfl rfl)
theorem dX2_cross_38 : decode cX2_cross 38 = .ok (.invokevirtual 196, 3) := dk_182 0 196 (dk_at dksX2_cross_1 14 rfl rfl)
theorem dX2_cross_41 : decode cX2_cross 41 = .ok (.goto 5, 3) := dk_167 0 5 (dk_at dksX2_cross_1 17 rfl rfl)
theorem dX2_cross_44 : decode cX2_cross 44 = .ok (.ldc 78, 2) := dk_18 78 (dk_at dksX2_cross_1 20 rfl rfl)
theorem dX2_cross_46 : decode cX2_cross 46 = .ok (.ireturn, 1) := dk_172 (dk_at dksX2_cross_1 22 rfl rfl)
abbrev cX2_crossings : ByteArray := prog_9_method_42_code
def yX2_crossings : MethodName := ⟨RX2, "crossings", "(II)I"⟩
def dkwX2_crossings_0 : List UInt8 := [42, 28, 182, 0, 91, 42, 3, 3, 182, 0, 107, 42, 27, 182, 0, 91, 42, 182, 0, 193, 172]
abbrev dktX2_crossings_0 : List UInt8 := dkwX2_crossings_0 ++ []
theorem dksX2_crossings_0 : cX2_crossings.data.toList.drop 0 = dktX2_crossings_0 := by decide +kernel
theorem dX2_crossings_0 : decode cX2_crossings 0 = .ok (.aload_n 0, 1) := dk_42 (dk_at dksX2_crossings_0 0 rfl rfl)
theorem dX2_crossings_1 : decode cX2_crossings 1 = .ok (.iload_n 2, 1) := dk_28 (dk_at dksX2_crossings_0 1 rfl rfl)
theorem dX2_crossings_2 : decode cX2_crossings 2 = .ok (.invokevirtual 91, 3) := dk_182 0 91 (dk_at dksX2_crossings_0 2 rfl rfl)
theorem dX2_crossings_5 : decode cX2_crossings 5 = .ok (.aload_n 0, 1) := dk_42 (dk_at dksX2_crossings_0 5 rfl rfl)
theorem dX2_crossings_6 : decode cX2_crossings 6 = .ok (.iconst 0, 1) := dk_3 (dk_at dksX2_crossings_0 6 rfl rfl)
theorem dX2_crossings_7 : decode cX2_crossings 7 = .ok (.iconst 0, 1) := dk_3 (dk_at dksX2_crossings_0 7 rfl rfl)
theorem dX2_crossings_8 : decode cX2_crossings 8 = .ok (.invokevirtual 107, 3) := dk_182 0 107 (dk_at dksX2_crossings_0 8 rfl rfl)
theorem dX2_crossings_11 : decode cX2_crossings 11 = .ok (.aload_n 0, 1) := dk_42 (dk_at dksX2_crossings_0 11 rfl rfl)
theorem dX2_crossings_12 : decode cX2_crossings 12 = .ok (.iload_n 1, 1) := dk_27 (dk_at dksX2_crossings_0 12 rfl rfl)
theorem dX2_crossings_13 : decode cX2_crossings 13 = .ok (.invokevirtual 91, 3) := dk_182 0 91 (dk_at dksX2_crossings_0 13 rfl rfl)
theorem dX2_crossings_16 : decode cX2_crossings 16 = .ok (.aload_n 0, 1) := dk_42 (dk_at dksX2_crossings_0 16 rfl rfl)
theorem dX2_crossings_17 : decode cX2_crossings 17 = .ok (.invokevirtual 193, 3) := dk_182 0 193 (dk_at dksX2_crossings_0 17 rfl rfl)
theorem dX2_crossings_20 : decode cX2_crossings 20 = .ok (.ireturn, 1) := dk_172 (dk_at dksX2_crossings_0 20 rfl rfl)
abbrev cX2_crossNow : ByteArray := prog_9_method_41_code
def yX2_crossNow : MethodName := ⟨RX2, "crossNow", "()I"⟩
def dkwX2_crossNow_2 : List UInt8 := [167, 255, 212, 27, 172]
abbrev dktX2_crossNow_2 : List UInt8 := dkwX2_crossNow_2 ++ []
def dkwX2_crossNow_1 : List UInt8 := [28, 29, 182, 0, 189, 153, 0, 7, 4, 167, 0, 4, 3, 96, 60, 132, 3, 1, 167, 255, 228, 132, 2, 1]
abbrev dktX2_crossNow_1 : List UInt8 := dkwX2_crossNow_1 ++ dktX2_crossNow_2
def dkwX2_crossNow_0 : List UInt8 := [3, 60, 3, 61, 28, 42, 180, 0, 85, 162, 0, 42, 3, 62, 29, 42, 180, 0, 103, 162, 0, 26, 27, 42]
abbrev dktX2_crossNow_0 : List UInt8 := dkwX2_crossNow_0 ++ dktX2_crossNow_1
theorem dksX2_crossNow_0 : cX2_crossNow.data.toList.drop 0 = dktX2_crossNow_0 := by decide +kernel
theorem dksX2_crossNow_1 : cX2_crossNow.data.toList.drop 24 = dktX2_crossNow_1 := dk_seg dksX2_crossNow_0 24 rfl rfl
theorem dksX2_crossNow_2 : cX2_crossNow.data.toList.drop 48 = dktX2_crossNow_2 := dk_seg dksX2_crossNow_1 24 rfl rfl
theorem dX2_crossNow_0 : decode cX2_crossNow 0 = .ok (.iconst 0, 1) := dk_3 (dk_at dksX2_crossNow_0 0 rfl rfl)
theorem dX2_crossNow_1 : decode cX2_crossNow 1 = .ok (.istore_n 1, 1) := dk_60 (dk_at dksX2_crossNow_0 1 rfl rfl)
theorem dX2_crossNow_2 : decode cX2_crossNow 2 = .ok (.iconst 0, 1) := dk_3 (dk_at dksX2_crossNow_0 2 rfl rfl)
theorem dX2_crossNow_3 : decode cX2_crossNow 3 = .ok (.istore_n 2, 1) := dk_61 (dk_at dksX2_crossNow_0 3 rfl rfl)
theorem dX2_crossNow_4 : decode cX2_crossNow 4 = .ok (.iload_n 2, 1) := dk_28 (dk_at dksX2_crossNow_0 4 rfl rfl)
theorem dX2_crossNow_5 : decode cX2_crossNow 5 = .ok (.aload_n 0, 1) := dk_42 (dk_at dksX2_crossNow_0 5 rfl rfl)
theorem dX2_crossNow_6 : decode cX2_crossNow 6 = .ok (.getfield 85, 3) := dk_180 0 85 (dk_at dksX2_crossNow_0 6 rfl rfl)
theorem dX2_crossNow_9 : decode cX2_crossNow 9 = .ok (.if_icmp .ge 42, 3) := dk_162 0 42 (dk_at dksX2_crossNow_0 9 rfl rfl)
theorem dX2_crossNow_12 : decode cX2_crossNow 12 = .ok (.iconst 0, 1) := dk_3 (dk_at dksX2_crossNow_0 12 rfl rfl)
theorem dX2_crossNow_13 : decode cX2_crossNow 13 = .ok (.istore_n 3, 1) := dk_62 (dk_at dksX2_crossNow_0 13 rfl rfl)
theorem dX2_crossNow_14 : decode cX2_crossNow 14 = .ok (.iload_n 3, 1) := dk_29 (dk_at dksX2_crossNow_0 14 rfl rfl)
theorem dX2_crossNow_15 : decode cX2_crossNow 15 = .ok (.aload_n 0, 1) := dk_42 (dk_at dksX2_crossNow_0 15 rfl rfl)
theorem dX2_crossNow_16 : decode cX2_crossNow 16 = .ok (.getfield 103, 3) := dk_180 0 103 (dk_at dksX2_crossNow_0 16 rfl rfl)
theorem dX2_crossNow_19 : decode cX2_crossNow 19 = .ok (.if_icmp .ge 26, 3) := dk_162 0 26 (dk_at dksX2_crossNow_0 19 rfl rfl)
theorem dX2_crossNow_22 : decode cX2_crossNow 22 = .ok (.iload_n 1, 1) := dk_27 (dk_at dksX2_crossNow_0 22 rfl rfl)
theorem dX2_crossNow_23 : decode cX2_crossNow 23 = .ok (.aload_n 0, 1) := dk_42 (dk_at dksX2_crossNow_0 23 rfl rfl)
theorem dX2_crossNow_24 : decode cX2_crossNow 24 = .ok (.iload_n 2, 1) := dk_28 (dk_at dksX2_crossNow_1 0 rfl rfl)
theorem dX2_crossNow_25 : decode cX2_crossNow 25 = .ok (.iload_n 3, 1) := dk_29 (dk_at dksX2_crossNow_1 1 rfl rfl)
theorem dX2_crossNow_26 : decode cX2_crossNow 26 = .ok (.invokevirtual 189, 3) := dk_182 0 189 (dk_at dksX2_crossNow_1 2 rfl rfl)
theorem dX2_crossNow_29 : decode cX2_crossNow 29 = .ok (.ifCond .eq 7, 3) := dk_153 0 7 (dk_at dksX2_crossNow_1 5 rfl rfl)
theorem dX2_crossNow_32 : decode cX2_crossNow 32 = .ok (.iconst 1, 1) := dk_4 (dk_at dksX2_crossNow_1 8 rfl rfl)
theorem dX2_crossNow_33 : decode cX2_crossNow 33 = .ok (.goto 4, 3) := dk_167 0 4 (dk_at dksX2_crossNow_1 9 rfl rfl)
theorem dX2_crossNow_36 : decode cX2_crossNow 36 = .ok (.iconst 0, 1) := dk_3 (dk_at dksX2_crossNow_1 12 rfl rfl)
theorem dX2_crossNow_37 : decode cX2_crossNow 37 = .ok (.iadd, 1) := dk_96 (dk_at dksX2_crossNow_1 13 rfl rfl)
theorem dX2_crossNow_38 : decode cX2_crossNow 38 = .ok (.istore_n 1, 1) := dk_60 (dk_at dksX2_crossNow_1 14 rfl rfl)
theorem dX2_crossNow_39 : decode cX2_crossNow 39 = .ok (.iinc 3 1, 3) := dk_132 3 1 (dk_at dksX2_crossNow_1 15 rfl rfl)
theorem dX2_crossNow_42 : decode cX2_crossNow 42 = .ok (.goto (-28), 3) := dk_167 255 228 (dk_at dksX2_crossNow_1 18 rfl rfl)
theorem dX2_crossNow_45 : decode cX2_crossNow 45 = .ok (.iinc 2 1, 3) := dk_132 2 1 (dk_at dksX2_crossNow_1 21 rfl rfl)
theorem dX2_crossNow_48 : decode cX2_crossNow 48 = .ok (.goto (-44), 3) := dk_167 255 212 (dk_at dksX2_crossNow_2 0 rfl rfl)
theorem dX2_crossNow_51 : decode cX2_crossNow 51 = .ok (.iload_n 1, 1) := dk_27 (dk_at dksX2_crossNow_2 3 rfl rfl)
theorem dX2_crossNow_52 : decode cX2_crossNow 52 = .ok (.ireturn, 1) := dk_172 (dk_at dksX2_crossNow_2 4 rfl rfl)
abbrev cX2_isCross : ByteArray := prog_9_method_40_code
def yX2_isCross : MethodName := ⟨RX2, "isCross", "(II)Z"⟩
def dkwX2_isCross_3 : List UInt8 := [21, 6, 46, 159, 255, 210, 42, 180, 0, 40, 21, 5, 46, 21, 4, 160, 0, 7, 4, 167, 0, 4, 3, 172]
abbrev dktX2_isCross_3 : List UInt8 := dkwX2_isCross_3 ++ []
def dkwX2_isCross_2 : List UInt8 := [180, 0, 103, 96, 4, 100, 42, 180, 0, 103, 112, 54, 6, 42, 180, 0, 40, 21, 5, 46, 42, 180, 0, 43]
abbrev dktX2_isCross_2 : List UInt8 := dkwX2_isCross_2 ++ dktX2_isCross_3
def dkwX2_isCross_1 : List UInt8 := [54, 5, 28, 54, 6, 21, 5, 42, 180, 0, 85, 96, 4, 100, 42, 180, 0, 85, 112, 54, 5, 21, 6, 42]
abbrev dktX2_isCross_1 : List UInt8 := dkwX2_isCross_1 ++ dktX2_isCross_2
def dkwX2_isCross_0 : List UInt8 := [42, 180, 0, 40, 27, 46, 62, 42, 180, 0, 43, 28, 46, 54, 4, 29, 21, 4, 160, 0, 5, 3, 172, 27]
abbrev dktX2_isCross_0 : List UInt8 := dkwX2_isCross_0 ++ dktX2_isCross_1
theorem dksX2_isCross_0 : cX2_isCross.data.toList.drop 0 = dktX2_isCross_0 := by decide +kernel
theorem dksX2_isCross_1 : cX2_isCross.data.toList.drop 24 = dktX2_isCross_1 := dk_seg dksX2_isCross_0 24 rfl rfl
theorem dksX2_isCross_2 : cX2_isCross.data.toList.drop 48 = dktX2_isCross_2 := dk_seg dksX2_isCross_1 24 rfl rfl
theorem dksX2_isCross_3 : cX2_isCross.data.toList.drop 72 = dktX2_isCross_3 := dk_seg dksX2_isCross_2 24 rfl rfl
theorem dX2_isCross_0 : decode cX2_isCross 0 = .ok (.aload_n 0, 1) := dk_42 (dk_at dksX2_isCross_0 0 rfl rfl)
theorem dX2_isCross_1 : decode cX2_isCross 1 = .ok (.getfield 40, 3) := dk_180 0 40 (dk_at dksX2_isCross_0 1 rfl rfl)
theorem dX2_isCross_4 : decode cX2_isCross 4 = .ok (.iload_n 1, 1) := dk_27 (dk_at dksX2_isCross_0 4 rfl rfl)
theorem dX2_isCross_5 : decode cX2_isCross 5 = .ok (.iaload, 1) := dk_46 (dk_at dksX2_isCross_0 5 rfl rfl)
theorem dX2_isCross_6 : decode cX2_isCross 6 = .ok (.istore_n 3, 1) := dk_62 (dk_at dksX2_isCross_0 6 rfl rfl)
theorem dX2_isCross_7 : decode cX2_isCross 7 = .ok (.aload_n 0, 1) := dk_42 (dk_at dksX2_isCross_0 7 rfl rfl)
theorem dX2_isCross_8 : decode cX2_isCross 8 = .ok (.getfield 43, 3) := dk_180 0 43 (dk_at dksX2_isCross_0 8 rfl rfl)
theorem dX2_isCross_11 : decode cX2_isCross 11 = .ok (.iload_n 2, 1) := dk_28 (dk_at dksX2_isCross_0 11 rfl rfl)
theorem dX2_isCross_12 : decode cX2_isCross 12 = .ok (.iaload, 1) := dk_46 (dk_at dksX2_isCross_0 12 rfl rfl)
theorem dX2_isCross_13 : decode cX2_isCross 13 = .ok (.istore 4, 2) := dk_54 4 (dk_at dksX2_isCross_0 13 rfl rfl)
theorem dX2_isCross_15 : decode cX2_isCross 15 = .ok (.iload_n 3, 1) := dk_29 (dk_at dksX2_isCross_0 15 rfl rfl)
theorem dX2_isCross_16 : decode cX2_isCross 16 = .ok (.iload 4, 2) := dk_21 4 (dk_at dksX2_isCross_0 16 rfl rfl)
theorem dX2_isCross_18 : decode cX2_isCross 18 = .ok (.if_icmp .ne 5, 3) := dk_160 0 5 (dk_at dksX2_isCross_0 18 rfl rfl)
theorem dX2_isCross_21 : decode cX2_isCross 21 = .ok (.iconst 0, 1) := dk_3 (dk_at dksX2_isCross_0 21 rfl rfl)
theorem dX2_isCross_22 : decode cX2_isCross 22 = .ok (.ireturn, 1) := dk_172 (dk_at dksX2_isCross_0 22 rfl rfl)
theorem dX2_isCross_23 : decode cX2_isCross 23 = .ok (.iload_n 1, 1) := dk_27 (dk_at dksX2_isCross_0 23 rfl rfl)
theorem dX2_isCross_24 : decode cX2_isCross 24 = .ok (.istore 5, 2) := dk_54 5 (dk_at dksX2_isCross_1 0 rfl rfl)
theorem dX2_isCross_26 : decode cX2_isCross 26 = .ok (.iload_n 2, 1) := dk_28 (dk_at dksX2_isCross_1 2 rfl rfl)
theorem dX2_isCross_27 : decode cX2_isCross 27 = .ok (.istore 6, 2) := dk_54 6 (dk_at dksX2_isCross_1 3 rfl rfl)
theorem dX2_isCross_29 : decode cX2_isCross 29 = .ok (.iload 5, 2) := dk_21 5 (dk_at dksX2_isCross_1 5 rfl rfl)
theorem dX2_isCross_31 : decode cX2_isCross 31 = .ok (.aload_n 0, 1) := dk_42 (dk_at dksX2_isCross_1 7 rfl rfl)
theorem dX2_isCross_32 : decode cX2_isCross 32 = .ok (.getfield 85, 3) := dk_180 0 85 (dk_at dksX2_isCross_1 8 rfl rfl)
theorem dX2_isCross_35 : decode cX2_isCross 35 = .ok (.iadd, 1) := dk_96 (dk_at dksX2_isCross_1 11 rfl rfl)
theorem dX2_isCross_36 : decode cX2_isCross 36 = .ok (.iconst 1, 1) := dk_4 (dk_at dksX2_isCross_1 12 rfl rfl)
theorem dX2_isCross_37 : decode cX2_isCross 37 = .ok (.isub, 1) := dk_100 (dk_at dksX2_isCross_1 13 rfl rfl)
theorem dX2_isCross_38 : decode cX2_isCross 38 = .ok (.aload_n 0, 1) := dk_42 (dk_at dksX2_isCross_1 14 rfl rfl)
theorem dX2_isCross_39 : decode cX2_isCross 39 = .ok (.getfield 85, 3) := dk_180 0 85 (dk_at dksX2_isCross_1 15 rfl rfl)
theorem dX2_isCross_42 : decode cX2_isCross 42 = .ok (.irem, 1) := dk_112 (dk_at dksX2_isCross_1 18 rfl rfl)
theorem dX2_isCross_43 : decode cX2_isCross 43 = .ok (.istore 5, 2) := dk_54 5 (dk_at dksX2_isCross_1 19 rfl rfl)
theorem dX2_isCross_45 : decode cX2_isCross 45 = .ok (.iload 6, 2) := dk_21 6 (dk_at dksX2_isCross_1 21 rfl rfl)
theorem dX2_isCross_47 : decode cX2_isCross 47 = .ok (.aload_n 0, 1) := dk_42 (dk_at dksX2_isCross_1 23 rfl rfl)
theorem dX2_isCross_48 : decode cX2_isCross 48 = .ok (.getfield 103, 3) := dk_180 0 103 (dk_at dksX2_isCross_2 0 rfl rfl)
theorem dX2_isCross_51 : decode cX2_isCross 51 = .ok (.iadd, 1) := dk_96 (dk_at dksX2_isCross_2 3 rfl rfl)
theorem dX2_isCross_52 : decode cX2_isCross 52 = .ok (.iconst 1, 1) := dk_4 (dk_at dksX2_isCross_2 4 rfl rfl)
theorem dX2_isCross_53 : decode cX2_isCross 53 = .ok (.isub, 1) := dk_100 (dk_at dksX2_isCross_2 5 rfl rfl)
theorem dX2_isCross_54 : decode cX2_isCross 54 = .ok (.aload_n 0, 1) := dk_42 (dk_at dksX2_isCross_2 6 rfl rfl)
theorem dX2_isCross_55 : decode cX2_isCross 55 = .ok (.getfield 103, 3) := dk_180 0 103 (dk_at dksX2_isCross_2 7 rfl rfl)
theorem dX2_isCross_58 : decode cX2_isCross 58 = .ok (.irem, 1) := dk_112 (dk_at dksX2_isCross_2 10 rfl rfl)
theorem dX2_isCross_59 : decode cX2_isCross 59 = .ok (.istore 6, 2) := dk_54 6 (dk_at dksX2_isCross_2 11 rfl rfl)
theorem dX2_isCross_61 : decode cX2_isCross 61 = .ok (.aload_n 0, 1) := dk_42 (dk_at dksX2_isCross_2 13 rfl rfl)
theorem dX2_isCross_62 : decode cX2_isCross 62 = .ok (.getfield 40, 3) := dk_180 0 40 (dk_at dksX2_isCross_2 14 rfl rfl)
theorem dX2_isCross_65 : decode cX2_isCross 65 = .ok (.iload 5, 2) := dk_21 5 (dk_at dksX2_isCross_2 17 rfl rfl)
theorem dX2_isCross_67 : decode cX2_isCross 67 = .ok (.iaload, 1) := dk_46 (dk_at dksX2_isCross_2 19 rfl rfl)
theorem dX2_isCross_68 : decode cX2_isCross 68 = .ok (.aload_n 0, 1) := dk_42 (dk_at dksX2_isCross_2 20 rfl rfl)
theorem dX2_isCross_69 : decode cX2_isCross 69 = .ok (.getfield 43, 3) := dk_180 0 43 (dk_at dksX2_isCross_2 21 rfl rfl)
theorem dX2_isCross_72 : decode cX2_isCross 72 = .ok (.iload 6, 2) := dk_21 6 (dk_at dksX2_isCross_3 0 rfl rfl)
theorem dX2_isCross_74 : decode cX2_isCross 74 = .ok (.iaload, 1) := dk_46 (dk_at dksX2_isCross_3 2 rfl rfl)
theorem dX2_isCross_75 : decode cX2_isCross 75 = .ok (.if_icmp .eq (-46), 3) := dk_159 255 210 (dk_at dksX2_isCross_3 3 rfl rfl)
theorem dX2_isCross_78 : decode cX2_isCross 78 = .ok (.aload_n 0, 1) := dk_42 (dk_at dksX2_isCross_3 6 rfl rfl)
theorem dX2_isCross_79 : decode cX2_isCross 79 = .ok (.getfield 40, 3) := dk_180 0 40 (dk_at dksX2_isCross_3 7 rfl rfl)
theorem dX2_isCross_82 : decode cX2_isCross 82 = .ok (.iload 5, 2) := dk_21 5 (dk_at dksX2_isCross_3 10 rfl rfl)
theorem dX2_isCross_84 : decode cX2_isCross 84 = .ok (.iaload, 1) := dk_46 (dk_at dksX2_isCross_3 12 rfl rfl)
theorem dX2_isCross_85 : decode cX2_isCross 85 = .ok (.iload 4, 2) := dk_21 4 (dk_at dksX2_isCross_3 13 rfl rfl)
theorem dX2_isCross_87 : decode cX2_isCross 87 = .ok (.if_icmp .ne 7, 3) := dk_160 0 7 (dk_at dksX2_isCross_3 15 rfl rfl)
theorem dX2_isCross_90 : decode cX2_isCross 90 = .ok (.iconst 1, 1) := dk_4 (dk_at dksX2_isCross_3 18 rfl rfl)
theorem dX2_isCross_91 : decode cX2_isCross 91 = .ok (.goto 4, 3) := dk_167 0 4 (dk_at dksX2_isCross_3 19 rfl rfl)
theorem dX2_isCross_94 : decode cX2_isCross 94 = .ok (.iconst 0, 1) := dk_3 (dk_at dksX2_isCross_3 22 rfl rfl)
theorem dX2_isCross_95 : decode cX2_isCross 95 = .ok (.ireturn, 1) := dk_172 (dk_at dksX2_isCross_3 23 rfl rfl)
abbrev cX2_turn : ByteArray := prog_9_method_45_code
def yX2_turn : MethodName := ⟨RX2, "turn", "(II)I"⟩
def dkwX2_turn_1 : List UInt8 := [154, 0, 6, 18, 54, 172, 42, 27, 182, 0, 91, 42, 27, 28, 182, 0, 199, 42, 182, 0, 129, 172]
abbrev dktX2_turn_1 : List UInt8 := dkwX2_turn_1 ++ []
def dkwX2_turn_0 : List UInt8 := [42, 27, 182, 0, 142, 154, 0, 6, 18, 145, 172, 28, 3, 42, 180, 0, 13, 27, 46, 4, 100, 184, 0, 50]
abbrev dktX2_turn_0 : List UInt8 := dkwX2_turn_0 ++ dktX2_turn_1
theorem dksX2_turn_0 : cX2_turn.data.toList.drop 0 = dktX2_turn_0 := by decide +kernel
theorem dksX2_turn_1 : cX2_turn.data.toList.drop 24 = dktX2_turn_1 := dk_seg dksX2_turn_0 24 rfl rfl
theorem dX2_turn_0 : decode cX2_turn 0 = .ok (.aload_n 0, 1) := dk_42 (dk_at dksX2_turn_0 0 rfl rfl)
theorem dX2_turn_1 : decode cX2_turn 1 = .ok (.iload_n 1, 1) := dk_27 (dk_at dksX2_turn_0 1 rfl rfl)
theorem dX2_turn_2 : decode cX2_turn 2 = .ok (.invokevirtual 142, 3) := dk_182 0 142 (dk_at dksX2_turn_0 2 rfl rfl)
theorem dX2_turn_5 : decode cX2_turn 5 = .ok (.ifCond .ne 6, 3) := dk_154 0 6 (dk_at dksX2_turn_0 5 rfl rfl)
theorem dX2_turn_8 : decode cX2_turn 8 = .ok (.ldc 145, 2) := dk_18 145 (dk_at dksX2_turn_0 8 rfl rfl)
theorem dX2_turn_10 : decode cX2_turn 10 = .ok (.ireturn, 1) := dk_172 (dk_at dksX2_turn_0 10 rfl rfl)
theorem dX2_turn_11 : decode cX2_turn 11 = .ok (.iload_n 2, 1) := dk_28 (dk_at dksX2_turn_0 11 rfl rfl)
theorem dX2_turn_12 : decode cX2_turn 12 = .ok (.iconst 0, 1) := dk_3 (dk_at dksX2_turn_0 12 rfl rfl)
theorem dX2_turn_13 : decode cX2_turn 13 = .ok (.aload_n 0, 1) := dk_42 (dk_at dksX2_turn_0 13 rfl rfl)
theorem dX2_turn_14 : decode cX2_turn 14 = .ok (.getfield 13, 3) := dk_180 0 13 (dk_at dksX2_turn_0 14 rfl rfl)
theorem dX2_turn_17 : decode cX2_turn 17 = .ok (.iload_n 1, 1) := dk_27 (dk_at dksX2_turn_0 17 rfl rfl)
theorem dX2_turn_18 : decode cX2_turn 18 = .ok (.iaload, 1) := dk_46 (dk_at dksX2_turn_0 18 rfl rfl)
theorem dX2_turn_19 : decode cX2_turn 19 = .ok (.iconst 1, 1) := dk_4 (dk_at dksX2_turn_0 19 rfl rfl)
theorem dX2_turn_20 : decode cX2_turn 20 = .ok (.isub, 1) := dk_100 (dk_at dksX2_turn_0 20 rfl rfl)
theorem dX2_turn_21 : decode cX2_turn 21 = .ok (.invokestatic 50, 3) := dk_184 0 50 (dk_at dksX2_turn_0 21 rfl rfl)
theorem dX2_turn_24 : decode cX2_turn 24 = .ok (.ifCond .ne 6, 3) := dk_154 0 6 (dk_at dksX2_turn_1 0 rfl rfl)
theorem dX2_turn_27 : decode cX2_turn 27 = .ok (.ldc 54, 2) := dk_18 54 (dk_at dksX2_turn_1 3 rfl rfl)
theorem dX2_turn_29 : decode cX2_turn 29 = .ok (.ireturn, 1) := dk_172 (dk_at dksX2_turn_1 5 rfl rfl)
theorem dX2_turn_30 : decode cX2_turn 30 = .ok (.aload_n 0, 1) := dk_42 (dk_at dksX2_turn_1 6 rfl rfl)
theorem dX2_turn_31 : decode cX2_turn 31 = .ok (.iload_n 1, 1) := dk_27 (dk_at dksX2_turn_1 7 rfl rfl)
theorem dX2_turn_32 : decode cX2_turn 32 = .ok (.invokevirtual 91, 3) := dk_182 0 91 (dk_at dksX2_turn_1 8 rfl rfl)
theorem dX2_turn_35 : decode cX2_turn 35 = .ok (.aload_n 0, 1) := dk_42 (dk_at dksX2_turn_1 11 rfl rfl)
theorem dX2_turn_36 : decode cX2_turn 36 = .ok (.iload_n 1, 1) := dk_27 (dk_at dksX2_turn_1 12 rfl rfl)
theorem dX2_turn_37 : decode cX2_turn 37 = .ok (.iload_n 2, 1) := dk_28 (dk_at dksX2_turn_1 13 rfl rfl)
theorem dX2_turn_38 : decode cX2_turn 38 = .ok (.invokevirtual 199, 3) := dk_182 0 199 (dk_at dksX2_turn_1 14 rfl rfl)
theorem dX2_turn_41 : decode cX2_turn 41 = .ok (.aload_n 0, 1) := dk_42 (dk_at dksX2_turn_1 17 rfl rfl)
theorem dX2_turn_42 : decode cX2_turn 42 = .ok (.invokevirtual 129, 3) := dk_182 0 129 (dk_at dksX2_turn_1 18 rfl rfl)
theorem dX2_turn_45 : decode cX2_turn 45 = .ok (.ireturn, 1) := dk_172 (dk_at dksX2_turn_1 21 rfl rfl)
abbrev cX2_put : ByteArray := prog_9_method_44_code
def yX2_put : MethodName := ⟨RX2, "put", "(II)V"⟩
def dkwX2_put_1 : List UInt8 := [29, 28, 96, 42, 180, 0, 85, 112, 46, 79, 132, 3, 1, 167, 255, 221, 177]
abbrev dktX2_put_1 : List UInt8 := dkwX2_put_1 ++ []
def dkwX2_put_0 : List UInt8 := [3, 62, 29, 42, 180, 0, 85, 162, 0, 33, 42, 180, 0, 16, 16, 20, 27, 104, 29, 96, 42, 180, 0, 40]
abbrev dktX2_put_0 : List UInt8 := dkwX2_put_0 ++ dktX2_put_1
theorem dksX2_put_0 : cX2_put.data.toList.drop 0 = dktX2_put_0 := by decide +kernel
theorem dksX2_put_1 : cX2_put.data.toList.drop 24 = dktX2_put_1 := dk_seg dksX2_put_0 24 rfl rfl
theorem dX2_put_0 : decode cX2_put 0 = .ok (.iconst 0, 1) := dk_3 (dk_at dksX2_put_0 0 rfl rfl)
theorem dX2_put_1 : decode cX2_put 1 = .ok (.istore_n 3, 1) := dk_62 (dk_at dksX2_put_0 1 rfl rfl)
theorem dX2_put_2 : decode cX2_put 2 = .ok (.iload_n 3, 1) := dk_29 (dk_at dksX2_put_0 2 rfl rfl)
theorem dX2_put_3 : decode cX2_put 3 = .ok (.aload_n 0, 1) := dk_42 (dk_at dksX2_put_0 3 rfl rfl)
theorem dX2_put_4 : decode cX2_put 4 = .ok (.getfield 85, 3) := dk_180 0 85 (dk_at dksX2_put_0 4 rfl rfl)
theorem dX2_put_7 : decode cX2_put 7 = .ok (.if_icmp .ge 33, 3) := dk_162 0 33 (dk_at dksX2_put_0 7 rfl rfl)
theorem dX2_put_10 : decode cX2_put 10 = .ok (.aload_n 0, 1) := dk_42 (dk_at dksX2_put_0 10 rfl rfl)
theorem dX2_put_11 : decode cX2_put 11 = .ok (.getfield 16, 3) := dk_180 0 16 (dk_at dksX2_put_0 11 rfl rfl)
theorem dX2_put_14 : decode cX2_put 14 = .ok (.bipush 20, 2) := dk_16 20 (dk_at dksX2_put_0 14 rfl rfl)
theorem dX2_put_16 : decode cX2_put 16 = .ok (.iload_n 1, 1) := dk_27 (dk_at dksX2_put_0 16 rfl rfl)
theorem dX2_put_17 : decode cX2_put 17 = .ok (.imul, 1) := dk_104 (dk_at dksX2_put_0 17 rfl rfl)
theorem dX2_put_18 : decode cX2_put 18 = .ok (.iload_n 3, 1) := dk_29 (dk_at dksX2_put_0 18 rfl rfl)
theorem dX2_put_19 : decode cX2_put 19 = .ok (.iadd, 1) := dk_96 (dk_at dksX2_put_0 19 rfl rfl)
theorem dX2_put_20 : decode cX2_put 20 = .ok (.aload_n 0, 1) := dk_42 (dk_at dksX2_put_0 20 rfl rfl)
theorem dX2_put_21 : decode cX2_put 21 = .ok (.getfield 40, 3) := dk_180 0 40 (dk_at dksX2_put_0 21 rfl rfl)
theorem dX2_put_24 : decode cX2_put 24 = .ok (.iload_n 3, 1) := dk_29 (dk_at dksX2_put_1 0 rfl rfl)
theorem dX2_put_25 : decode cX2_put 25 = .ok (.iload_n 2, 1) := dk_28 (dk_at dksX2_put_1 1 rfl rfl)
theorem dX2_put_26 : decode cX2_put 26 = .ok (.iadd, 1) := dk_96 (dk_at dksX2_put_1 2 rfl rfl)
theorem dX2_put_27 : decode cX2_put 27 = .ok (.aload_n 0, 1) := dk_42 (dk_at dksX2_put_1 3 rfl rfl)
theorem dX2_put_28 : decode cX2_put 28 = .ok (.getfield 85, 3) := dk_180 0 85 (dk_at dksX2_put_1 4 rfl rfl)
theorem dX2_put_31 : decode cX2_put 31 = .ok (.irem, 1) := dk_112 (dk_at dksX2_put_1 7 rfl rfl)
theorem dX2_put_32 : decode cX2_put 32 = .ok (.iaload, 1) := dk_46 (dk_at dksX2_put_1 8 rfl rfl)
theorem dX2_put_33 : decode cX2_put 33 = .ok (.iastore, 1) := dk_79 (dk_at dksX2_put_1 9 rfl rfl)
theorem dX2_put_34 : decode cX2_put 34 = .ok (.iinc 3 1, 3) := dk_132 3 1 (dk_at dksX2_put_1 10 rfl rfl)
theorem dX2_put_37 : decode cX2_put 37 = .ok (.goto (-35), 3) := dk_167 255 221 (dk_at dksX2_put_1 13 rfl rfl)
theorem dX2_put_40 : decode cX2_put 40 = .ok (.return_, 1) := dk_177 (dk_at dksX2_put_1 16 rfl rfl)
abbrev cX2_change : ByteArray := prog_9_method_46_code
def yX2_change : MethodName := ⟨RX2, "change", "(II)I"⟩
def dkwX2_change_4 : List UInt8 := [132, 3, 1, 167, 255, 228, 42, 27, 182, 0, 91, 42, 182, 0, 135, 172]
abbrev dktX2_change_4 : List UInt8 := dkwX2_change_4 ++ []
def dkwX2_change_3 : List UInt8 := [42, 180, 0, 85, 162, 0, 26, 42, 180, 0, 16, 16, 20, 27, 104, 29, 96, 42, 180, 0, 43, 29, 46, 79]
abbrev dktX2_change_3 : List UInt8 := dkwX2_change_3 ++ dktX2_change_4
def dkwX2_change_2 : List UInt8 := [154, 0, 7, 4, 167, 0, 4, 3, 28, 4, 160, 0, 7, 4, 167, 0, 4, 3, 182, 0, 107, 3, 62, 29]
abbrev dktX2_change_2 : List UInt8 := dkwX2_change_2 ++ dktX2_change_3
def dkwX2_change_1 : List UInt8 := [27, 182, 0, 91, 28, 5, 160, 0, 15, 42, 27, 42, 182, 0, 132, 182, 0, 199, 167, 0, 59, 42, 28]
abbrev dktX2_change_1 : List UInt8 := dkwX2_change_1 ++ dktX2_change_2
def dkwX2_change_0 : List UInt8 := [42, 27, 182, 0, 142, 154, 0, 6, 18, 145, 172, 28, 3, 5, 184, 0, 50, 154, 0, 6, 18, 54, 172, 42]
abbrev dktX2_change_0 : List UInt8 := dkwX2_change_0 ++ dktX2_change_1
theorem dksX2_change_0 : cX2_change.data.toList.drop 0 = dktX2_change_0 := by decide +kernel
theorem dksX2_change_1 : cX2_change.data.toList.drop 24 = dktX2_change_1 := dk_seg dksX2_change_0 24 rfl rfl
theorem dksX2_change_2 : cX2_change.data.toList.drop 47 = dktX2_change_2 := dk_seg dksX2_change_1 23 rfl rfl
theorem dksX2_change_3 : cX2_change.data.toList.drop 71 = dktX2_change_3 := dk_seg dksX2_change_2 24 rfl rfl
theorem dksX2_change_4 : cX2_change.data.toList.drop 95 = dktX2_change_4 := dk_seg dksX2_change_3 24 rfl rfl
theorem dX2_change_0 : decode cX2_change 0 = .ok (.aload_n 0, 1) := dk_42 (dk_at dksX2_change_0 0 rfl rfl)
theorem dX2_change_1 : decode cX2_change 1 = .ok (.iload_n 1, 1) := dk_27 (dk_at dksX2_change_0 1 rfl rfl)
theorem dX2_change_2 : decode cX2_change 2 = .ok (.invokevirtual 142, 3) := dk_182 0 142 (dk_at dksX2_change_0 2 rfl rfl)
theorem dX2_change_5 : decode cX2_change 5 = .ok (.ifCond .ne 6, 3) := dk_154 0 6 (dk_at dksX2_change_0 5 rfl rfl)
theorem dX2_change_8 : decode cX2_change 8 = .ok (.ldc 145, 2) := dk_18 145 (dk_at dksX2_change_0 8 rfl rfl)
theorem dX2_change_10 : decode cX2_change 10 = .ok (.ireturn, 1) := dk_172 (dk_at dksX2_change_0 10 rfl rfl)
theorem dX2_change_11 : decode cX2_change 11 = .ok (.iload_n 2, 1) := dk_28 (dk_at dksX2_change_0 11 rfl rfl)
theorem dX2_change_12 : decode cX2_change 12 = .ok (.iconst 0, 1) := dk_3 (dk_at dksX2_change_0 12 rfl rfl)
theorem dX2_change_13 : decode cX2_change 13 = .ok (.iconst 2, 1) := dk_5 (dk_at dksX2_change_0 13 rfl rfl)
theorem dX2_change_14 : decode cX2_change 14 = .ok (.invokestatic 50, 3) := dk_184 0 50 (dk_at dksX2_change_0 14 rfl rfl)
theorem dX2_change_17 : decode cX2_change 17 = .ok (.ifCond .ne 6, 3) := dk_154 0 6 (dk_at dksX2_change_0 17 rfl rfl)
theorem dX2_change_20 : decode cX2_change 20 = .ok (.ldc 54, 2) := dk_18 54 (dk_at dksX2_change_0 20 rfl rfl)
theorem dX2_change_22 : decode cX2_change 22 = .ok (.ireturn, 1) := dk_172 (dk_at dksX2_change_0 22 rfl rfl)
theorem dX2_change_23 : decode cX2_change 23 = .ok (.aload_n 0, 1) := dk_42 (dk_at dksX2_change_0 23 rfl rfl)
theorem dX2_change_24 : decode cX2_change 24 = .ok (.iload_n 1, 1) := dk_27 (dk_at dksX2_change_1 0 rfl rfl)
theorem dX2_change_25 : decode cX2_change 25 = .ok (.invokevirtual 91, 3) := dk_182 0 91 (dk_at dksX2_change_1 1 rfl rfl)
theorem dX2_change_28 : decode cX2_change 28 = .ok (.iload_n 2, 1) := dk_28 (dk_at dksX2_change_1 4 rfl rfl)
theorem dX2_change_29 : decode cX2_change 29 = .ok (.iconst 2, 1) := dk_5 (dk_at dksX2_change_1 5 rfl rfl)
theorem dX2_change_30 : decode cX2_change 30 = .ok (.if_icmp .ne 15, 3) := dk_160 0 15 (dk_at dksX2_change_1 6 rfl rfl)
theorem dX2_change_33 : decode cX2_change 33 = .ok (.aload_n 0, 1) := dk_42 (dk_at dksX2_change_1 9 rfl rfl)
theorem dX2_change_34 : decode cX2_change 34 = .ok (.iload_n 1, 1) := dk_27 (dk_at dksX2_change_1 10 rfl rfl)
theorem dX2_change_35 : decode cX2_change 35 = .ok (.aload_n 0, 1) := dk_42 (dk_at dksX2_change_1 11 rfl rfl)
theorem dX2_change_36 : decode cX2_change 36 = .ok (.invokevirtual 132, 3) := dk_182 0 132 (dk_at dksX2_change_1 12 rfl rfl)
theorem dX2_change_39 : decode cX2_change 39 = .ok (.invokevirtual 199, 3) := dk_182 0 199 (dk_at dksX2_change_1 15 rfl rfl)
theorem dX2_change_42 : decode cX2_change 42 = .ok (.goto 59, 3) := dk_167 0 59 (dk_at dksX2_change_1 18 rfl rfl)
theorem dX2_change_45 : decode cX2_change 45 = .ok (.aload_n 0, 1) := dk_42 (dk_at dksX2_change_1 21 rfl rfl)
theorem dX2_change_46 : decode cX2_change 46 = .ok (.iload_n 2, 1) := dk_28 (dk_at dksX2_change_1 22 rfl rfl)
theorem dX2_change_47 : decode cX2_change 47 = .ok (.ifCond .ne 7, 3) := dk_154 0 7 (dk_at dksX2_change_2 0 rfl rfl)
theorem dX2_change_50 : decode cX2_change 50 = .ok (.iconst 1, 1) := dk_4 (dk_at dksX2_change_2 3 rfl rfl)
theorem dX2_change_51 : decode cX2_change 51 = .ok (.goto 4, 3) := dk_167 0 4 (dk_at dksX2_change_2 4 rfl rfl)
theorem dX2_change_54 : decode cX2_change 54 = .ok (.iconst 0, 1) := dk_3 (dk_at dksX2_change_2 7 rfl rfl)
theorem dX2_change_55 : decode cX2_change 55 = .ok (.iload_n 2, 1) := dk_28 (dk_at dksX2_change_2 8 rfl rfl)
theorem dX2_change_56 : decode cX2_change 56 = .ok (.iconst 1, 1) := dk_4 (dk_at dksX2_change_2 9 rfl rfl)
theorem dX2_change_57 : decode cX2_change 57 = .ok (.if_icmp .ne 7, 3) := dk_160 0 7 (dk_at dksX2_change_2 10 rfl rfl)
theorem dX2_change_60 : decode cX2_change 60 = .ok (.iconst 1, 1) := dk_4 (dk_at dksX2_change_2 13 rfl rfl)
theorem dX2_change_61 : decode cX2_change 61 = .ok (.goto 4, 3) := dk_167 0 4 (dk_at dksX2_change_2 14 rfl rfl)
theorem dX2_change_64 : decode cX2_change 64 = .ok (.iconst 0, 1) := dk_3 (dk_at dksX2_change_2 17 rfl rfl)
theorem dX2_change_65 : decode cX2_change 65 = .ok (.invokevirtual 107, 3) := dk_182 0 107 (dk_at dksX2_change_2 18 rfl rfl)
theorem dX2_change_68 : decode cX2_change 68 = .ok (.iconst 0, 1) := dk_3 (dk_at dksX2_change_2 21 rfl rfl)
theorem dX2_change_69 : decode cX2_change 69 = .ok (.istore_n 3, 1) := dk_62 (dk_at dksX2_change_2 22 rfl rfl)
theorem dX2_change_70 : decode cX2_change 70 = .ok (.iload_n 3, 1) := dk_29 (dk_at dksX2_change_2 23 rfl rfl)
theorem dX2_change_71 : decode cX2_change 71 = .ok (.aload_n 0, 1) := dk_42 (dk_at dksX2_change_3 0 rfl rfl)
theorem dX2_change_72 : decode cX2_change 72 = .ok (.getfield 85, 3) := dk_180 0 85 (dk_at dksX2_change_3 1 rfl rfl)
theorem dX2_change_75 : decode cX2_change 75 = .ok (.if_icmp .ge 26, 3) := dk_162 0 26 (dk_at dksX2_change_3 4 rfl rfl)
theorem dX2_change_78 : decode cX2_change 78 = .ok (.aload_n 0, 1) := dk_42 (dk_at dksX2_change_3 7 rfl rfl)
theorem dX2_change_79 : decode cX2_change 79 = .ok (.getfield 16, 3) := dk_180 0 16 (dk_at dksX2_change_3 8 rfl rfl)
theorem dX2_change_82 : decode cX2_change 82 = .ok (.bipush 20, 2) := dk_16 20 (dk_at dksX2_change_3 11 rfl rfl)
theorem dX2_change_84 : decode cX2_change 84 = .ok (.iload_n 1, 1) := dk_27 (dk_at dksX2_change_3 13 rfl rfl)
theorem dX2_change_85 : decode cX2_change 85 = .ok (.imul, 1) := dk_104 (dk_at dksX2_change_3 14 rfl rfl)
theorem dX2_change_86 : decode cX2_change 86 = .ok (.iload_n 3, 1) := dk_29 (dk_at dksX2_change_3 15 rfl rfl)
theorem dX2_change_87 : decode cX2_change 87 = .ok (.iadd, 1) := dk_96 (dk_at dksX2_change_3 16 rfl rfl)
theorem dX2_change_88 : decode cX2_change 88 = .ok (.aload_n 0, 1) := dk_42 (dk_at dksX2_change_3 17 rfl rfl)
theorem dX2_change_89 : decode cX2_change 89 = .ok (.getfield 43, 3) := dk_180 0 43 (dk_at dksX2_change_3 18 rfl rfl)
theorem dX2_change_92 : decode cX2_change 92 = .ok (.iload_n 3, 1) := dk_29 (dk_at dksX2_change_3 21 rfl rfl)
theorem dX2_change_93 : decode cX2_change 93 = .ok (.iaload, 1) := dk_46 (dk_at dksX2_change_3 22 rfl rfl)
theorem dX2_change_94 : decode cX2_change 94 = .ok (.iastore, 1) := dk_79 (dk_at dksX2_change_3 23 rfl rfl)
theorem dX2_change_95 : decode cX2_change 95 = .ok (.iinc 3 1, 3) := dk_132 3 1 (dk_at dksX2_change_4 0 rfl rfl)
theorem dX2_change_98 : decode cX2_change 98 = .ok (.goto (-28), 3) := dk_167 255 228 (dk_at dksX2_change_4 3 rfl rfl)
theorem dX2_change_101 : decode cX2_change 101 = .ok (.aload_n 0, 1) := dk_42 (dk_at dksX2_change_4 6 rfl rfl)
theorem dX2_change_102 : decode cX2_change 102 = .ok (.iload_n 1, 1) := dk_27 (dk_at dksX2_change_4 7 rfl rfl)
theorem dX2_change_103 : decode cX2_change 103 = .ok (.invokevirtual 91, 3) := dk_182 0 91 (dk_at dksX2_change_4 8 rfl rfl)
theorem dX2_change_106 : decode cX2_change 106 = .ok (.aload_n 0, 1) := dk_42 (dk_at dksX2_change_4 11 rfl rfl)
theorem dX2_change_107 : decode cX2_change 107 = .ok (.invokevirtual 135, 3) := dk_182 0 135 (dk_at dksX2_change_4 12 rfl rfl)
theorem dX2_change_110 : decode cX2_change 110 = .ok (.ireturn, 1) := dk_172 (dk_at dksX2_change_4 15 rfl rfl)
abbrev cX2_join : ByteArray := prog_9_method_48_code
def yX2_join : MethodName := ⟨RX2, "join", "(II)I"⟩
def dkwX2_join_3 : List UInt8 := [182, 0, 82, 172]
abbrev dktX2_join_3 : List UInt8 := dkwX2_join_3 ++ []
def dkwX2_join_2 : List UInt8 := [160, 0, 6, 18, 59, 172, 42, 3, 181, 0, 60, 42, 27, 182, 0, 203, 42, 28, 182, 0, 203, 42]
abbrev dktX2_join_2 : List UInt8 := dkwX2_join_2 ++ dktX2_join_3
def dkwX2_join_1 : List UInt8 := [46, 42, 180, 0, 13, 28, 46, 96, 16, 20, 164, 0, 6, 18, 78, 172, 42, 180, 0, 75, 16, 6]
abbrev dktX2_join_1 : List UInt8 := dkwX2_join_1 ++ dktX2_join_2
def dkwX2_join_0 : List UInt8 := [42, 27, 182, 0, 142, 153, 0, 11, 42, 28, 182, 0, 142, 154, 0, 6, 18, 145, 172, 42, 180, 0, 13, 27]
abbrev dktX2_join_0 : List UInt8 := dkwX2_join_0 ++ dktX2_join_1
theorem dksX2_join_0 : cX2_join.data.toList.drop 0 = dktX2_join_0 := by decide +kernel
theorem dksX2_join_1 : cX2_join.data.toList.drop 24 = dktX2_join_1 := dk_seg dksX2_join_0 24 rfl rfl
theorem dksX2_join_2 : cX2_join.data.toList.drop 46 = dktX2_join_2 := dk_seg dksX2_join_1 22 rfl rfl
theorem dksX2_join_3 : cX2_join.data.toList.drop 68 = dktX2_join_3 := dk_seg dksX2_join_2 22 rfl rfl
theorem dX2_join_0 : decode cX2_join 0 = .ok (.aload_n 0, 1) := dk_42 (dk_at dksX2_join_0 0 rfl rfl)
theorem dX2_join_1 : decode cX2_join 1 = .ok (.iload_n 1, 1) := dk_27 (dk_at dksX2_join_0 1 rfl rfl)
theorem dX2_join_2 : decode cX2_join 2 = .ok (.invokevirtual 142, 3) := dk_182 0 142 (dk_at dksX2_join_0 2 rfl rfl)
theorem dX2_join_5 : decode cX2_join 5 = .ok (.ifCond .eq 11, 3) := dk_153 0 11 (dk_at dksX2_join_0 5 rfl rfl)
theorem dX2_join_8 : decode cX2_join 8 = .ok (.aload_n 0, 1) := dk_42 (dk_at dksX2_join_0 8 rfl rfl)
theorem dX2_join_9 : decode cX2_join 9 = .ok (.iload_n 2, 1) := dk_28 (dk_at dksX2_join_0 9 rfl rfl)
theorem dX2_join_10 : decode cX2_join 10 = .ok (.invokevirtual 142, 3) := dk_182 0 142 (dk_at dksX2_join_0 10 rfl rfl)
theorem dX2_join_13 : decode cX2_join 13 = .ok (.ifCond .ne 6, 3) := dk_154 0 6 (dk_at dksX2_join_0 13 rfl rfl)
theorem dX2_join_16 : decode cX2_join 16 = .ok (.ldc 145, 2) := dk_18 145 (dk_at dksX2_join_0 16 rfl rfl)
theorem dX2_join_18 : decode cX2_join 18 = .ok (.ireturn, 1) := dk_172 (dk_at dksX2_join_0 18 rfl rfl)
theorem dX2_join_19 : decode cX2_join 19 = .ok (.aload_n 0, 1) := dk_42 (dk_at dksX2_join_0 19 rfl rfl)
theorem dX2_join_20 : decode cX2_join 20 = .ok (.getfield 13, 3) := dk_180 0 13 (dk_at dksX2_join_0 20 rfl rfl)
theorem dX2_join_23 : decode cX2_join 23 = .ok (.iload_n 1, 1) := dk_27 (dk_at dksX2_join_0 23 rfl rfl)
theorem dX2_join_24 : decode cX2_join 24 = .ok (.iaload, 1) := dk_46 (dk_at dksX2_join_1 0 rfl rfl)
theorem dX2_join_25 : decode cX2_join 25 = .ok (.aload_n 0, 1) := dk_42 (dk_at dksX2_join_1 1 rfl rfl)
theorem dX2_join_26 : decode cX2_join 26 = .ok (.getfield 13, 3) := dk_180 0 13 (dk_at dksX2_join_1 2 rfl rfl)
theorem dX2_join_29 : decode cX2_join 29 = .ok (.iload_n 2, 1) := dk_28 (dk_at dksX2_join_1 5 rfl rfl)
theorem dX2_join_30 : decode cX2_join 30 = .ok (.iaload, 1) := dk_46 (dk_at dksX2_join_1 6 rfl rfl)
theorem dX2_join_31 : decode cX2_join 31 = .ok (.iadd, 1) := dk_96 (dk_at dksX2_join_1 7 rfl rfl)
theorem dX2_join_32 : decode cX2_join 32 = .ok (.bipush 20, 2) := dk_16 20 (dk_at dksX2_join_1 8 rfl rfl)
theorem dX2_join_34 : decode cX2_join 34 = .ok (.if_icmp .le 6, 3) := dk_164 0 6 (dk_at dksX2_join_1 10 rfl rfl)
theorem dX2_join_37 : decode cX2_join 37 = .ok (.ldc 78, 2) := dk_18 78 (dk_at dksX2_join_1 13 rfl rfl)
theorem dX2_join_39 : decode cX2_join 39 = .ok (.ireturn, 1) := dk_172 (dk_at dksX2_join_1 15 rfl rfl)
theorem dX2_join_40 : decode cX2_join 40 = .ok (.aload_n 0, 1) := dk_42 (dk_at dksX2_join_1 16 rfl rfl)
theorem dX2_join_41 : decode cX2_join 41 = .ok (.getfield 75, 3) := dk_180 0 75 (dk_at dksX2_join_1 17 rfl rfl)
theorem dX2_join_44 : decode cX2_join 44 = .ok (.bipush 6, 2) := dk_16 6 (dk_at dksX2_join_1 20 rfl rfl)
theorem dX2_join_46 : decode cX2_join 46 = .ok (.if_icmp .ne 6, 3) := dk_160 0 6 (dk_at dksX2_join_2 0 rfl rfl)
theorem dX2_join_49 : decode cX2_join 49 = .ok (.ldc 59, 2) := dk_18 59 (dk_at dksX2_join_2 3 rfl rfl)
theorem dX2_join_51 : decode cX2_join 51 = .ok (.ireturn, 1) := dk_172 (dk_at dksX2_join_2 5 rfl rfl)
theorem dX2_join_52 : decode cX2_join 52 = .ok (.aload_n 0, 1) := dk_42 (dk_at dksX2_join_2 6 rfl rfl)
theorem dX2_join_53 : decode cX2_join 53 = .ok (.iconst 0, 1) := dk_3 (dk_at dksX2_join_2 7 rfl rfl)
theorem dX2_join_54 : decode cX2_join 54 = .ok (.putfield 60, 3) := dk_181 0 60 (dk_at dksX2_join_2 8 rfl rfl)
theorem dX2_join_57 : decode cX2_join 57 = .ok (.aload_n 0, 1) := dk_42 (dk_at dksX2_join_2 11 rfl rfl)
theorem dX2_join_58 : decode cX2_join 58 = .ok (.iload_n 1, 1) := dk_27 (dk_at dksX2_join_2 12 rfl rfl)
theorem dX2_join_59 : decode cX2_join 59 = .ok (.invokevirtual 203, 3) := dk_182 0 203 (dk_at dksX2_join_2 13 rfl rfl)
theorem dX2_join_62 : decode cX2_join 62 = .ok (.aload_n 0, 1) := dk_42 (dk_at dksX2_join_2 16 rfl rfl)
theorem dX2_join_63 : decode cX2_join 63 = .ok (.iload_n 2, 1) := dk_28 (dk_at dksX2_join_2 17 rfl rfl)
theorem dX2_join_64 : decode cX2_join 64 = .ok (.invokevirtual 203, 3) := dk_182 0 203 (dk_at dksX2_join_2 18 rfl rfl)
theorem dX2_join_67 : decode cX2_join 67 = .ok (.aload_n 0, 1) := dk_42 (dk_at dksX2_join_2 21 rfl rfl)
theorem dX2_join_68 : decode cX2_join 68 = .ok (.invokevirtual 82, 3) := dk_182 0 82 (dk_at dksX2_join_3 0 rfl rfl)
theorem dX2_join_71 : decode cX2_join 71 = .ok (.ireturn, 1) := dk_172 (dk_at dksX2_join_3 3 rfl rfl)
abbrev cX2_addRoad : ByteArray := prog_9_method_47_code
def yX2_addRoad : MethodName := ⟨RX2, "addRoad", "(I)V"⟩
def dkwX2_addRoad_2 : List UInt8 := [177]
abbrev dktX2_addRoad_2 : List UInt8 := dkwX2_addRoad_2 ++ []
def dkwX2_addRoad_1 : List UInt8 := [16, 20, 27, 104, 28, 96, 46, 79, 42, 89, 180, 0, 60, 4, 96, 181, 0, 60, 132, 2, 1, 167, 255, 213]
abbrev dktX2_addRoad_1 : List UInt8 := dkwX2_addRoad_1 ++ dktX2_addRoad_2
def dkwX2_addRoad_0 : List UInt8 := [3, 61, 28, 42, 180, 0, 13, 27, 46, 162, 0, 39, 42, 180, 0, 37, 42, 180, 0, 60, 42, 180, 0, 16]
abbrev dktX2_addRoad_0 : List UInt8 := dkwX2_addRoad_0 ++ dktX2_addRoad_1
theorem dksX2_addRoad_0 : cX2_addRoad.data.toList.drop 0 = dktX2_addRoad_0 := by decide +kernel
theorem dksX2_addRoad_1 : cX2_addRoad.data.toList.drop 24 = dktX2_addRoad_1 := dk_seg dksX2_addRoad_0 24 rfl rfl
theorem dksX2_addRoad_2 : cX2_addRoad.data.toList.drop 48 = dktX2_addRoad_2 := dk_seg dksX2_addRoad_1 24 rfl rfl
theorem dX2_addRoad_0 : decode cX2_addRoad 0 = .ok (.iconst 0, 1) := dk_3 (dk_at dksX2_addRoad_0 0 rfl rfl)
theorem dX2_addRoad_1 : decode cX2_addRoad 1 = .ok (.istore_n 2, 1) := dk_61 (dk_at dksX2_addRoad_0 1 rfl rfl)
theorem dX2_addRoad_2 : decode cX2_addRoad 2 = .ok (.iload_n 2, 1) := dk_28 (dk_at dksX2_addRoad_0 2 rfl rfl)
theorem dX2_addRoad_3 : decode cX2_addRoad 3 = .ok (.aload_n 0, 1) := dk_42 (dk_at dksX2_addRoad_0 3 rfl rfl)
theorem dX2_addRoad_4 : decode cX2_addRoad 4 = .ok (.getfield 13, 3) := dk_180 0 13 (dk_at dksX2_addRoad_0 4 rfl rfl)
theorem dX2_addRoad_7 : decode cX2_addRoad 7 = .ok (.iload_n 1, 1) := dk_27 (dk_at dksX2_addRoad_0 7 rfl rfl)
theorem dX2_addRoad_8 : decode cX2_addRoad 8 = .ok (.iaload, 1) := dk_46 (dk_at dksX2_addRoad_0 8 rfl rfl)
theorem dX2_addRoad_9 : decode cX2_addRoad 9 = .ok (.if_icmp .ge 39, 3) := dk_162 0 39 (dk_at dksX2_addRoad_0 9 rfl rfl)
theorem dX2_addRoad_12 : decode cX2_addRoad 12 = .ok (.aload_n 0, 1) := dk_42 (dk_at dksX2_addRoad_0 12 rfl rfl)
theorem dX2_addRoad_13 : decode cX2_addRoad 13 = .ok (.getfield 37, 3) := dk_180 0 37 (dk_at dksX2_addRoad_0 13 rfl rfl)
theorem dX2_addRoad_16 : decode cX2_addRoad 16 = .ok (.aload_n 0, 1) := dk_42 (dk_at dksX2_addRoad_0 16 rfl rfl)
theorem dX2_addRoad_17 : decode cX2_addRoad 17 = .ok (.getfield 60, 3) := dk_180 0 60 (dk_at dksX2_addRoad_0 17 rfl rfl)
theorem dX2_addRoad_20 : decode cX2_addRoad 20 = .ok (.aload_n 0, 1) := dk_42 (dk_at dksX2_addRoad_0 20 rfl rfl)
theorem dX2_addRoad_21 : decode cX2_addRoad 21 = .ok (.getfield 16, 3) := dk_180 0 16 (dk_at dksX2_addRoad_0 21 rfl rfl)
theorem dX2_addRoad_24 : decode cX2_addRoad 24 = .ok (.bipush 20, 2) := dk_16 20 (dk_at dksX2_addRoad_1 0 rfl rfl)
theorem dX2_addRoad_26 : decode cX2_addRoad 26 = .ok (.iload_n 1, 1) := dk_27 (dk_at dksX2_addRoad_1 2 rfl rfl)
theorem dX2_addRoad_27 : decode cX2_addRoad 27 = .ok (.imul, 1) := dk_104 (dk_at dksX2_addRoad_1 3 rfl rfl)
theorem dX2_addRoad_28 : decode cX2_addRoad 28 = .ok (.iload_n 2, 1) := dk_28 (dk_at dksX2_addRoad_1 4 rfl rfl)
theorem dX2_addRoad_29 : decode cX2_addRoad 29 = .ok (.iadd, 1) := dk_96 (dk_at dksX2_addRoad_1 5 rfl rfl)
theorem dX2_addRoad_30 : decode cX2_addRoad 30 = .ok (.iaload, 1) := dk_46 (dk_at dksX2_addRoad_1 6 rfl rfl)
theorem dX2_addRoad_31 : decode cX2_addRoad 31 = .ok (.iastore, 1) := dk_79 (dk_at dksX2_addRoad_1 7 rfl rfl)
theorem dX2_addRoad_32 : decode cX2_addRoad 32 = .ok (.aload_n 0, 1) := dk_42 (dk_at dksX2_addRoad_1 8 rfl rfl)
theorem dX2_addRoad_33 : decode cX2_addRoad 33 = .ok (.dup, 1) := dk_89 (dk_at dksX2_addRoad_1 9 rfl rfl)
theorem dX2_addRoad_34 : decode cX2_addRoad 34 = .ok (.getfield 60, 3) := dk_180 0 60 (dk_at dksX2_addRoad_1 10 rfl rfl)
theorem dX2_addRoad_37 : decode cX2_addRoad 37 = .ok (.iconst 1, 1) := dk_4 (dk_at dksX2_addRoad_1 13 rfl rfl)
theorem dX2_addRoad_38 : decode cX2_addRoad 38 = .ok (.iadd, 1) := dk_96 (dk_at dksX2_addRoad_1 14 rfl rfl)
theorem dX2_addRoad_39 : decode cX2_addRoad 39 = .ok (.putfield 60, 3) := dk_181 0 60 (dk_at dksX2_addRoad_1 15 rfl rfl)
theorem dX2_addRoad_42 : decode cX2_addRoad 42 = .ok (.iinc 2 1, 3) := dk_132 2 1 (dk_at dksX2_addRoad_1 18 rfl rfl)
theorem dX2_addRoad_45 : decode cX2_addRoad 45 = .ok (.goto (-43), 3) := dk_167 255 213 (dk_at dksX2_addRoad_1 21 rfl rfl)
theorem dX2_addRoad_48 : decode cX2_addRoad 48 = .ok (.return_, 1) := dk_177 (dk_at dksX2_addRoad_2 0 rfl rfl)
abbrev cX2_times : ByteArray := prog_9_method_49_code
def yX2_times : MethodName := ⟨RX2, "times", "(II)I"⟩
def dkwX2_times_3 : List UInt8 := [167, 255, 243, 42, 182, 0, 82, 172]
abbrev dktX2_times_3 : List UInt8 := dkwX2_times_3 ++ []
def dkwX2_times_2 : List UInt8 := [18, 59, 172, 42, 3, 181, 0, 60, 3, 62, 29, 28, 162, 0, 14, 42, 27, 182, 0, 203, 132, 3, 1]
abbrev dktX2_times_2 : List UInt8 := dkwX2_times_2 ++ dktX2_times_3
def dkwX2_times_1 : List UInt8 := [42, 180, 0, 13, 27, 46, 104, 16, 20, 164, 0, 6, 18, 78, 172, 42, 180, 0, 75, 16, 6, 160, 0, 6]
abbrev dktX2_times_1 : List UInt8 := dkwX2_times_1 ++ dktX2_times_2
def dkwX2_times_0 : List UInt8 := [42, 27, 182, 0, 142, 154, 0, 6, 18, 145, 172, 28, 5, 8, 184, 0, 50, 154, 0, 6, 18, 54, 172, 28]
abbrev dktX2_times_0 : List UInt8 := dkwX2_times_0 ++ dktX2_times_1
theorem dksX2_times_0 : cX2_times.data.toList.drop 0 = dktX2_times_0 := by decide +kernel
theorem dksX2_times_1 : cX2_times.data.toList.drop 24 = dktX2_times_1 := dk_seg dksX2_times_0 24 rfl rfl
theorem dksX2_times_2 : cX2_times.data.toList.drop 48 = dktX2_times_2 := dk_seg dksX2_times_1 24 rfl rfl
theorem dksX2_times_3 : cX2_times.data.toList.drop 71 = dktX2_times_3 := dk_seg dksX2_times_2 23 rfl rfl
theorem dX2_times_0 : decode cX2_times 0 = .ok (.aload_n 0, 1) := dk_42 (dk_at dksX2_times_0 0 rfl rfl)
theorem dX2_times_1 : decode cX2_times 1 = .ok (.iload_n 1, 1) := dk_27 (dk_at dksX2_times_0 1 rfl rfl)
theorem dX2_times_2 : decode cX2_times 2 = .ok (.invokevirtual 142, 3) := dk_182 0 142 (dk_at dksX2_times_0 2 rfl rfl)
theorem dX2_times_5 : decode cX2_times 5 = .ok (.ifCond .ne 6, 3) := dk_154 0 6 (dk_at dksX2_times_0 5 rfl rfl)
theorem dX2_times_8 : decode cX2_times 8 = .ok (.ldc 145, 2) := dk_18 145 (dk_at dksX2_times_0 8 rfl rfl)
theorem dX2_times_10 : decode cX2_times 10 = .ok (.ireturn, 1) := dk_172 (dk_at dksX2_times_0 10 rfl rfl)
theorem dX2_times_11 : decode cX2_times 11 = .ok (.iload_n 2, 1) := dk_28 (dk_at dksX2_times_0 11 rfl rfl)
theorem dX2_times_12 : decode cX2_times 12 = .ok (.iconst 2, 1) := dk_5 (dk_at dksX2_times_0 12 rfl rfl)
theorem dX2_times_13 : decode cX2_times 13 = .ok (.iconst 5, 1) := dk_8 (dk_at dksX2_times_0 13 rfl rfl)
theorem dX2_times_14 : decode cX2_times 14 = .ok (.invokestatic 50, 3) := dk_184 0 50 (dk_at dksX2_times_0 14 rfl rfl)
theorem dX2_times_17 : decode cX2_times 17 = .ok (.ifCond .ne 6, 3) := dk_154 0 6 (dk_at dksX2_times_0 17 rfl rfl)
theorem dX2_times_20 : decode cX2_times 20 = .ok (.ldc 54, 2) := dk_18 54 (dk_at dksX2_times_0 20 rfl rfl)
theorem dX2_times_22 : decode cX2_times 22 = .ok (.ireturn, 1) := dk_172 (dk_at dksX2_times_0 22 rfl rfl)
theorem dX2_times_23 : decode cX2_times 23 = .ok (.iload_n 2, 1) := dk_28 (dk_at dksX2_times_0 23 rfl rfl)
theorem dX2_times_24 : decode cX2_times 24 = .ok (.aload_n 0, 1) := dk_42 (dk_at dksX2_times_1 0 rfl rfl)
theorem dX2_times_25 : decode cX2_times 25 = .ok (.getfield 13, 3) := dk_180 0 13 (dk_at dksX2_times_1 1 rfl rfl)
theorem dX2_times_28 : decode cX2_times 28 = .ok (.iload_n 1, 1) := dk_27 (dk_at dksX2_times_1 4 rfl rfl)
theorem dX2_times_29 : decode cX2_times 29 = .ok (.iaload, 1) := dk_46 (dk_at dksX2_times_1 5 rfl rfl)
theorem dX2_times_30 : decode cX2_times 30 = .ok (.imul, 1) := dk_104 (dk_at dksX2_times_1 6 rfl rfl)
theorem dX2_times_31 : decode cX2_times 31 = .ok (.bipush 20, 2) := dk_16 20 (dk_at dksX2_times_1 7 rfl rfl)
theorem dX2_times_33 : decode cX2_times 33 = .ok (.if_icmp .le 6, 3) := dk_164 0 6 (dk_at dksX2_times_1 9 rfl rfl)
theorem dX2_times_36 : decode cX2_times 36 = .ok (.ldc 78, 2) := dk_18 78 (dk_at dksX2_times_1 12 rfl rfl)
theorem dX2_times_38 : decode cX2_times 38 = .ok (.ireturn, 1) := dk_172 (dk_at dksX2_times_1 14 rfl rfl)
theorem dX2_times_39 : decode cX2_times 39 = .ok (.aload_n 0, 1) := dk_42 (dk_at dksX2_times_1 15 rfl rfl)
theorem dX2_times_40 : decode cX2_times 40 = .ok (.getfield 75, 3) := dk_180 0 75 (dk_at dksX2_times_1 16 rfl rfl)
theorem dX2_times_43 : decode cX2_times 43 = .ok (.bipush 6, 2) := dk_16 6 (dk_at dksX2_times_1 19 rfl rfl)
theorem dX2_times_45 : decode cX2_times 45 = .ok (.if_icmp .ne 6, 3) := dk_160 0 6 (dk_at dksX2_times_1 21 rfl rfl)
theorem dX2_times_48 : decode cX2_times 48 = .ok (.ldc 59, 2) := dk_18 59 (dk_at dksX2_times_2 0 rfl rfl)
theorem dX2_times_50 : decode cX2_times 50 = .ok (.ireturn, 1) := dk_172 (dk_at dksX2_times_2 2 rfl rfl)
theorem dX2_times_51 : decode cX2_times 51 = .ok (.aload_n 0, 1) := dk_42 (dk_at dksX2_times_2 3 rfl rfl)
theorem dX2_times_52 : decode cX2_times 52 = .ok (.iconst 0, 1) := dk_3 (dk_at dksX2_times_2 4 rfl rfl)
theorem dX2_times_53 : decode cX2_times 53 = .ok (.putfield 60, 3) := dk_181 0 60 (dk_at dksX2_times_2 5 rfl rfl)
theorem dX2_times_56 : decode cX2_times 56 = .ok (.iconst 0, 1) := dk_3 (dk_at dksX2_times_2 8 rfl rfl)
theorem dX2_times_57 : decode cX2_times 57 = .ok (.istore_n 3, 1) := dk_62 (dk_at dksX2_times_2 9 rfl rfl)
theorem dX2_times_58 : decode cX2_times 58 = .ok (.iload_n 3, 1) := dk_29 (dk_at dksX2_times_2 10 rfl rfl)
theorem dX2_times_59 : decode cX2_times 59 = .ok (.iload_n 2, 1) := dk_28 (dk_at dksX2_times_2 11 rfl rfl)
theorem dX2_times_60 : decode cX2_times 60 = .ok (.if_icmp .ge 14, 3) := dk_162 0 14 (dk_at dksX2_times_2 12 rfl rfl)
theorem dX2_times_63 : decode cX2_times 63 = .ok (.aload_n 0, 1) := dk_42 (dk_at dksX2_times_2 15 rfl rfl)
theorem dX2_times_64 : decode cX2_times 64 = .ok (.iload_n 1, 1) := dk_27 (dk_at dksX2_times_2 16 rfl rfl)
theorem dX2_times_65 : decode cX2_times 65 = .ok (.invokevirtual 203, 3) := dk_182 0 203 (dk_at dksX2_times_2 17 rfl rfl)
theorem dX2_times_68 : decode cX2_times 68 = .ok (.iinc 3 1, 3) := dk_132 3 1 (dk_at dksX2_times_2 20 rfl rfl)
theorem dX2_times_71 : decode cX2_times 71 = .ok (.goto (-13), 3) := dk_167 255 243 (dk_at dksX2_times_3 0 rfl rfl)
theorem dX2_times_74 : decode cX2_times 74 = .ok (.aload_n 0, 1) := dk_42 (dk_at dksX2_times_3 3 rfl rfl)
theorem dX2_times_75 : decode cX2_times 75 = .ok (.invokevirtual 82, 3) := dk_182 0 82 (dk_at dksX2_times_3 4 rfl rfl)
theorem dX2_times_78 : decode cX2_times 78 = .ok (.ireturn, 1) := dk_172 (dk_at dksX2_times_3 7 rfl rfl)
abbrev cX2_cut : ByteArray := prog_9_method_51_code
def yX2_cut : MethodName := ⟨RX2, "cut", "(II)I"⟩
def dkwX2_cut_3 : List UInt8 := [172]
abbrev dktX2_cut_3 : List UInt8 := dkwX2_cut_3 ++ []
def dkwX2_cut_2 : List UInt8 := [164, 0, 6, 18, 78, 172, 42, 180, 0, 75, 16, 6, 160, 0, 8, 18, 59, 167, 0, 7, 42, 182, 0, 82]
abbrev dktX2_cut_2 : List UInt8 := dkwX2_cut_2 ++ dktX2_cut_3
def dkwX2_cut_1 : List UInt8 := [184, 0, 155, 4, 163, 0, 8, 27, 28, 160, 0, 6, 18, 54, 172, 42, 27, 28, 182, 0, 206, 16, 20]
abbrev dktX2_cut_1 : List UInt8 := dkwX2_cut_1 ++ dktX2_cut_2
def dkwX2_cut_0 : List UInt8 := [27, 4, 16, 99, 184, 0, 50, 153, 0, 27, 28, 4, 16, 99, 184, 0, 50, 153, 0, 17, 27, 28]
abbrev dktX2_cut_0 : List UInt8 := dkwX2_cut_0 ++ dktX2_cut_1
theorem dksX2_cut_0 : cX2_cut.data.toList.drop 0 = dktX2_cut_0 := by decide +kernel
theorem dksX2_cut_1 : cX2_cut.data.toList.drop 22 = dktX2_cut_1 := dk_seg dksX2_cut_0 22 rfl rfl
theorem dksX2_cut_2 : cX2_cut.data.toList.drop 45 = dktX2_cut_2 := dk_seg dksX2_cut_1 23 rfl rfl
theorem dksX2_cut_3 : cX2_cut.data.toList.drop 69 = dktX2_cut_3 := dk_seg dksX2_cut_2 24 rfl rfl
theorem dX2_cut_0 : decode cX2_cut 0 = .ok (.iload_n 1, 1) := dk_27 (dk_at dksX2_cut_0 0 rfl rfl)
theorem dX2_cut_1 : decode cX2_cut 1 = .ok (.iconst 1, 1) := dk_4 (dk_at dksX2_cut_0 1 rfl rfl)
theorem dX2_cut_2 : decode cX2_cut 2 = .ok (.bipush 99, 2) := dk_16 99 (dk_at dksX2_cut_0 2 rfl rfl)
theorem dX2_cut_4 : decode cX2_cut 4 = .ok (.invokestatic 50, 3) := dk_184 0 50 (dk_at dksX2_cut_0 4 rfl rfl)
theorem dX2_cut_7 : decode cX2_cut 7 = .ok (.ifCond .eq 27, 3) := dk_153 0 27 (dk_at dksX2_cut_0 7 rfl rfl)
theorem dX2_cut_10 : decode cX2_cut 10 = .ok (.iload_n 2, 1) := dk_28 (dk_at dksX2_cut_0 10 rfl rfl)
theorem dX2_cut_11 : decode cX2_cut 11 = .ok (.iconst 1, 1) := dk_4 (dk_at dksX2_cut_0 11 rfl rfl)
theorem dX2_cut_12 : decode cX2_cut 12 = .ok (.bipush 99, 2) := dk_16 99 (dk_at dksX2_cut_0 12 rfl rfl)
theorem dX2_cut_14 : decode cX2_cut 14 = .ok (.invokestatic 50, 3) := dk_184 0 50 (dk_at dksX2_cut_0 14 rfl rfl)
theorem dX2_cut_17 : decode cX2_cut 17 = .ok (.ifCond .eq 17, 3) := dk_153 0 17 (dk_at dksX2_cut_0 17 rfl rfl)
theorem dX2_cut_20 : decode cX2_cut 20 = .ok (.iload_n 1, 1) := dk_27 (dk_at dksX2_cut_0 20 rfl rfl)
theorem dX2_cut_21 : decode cX2_cut 21 = .ok (.iload_n 2, 1) := dk_28 (dk_at dksX2_cut_0 21 rfl rfl)
theorem dX2_cut_22 : decode cX2_cut 22 = .ok (.invokestatic 155, 3) := dk_184 0 155 (dk_at dksX2_cut_1 0 rfl rfl)
theorem dX2_cut_25 : decode cX2_cut 25 = .ok (.iconst 1, 1) := dk_4 (dk_at dksX2_cut_1 3 rfl rfl)
theorem dX2_cut_26 : decode cX2_cut 26 = .ok (.if_icmp .gt 8, 3) := dk_163 0 8 (dk_at dksX2_cut_1 4 rfl rfl)
theorem dX2_cut_29 : decode cX2_cut 29 = .ok (.iload_n 1, 1) := dk_27 (dk_at dksX2_cut_1 7 rfl rfl)
theorem dX2_cut_30 : decode cX2_cut 30 = .ok (.iload_n 2, 1) := dk_28 (dk_at dksX2_cut_1 8 rfl rfl)
theorem dX2_cut_31 : decode cX2_cut 31 = .ok (.if_icmp .ne 6, 3) := dk_160 0 6 (dk_at dksX2_cut_1 9 rfl rfl)
theorem dX2_cut_34 : decode cX2_cut 34 = .ok (.ldc 54, 2) := dk_18 54 (dk_at dksX2_cut_1 12 rfl rfl)
theorem dX2_cut_36 : decode cX2_cut 36 = .ok (.ireturn, 1) := dk_172 (dk_at dksX2_cut_1 14 rfl rfl)
theorem dX2_cut_37 : decode cX2_cut 37 = .ok (.aload_n 0, 1) := dk_42 (dk_at dksX2_cut_1 15 rfl rfl)
theorem dX2_cut_38 : decode cX2_cut 38 = .ok (.iload_n 1, 1) := dk_27 (dk_at dksX2_cut_1 16 rfl rfl)
theorem dX2_cut_39 : decode cX2_cut 39 = .ok (.iload_n 2, 1) := dk_28 (dk_at dksX2_cut_1 17 rfl rfl)
theorem dX2_cut_40 : decode cX2_cut 40 = .ok (.invokevirtual 206, 3) := dk_182 0 206 (dk_at dksX2_cut_1 18 rfl rfl)
theorem dX2_cut_43 : decode cX2_cut 43 = .ok (.bipush 20, 2) := dk_16 20 (dk_at dksX2_cut_1 21 rfl rfl)
theorem dX2_cut_45 : decode cX2_cut 45 = .ok (.if_icmp .le 6, 3) := dk_164 0 6 (dk_at dksX2_cut_2 0 rfl rfl)
theorem dX2_cut_48 : decode cX2_cut 48 = .ok (.ldc 78, 2) := dk_18 78 (dk_at dksX2_cut_2 3 rfl rfl)
theorem dX2_cut_50 : decode cX2_cut 50 = .ok (.ireturn, 1) := dk_172 (dk_at dksX2_cut_2 5 rfl rfl)
theorem dX2_cut_51 : decode cX2_cut 51 = .ok (.aload_n 0, 1) := dk_42 (dk_at dksX2_cut_2 6 rfl rfl)
theorem dX2_cut_52 : decode cX2_cut 52 = .ok (.getfield 75, 3) := dk_180 0 75 (dk_at dksX2_cut_2 7 rfl rfl)
theorem dX2_cut_55 : decode cX2_cut 55 = .ok (.bipush 6, 2) := dk_16 6 (dk_at dksX2_cut_2 10 rfl rfl)
theorem dX2_cut_57 : decode cX2_cut 57 = .ok (.if_icmp .ne 8, 3) := dk_160 0 8 (dk_at dksX2_cut_2 12 rfl rfl)
theorem dX2_cut_60 : decode cX2_cut 60 = .ok (.ldc 59, 2) := dk_18 59 (dk_at dksX2_cut_2 15 rfl rfl)
theorem dX2_cut_62 : decode cX2_cut 62 = .ok (.goto 7, 3) := dk_167 0 7 (dk_at dksX2_cut_2 17 rfl rfl)
theorem dX2_cut_65 : decode cX2_cut 65 = .ok (.aload_n 0, 1) := dk_42 (dk_at dksX2_cut_2 20 rfl rfl)
theorem dX2_cut_66 : decode cX2_cut 66 = .ok (.invokevirtual 82, 3) := dk_182 0 82 (dk_at dksX2_cut_2 21 rfl rfl)
theorem dX2_cut_69 : decode cX2_cut 69 = .ok (.ireturn, 1) := dk_172 (dk_at dksX2_cut_3 0 rfl rfl)
abbrev cX2_layCut : ByteArray := prog_9_method_50_code
def yX2_layCut : MethodName := ⟨RX2, "layCut", "(II)I"⟩
def dkwX2_layCut_4 : List UInt8 := [167, 0, 4, 29, 100, 54, 4, 167, 255, 171, 21, 5, 172]
abbrev dktX2_layCut_4 : List UInt8 := dkwX2_layCut_4 ++ []
def dkwX2_layCut_3 : List UInt8 := [29, 21, 6, 153, 0, 8, 21, 4, 167, 0, 4, 3, 100, 62, 21, 4, 21, 6, 153, 0, 7, 3]
abbrev dktX2_layCut_3 : List UInt8 := dkwX2_layCut_3 ++ dktX2_layCut_4
def dkwX2_layCut_2 : List UInt8 := [21, 6, 153, 0, 7, 4, 167, 0, 4, 3, 79, 42, 89, 180, 0, 60, 4, 96, 181, 0, 60, 132, 5, 1]
abbrev dktX2_layCut_2 : List UInt8 := dkwX2_layCut_2 ++ dktX2_layCut_3
def dkwX2_layCut_1 : List UInt8 := [164, 0, 7, 4, 167, 0, 4, 3, 54, 6, 21, 5, 16, 20, 162, 0, 30, 42, 180, 0, 37, 21, 5]
abbrev dktX2_layCut_1 : List UInt8 := dkwX2_layCut_1 ++ dktX2_layCut_2
def dkwX2_layCut_0 : List UInt8 := [27, 62, 28, 54, 4, 3, 54, 5, 42, 3, 181, 0, 60, 29, 21, 4, 159, 0, 85, 29, 21, 4]
abbrev dktX2_layCut_0 : List UInt8 := dkwX2_layCut_0 ++ dktX2_layCut_1
theorem dksX2_layCut_0 : cX2_layCut.data.toList.drop 0 = dktX2_layCut_0 := by decide +kernel
theorem dksX2_layCut_1 : cX2_layCut.data.toList.drop 22 = dktX2_layCut_1 := dk_seg dksX2_layCut_0 22 rfl rfl
theorem dksX2_layCut_2 : cX2_layCut.data.toList.drop 45 = dktX2_layCut_2 := dk_seg dksX2_layCut_1 23 rfl rfl
theorem dksX2_layCut_3 : cX2_layCut.data.toList.drop 69 = dktX2_layCut_3 := dk_seg dksX2_layCut_2 24 rfl rfl
theorem dksX2_layCut_4 : cX2_layCut.data.toList.drop 91 = dktX2_layCut_4 := dk_seg dksX2_layCut_3 22 rfl rfl
theorem dX2_layCut_0 : decode cX2_layCut 0 = .ok (.iload_n 1, 1) := dk_27 (dk_at dksX2_layCut_0 0 rfl rfl)
theorem dX2_layCut_1 : decode cX2_layCut 1 = .ok (.istore_n 3, 1) := dk_62 (dk_at dksX2_layCut_0 1 rfl rfl)
theorem dX2_layCut_2 : decode cX2_layCut 2 = .ok (.iload_n 2, 1) := dk_28 (dk_at dksX2_layCut_0 2 rfl rfl)
theorem dX2_layCut_3 : decode cX2_layCut 3 = .ok (.istore 4, 2) := dk_54 4 (dk_at dksX2_layCut_0 3 rfl rfl)
theorem dX2_layCut_5 : decode cX2_layCut 5 = .ok (.iconst 0, 1) := dk_3 (dk_at dksX2_layCut_0 5 rfl rfl)
theorem dX2_layCut_6 : decode cX2_layCut 6 = .ok (.istore 5, 2) := dk_54 5 (dk_at dksX2_layCut_0 6 rfl rfl)
theorem dX2_layCut_8 : decode cX2_layCut 8 = .ok (.aload_n 0, 1) := dk_42 (dk_at dksX2_layCut_0 8 rfl rfl)
theorem dX2_layCut_9 : decode cX2_layCut 9 = .ok (.iconst 0, 1) := dk_3 (dk_at dksX2_layCut_0 9 rfl rfl)
theorem dX2_layCut_10 : decode cX2_layCut 10 = .ok (.putfield 60, 3) := dk_181 0 60 (dk_at dksX2_layCut_0 10 rfl rfl)
theorem dX2_layCut_13 : decode cX2_layCut 13 = .ok (.iload_n 3, 1) := dk_29 (dk_at dksX2_layCut_0 13 rfl rfl)
theorem dX2_layCut_14 : decode cX2_layCut 14 = .ok (.iload 4, 2) := dk_21 4 (dk_at dksX2_layCut_0 14 rfl rfl)
theorem dX2_layCut_16 : decode cX2_layCut 16 = .ok (.if_icmp .eq 85, 3) := dk_159 0 85 (dk_at dksX2_layCut_0 16 rfl rfl)
theorem dX2_layCut_19 : decode cX2_layCut 19 = .ok (.iload_n 3, 1) := dk_29 (dk_at dksX2_layCut_0 19 rfl rfl)
theorem dX2_layCut_20 : decode cX2_layCut 20 = .ok (.iload 4, 2) := dk_21 4 (dk_at dksX2_layCut_0 20 rfl rfl)
theorem dX2_layCut_22 : decode cX2_layCut 22 = .ok (.if_icmp .le 7, 3) := dk_164 0 7 (dk_at dksX2_layCut_1 0 rfl rfl)
theorem dX2_layCut_25 : decode cX2_layCut 25 = .ok (.iconst 1, 1) := dk_4 (dk_at dksX2_layCut_1 3 rfl rfl)
theorem dX2_layCut_26 : decode cX2_layCut 26 = .ok (.goto 4, 3) := dk_167 0 4 (dk_at dksX2_layCut_1 4 rfl rfl)
theorem dX2_layCut_29 : decode cX2_layCut 29 = .ok (.iconst 0, 1) := dk_3 (dk_at dksX2_layCut_1 7 rfl rfl)
theorem dX2_layCut_30 : decode cX2_layCut 30 = .ok (.istore 6, 2) := dk_54 6 (dk_at dksX2_layCut_1 8 rfl rfl)
theorem dX2_layCut_32 : decode cX2_layCut 32 = .ok (.iload 5, 2) := dk_21 5 (dk_at dksX2_layCut_1 10 rfl rfl)
theorem dX2_layCut_34 : decode cX2_layCut 34 = .ok (.bipush 20, 2) := dk_16 20 (dk_at dksX2_layCut_1 12 rfl rfl)
theorem dX2_layCut_36 : decode cX2_layCut 36 = .ok (.if_icmp .ge 30, 3) := dk_162 0 30 (dk_at dksX2_layCut_1 14 rfl rfl)
theorem dX2_layCut_39 : decode cX2_layCut 39 = .ok (.aload_n 0, 1) := dk_42 (dk_at dksX2_layCut_1 17 rfl rfl)
theorem dX2_layCut_40 : decode cX2_layCut 40 = .ok (.getfield 37, 3) := dk_180 0 37 (dk_at dksX2_layCut_1 18 rfl rfl)
theorem dX2_layCut_43 : decode cX2_layCut 43 = .ok (.iload 5, 2) := dk_21 5 (dk_at dksX2_layCut_1 21 rfl rfl)
theorem dX2_layCut_45 : decode cX2_layCut 45 = .ok (.iload 6, 2) := dk_21 6 (dk_at dksX2_layCut_2 0 rfl rfl)
theorem dX2_layCut_47 : decode cX2_layCut 47 = .ok (.ifCond .eq 7, 3) := dk_153 0 7 (dk_at dksX2_layCut_2 2 rfl rfl)
theorem dX2_layCut_50 : decode cX2_layCut 50 = .ok (.iconst 1, 1) := dk_4 (dk_at dksX2_layCut_2 5 rfl rfl)
theorem dX2_layCut_51 : decode cX2_layCut 51 = .ok (.goto 4, 3) := dk_167 0 4 (dk_at dksX2_layCut_2 6 rfl rfl)
theorem dX2_layCut_54 : decode cX2_layCut 54 = .ok (.iconst 0, 1) := dk_3 (dk_at dksX2_layCut_2 9 rfl rfl)
theorem dX2_layCut_55 : decode cX2_layCut 55 = .ok (.iastore, 1) := dk_79 (dk_at dksX2_layCut_2 10 rfl rfl)
theorem dX2_layCut_56 : decode cX2_layCut 56 = .ok (.aload_n 0, 1) := dk_42 (dk_at dksX2_layCut_2 11 rfl rfl)
theorem dX2_layCut_57 : decode cX2_layCut 57 = .ok (.dup, 1) := dk_89 (dk_at dksX2_layCut_2 12 rfl rfl)
theorem dX2_layCut_58 : decode cX2_layCut 58 = .ok (.getfield 60, 3) := dk_180 0 60 (dk_at dksX2_layCut_2 13 rfl rfl)
theorem dX2_layCut_61 : decode cX2_layCut 61 = .ok (.iconst 1, 1) := dk_4 (dk_at dksX2_layCut_2 16 rfl rfl)
theorem dX2_layCut_62 : decode cX2_layCut 62 = .ok (.iadd, 1) := dk_96 (dk_at dksX2_layCut_2 17 rfl rfl)
theorem dX2_layCut_63 : decode cX2_layCut 63 = .ok (.putfield 60, 3) := dk_181 0 60 (dk_at dksX2_layCut_2 18 rfl rfl)
theorem dX2_layCut_66 : decode cX2_layCut 66 = .ok (.iinc 5 1, 3) := dk_132 5 1 (dk_at dksX2_layCut_2 21 rfl rfl)
theorem dX2_layCut_69 : decode cX2_layCut 69 = .ok (.iload_n 3, 1) := dk_29 (dk_at dksX2_layCut_3 0 rfl rfl)
theorem dX2_layCut_70 : decode cX2_layCut 70 = .ok (.iload 6, 2) := dk_21 6 (dk_at dksX2_layCut_3 1 rfl rfl)
theorem dX2_layCut_72 : decode cX2_layCut 72 = .ok (.ifCond .eq 8, 3) := dk_153 0 8 (dk_at dksX2_layCut_3 3 rfl rfl)
theorem dX2_layCut_75 : decode cX2_layCut 75 = .ok (.iload 4, 2) := dk_21 4 (dk_at dksX2_layCut_3 6 rfl rfl)
theorem dX2_layCut_77 : decode cX2_layCut 77 = .ok (.goto 4, 3) := dk_167 0 4 (dk_at dksX2_layCut_3 8 rfl rfl)
theorem dX2_layCut_80 : decode cX2_layCut 80 = .ok (.iconst 0, 1) := dk_3 (dk_at dksX2_layCut_3 11 rfl rfl)
theorem dX2_layCut_81 : decode cX2_layCut 81 = .ok (.isub, 1) := dk_100 (dk_at dksX2_layCut_3 12 rfl rfl)
theorem dX2_layCut_82 : decode cX2_layCut 82 = .ok (.istore_n 3, 1) := dk_62 (dk_at dksX2_layCut_3 13 rfl rfl)
theorem dX2_layCut_83 : decode cX2_layCut 83 = .ok (.iload 4, 2) := dk_21 4 (dk_at dksX2_layCut_3 14 rfl rfl)
theorem dX2_layCut_85 : decode cX2_layCut 85 = .ok (.iload 6, 2) := dk_21 6 (dk_at dksX2_layCut_3 16 rfl rfl)
theorem dX2_layCut_87 : decode cX2_layCut 87 = .ok (.ifCond .eq 7, 3) := dk_153 0 7 (dk_at dksX2_layCut_3 18 rfl rfl)
theorem dX2_layCut_90 : decode cX2_layCut 90 = .ok (.iconst 0, 1) := dk_3 (dk_at dksX2_layCut_3 21 rfl rfl)
theorem dX2_layCut_91 : decode cX2_layCut 91 = .ok (.goto 4, 3) := dk_167 0 4 (dk_at dksX2_layCut_4 0 rfl rfl)
theorem dX2_layCut_94 : decode cX2_layCut 94 = .ok (.iload_n 3, 1) := dk_29 (dk_at dksX2_layCut_4 3 rfl rfl)
theorem dX2_layCut_95 : decode cX2_layCut 95 = .ok (.isub, 1) := dk_100 (dk_at dksX2_layCut_4 4 rfl rfl)
theorem dX2_layCut_96 : decode cX2_layCut 96 = .ok (.istore 4, 2) := dk_54 4 (dk_at dksX2_layCut_4 5 rfl rfl)
theorem dX2_layCut_98 : decode cX2_layCut 98 = .ok (.goto (-85), 3) := dk_167 255 171 (dk_at dksX2_layCut_4 7 rfl rfl)
theorem dX2_layCut_101 : decode cX2_layCut 101 = .ok (.iload 5, 2) := dk_21 5 (dk_at dksX2_layCut_4 10 rfl rfl)
theorem dX2_layCut_103 : decode cX2_layCut 103 = .ok (.ireturn, 1) := dk_172 (dk_at dksX2_layCut_4 12 rfl rfl)
abbrev cX2_drop : ByteArray := prog_9_method_52_code
def yX2_drop : MethodName := ⟨RX2, "drop", "()I"⟩
def dkwX2_drop_1 : List UInt8 := [172]
abbrev dktX2_drop_1 : List UInt8 := dkwX2_drop_1 ++ []
def dkwX2_drop_0 : List UInt8 := [42, 180, 0, 75, 154, 0, 6, 18, 78, 172, 42, 89, 180, 0, 75, 4, 100, 181, 0, 75, 42, 180, 0, 75]
abbrev dktX2_drop_0 : List UInt8 := dkwX2_drop_0 ++ dktX2_drop_1
theorem dksX2_drop_0 : cX2_drop.data.toList.drop 0 = dktX2_drop_0 := by decide +kernel
theorem dksX2_drop_1 : cX2_drop.data.toList.drop 24 = dktX2_drop_1 := dk_seg dksX2_drop_0 24 rfl rfl
theorem dX2_drop_0 : decode cX2_drop 0 = .ok (.aload_n 0, 1) := dk_42 (dk_at dksX2_drop_0 0 rfl rfl)
theorem dX2_drop_1 : decode cX2_drop 1 = .ok (.getfield 75, 3) := dk_180 0 75 (dk_at dksX2_drop_0 1 rfl rfl)
theorem dX2_drop_4 : decode cX2_drop 4 = .ok (.ifCond .ne 6, 3) := dk_154 0 6 (dk_at dksX2_drop_0 4 rfl rfl)
theorem dX2_drop_7 : decode cX2_drop 7 = .ok (.ldc 78, 2) := dk_18 78 (dk_at dksX2_drop_0 7 rfl rfl)
theorem dX2_drop_9 : decode cX2_drop 9 = .ok (.ireturn, 1) := dk_172 (dk_at dksX2_drop_0 9 rfl rfl)
theorem dX2_drop_10 : decode cX2_drop 10 = .ok (.aload_n 0, 1) := dk_42 (dk_at dksX2_drop_0 10 rfl rfl)
theorem dX2_drop_11 : decode cX2_drop 11 = .ok (.dup, 1) := dk_89 (dk_at dksX2_drop_0 11 rfl rfl)
theorem dX2_drop_12 : decode cX2_drop 12 = .ok (.getfield 75, 3) := dk_180 0 75 (dk_at dksX2_drop_0 12 rfl rfl)
theorem dX2_drop_15 : decode cX2_drop 15 = .ok (.iconst 1, 1) := dk_4 (dk_at dksX2_drop_0 15 rfl rfl)
theorem dX2_drop_16 : decode cX2_drop 16 = .ok (.isub, 1) := dk_100 (dk_at dksX2_drop_0 16 rfl rfl)
theorem dX2_drop_17 : decode cX2_drop 17 = .ok (.putfield 75, 3) := dk_181 0 75 (dk_at dksX2_drop_0 17 rfl rfl)
theorem dX2_drop_20 : decode cX2_drop 20 = .ok (.aload_n 0, 1) := dk_42 (dk_at dksX2_drop_0 20 rfl rfl)
theorem dX2_drop_21 : decode cX2_drop 21 = .ok (.getfield 75, 3) := dk_180 0 75 (dk_at dksX2_drop_0 21 rfl rfl)
theorem dX2_drop_24 : decode cX2_drop 24 = .ok (.ireturn, 1) := dk_172 (dk_at dksX2_drop_1 0 rfl rfl)
abbrev cX2_river : ByteArray := prog_9_method_60_code
def yX2_river : MethodName := ⟨RX2, "river", "(I)I"⟩
def dkwX2_river_3 : List UInt8 := [182, 0, 230, 132, 2, 1, 167, 255, 225, 42, 182, 0, 233, 42, 180, 0, 212, 172]
abbrev dktX2_river_3 : List UInt8 := dkwX2_river_3 ++ []
def dkwX2_river_2 : List UInt8 := [163, 0, 31, 28, 28, 104, 27, 162, 0, 18, 27, 28, 28, 104, 100, 7, 112, 154, 0, 8, 42, 28]
abbrev dktX2_river_2 : List UInt8 := dkwX2_river_2 ++ dktX2_river_3
def dkwX2_river_1 : List UInt8 := [153, 0, 6, 18, 54, 172, 42, 27, 181, 0, 209, 42, 3, 181, 0, 212, 16, 226, 61, 28, 16, 30]
abbrev dktX2_river_1 : List UInt8 := dkwX2_river_1 ++ dktX2_river_2
def dkwX2_river_0 : List UInt8 := [27, 8, 17, 3, 132, 184, 0, 50, 153, 0, 17, 27, 7, 112, 4, 163, 0, 10, 27, 184, 0, 227]
abbrev dktX2_river_0 : List UInt8 := dkwX2_river_0 ++ dktX2_river_1
theorem dksX2_river_0 : cX2_river.data.toList.drop 0 = dktX2_river_0 := by decide +kernel
theorem dksX2_river_1 : cX2_river.data.toList.drop 22 = dktX2_river_1 := dk_seg dksX2_river_0 22 rfl rfl
theorem dksX2_river_2 : cX2_river.data.toList.drop 44 = dktX2_river_2 := dk_seg dksX2_river_1 22 rfl rfl
theorem dksX2_river_3 : cX2_river.data.toList.drop 66 = dktX2_river_3 := dk_seg dksX2_river_2 22 rfl rfl
theorem dX2_river_0 : decode cX2_river 0 = .ok (.iload_n 1, 1) := dk_27 (dk_at dksX2_river_0 0 rfl rfl)
theorem dX2_river_1 : decode cX2_river 1 = .ok (.iconst 5, 1) := dk_8 (dk_at dksX2_river_0 1 rfl rfl)
theorem dX2_river_2 : decode cX2_river 2 = .ok (.sipush 900, 3) := dk_17 3 132 (dk_at dksX2_river_0 2 rfl rfl)
theorem dX2_river_5 : decode cX2_river 5 = .ok (.invokestatic 50, 3) := dk_184 0 50 (dk_at dksX2_river_0 5 rfl rfl)
theorem dX2_river_8 : decode cX2_river 8 = .ok (.ifCond .eq 17, 3) := dk_153 0 17 (dk_at dksX2_river_0 8 rfl rfl)
theorem dX2_river_11 : decode cX2_river 11 = .ok (.iload_n 1, 1) := dk_27 (dk_at dksX2_river_0 11 rfl rfl)
theorem dX2_river_12 : decode cX2_river 12 = .ok (.iconst 4, 1) := dk_7 (dk_at dksX2_river_0 12 rfl rfl)
theorem dX2_river_13 : decode cX2_river 13 = .ok (.irem, 1) := dk_112 (dk_at dksX2_river_0 13 rfl rfl)
theorem dX2_river_14 : decode cX2_river 14 = .ok (.iconst 1, 1) := dk_4 (dk_at dksX2_river_0 14 rfl rfl)
theorem dX2_river_15 : decode cX2_river 15 = .ok (.if_icmp .gt 10, 3) := dk_163 0 10 (dk_at dksX2_river_0 15 rfl rfl)
theorem dX2_river_18 : decode cX2_river 18 = .ok (.iload_n 1, 1) := dk_27 (dk_at dksX2_river_0 18 rfl rfl)
theorem dX2_river_19 : decode cX2_river 19 = .ok (.invokestatic 227, 3) := dk_184 0 227 (dk_at dksX2_river_0 19 rfl rfl)
theorem dX2_river_22 : decode cX2_river 22 = .ok (.ifCond .eq 6, 3) := dk_153 0 6 (dk_at dksX2_river_1 0 rfl rfl)
theorem dX2_river_25 : decode cX2_river 25 = .ok (.ldc 54, 2) := dk_18 54 (dk_at dksX2_river_1 3 rfl rfl)
theorem dX2_river_27 : decode cX2_river 27 = .ok (.ireturn, 1) := dk_172 (dk_at dksX2_river_1 5 rfl rfl)
theorem dX2_river_28 : decode cX2_river 28 = .ok (.aload_n 0, 1) := dk_42 (dk_at dksX2_river_1 6 rfl rfl)
theorem dX2_river_29 : decode cX2_river 29 = .ok (.iload_n 1, 1) := dk_27 (dk_at dksX2_river_1 7 rfl rfl)
theorem dX2_river_30 : decode cX2_river 30 = .ok (.putfield 209, 3) := dk_181 0 209 (dk_at dksX2_river_1 8 rfl rfl)
theorem dX2_river_33 : decode cX2_river 33 = .ok (.aload_n 0, 1) := dk_42 (dk_at dksX2_river_1 11 rfl rfl)
theorem dX2_river_34 : decode cX2_river 34 = .ok (.iconst 0, 1) := dk_3 (dk_at dksX2_river_1 12 rfl rfl)
theorem dX2_river_35 : decode cX2_river 35 = .ok (.putfield 212, 3) := dk_181 0 212 (dk_at dksX2_river_1 13 rfl rfl)
theorem dX2_river_38 : decode cX2_river 38 = .ok (.bipush (-30), 2) := dk_16 226 (dk_at dksX2_river_1 16 rfl rfl)
theorem dX2_river_40 : decode cX2_river 40 = .ok (.istore_n 2, 1) := dk_61 (dk_at dksX2_river_1 18 rfl rfl)
theorem dX2_river_41 : decode cX2_river 41 = .ok (.iload_n 2, 1) := dk_28 (dk_at dksX2_river_1 19 rfl rfl)
theorem dX2_river_42 : decode cX2_river 42 = .ok (.bipush 30, 2) := dk_16 30 (dk_at dksX2_river_1 20 rfl rfl)
theorem dX2_river_44 : decode cX2_river 44 = .ok (.if_icmp .gt 31, 3) := dk_163 0 31 (dk_at dksX2_river_2 0 rfl rfl)
theorem dX2_river_47 : decode cX2_river 47 = .ok (.iload_n 2, 1) := dk_28 (dk_at dksX2_river_2 3 rfl rfl)
theorem dX2_river_48 : decode cX2_river 48 = .ok (.iload_n 2, 1) := dk_28 (dk_at dksX2_river_2 4 rfl rfl)
theorem dX2_river_49 : decode cX2_river 49 = .ok (.imul, 1) := dk_104 (dk_at dksX2_river_2 5 rfl rfl)
theorem dX2_river_50 : decode cX2_river 50 = .ok (.iload_n 1, 1) := dk_27 (dk_at dksX2_river_2 6 rfl rfl)
theorem dX2_river_51 : decode cX2_river 51 = .ok (.if_icmp .ge 18, 3) := dk_162 0 18 (dk_at dksX2_river_2 7 rfl rfl)
theorem dX2_river_54 : decode cX2_river 54 = .ok (.iload_n 1, 1) := dk_27 (dk_at dksX2_river_2 10 rfl rfl)
theorem dX2_river_55 : decode cX2_river 55 = .ok (.iload_n 2, 1) := dk_28 (dk_at dksX2_river_2 11 rfl rfl)
theorem dX2_river_56 : decode cX2_river 56 = .ok (.iload_n 2, 1) := dk_28 (dk_at dksX2_river_2 12 rfl rfl)
theorem dX2_river_57 : decode cX2_river 57 = .ok (.imul, 1) := dk_104 (dk_at dksX2_river_2 13 rfl rfl)
theorem dX2_river_58 : decode cX2_river 58 = .ok (.isub, 1) := dk_100 (dk_at dksX2_river_2 14 rfl rfl)
theorem dX2_river_59 : decode cX2_river 59 = .ok (.iconst 4, 1) := dk_7 (dk_at dksX2_river_2 15 rfl rfl)
theorem dX2_river_60 : decode cX2_river 60 = .ok (.irem, 1) := dk_112 (dk_at dksX2_river_2 16 rfl rfl)
theorem dX2_river_61 : decode cX2_river 61 = .ok (.ifCond .ne 8, 3) := dk_154 0 8 (dk_at dksX2_river_2 17 rfl rfl)
theorem dX2_river_64 : decode cX2_river 64 = .ok (.aload_n 0, 1) := dk_42 (dk_at dksX2_river_2 20 rfl rfl)
theorem dX2_river_65 : decode cX2_river 65 = .ok (.iload_n 2, 1) := dk_28 (dk_at dksX2_river_2 21 rfl rfl)
theorem dX2_river_66 : decode cX2_river 66 = .ok (.invokevirtual 230, 3) := dk_182 0 230 (dk_at dksX2_river_3 0 rfl rfl)
theorem dX2_river_69 : decode cX2_river 69 = .ok (.iinc 2 1, 3) := dk_132 2 1 (dk_at dksX2_river_3 3 rfl rfl)
theorem dX2_river_72 : decode cX2_river 72 = .ok (.goto (-31), 3) := dk_167 255 225 (dk_at dksX2_river_3 6 rfl rfl)
theorem dX2_river_75 : decode cX2_river 75 = .ok (.aload_n 0, 1) := dk_42 (dk_at dksX2_river_3 9 rfl rfl)
theorem dX2_river_76 : decode cX2_river 76 = .ok (.invokevirtual 233, 3) := dk_182 0 233 (dk_at dksX2_river_3 10 rfl rfl)
theorem dX2_river_79 : decode cX2_river 79 = .ok (.aload_n 0, 1) := dk_42 (dk_at dksX2_river_3 13 rfl rfl)
theorem dX2_river_80 : decode cX2_river 80 = .ok (.getfield 212, 3) := dk_180 0 212 (dk_at dksX2_river_3 14 rfl rfl)
theorem dX2_river_83 : decode cX2_river 83 = .ok (.ireturn, 1) := dk_172 (dk_at dksX2_river_3 17 rfl rfl)
abbrev cX2_isSquare : ByteArray := prog_9_method_53_code
def yX2_isSquare : MethodName := ⟨RX2, "isSquare", "(I)Z"⟩
def dkwX2_isSquare_1 : List UInt8 := [167, 0, 4, 3, 172]
abbrev dktX2_isSquare_1 : List UInt8 := dkwX2_isSquare_1 ++ []
def dkwX2_isSquare_0 : List UInt8 := [3, 60, 27, 27, 104, 26, 162, 0, 9, 132, 1, 1, 167, 255, 246, 27, 27, 104, 26, 160, 0, 7, 4]
abbrev dktX2_isSquare_0 : List UInt8 := dkwX2_isSquare_0 ++ dktX2_isSquare_1
theorem dksX2_isSquare_0 : cX2_isSquare.data.toList.drop 0 = dktX2_isSquare_0 := by decide +kernel
theorem dksX2_isSquare_1 : cX2_isSquare.data.toList.drop 23 = dktX2_isSquare_1 := dk_seg dksX2_isSquare_0 23 rfl rfl
theorem dX2_isSquare_0 : decode cX2_isSquare 0 = .ok (.iconst 0, 1) := dk_3 (dk_at dksX2_isSquare_0 0 rfl rfl)
theorem dX2_isSquare_1 : decode cX2_isSquare 1 = .ok (.istore_n 1, 1) := dk_60 (dk_at dksX2_isSquare_0 1 rfl rfl)
theorem dX2_isSquare_2 : decode cX2_isSquare 2 = .ok (.iload_n 1, 1) := dk_27 (dk_at dksX2_isSquare_0 2 rfl rfl)
theorem dX2_isSquare_3 : decode cX2_isSquare 3 = .ok (.iload_n 1, 1) := dk_27 (dk_at dksX2_isSquare_0 3 rfl rfl)
theorem dX2_isSquare_4 : decode cX2_isSquare 4 = .ok (.imul, 1) := dk_104 (dk_at dksX2_isSquare_0 4 rfl rfl)
theorem dX2_isSquare_5 : decode cX2_isSquare 5 = .ok (.iload_n 0, 1) := dk_26 (dk_at dksX2_isSquare_0 5 rfl rfl)
theorem dX2_isSquare_6 : decode cX2_isSquare 6 = .ok (.if_icmp .ge 9, 3) := dk_162 0 9 (dk_at dksX2_isSquare_0 6 rfl rfl)
theorem dX2_isSquare_9 : decode cX2_isSquare 9 = .ok (.iinc 1 1, 3) := dk_132 1 1 (dk_at dksX2_isSquare_0 9 rfl rfl)
theorem dX2_isSquare_12 : decode cX2_isSquare 12 = .ok (.goto (-10), 3) := dk_167 255 246 (dk_at dksX2_isSquare_0 12 rfl rfl)
theorem dX2_isSquare_15 : decode cX2_isSquare 15 = .ok (.iload_n 1, 1) := dk_27 (dk_at dksX2_isSquare_0 15 rfl rfl)
theorem dX2_isSquare_16 : decode cX2_isSquare 16 = .ok (.iload_n 1, 1) := dk_27 (dk_at dksX2_isSquare_0 16 rfl rfl)
theorem dX2_isSquare_17 : decode cX2_isSquare 17 = .ok (.imul, 1) := dk_104 (dk_at dksX2_isSquare_0 17 rfl rfl)
theorem dX2_isSquare_18 : decode cX2_isSquare 18 = .ok (.iload_n 0, 1) := dk_26 (dk_at dksX2_isSquare_0 18 rfl rfl)
theorem dX2_isSquare_19 : decode cX2_isSquare 19 = .ok (.if_icmp .ne 7, 3) := dk_160 0 7 (dk_at dksX2_isSquare_0 19 rfl rfl)
theorem dX2_isSquare_22 : decode cX2_isSquare 22 = .ok (.iconst 1, 1) := dk_4 (dk_at dksX2_isSquare_0 22 rfl rfl)
theorem dX2_isSquare_23 : decode cX2_isSquare 23 = .ok (.goto 4, 3) := dk_167 0 4 (dk_at dksX2_isSquare_1 0 rfl rfl)
theorem dX2_isSquare_26 : decode cX2_isSquare 26 = .ok (.iconst 0, 1) := dk_3 (dk_at dksX2_isSquare_1 3 rfl rfl)
theorem dX2_isSquare_27 : decode cX2_isSquare 27 = .ok (.ireturn, 1) := dk_172 (dk_at dksX2_isSquare_1 4 rfl rfl)
abbrev cX2_layMiddle : ByteArray := prog_9_method_55_code
def yX2_layMiddle : MethodName := ⟨RX2, "layMiddle", "(I)V"⟩
def dkwX2_layMiddle_3 : List UInt8 := [28, 116, 7, 29, 104, 108, 79, 42, 89, 180, 0, 212, 4, 96, 181, 0, 212, 132, 3, 1, 167, 255, 176, 177]
abbrev dktX2_layMiddle_3 : List UInt8 := dkwX2_layMiddle_3 ++ []
def dkwX2_layMiddle_2 : List UInt8 := [42, 180, 0, 212, 29, 79, 42, 180, 0, 22, 42, 180, 0, 212, 27, 79, 42, 180, 0, 25, 42, 180, 0, 212]
abbrev dktX2_layMiddle_2 : List UInt8 := dkwX2_layMiddle_2 ++ dktX2_layMiddle_3
def dkwX2_layMiddle_1 : List UInt8 := [154, 0, 65, 29, 27, 184, 0, 155, 28, 7, 29, 104, 108, 184, 0, 155, 4, 160, 0, 48, 42, 180, 0, 19]
abbrev dktX2_layMiddle_1 : List UInt8 := dkwX2_layMiddle_1 ++ dktX2_layMiddle_2
def dkwX2_layMiddle_0 : List UInt8 := [42, 180, 0, 209, 27, 27, 104, 100, 61, 4, 62, 7, 29, 104, 28, 163, 0, 79, 28, 7, 29, 104, 112]
abbrev dktX2_layMiddle_0 : List UInt8 := dkwX2_layMiddle_0 ++ dktX2_layMiddle_1
theorem dksX2_layMiddle_0 : cX2_layMiddle.data.toList.drop 0 = dktX2_layMiddle_0 := by decide +kernel
theorem dksX2_layMiddle_1 : cX2_layMiddle.data.toList.drop 23 = dktX2_layMiddle_1 := dk_seg dksX2_layMiddle_0 23 rfl rfl
theorem dksX2_layMiddle_2 : cX2_layMiddle.data.toList.drop 47 = dktX2_layMiddle_2 := dk_seg dksX2_layMiddle_1 24 rfl rfl
theorem dksX2_layMiddle_3 : cX2_layMiddle.data.toList.drop 71 = dktX2_layMiddle_3 := dk_seg dksX2_layMiddle_2 24 rfl rfl
theorem dX2_layMiddle_0 : decode cX2_layMiddle 0 = .ok (.aload_n 0, 1) := dk_42 (dk_at dksX2_layMiddle_0 0 rfl rfl)
theorem dX2_layMiddle_1 : decode cX2_layMiddle 1 = .ok (.getfield 209, 3) := dk_180 0 209 (dk_at dksX2_layMiddle_0 1 rfl rfl)
theorem dX2_layMiddle_4 : decode cX2_layMiddle 4 = .ok (.iload_n 1, 1) := dk_27 (dk_at dksX2_layMiddle_0 4 rfl rfl)
theorem dX2_layMiddle_5 : decode cX2_layMiddle 5 = .ok (.iload_n 1, 1) := dk_27 (dk_at dksX2_layMiddle_0 5 rfl rfl)
theorem dX2_layMiddle_6 : decode cX2_layMiddle 6 = .ok (.imul, 1) := dk_104 (dk_at dksX2_layMiddle_0 6 rfl rfl)
theorem dX2_layMiddle_7 : decode cX2_layMiddle 7 = .ok (.isub, 1) := dk_100 (dk_at dksX2_layMiddle_0 7 rfl rfl)
theorem dX2_layMiddle_8 : decode cX2_layMiddle 8 = .ok (.istore_n 2, 1) := dk_61 (dk_at dksX2_layMiddle_0 8 rfl rfl)
theorem dX2_layMiddle_9 : decode cX2_layMiddle 9 = .ok (.iconst 1, 1) := dk_4 (dk_at dksX2_layMiddle_0 9 rfl rfl)
theorem dX2_layMiddle_10 : decode cX2_layMiddle 10 = .ok (.istore_n 3, 1) := dk_62 (dk_at dksX2_layMiddle_0 10 rfl rfl)
theorem dX2_layMiddle_11 : decode cX2_layMiddle 11 = .ok (.iconst 4, 1) := dk_7 (dk_at dksX2_layMiddle_0 11 rfl rfl)
theorem dX2_layMiddle_12 : decode cX2_layMiddle 12 = .ok (.iload_n 3, 1) := dk_29 (dk_at dksX2_layMiddle_0 12 rfl rfl)
theorem dX2_layMiddle_13 : decode cX2_layMiddle 13 = .ok (.imul, 1) := dk_104 (dk_at dksX2_layMiddle_0 13 rfl rfl)
theorem dX2_layMiddle_14 : decode cX2_layMiddle 14 = .ok (.iload_n 2, 1) := dk_28 (dk_at dksX2_layMiddle_0 14 rfl rfl)
theorem dX2_layMiddle_15 : decode cX2_layMiddle 15 = .ok (.if_icmp .gt 79, 3) := dk_163 0 79 (dk_at dksX2_layMiddle_0 15 rfl rfl)
theorem dX2_layMiddle_18 : decode cX2_layMiddle 18 = .ok (.iload_n 2, 1) := dk_28 (dk_at dksX2_layMiddle_0 18 rfl rfl)
theorem dX2_layMiddle_19 : decode cX2_layMiddle 19 = .ok (.iconst 4, 1) := dk_7 (dk_at dksX2_layMiddle_0 19 rfl rfl)
theorem dX2_layMiddle_20 : decode cX2_layMiddle 20 = .ok (.iload_n 3, 1) := dk_29 (dk_at dksX2_layMiddle_0 20 rfl rfl)
theorem dX2_layMiddle_21 : decode cX2_layMiddle 21 = .ok (.imul, 1) := dk_104 (dk_at dksX2_layMiddle_0 21 rfl rfl)
theorem dX2_layMiddle_22 : decode cX2_layMiddle 22 = .ok (.irem, 1) := dk_112 (dk_at dksX2_layMiddle_0 22 rfl rfl)
theorem dX2_layMiddle_23 : decode cX2_layMiddle 23 = .ok (.ifCond .ne 65, 3) := dk_154 0 65 (dk_at dksX2_layMiddle_1 0 rfl rfl)
theorem dX2_layMiddle_26 : decode cX2_layMiddle 26 = .ok (.iload_n 3, 1) := dk_29 (dk_at dksX2_layMiddle_1 3 rfl rfl)
theorem dX2_layMiddle_27 : decode cX2_layMiddle 27 = .ok (.iload_n 1, 1) := dk_27 (dk_at dksX2_layMiddle_1 4 rfl rfl)
theorem dX2_layMiddle_28 : decode cX2_layMiddle 28 = .ok (.invokestatic 155, 3) := dk_184 0 155 (dk_at dksX2_layMiddle_1 5 rfl rfl)
theorem dX2_layMiddle_31 : decode cX2_layMiddle 31 = .ok (.iload_n 2, 1) := dk_28 (dk_at dksX2_layMiddle_1 8 rfl rfl)
theorem dX2_layMiddle_32 : decode cX2_layMiddle 32 = .ok (.iconst 4, 1) := dk_7 (dk_at dksX2_layMiddle_1 9 rfl rfl)
theorem dX2_layMiddle_33 : decode cX2_layMiddle 33 = .ok (.iload_n 3, 1) := dk_29 (dk_at dksX2_layMiddle_1 10 rfl rfl)
theorem dX2_layMiddle_34 : decode cX2_layMiddle 34 = .ok (.imul, 1) := dk_104 (dk_at dksX2_layMiddle_1 11 rfl rfl)
theorem dX2_layMiddle_35 : decode cX2_layMiddle 35 = .ok (.idiv, 1) := dk_108 (dk_at dksX2_layMiddle_1 12 rfl rfl)
theorem dX2_layMiddle_36 : decode cX2_layMiddle 36 = .ok (.invokestatic 155, 3) := dk_184 0 155 (dk_at dksX2_layMiddle_1 13 rfl rfl)
theorem dX2_layMiddle_39 : decode cX2_layMiddle 39 = .ok (.iconst 1, 1) := dk_4 (dk_at dksX2_layMiddle_1 16 rfl rfl)
theorem dX2_layMiddle_40 : decode cX2_layMiddle 40 = .ok (.if_icmp .ne 48, 3) := dk_160 0 48 (dk_at dksX2_layMiddle_1 17 rfl rfl)
theorem dX2_layMiddle_43 : decode cX2_layMiddle 43 = .ok (.aload_n 0, 1) := dk_42 (dk_at dksX2_layMiddle_1 20 rfl rfl)
theorem dX2_layMiddle_44 : decode cX2_layMiddle 44 = .ok (.getfield 19, 3) := dk_180 0 19 (dk_at dksX2_layMiddle_1 21 rfl rfl)
theorem dX2_layMiddle_47 : decode cX2_layMiddle 47 = .ok (.aload_n 0, 1) := dk_42 (dk_at dksX2_layMiddle_2 0 rfl rfl)
theorem dX2_layMiddle_48 : decode cX2_layMiddle 48 = .ok (.getfield 212, 3) := dk_180 0 212 (dk_at dksX2_layMiddle_2 1 rfl rfl)
theorem dX2_layMiddle_51 : decode cX2_layMiddle 51 = .ok (.iload_n 3, 1) := dk_29 (dk_at dksX2_layMiddle_2 4 rfl rfl)
theorem dX2_layMiddle_52 : decode cX2_layMiddle 52 = .ok (.iastore, 1) := dk_79 (dk_at dksX2_layMiddle_2 5 rfl rfl)
theorem dX2_layMiddle_53 : decode cX2_layMiddle 53 = .ok (.aload_n 0, 1) := dk_42 (dk_at dksX2_layMiddle_2 6 rfl rfl)
theorem dX2_layMiddle_54 : decode cX2_layMiddle 54 = .ok (.getfield 22, 3) := dk_180 0 22 (dk_at dksX2_layMiddle_2 7 rfl rfl)
theorem dX2_layMiddle_57 : decode cX2_layMiddle 57 = .ok (.aload_n 0, 1) := dk_42 (dk_at dksX2_layMiddle_2 10 rfl rfl)
theorem dX2_layMiddle_58 : decode cX2_layMiddle 58 = .ok (.getfield 212, 3) := dk_180 0 212 (dk_at dksX2_layMiddle_2 11 rfl rfl)
theorem dX2_layMiddle_61 : decode cX2_layMiddle 61 = .ok (.iload_n 1, 1) := dk_27 (dk_at dksX2_layMiddle_2 14 rfl rfl)
theorem dX2_layMiddle_62 : decode cX2_layMiddle 62 = .ok (.iastore, 1) := dk_79 (dk_at dksX2_layMiddle_2 15 rfl rfl)
theorem dX2_layMiddle_63 : decode cX2_layMiddle 63 = .ok (.aload_n 0, 1) := dk_42 (dk_at dksX2_layMiddle_2 16 rfl rfl)
theorem dX2_layMiddle_64 : decode cX2_layMiddle 64 = .ok (.getfield 25, 3) := dk_180 0 25 (dk_at dksX2_layMiddle_2 17 rfl rfl)
theorem dX2_layMiddle_67 : decode cX2_layMiddle 67 = .ok (.aload_n 0, 1) := dk_42 (dk_at dksX2_layMiddle_2 20 rfl rfl)
theorem dX2_layMiddle_68 : decode cX2_layMiddle 68 = .ok (.getfield 212, 3) := dk_180 0 212 (dk_at dksX2_layMiddle_2 21 rfl rfl)
theorem dX2_layMiddle_71 : decode cX2_layMiddle 71 = .ok (.iload_n 2, 1) := dk_28 (dk_at dksX2_layMiddle_3 0 rfl rfl)
theorem dX2_layMiddle_72 : decode cX2_layMiddle 72 = .ok (.ineg, 1) := dk_116 (dk_at dksX2_layMiddle_3 1 rfl rfl)
theorem dX2_layMiddle_73 : decode cX2_layMiddle 73 = .ok (.iconst 4, 1) := dk_7 (dk_at dksX2_layMiddle_3 2 rfl rfl)
theorem dX2_layMiddle_74 : decode cX2_layMiddle 74 = .ok (.iload_n 3, 1) := dk_29 (dk_at dksX2_layMiddle_3 3 rfl rfl)
theorem dX2_layMiddle_75 : decode cX2_layMiddle 75 = .ok (.imul, 1) := dk_104 (dk_at dksX2_layMiddle_3 4 rfl rfl)
theorem dX2_layMiddle_76 : decode cX2_layMiddle 76 = .ok (.idiv, 1) := dk_108 (dk_at dksX2_layMiddle_3 5 rfl rfl)
theorem dX2_layMiddle_77 : decode cX2_layMiddle 77 = .ok (.iastore, 1) := dk_79 (dk_at dksX2_layMiddle_3 6 rfl rfl)
theorem dX2_layMiddle_78 : decode cX2_layMiddle 78 = .ok (.aload_n 0, 1) := dk_42 (dk_at dksX2_layMiddle_3 7 rfl rfl)
theorem dX2_layMiddle_79 : decode cX2_layMiddle 79 = .ok (.dup, 1) := dk_89 (dk_at dksX2_layMiddle_3 8 rfl rfl)
theorem dX2_layMiddle_80 : decode cX2_layMiddle 80 = .ok (.getfield 212, 3) := dk_180 0 212 (dk_at dksX2_layMiddle_3 9 rfl rfl)
theorem dX2_layMiddle_83 : decode cX2_layMiddle 83 = .ok (.iconst 1, 1) := dk_4 (dk_at dksX2_layMiddle_3 12 rfl rfl)
theorem dX2_layMiddle_84 : decode cX2_layMiddle 84 = .ok (.iadd, 1) := dk_96 (dk_at dksX2_layMiddle_3 13 rfl rfl)
theorem dX2_layMiddle_85 : decode cX2_layMiddle 85 = .ok (.putfield 212, 3) := dk_181 0 212 (dk_at dksX2_layMiddle_3 14 rfl rfl)
theorem dX2_layMiddle_88 : decode cX2_layMiddle 88 = .ok (.iinc 3 1, 3) := dk_132 3 1 (dk_at dksX2_layMiddle_3 17 rfl rfl)
theorem dX2_layMiddle_91 : decode cX2_layMiddle 91 = .ok (.goto (-80), 3) := dk_167 255 176 (dk_at dksX2_layMiddle_3 20 rfl rfl)
theorem dX2_layMiddle_94 : decode cX2_layMiddle 94 = .ok (.return_, 1) := dk_177 (dk_at dksX2_layMiddle_3 23 rfl rfl)
abbrev cX2_layCycles : ByteArray := prog_9_method_59_code
def yX2_layCycles : MethodName := ⟨RX2, "layCycles", "()V"⟩
def dkwX2_layCycles_5 : List UInt8 := [132, 1, 1, 167, 255, 181, 177]
abbrev dktX2_layCycles_5 : List UInt8 := dkwX2_layCycles_5 ++ []
def dkwX2_layCycles_4 : List UInt8 := [180, 0, 224, 79, 42, 180, 0, 28, 28, 46, 61, 167, 255, 228, 42, 89, 180, 0, 224, 4, 96, 181, 0, 224]
abbrev dktX2_layCycles_4 : List UInt8 := dkwX2_layCycles_4 ++ dktX2_layCycles_5
def dkwX2_layCycles_3 : List UInt8 := [180, 0, 224, 27, 79, 27, 61, 42, 180, 0, 31, 28, 46, 18, 106, 160, 0, 23, 42, 180, 0, 31, 28, 42]
abbrev dktX2_layCycles_3 : List UInt8 := dkwX2_layCycles_3 ++ dktX2_layCycles_4
def dkwX2_layCycles_2 : List UInt8 := [180, 0, 212, 162, 0, 73, 42, 180, 0, 31, 27, 46, 18, 106, 160, 0, 56, 42, 180, 0, 34, 42]
abbrev dktX2_layCycles_2 : List UInt8 := dkwX2_layCycles_2 ++ dktX2_layCycles_3
def dkwX2_layCycles_1 : List UInt8 := [180, 0, 31, 27, 18, 106, 79, 132, 1, 1, 167, 255, 226, 42, 3, 181, 0, 224, 3, 60, 27, 42]
abbrev dktX2_layCycles_1 : List UInt8 := dkwX2_layCycles_1 ++ dktX2_layCycles_2
def dkwX2_layCycles_0 : List UInt8 := [3, 60, 27, 42, 180, 0, 212, 162, 0, 28, 42, 180, 0, 28, 27, 42, 27, 182, 0, 221, 79, 42]
abbrev dktX2_layCycles_0 : List UInt8 := dkwX2_layCycles_0 ++ dktX2_layCycles_1
theorem dksX2_layCycles_0 : cX2_layCycles.data.toList.drop 0 = dktX2_layCycles_0 := by decide +kernel
theorem dksX2_layCycles_1 : cX2_layCycles.data.toList.drop 22 = dktX2_layCycles_1 := dk_seg dksX2_layCycles_0 22 rfl rfl
theorem dksX2_layCycles_2 : cX2_layCycles.data.toList.drop 44 = dktX2_layCycles_2 := dk_seg dksX2_layCycles_1 22 rfl rfl
theorem dksX2_layCycles_3 : cX2_layCycles.data.toList.drop 66 = dktX2_layCycles_3 := dk_seg dksX2_layCycles_2 22 rfl rfl
theorem dksX2_layCycles_4 : cX2_layCycles.data.toList.drop 90 = dktX2_layCycles_4 := dk_seg dksX2_layCycles_3 24 rfl rfl
theorem dksX2_layCycles_5 : cX2_layCycles.data.toList.drop 114 = dktX2_layCycles_5 := dk_seg dksX2_layCycles_4 24 rfl rfl
theorem dX2_layCycles_0 : decode cX2_layCycles 0 = .ok (.iconst 0, 1) := dk_3 (dk_at dksX2_layCycles_0 0 rfl rfl)
theorem dX2_layCycles_1 : decode cX2_layCycles 1 = .ok (.istore_n 1, 1) := dk_60 (dk_at dksX2_layCycles_0 1 rfl rfl)
theorem dX2_layCycles_2 : decode cX2_layCycles 2 = .ok (.iload_n 1, 1) := dk_27 (dk_at dksX2_layCycles_0 2 rfl rfl)
theorem dX2_layCycles_3 : decode cX2_layCycles 3 = .ok (.aload_n 0, 1) := dk_42 (dk_at dksX2_layCycles_0 3 rfl rfl)
theorem dX2_layCycles_4 : decode cX2_layCycles 4 = .ok (.getfield 212, 3) := dk_180 0 212 (dk_at dksX2_layCycles_0 4 rfl rfl)
theorem dX2_layCycles_7 : decode cX2_layCycles 7 = .ok (.if_icmp .ge 28, 3) := dk_162 0 28 (dk_at dksX2_layCycles_0 7 rfl rfl)
theorem dX2_layCycles_10 : decode cX2_layCycles 10 = .ok (.aload_n 0, 1) := dk_42 (dk_at dksX2_layCycles_0 10 rfl rfl)
theorem dX2_layCycles_11 : decode cX2_layCycles 11 = .ok (.getfield 28, 3) := dk_180 0 28 (dk_at dksX2_layCycles_0 11 rfl rfl)
theorem dX2_layCycles_14 : decode cX2_layCycles 14 = .ok (.iload_n 1, 1) := dk_27 (dk_at dksX2_layCycles_0 14 rfl rfl)
theorem dX2_layCycles_15 : decode cX2_layCycles 15 = .ok (.aload_n 0, 1) := dk_42 (dk_at dksX2_layCycles_0 15 rfl rfl)
theorem dX2_layCycles_16 : decode cX2_layCycles 16 = .ok (.iload_n 1, 1) := dk_27 (dk_at dksX2_layCycles_0 16 rfl rfl)
theorem dX2_layCycles_17 : decode cX2_layCycles 17 = .ok (.invokevirtual 221, 3) := dk_182 0 221 (dk_at dksX2_layCycles_0 17 rfl rfl)
theorem dX2_layCycles_20 : decode cX2_layCycles 20 = .ok (.iastore, 1) := dk_79 (dk_at dksX2_layCycles_0 20 rfl rfl)
theorem dX2_layCycles_21 : decode cX2_layCycles 21 = .ok (.aload_n 0, 1) := dk_42 (dk_at dksX2_layCycles_0 21 rfl rfl)
theorem dX2_layCycles_22 : decode cX2_layCycles 22 = .ok (.getfield 31, 3) := dk_180 0 31 (dk_at dksX2_layCycles_1 0 rfl rfl)
theorem dX2_layCycles_25 : decode cX2_layCycles 25 = .ok (.iload_n 1, 1) := dk_27 (dk_at dksX2_layCycles_1 3 rfl rfl)
theorem dX2_layCycles_26 : decode cX2_layCycles 26 = .ok (.ldc 106, 2) := dk_18 106 (dk_at dksX2_layCycles_1 4 rfl rfl)
theorem dX2_layCycles_28 : decode cX2_layCycles 28 = .ok (.iastore, 1) := dk_79 (dk_at dksX2_layCycles_1 6 rfl rfl)
theorem dX2_layCycles_29 : decode cX2_layCycles 29 = .ok (.iinc 1 1, 3) := dk_132 1 1 (dk_at dksX2_layCycles_1 7 rfl rfl)
theorem dX2_layCycles_32 : decode cX2_layCycles 32 = .ok (.goto (-30), 3) := dk_167 255 226 (dk_at dksX2_layCycles_1 10 rfl rfl)
theorem dX2_layCycles_35 : decode cX2_layCycles 35 = .ok (.aload_n 0, 1) := dk_42 (dk_at dksX2_layCycles_1 13 rfl rfl)
theorem dX2_layCycles_36 : decode cX2_layCycles 36 = .ok (.iconst 0, 1) := dk_3 (dk_at dksX2_layCycles_1 14 rfl rfl)
theorem dX2_layCycles_37 : decode cX2_layCycles 37 = .ok (.putfield 224, 3) := dk_181 0 224 (dk_at dksX2_layCycles_1 15 rfl rfl)
theorem dX2_layCycles_40 : decode cX2_layCycles 40 = .ok (.iconst 0, 1) := dk_3 (dk_at dksX2_layCycles_1 18 rfl rfl)
theorem dX2_layCycles_41 : decode cX2_layCycles 41 = .ok (.istore_n 1, 1) := dk_60 (dk_at dksX2_layCycles_1 19 rfl rfl)
theorem dX2_layCycles_42 : decode cX2_layCycles 42 = .ok (.iload_n 1, 1) := dk_27 (dk_at dksX2_layCycles_1 20 rfl rfl)
theorem dX2_layCycles_43 : decode cX2_layCycles 43 = .ok (.aload_n 0, 1) := dk_42 (dk_at dksX2_layCycles_1 21 rfl rfl)
theorem dX2_layCycles_44 : decode cX2_layCycles 44 = .ok (.getfield 212, 3) := dk_180 0 212 (dk_at dksX2_layCycles_2 0 rfl rfl)
theorem dX2_layCycles_47 : decode cX2_layCycles 47 = .ok (.if_icmp .ge 73, 3) := dk_162 0 73 (dk_at dksX2_layCycles_2 3 rfl rfl)
theorem dX2_layCycles_50 : decode cX2_layCycles 50 = .ok (.aload_n 0, 1) := dk_42 (dk_at dksX2_layCycles_2 6 rfl rfl)
theorem dX2_layCycles_51 : decode cX2_layCycles 51 = .ok (.getfield 31, 3) := dk_180 0 31 (dk_at dksX2_layCycles_2 7 rfl rfl)
theorem dX2_layCycles_54 : decode cX2_layCycles 54 = .ok (.iload_n 1, 1) := dk_27 (dk_at dksX2_layCycles_2 10 rfl rfl)
theorem dX2_layCycles_55 : decode cX2_layCycles 55 = .ok (.iaload, 1) := dk_46 (dk_at dksX2_layCycles_2 11 rfl rfl)
theorem dX2_layCycles_56 : decode cX2_layCycles 56 = .ok (.ldc 106, 2) := dk_18 106 (dk_at dksX2_layCycles_2 12 rfl rfl)
theorem dX2_layCycles_58 : decode cX2_layCycles 58 = .ok (.if_icmp .ne 56, 3) := dk_160 0 56 (dk_at dksX2_layCycles_2 14 rfl rfl)
theorem dX2_layCycles_61 : decode cX2_layCycles 61 = .ok (.aload_n 0, 1) := dk_42 (dk_at dksX2_layCycles_2 17 rfl rfl)
theorem dX2_layCycles_62 : decode cX2_layCycles 62 = .ok (.getfield 34, 3) := dk_180 0 34 (dk_at dksX2_layCycles_2 18 rfl rfl)
theorem dX2_layCycles_65 : decode cX2_layCycles 65 = .ok (.aload_n 0, 1) := dk_42 (dk_at dksX2_layCycles_2 21 rfl rfl)
theorem dX2_layCycles_66 : decode cX2_layCycles 66 = .ok (.getfield 224, 3) := dk_180 0 224 (dk_at dksX2_layCycles_3 0 rfl rfl)
theorem dX2_layCycles_69 : decode cX2_layCycles 69 = .ok (.iload_n 1, 1) := dk_27 (dk_at dksX2_layCycles_3 3 rfl rfl)
theorem dX2_layCycles_70 : decode cX2_layCycles 70 = .ok (.iastore, 1) := dk_79 (dk_at dksX2_layCycles_3 4 rfl rfl)
theorem dX2_layCycles_71 : decode cX2_layCycles 71 = .ok (.iload_n 1, 1) := dk_27 (dk_at dksX2_layCycles_3 5 rfl rfl)
theorem dX2_layCycles_72 : decode cX2_layCycles 72 = .ok (.istore_n 2, 1) := dk_61 (dk_at dksX2_layCycles_3 6 rfl rfl)
theorem dX2_layCycles_73 : decode cX2_layCycles 73 = .ok (.aload_n 0, 1) := dk_42 (dk_at dksX2_layCycles_3 7 rfl rfl)
theorem dX2_layCycles_74 : decode cX2_layCycles 74 = .ok (.getfield 31, 3) := dk_180 0 31 (dk_at dksX2_layCycles_3 8 rfl rfl)
theorem dX2_layCycles_77 : decode cX2_layCycles 77 = .ok (.iload_n 2, 1) := dk_28 (dk_at dksX2_layCycles_3 11 rfl rfl)
theorem dX2_layCycles_78 : decode cX2_layCycles 78 = .ok (.iaload, 1) := dk_46 (dk_at dksX2_layCycles_3 12 rfl rfl)
theorem dX2_layCycles_79 : decode cX2_layCycles 79 = .ok (.ldc 106, 2) := dk_18 106 (dk_at dksX2_layCycles_3 13 rfl rfl)
theorem dX2_layCycles_81 : decode cX2_layCycles 81 = .ok (.if_icmp .ne 23, 3) := dk_160 0 23 (dk_at dksX2_layCycles_3 15 rfl rfl)
theorem dX2_layCycles_84 : decode cX2_layCycles 84 = .ok (.aload_n 0, 1) := dk_42 (dk_at dksX2_layCycles_3 18 rfl rfl)
theorem dX2_layCycles_85 : decode cX2_layCycles 85 = .ok (.getfield 31, 3) := dk_180 0 31 (dk_at dksX2_layCycles_3 19 rfl rfl)
theorem dX2_layCycles_88 : decode cX2_layCycles 88 = .ok (.iload_n 2, 1) := dk_28 (dk_at dksX2_layCycles_3 22 rfl rfl)
theorem dX2_layCycles_89 : decode cX2_layCycles 89 = .ok (.aload_n 0, 1) := dk_42 (dk_at dksX2_layCycles_3 23 rfl rfl)
theorem dX2_layCycles_90 : decode cX2_layCycles 90 = .ok (.getfield 224, 3) := dk_180 0 224 (dk_at dksX2_layCycles_4 0 rfl rfl)
theorem dX2_layCycles_93 : decode cX2_layCycles 93 = .ok (.iastore, 1) := dk_79 (dk_at dksX2_layCycles_4 3 rfl rfl)
theorem dX2_layCycles_94 : decode cX2_layCycles 94 = .ok (.aload_n 0, 1) := dk_42 (dk_at dksX2_layCycles_4 4 rfl rfl)
theorem dX2_layCycles_95 : decode cX2_layCycles 95 = .ok (.getfield 28, 3) := dk_180 0 28 (dk_at dksX2_layCycles_4 5 rfl rfl)
theorem dX2_layCycles_98 : decode cX2_layCycles 98 = .ok (.iload_n 2, 1) := dk_28 (dk_at dksX2_layCycles_4 8 rfl rfl)
theorem dX2_layCycles_99 : decode cX2_layCycles 99 = .ok (.iaload, 1) := dk_46 (dk_at dksX2_layCycles_4 9 rfl rfl)
theorem dX2_layCycles_100 : decode cX2_layCycles 100 = .ok (.istore_n 2, 1) := dk_61 (dk_at dksX2_layCycles_4 10 rfl rfl)
theorem dX2_layCycles_101 : decode cX2_layCycles 101 = .ok (.goto (-28), 3) := dk_167 255 228 (dk_at dksX2_layCycles_4 11 rfl rfl)
theorem dX2_layCycles_104 : decode cX2_layCycles 104 = .ok (.aload_n 0, 1) := dk_42 (dk_at dksX2_layCycles_4 14 rfl rfl)
theorem dX2_layCycles_105 : decode cX2_layCycles 105 = .ok (.dup, 1) := dk_89 (dk_at dksX2_layCycles_4 15 rfl rfl)
theorem dX2_layCycles_106 : decode cX2_layCycles 106 = .ok (.getfield 224, 3) := dk_180 0 224 (dk_at dksX2_layCycles_4 16 rfl rfl)
theorem dX2_layCycles_109 : decode cX2_layCycles 109 = .ok (.iconst 1, 1) := dk_4 (dk_at dksX2_layCycles_4 19 rfl rfl)
theorem dX2_layCycles_110 : decode cX2_layCycles 110 = .ok (.iadd, 1) := dk_96 (dk_at dksX2_layCycles_4 20 rfl rfl)
theorem dX2_layCycles_111 : decode cX2_layCycles 111 = .ok (.putfield 224, 3) := dk_181 0 224 (dk_at dksX2_layCycles_4 21 rfl rfl)
theorem dX2_layCycles_114 : decode cX2_layCycles 114 = .ok (.iinc 1 1, 3) := dk_132 1 1 (dk_at dksX2_layCycles_5 0 rfl rfl)
theorem dX2_layCycles_117 : decode cX2_layCycles 117 = .ok (.goto (-75), 3) := dk_167 255 181 (dk_at dksX2_layCycles_5 3 rfl rfl)
theorem dX2_layCycles_120 : decode cX2_layCycles 120 = .ok (.return_, 1) := dk_177 (dk_at dksX2_layCycles_5 6 rfl rfl)
abbrev cX2_findNext : ByteArray := prog_9_method_58_code
def yX2_findNext : MethodName := ⟨RX2, "findNext", "(I)I"⟩
def dkwX2_findNext_3 : List UInt8 := [5, 42, 180, 0, 19, 27, 46, 104, 96, 28, 182, 0, 218, 172]
abbrev dktX2_findNext_3 : List UInt8 := dkwX2_findNext_3 ++ []
def dkwX2_findNext_2 : List UInt8 := [180, 0, 25, 27, 46, 182, 0, 218, 167, 0, 29, 42, 42, 180, 0, 19, 27, 46, 42, 180, 0, 22, 27, 46]
abbrev dktX2_findNext_2 : List UInt8 := dkwX2_findNext_2 ++ dktX2_findNext_3
def dkwX2_findNext_1 : List UInt8 := [182, 0, 215, 153, 0, 32, 42, 28, 42, 180, 0, 22, 27, 46, 5, 42, 180, 0, 25, 27, 46, 104, 96, 42]
abbrev dktX2_findNext_1 : List UInt8 := dkwX2_findNext_1 ++ dktX2_findNext_2
def dkwX2_findNext_0 : List UInt8 := [42, 180, 0, 19, 27, 46, 42, 180, 0, 22, 27, 46, 96, 42, 180, 0, 25, 27, 46, 96, 61, 42, 27]
abbrev dktX2_findNext_0 : List UInt8 := dkwX2_findNext_0 ++ dktX2_findNext_1
theorem dksX2_findNext_0 : cX2_findNext.data.toList.drop 0 = dktX2_findNext_0 := by decide +kernel
theorem dksX2_findNext_1 : cX2_findNext.data.toList.drop 23 = dktX2_findNext_1 := dk_seg dksX2_findNext_0 23 rfl rfl
theorem dksX2_findNext_2 : cX2_findNext.data.toList.drop 47 = dktX2_findNext_2 := dk_seg dksX2_findNext_1 24 rfl rfl
theorem dksX2_findNext_3 : cX2_findNext.data.toList.drop 71 = dktX2_findNext_3 := dk_seg dksX2_findNext_2 24 rfl rfl
theorem dX2_findNext_0 : decode cX2_findNext 0 = .ok (.aload_n 0, 1) := dk_42 (dk_at dksX2_findNext_0 0 rfl rfl)
theorem dX2_findNext_1 : decode cX2_findNext 1 = .ok (.getfield 19, 3) := dk_180 0 19 (dk_at dksX2_findNext_0 1 rfl rfl)
theorem dX2_findNext_4 : decode cX2_findNext 4 = .ok (.iload_n 1, 1) := dk_27 (dk_at dksX2_findNext_0 4 rfl rfl)
theorem dX2_findNext_5 : decode cX2_findNext 5 = .ok (.iaload, 1) := dk_46 (dk_at dksX2_findNext_0 5 rfl rfl)
theorem dX2_findNext_6 : decode cX2_findNext 6 = .ok (.aload_n 0, 1) := dk_42 (dk_at dksX2_findNext_0 6 rfl rfl)
theorem dX2_findNext_7 : decode cX2_findNext 7 = .ok (.getfield 22, 3) := dk_180 0 22 (dk_at dksX2_findNext_0 7 rfl rfl)
theorem dX2_findNext_10 : decode cX2_findNext 10 = .ok (.iload_n 1, 1) := dk_27 (dk_at dksX2_findNext_0 10 rfl rfl)
theorem dX2_findNext_11 : decode cX2_findNext 11 = .ok (.iaload, 1) := dk_46 (dk_at dksX2_findNext_0 11 rfl rfl)
theorem dX2_findNext_12 : decode cX2_findNext 12 = .ok (.iadd, 1) := dk_96 (dk_at dksX2_findNext_0 12 rfl rfl)
theorem dX2_findNext_13 : decode cX2_findNext 13 = .ok (.aload_n 0, 1) := dk_42 (dk_at dksX2_findNext_0 13 rfl rfl)
theorem dX2_findNext_14 : decode cX2_findNext 14 = .ok (.getfield 25, 3) := dk_180 0 25 (dk_at dksX2_findNext_0 14 rfl rfl)
theorem dX2_findNext_17 : decode cX2_findNext 17 = .ok (.iload_n 1, 1) := dk_27 (dk_at dksX2_findNext_0 17 rfl rfl)
theorem dX2_findNext_18 : decode cX2_findNext 18 = .ok (.iaload, 1) := dk_46 (dk_at dksX2_findNext_0 18 rfl rfl)
theorem dX2_findNext_19 : decode cX2_findNext 19 = .ok (.iadd, 1) := dk_96 (dk_at dksX2_findNext_0 19 rfl rfl)
theorem dX2_findNext_20 : decode cX2_findNext 20 = .ok (.istore_n 2, 1) := dk_61 (dk_at dksX2_findNext_0 20 rfl rfl)
theorem dX2_findNext_21 : decode cX2_findNext 21 = .ok (.aload_n 0, 1) := dk_42 (dk_at dksX2_findNext_0 21 rfl rfl)
theorem dX2_findNext_22 : decode cX2_findNext 22 = .ok (.iload_n 1, 1) := dk_27 (dk_at dksX2_findNext_0 22 rfl rfl)
theorem dX2_findNext_23 : decode cX2_findNext 23 = .ok (.invokevirtual 215, 3) := dk_182 0 215 (dk_at dksX2_findNext_1 0 rfl rfl)
theorem dX2_findNext_26 : decode cX2_findNext 26 = .ok (.ifCond .eq 32, 3) := dk_153 0 32 (dk_at dksX2_findNext_1 3 rfl rfl)
theorem dX2_findNext_29 : decode cX2_findNext 29 = .ok (.aload_n 0, 1) := dk_42 (dk_at dksX2_findNext_1 6 rfl rfl)
theorem dX2_findNext_30 : decode cX2_findNext 30 = .ok (.iload_n 2, 1) := dk_28 (dk_at dksX2_findNext_1 7 rfl rfl)
theorem dX2_findNext_31 : decode cX2_findNext 31 = .ok (.aload_n 0, 1) := dk_42 (dk_at dksX2_findNext_1 8 rfl rfl)
theorem dX2_findNext_32 : decode cX2_findNext 32 = .ok (.getfield 22, 3) := dk_180 0 22 (dk_at dksX2_findNext_1 9 rfl rfl)
theorem dX2_findNext_35 : decode cX2_findNext 35 = .ok (.iload_n 1, 1) := dk_27 (dk_at dksX2_findNext_1 12 rfl rfl)
theorem dX2_findNext_36 : decode cX2_findNext 36 = .ok (.iaload, 1) := dk_46 (dk_at dksX2_findNext_1 13 rfl rfl)
theorem dX2_findNext_37 : decode cX2_findNext 37 = .ok (.iconst 2, 1) := dk_5 (dk_at dksX2_findNext_1 14 rfl rfl)
theorem dX2_findNext_38 : decode cX2_findNext 38 = .ok (.aload_n 0, 1) := dk_42 (dk_at dksX2_findNext_1 15 rfl rfl)
theorem dX2_findNext_39 : decode cX2_findNext 39 = .ok (.getfield 25, 3) := dk_180 0 25 (dk_at dksX2_findNext_1 16 rfl rfl)
theorem dX2_findNext_42 : decode cX2_findNext 42 = .ok (.iload_n 1, 1) := dk_27 (dk_at dksX2_findNext_1 19 rfl rfl)
theorem dX2_findNext_43 : decode cX2_findNext 43 = .ok (.iaload, 1) := dk_46 (dk_at dksX2_findNext_1 20 rfl rfl)
theorem dX2_findNext_44 : decode cX2_findNext 44 = .ok (.imul, 1) := dk_104 (dk_at dksX2_findNext_1 21 rfl rfl)
theorem dX2_findNext_45 : decode cX2_findNext 45 = .ok (.iadd, 1) := dk_96 (dk_at dksX2_findNext_1 22 rfl rfl)
theorem dX2_findNext_46 : decode cX2_findNext 46 = .ok (.aload_n 0, 1) := dk_42 (dk_at dksX2_findNext_1 23 rfl rfl)
theorem dX2_findNext_47 : decode cX2_findNext 47 = .ok (.getfield 25, 3) := dk_180 0 25 (dk_at dksX2_findNext_2 0 rfl rfl)
theorem dX2_findNext_50 : decode cX2_findNext 50 = .ok (.iload_n 1, 1) := dk_27 (dk_at dksX2_findNext_2 3 rfl rfl)
theorem dX2_findNext_51 : decode cX2_findNext 51 = .ok (.iaload, 1) := dk_46 (dk_at dksX2_findNext_2 4 rfl rfl)
theorem dX2_findNext_52 : decode cX2_findNext 52 = .ok (.invokevirtual 218, 3) := dk_182 0 218 (dk_at dksX2_findNext_2 5 rfl rfl)
theorem dX2_findNext_55 : decode cX2_findNext 55 = .ok (.goto 29, 3) := dk_167 0 29 (dk_at dksX2_findNext_2 8 rfl rfl)
theorem dX2_findNext_58 : decode cX2_findNext 58 = .ok (.aload_n 0, 1) := dk_42 (dk_at dksX2_findNext_2 11 rfl rfl)
theorem dX2_findNext_59 : decode cX2_findNext 59 = .ok (.aload_n 0, 1) := dk_42 (dk_at dksX2_findNext_2 12 rfl rfl)
theorem dX2_findNext_60 : decode cX2_findNext 60 = .ok (.getfield 19, 3) := dk_180 0 19 (dk_at dksX2_findNext_2 13 rfl rfl)
theorem dX2_findNext_63 : decode cX2_findNext 63 = .ok (.iload_n 1, 1) := dk_27 (dk_at dksX2_findNext_2 16 rfl rfl)
theorem dX2_findNext_64 : decode cX2_findNext 64 = .ok (.iaload, 1) := dk_46 (dk_at dksX2_findNext_2 17 rfl rfl)
theorem dX2_findNext_65 : decode cX2_findNext 65 = .ok (.aload_n 0, 1) := dk_42 (dk_at dksX2_findNext_2 18 rfl rfl)
theorem dX2_findNext_66 : decode cX2_findNext 66 = .ok (.getfield 22, 3) := dk_180 0 22 (dk_at dksX2_findNext_2 19 rfl rfl)
theorem dX2_findNext_69 : decode cX2_findNext 69 = .ok (.iload_n 1, 1) := dk_27 (dk_at dksX2_findNext_2 22 rfl rfl)
theorem dX2_findNext_70 : decode cX2_findNext 70 = .ok (.iaload, 1) := dk_46 (dk_at dksX2_findNext_2 23 rfl rfl)
theorem dX2_findNext_71 : decode cX2_findNext 71 = .ok (.iconst 2, 1) := dk_5 (dk_at dksX2_findNext_3 0 rfl rfl)
theorem dX2_findNext_72 : decode cX2_findNext 72 = .ok (.aload_n 0, 1) := dk_42 (dk_at dksX2_findNext_3 1 rfl rfl)
theorem dX2_findNext_73 : decode cX2_findNext 73 = .ok (.getfield 19, 3) := dk_180 0 19 (dk_at dksX2_findNext_3 2 rfl rfl)
theorem dX2_findNext_76 : decode cX2_findNext 76 = .ok (.iload_n 1, 1) := dk_27 (dk_at dksX2_findNext_3 5 rfl rfl)
theorem dX2_findNext_77 : decode cX2_findNext 77 = .ok (.iaload, 1) := dk_46 (dk_at dksX2_findNext_3 6 rfl rfl)
theorem dX2_findNext_78 : decode cX2_findNext 78 = .ok (.imul, 1) := dk_104 (dk_at dksX2_findNext_3 7 rfl rfl)
theorem dX2_findNext_79 : decode cX2_findNext 79 = .ok (.iadd, 1) := dk_96 (dk_at dksX2_findNext_3 8 rfl rfl)
theorem dX2_findNext_80 : decode cX2_findNext 80 = .ok (.iload_n 2, 1) := dk_28 (dk_at dksX2_findNext_3 9 rfl rfl)
theorem dX2_findNext_81 : decode cX2_findNext 81 = .ok (.invokevirtual 218, 3) := dk_182 0 218 (dk_at dksX2_findNext_3 10 rfl rfl)
theorem dX2_findNext_84 : decode cX2_findNext 84 = .ok (.ireturn, 1) := dk_172 (dk_at dksX2_findNext_3 13 rfl rfl)
abbrev cX2_isLeft : ByteArray := prog_9_method_57_code
def yX2_isLeft : MethodName := ⟨RX2, "isLeft", "(I)Z"⟩
def dkwX2_isLeft_1 : List UInt8 := [167, 0, 4, 3, 172]
abbrev dktX2_isLeft_1 : List UInt8 := dkwX2_isLeft_1 ++ []
def dkwX2_isLeft_0 : List UInt8 := [42, 180, 0, 19, 27, 46, 42, 180, 0, 22, 27, 46, 96, 42, 180, 0, 25, 27, 46, 96, 158, 0, 7, 4]
abbrev dktX2_isLeft_0 : List UInt8 := dkwX2_isLeft_0 ++ dktX2_isLeft_1
theorem dksX2_isLeft_0 : cX2_isLeft.data.toList.drop 0 = dktX2_isLeft_0 := by decide +kernel
theorem dksX2_isLeft_1 : cX2_isLeft.data.toList.drop 24 = dktX2_isLeft_1 := dk_seg dksX2_isLeft_0 24 rfl rfl
theorem dX2_isLeft_0 : decode cX2_isLeft 0 = .ok (.aload_n 0, 1) := dk_42 (dk_at dksX2_isLeft_0 0 rfl rfl)
theorem dX2_isLeft_1 : decode cX2_isLeft 1 = .ok (.getfield 19, 3) := dk_180 0 19 (dk_at dksX2_isLeft_0 1 rfl rfl)
theorem dX2_isLeft_4 : decode cX2_isLeft 4 = .ok (.iload_n 1, 1) := dk_27 (dk_at dksX2_isLeft_0 4 rfl rfl)
theorem dX2_isLeft_5 : decode cX2_isLeft 5 = .ok (.iaload, 1) := dk_46 (dk_at dksX2_isLeft_0 5 rfl rfl)
theorem dX2_isLeft_6 : decode cX2_isLeft 6 = .ok (.aload_n 0, 1) := dk_42 (dk_at dksX2_isLeft_0 6 rfl rfl)
theorem dX2_isLeft_7 : decode cX2_isLeft 7 = .ok (.getfield 22, 3) := dk_180 0 22 (dk_at dksX2_isLeft_0 7 rfl rfl)
theorem dX2_isLeft_10 : decode cX2_isLeft 10 = .ok (.iload_n 1, 1) := dk_27 (dk_at dksX2_isLeft_0 10 rfl rfl)
theorem dX2_isLeft_11 : decode cX2_isLeft 11 = .ok (.iaload, 1) := dk_46 (dk_at dksX2_isLeft_0 11 rfl rfl)
theorem dX2_isLeft_12 : decode cX2_isLeft 12 = .ok (.iadd, 1) := dk_96 (dk_at dksX2_isLeft_0 12 rfl rfl)
theorem dX2_isLeft_13 : decode cX2_isLeft 13 = .ok (.aload_n 0, 1) := dk_42 (dk_at dksX2_isLeft_0 13 rfl rfl)
theorem dX2_isLeft_14 : decode cX2_isLeft 14 = .ok (.getfield 25, 3) := dk_180 0 25 (dk_at dksX2_isLeft_0 14 rfl rfl)
theorem dX2_isLeft_17 : decode cX2_isLeft 17 = .ok (.iload_n 1, 1) := dk_27 (dk_at dksX2_isLeft_0 17 rfl rfl)
theorem dX2_isLeft_18 : decode cX2_isLeft 18 = .ok (.iaload, 1) := dk_46 (dk_at dksX2_isLeft_0 18 rfl rfl)
theorem dX2_isLeft_19 : decode cX2_isLeft 19 = .ok (.iadd, 1) := dk_96 (dk_at dksX2_isLeft_0 19 rfl rfl)
theorem dX2_isLeft_20 : decode cX2_isLeft 20 = .ok (.ifCond .le 7, 3) := dk_158 0 7 (dk_at dksX2_isLeft_0 20 rfl rfl)
theorem dX2_isLeft_23 : decode cX2_isLeft 23 = .ok (.iconst 1, 1) := dk_4 (dk_at dksX2_isLeft_0 23 rfl rfl)
theorem dX2_isLeft_24 : decode cX2_isLeft 24 = .ok (.goto 4, 3) := dk_167 0 4 (dk_at dksX2_isLeft_1 0 rfl rfl)
theorem dX2_isLeft_27 : decode cX2_isLeft 27 = .ok (.iconst 0, 1) := dk_3 (dk_at dksX2_isLeft_1 3 rfl rfl)
theorem dX2_isLeft_28 : decode cX2_isLeft 28 = .ok (.ireturn, 1) := dk_172 (dk_at dksX2_isLeft_1 4 rfl rfl)
abbrev cX2_numberOf : ByteArray := prog_9_method_56_code
def yX2_numberOf : MethodName := ⟨RX2, "numberOf", "(III)I"⟩
def dkwX2_numberOf_2 : List UInt8 := [167, 255, 211, 21, 4, 42, 180, 0, 212, 162, 0, 8, 21, 4, 167, 0, 5, 18, 106, 172]
abbrev dktX2_numberOf_2 : List UInt8 := dkwX2_numberOf_2 ++ []
def dkwX2_numberOf_1 : List UInt8 := [180, 0, 22, 21, 4, 46, 28, 160, 0, 14, 42, 180, 0, 25, 21, 4, 46, 29, 159, 0, 9, 132, 4, 1]
abbrev dktX2_numberOf_1 : List UInt8 := dkwX2_numberOf_1 ++ dktX2_numberOf_2
def dkwX2_numberOf_0 : List UInt8 := [3, 54, 4, 21, 4, 42, 180, 0, 212, 162, 0, 42, 42, 180, 0, 19, 21, 4, 46, 27, 160, 0, 25, 42]
abbrev dktX2_numberOf_0 : List UInt8 := dkwX2_numberOf_0 ++ dktX2_numberOf_1
theorem dksX2_numberOf_0 : cX2_numberOf.data.toList.drop 0 = dktX2_numberOf_0 := by decide +kernel
theorem dksX2_numberOf_1 : cX2_numberOf.data.toList.drop 24 = dktX2_numberOf_1 := dk_seg dksX2_numberOf_0 24 rfl rfl
theorem dksX2_numberOf_2 : cX2_numberOf.data.toList.drop 48 = dktX2_numberOf_2 := dk_seg dksX2_numberOf_1 24 rfl rfl
theorem dX2_numberOf_0 : decode cX2_numberOf 0 = .ok (.iconst 0, 1) := dk_3 (dk_at dksX2_numberOf_0 0 rfl rfl)
theorem dX2_numberOf_1 : decode cX2_numberOf 1 = .ok (.istore 4, 2) := dk_54 4 (dk_at dksX2_numberOf_0 1 rfl rfl)
theorem dX2_numberOf_3 : decode cX2_numberOf 3 = .ok (.iload 4, 2) := dk_21 4 (dk_at dksX2_numberOf_0 3 rfl rfl)
theorem dX2_numberOf_5 : decode cX2_numberOf 5 = .ok (.aload_n 0, 1) := dk_42 (dk_at dksX2_numberOf_0 5 rfl rfl)
theorem dX2_numberOf_6 : decode cX2_numberOf 6 = .ok (.getfield 212, 3) := dk_180 0 212 (dk_at dksX2_numberOf_0 6 rfl rfl)
theorem dX2_numberOf_9 : decode cX2_numberOf 9 = .ok (.if_icmp .ge 42, 3) := dk_162 0 42 (dk_at dksX2_numberOf_0 9 rfl rfl)
theorem dX2_numberOf_12 : decode cX2_numberOf 12 = .ok (.aload_n 0, 1) := dk_42 (dk_at dksX2_numberOf_0 12 rfl rfl)
theorem dX2_numberOf_13 : decode cX2_numberOf 13 = .ok (.getfield 19, 3) := dk_180 0 19 (dk_at dksX2_numberOf_0 13 rfl rfl)
theorem dX2_numberOf_16 : decode cX2_numberOf 16 = .ok (.iload 4, 2) := dk_21 4 (dk_at dksX2_numberOf_0 16 rfl rfl)
theorem dX2_numberOf_18 : decode cX2_numberOf 18 = .ok (.iaload, 1) := dk_46 (dk_at dksX2_numberOf_0 18 rfl rfl)
theorem dX2_numberOf_19 : decode cX2_numberOf 19 = .ok (.iload_n 1, 1) := dk_27 (dk_at dksX2_numberOf_0 19 rfl rfl)
theorem dX2_numberOf_20 : decode cX2_numberOf 20 = .ok (.if_icmp .ne 25, 3) := dk_160 0 25 (dk_at dksX2_numberOf_0 20 rfl rfl)
theorem dX2_numberOf_23 : decode cX2_numberOf 23 = .ok (.aload_n 0, 1) := dk_42 (dk_at dksX2_numberOf_0 23 rfl rfl)
theorem dX2_numberOf_24 : decode cX2_numberOf 24 = .ok (.getfield 22, 3) := dk_180 0 22 (dk_at dksX2_numberOf_1 0 rfl rfl)
theorem dX2_numberOf_27 : decode cX2_numberOf 27 = .ok (.iload 4, 2) := dk_21 4 (dk_at dksX2_numberOf_1 3 rfl rfl)
theorem dX2_numberOf_29 : decode cX2_numberOf 29 = .ok (.iaload, 1) := dk_46 (dk_at dksX2_numberOf_1 5 rfl rfl)
theorem dX2_numberOf_30 : decode cX2_numberOf 30 = .ok (.iload_n 2, 1) := dk_28 (dk_at dksX2_numberOf_1 6 rfl rfl)
theorem dX2_numberOf_31 : decode cX2_numberOf 31 = .ok (.if_icmp .ne 14, 3) := dk_160 0 14 (dk_at dksX2_numberOf_1 7 rfl rfl)
theorem dX2_numberOf_34 : decode cX2_numberOf 34 = .ok (.aload_n 0, 1) := dk_42 (dk_at dksX2_numberOf_1 10 rfl rfl)
theorem dX2_numberOf_35 : decode cX2_numberOf 35 = .ok (.getfield 25, 3) := dk_180 0 25 (dk_at dksX2_numberOf_1 11 rfl rfl)
theorem dX2_numberOf_38 : decode cX2_numberOf 38 = .ok (.iload 4, 2) := dk_21 4 (dk_at dksX2_numberOf_1 14 rfl rfl)
theorem dX2_numberOf_40 : decode cX2_numberOf 40 = .ok (.iaload, 1) := dk_46 (dk_at dksX2_numberOf_1 16 rfl rfl)
theorem dX2_numberOf_41 : decode cX2_numberOf 41 = .ok (.iload_n 3, 1) := dk_29 (dk_at dksX2_numberOf_1 17 rfl rfl)
theorem dX2_numberOf_42 : decode cX2_numberOf 42 = .ok (.if_icmp .eq 9, 3) := dk_159 0 9 (dk_at dksX2_numberOf_1 18 rfl rfl)
theorem dX2_numberOf_45 : decode cX2_numberOf 45 = .ok (.iinc 4 1, 3) := dk_132 4 1 (dk_at dksX2_numberOf_1 21 rfl rfl)
theorem dX2_numberOf_48 : decode cX2_numberOf 48 = .ok (.goto (-45), 3) := dk_167 255 211 (dk_at dksX2_numberOf_2 0 rfl rfl)
theorem dX2_numberOf_51 : decode cX2_numberOf 51 = .ok (.iload 4, 2) := dk_21 4 (dk_at dksX2_numberOf_2 3 rfl rfl)
theorem dX2_numberOf_53 : decode cX2_numberOf 53 = .ok (.aload_n 0, 1) := dk_42 (dk_at dksX2_numberOf_2 5 rfl rfl)
theorem dX2_numberOf_54 : decode cX2_numberOf 54 = .ok (.getfield 212, 3) := dk_180 0 212 (dk_at dksX2_numberOf_2 6 rfl rfl)
theorem dX2_numberOf_57 : decode cX2_numberOf 57 = .ok (.if_icmp .ge 8, 3) := dk_162 0 8 (dk_at dksX2_numberOf_2 9 rfl rfl)
theorem dX2_numberOf_60 : decode cX2_numberOf 60 = .ok (.iload 4, 2) := dk_21 4 (dk_at dksX2_numberOf_2 12 rfl rfl)
theorem dX2_numberOf_62 : decode cX2_numberOf 62 = .ok (.goto 5, 3) := dk_167 0 5 (dk_at dksX2_numberOf_2 14 rfl rfl)
theorem dX2_numberOf_65 : decode cX2_numberOf 65 = .ok (.ldc 106, 2) := dk_18 106 (dk_at dksX2_numberOf_2 17 rfl rfl)
theorem dX2_numberOf_67 : decode cX2_numberOf 67 = .ok (.ireturn, 1) := dk_172 (dk_at dksX2_numberOf_2 19 rfl rfl)
abbrev cX2_simple : ByteArray := prog_9_method_62_code
def yX2_simple : MethodName := ⟨RX2, "simple", "(II)I"⟩
def dkwX2_simple_1 : List UInt8 := [153, 0, 12, 42, 27, 28, 182, 0, 236, 167, 0, 5, 18, 54, 172]
abbrev dktX2_simple_1 : List UInt8 := dkwX2_simple_1 ++ []
def dkwX2_simple_0 : List UInt8 := [27, 3, 42, 180, 0, 212, 4, 100, 184, 0, 50, 154, 0, 6, 18, 145, 172, 28, 3, 16, 7, 184, 0, 50]
abbrev dktX2_simple_0 : List UInt8 := dkwX2_simple_0 ++ dktX2_simple_1
theorem dksX2_simple_0 : cX2_simple.data.toList.drop 0 = dktX2_simple_0 := by decide +kernel
theorem dksX2_simple_1 : cX2_simple.data.toList.drop 24 = dktX2_simple_1 := dk_seg dksX2_simple_0 24 rfl rfl
theorem dX2_simple_0 : decode cX2_simple 0 = .ok (.iload_n 1, 1) := dk_27 (dk_at dksX2_simple_0 0 rfl rfl)
theorem dX2_simple_1 : decode cX2_simple 1 = .ok (.iconst 0, 1) := dk_3 (dk_at dksX2_simple_0 1 rfl rfl)
theorem dX2_simple_2 : decode cX2_simple 2 = .ok (.aload_n 0, 1) := dk_42 (dk_at dksX2_simple_0 2 rfl rfl)
theorem dX2_simple_3 : decode cX2_simple 3 = .ok (.getfield 212, 3) := dk_180 0 212 (dk_at dksX2_simple_0 3 rfl rfl)
theorem dX2_simple_6 : decode cX2_simple 6 = .ok (.iconst 1, 1) := dk_4 (dk_at dksX2_simple_0 6 rfl rfl)
theorem dX2_simple_7 : decode cX2_simple 7 = .ok (.isub, 1) := dk_100 (dk_at dksX2_simple_0 7 rfl rfl)
theorem dX2_simple_8 : decode cX2_simple 8 = .ok (.invokestatic 50, 3) := dk_184 0 50 (dk_at dksX2_simple_0 8 rfl rfl)
theorem dX2_simple_11 : decode cX2_simple 11 = .ok (.ifCond .ne 6, 3) := dk_154 0 6 (dk_at dksX2_simple_0 11 rfl rfl)
theorem dX2_simple_14 : decode cX2_simple 14 = .ok (.ldc 145, 2) := dk_18 145 (dk_at dksX2_simple_0 14 rfl rfl)
theorem dX2_simple_16 : decode cX2_simple 16 = .ok (.ireturn, 1) := dk_172 (dk_at dksX2_simple_0 16 rfl rfl)
theorem dX2_simple_17 : decode cX2_simple 17 = .ok (.iload_n 2, 1) := dk_28 (dk_at dksX2_simple_0 17 rfl rfl)
theorem dX2_simple_18 : decode cX2_simple 18 = .ok (.iconst 0, 1) := dk_3 (dk_at dksX2_simple_0 18 rfl rfl)
theorem dX2_simple_19 : decode cX2_simple 19 = .ok (.bipush 7, 2) := dk_16 7 (dk_at dksX2_simple_0 19 rfl rfl)
theorem dX2_simple_21 : decode cX2_simple 21 = .ok (.invokestatic 50, 3) := dk_184 0 50 (dk_at dksX2_simple_0 21 rfl rfl)
theorem dX2_simple_24 : decode cX2_simple 24 = .ok (.ifCond .eq 12, 3) := dk_153 0 12 (dk_at dksX2_simple_1 0 rfl rfl)
theorem dX2_simple_27 : decode cX2_simple 27 = .ok (.aload_n 0, 1) := dk_42 (dk_at dksX2_simple_1 3 rfl rfl)
theorem dX2_simple_28 : decode cX2_simple 28 = .ok (.iload_n 1, 1) := dk_27 (dk_at dksX2_simple_1 4 rfl rfl)
theorem dX2_simple_29 : decode cX2_simple 29 = .ok (.iload_n 2, 1) := dk_28 (dk_at dksX2_simple_1 5 rfl rfl)
theorem dX2_simple_30 : decode cX2_simple 30 = .ok (.invokevirtual 236, 3) := dk_182 0 236 (dk_at dksX2_simple_1 6 rfl rfl)
theorem dX2_simple_33 : decode cX2_simple 33 = .ok (.goto 5, 3) := dk_167 0 5 (dk_at dksX2_simple_1 9 rfl rfl)
theorem dX2_simple_36 : decode cX2_simple 36 = .ok (.ldc 54, 2) := dk_18 54 (dk_at dksX2_simple_1 12 rfl rfl)
theorem dX2_simple_38 : decode cX2_simple 38 = .ok (.ireturn, 1) := dk_172 (dk_at dksX2_simple_1 14 rfl rfl)
abbrev cX2_simpleNow : ByteArray := prog_9_method_61_code
def yX2_simpleNow : MethodName := ⟨RX2, "simpleNow", "(II)I"⟩
def dkwX2_simpleNow_6 : List UInt8 := [42, 180, 0, 19, 27, 46, 116, 182, 0, 218, 172]
abbrev dktX2_simpleNow_6 : List UInt8 := dkwX2_simpleNow_6 ++ []
def dkwX2_simpleNow_5 : List UInt8 := [180, 0, 25, 27, 46, 182, 0, 218, 172, 42, 42, 180, 0, 25, 27, 46, 116, 42, 180, 0, 22, 27, 46, 116]
abbrev dktX2_simpleNow_5 : List UInt8 := dkwX2_simpleNow_5 ++ dktX2_simpleNow_6
def dkwX2_simpleNow_4 : List UInt8 := [167, 0, 4, 4, 184, 0, 149, 172, 42, 42, 180, 0, 19, 27, 46, 42, 180, 0, 22, 27, 46, 116, 42]
abbrev dktX2_simpleNow_4 : List UInt8 := dkwX2_simpleNow_4 ++ dktX2_simpleNow_5
def dkwX2_simpleNow_3 : List UInt8 := [180, 0, 31, 27, 46, 172, 42, 180, 0, 28, 27, 46, 172, 42, 27, 182, 0, 215, 153, 0, 7, 3]
abbrev dktX2_simpleNow_3 : List UInt8 := dkwX2_simpleNow_3 ++ dktX2_simpleNow_4
def dkwX2_simpleNow_2 : List UInt8 := [42, 180, 0, 19, 27, 46, 172, 42, 180, 0, 22, 27, 46, 172, 42, 180, 0, 25, 27, 46, 172, 42]
abbrev dktX2_simpleNow_2 : List UInt8 := dkwX2_simpleNow_2 ++ dktX2_simpleNow_3
def dkwX2_simpleNow_1 : List UInt8 := [170, 0, 0, 0, 0, 0, 119, 0, 0, 0, 0, 0, 0, 0, 6, 0, 0, 0, 43, 0, 0, 0, 50, 0, 0, 0, 57, 0, 0, 0, 64, 0, 0, 0, 71, 0, 0, 0, 78, 0, 0, 0, 95]
abbrev dktX2_simpleNow_1 : List UInt8 := dkwX2_simpleNow_1 ++ dktX2_simpleNow_2
def dkwX2_simpleNow_0 : List UInt8 := [28]
abbrev dktX2_simpleNow_0 : List UInt8 := dkwX2_simpleNow_0 ++ dktX2_simpleNow_1
theorem dksX2_simpleNow_0 : cX2_simpleNow.data.toList.drop 0 = dktX2_simpleNow_0 := by decide +kernel
theorem dksX2_simpleNow_1 : cX2_simpleNow.data.toList.drop 1 = dktX2_simpleNow_1 := dk_seg dksX2_simpleNow_0 1 rfl rfl
theorem dksX2_simpleNow_2 : cX2_simpleNow.data.toList.drop 44 = dktX2_simpleNow_2 := dk_seg dksX2_simpleNow_1 43 rfl rfl
theorem dksX2_simpleNow_3 : cX2_simpleNow.data.toList.drop 66 = dktX2_simpleNow_3 := dk_seg dksX2_simpleNow_2 22 rfl rfl
theorem dksX2_simpleNow_4 : cX2_simpleNow.data.toList.drop 88 = dktX2_simpleNow_4 := dk_seg dksX2_simpleNow_3 22 rfl rfl
theorem dksX2_simpleNow_5 : cX2_simpleNow.data.toList.drop 111 = dktX2_simpleNow_5 := dk_seg dksX2_simpleNow_4 23 rfl rfl
theorem dksX2_simpleNow_6 : cX2_simpleNow.data.toList.drop 135 = dktX2_simpleNow_6 := dk_seg dksX2_simpleNow_5 24 rfl rfl
theorem dX2_simpleNow_0 : decode cX2_simpleNow 0 = .ok (.iload_n 2, 1) := dk_28 (dk_at dksX2_simpleNow_0 0 rfl rfl)
theorem dX2_simpleNow_1 : decode cX2_simpleNow 1 = .ok (.tableswitch 119 0 6 #[43, 50, 57, 64, 71, 78, 95], 43) := by decide +kernel
theorem dX2_simpleNow_44 : decode cX2_simpleNow 44 = .ok (.aload_n 0, 1) := dk_42 (dk_at dksX2_simpleNow_2 0 rfl rfl)
theorem dX2_simpleNow_45 : decode cX2_simpleNow 45 = .ok (.getfield 19, 3) := dk_180 0 19 (dk_at dksX2_simpleNow_2 1 rfl rfl)
theorem dX2_simpleNow_48 : decode cX2_simpleNow 48 = .ok (.iload_n 1, 1) := dk_27 (dk_at dksX2_simpleNow_2 4 rfl rfl)
theorem dX2_simpleNow_49 : decode cX2_simpleNow 49 = .ok (.iaload, 1) := dk_46 (dk_at dksX2_simpleNow_2 5 rfl rfl)
theorem dX2_simpleNow_50 : decode cX2_simpleNow 50 = .ok (.ireturn, 1) := dk_172 (dk_at dksX2_simpleNow_2 6 rfl rfl)
theorem dX2_simpleNow_51 : decode cX2_simpleNow 51 = .ok (.aload_n 0, 1) := dk_42 (dk_at dksX2_simpleNow_2 7 rfl rfl)
theorem dX2_simpleNow_52 : decode cX2_simpleNow 52 = .ok (.getfield 22, 3) := dk_180 0 22 (dk_at dksX2_simpleNow_2 8 rfl rfl)
theorem dX2_simpleNow_55 : decode cX2_simpleNow 55 = .ok (.iload_n 1, 1) := dk_27 (dk_at dksX2_simpleNow_2 11 rfl rfl)
theorem dX2_simpleNow_56 : decode cX2_simpleNow 56 = .ok (.iaload, 1) := dk_46 (dk_at dksX2_simpleNow_2 12 rfl rfl)
theorem dX2_simpleNow_57 : decode cX2_simpleNow 57 = .ok (.ireturn, 1) := dk_172 (dk_at dksX2_simpleNow_2 13 rfl rfl)
theorem dX2_simpleNow_58 : decode cX2_simpleNow 58 = .ok (.aload_n 0, 1) := dk_42 (dk_at dksX2_simpleNow_2 14 rfl rfl)
theorem dX2_simpleNow_59 : decode cX2_simpleNow 59 = .ok (.getfield 25, 3) := dk_180 0 25 (dk_at dksX2_simpleNow_2 15 rfl rfl)
theorem dX2_simpleNow_62 : decode cX2_simpleNow 62 = .ok (.iload_n 1, 1) := dk_27 (dk_at dksX2_simpleNow_2 18 rfl rfl)
theorem dX2_simpleNow_63 : decode cX2_simpleNow 63 = .ok (.iaload, 1) := dk_46 (dk_at dksX2_simpleNow_2 19 rfl rfl)
theorem dX2_simpleNow_64 : decode cX2_simpleNow 64 = .ok (.ireturn, 1) := dk_172 (dk_at dksX2_simpleNow_2 20 rfl rfl)
theorem dX2_simpleNow_65 : decode cX2_simpleNow 65 = .ok (.aload_n 0, 1) := dk_42 (dk_at dksX2_simpleNow_2 21 rfl rfl)
theorem dX2_simpleNow_66 : decode cX2_simpleNow 66 = .ok (.getfield 31, 3) := dk_180 0 31 (dk_at dksX2_simpleNow_3 0 rfl rfl)
theorem dX2_simpleNow_69 : decode cX2_simpleNow 69 = .ok (.iload_n 1, 1) := dk_27 (dk_at dksX2_simpleNow_3 3 rfl rfl)
theorem dX2_simpleNow_70 : decode cX2_simpleNow 70 = .ok (.iaload, 1) := dk_46 (dk_at dksX2_simpleNow_3 4 rfl rfl)
theorem dX2_simpleNow_71 : decode cX2_simpleNow 71 = .ok (.ireturn, 1) := dk_172 (dk_at dksX2_simpleNow_3 5 rfl rfl)
theorem dX2_simpleNow_72 : decode cX2_simpleNow 72 = .ok (.aload_n 0, 1) := dk_42 (dk_at dksX2_simpleNow_3 6 rfl rfl)
theorem dX2_simpleNow_73 : decode cX2_simpleNow 73 = .ok (.getfield 28, 3) := dk_180 0 28 (dk_at dksX2_simpleNow_3 7 rfl rfl)
theorem dX2_simpleNow_76 : decode cX2_simpleNow 76 = .ok (.iload_n 1, 1) := dk_27 (dk_at dksX2_simpleNow_3 10 rfl rfl)
theorem dX2_simpleNow_77 : decode cX2_simpleNow 77 = .ok (.iaload, 1) := dk_46 (dk_at dksX2_simpleNow_3 11 rfl rfl)
theorem dX2_simpleNow_78 : decode cX2_simpleNow 78 = .ok (.ireturn, 1) := dk_172 (dk_at dksX2_simpleNow_3 12 rfl rfl)
theorem dX2_simpleNow_79 : decode cX2_simpleNow 79 = .ok (.aload_n 0, 1) := dk_42 (dk_at dksX2_simpleNow_3 13 rfl rfl)
theorem dX2_simpleNow_80 : decode cX2_simpleNow 80 = .ok (.iload_n 1, 1) := dk_27 (dk_at dksX2_simpleNow_3 14 rfl rfl)
theorem dX2_simpleNow_81 : decode cX2_simpleNow 81 = .ok (.invokevirtual 215, 3) := dk_182 0 215 (dk_at dksX2_simpleNow_3 15 rfl rfl)
theorem dX2_simpleNow_84 : decode cX2_simpleNow 84 = .ok (.ifCond .eq 7, 3) := dk_153 0 7 (dk_at dksX2_simpleNow_3 18 rfl rfl)
theorem dX2_simpleNow_87 : decode cX2_simpleNow 87 = .ok (.iconst 0, 1) := dk_3 (dk_at dksX2_simpleNow_3 21 rfl rfl)
theorem dX2_simpleNow_88 : decode cX2_simpleNow 88 = .ok (.goto 4, 3) := dk_167 0 4 (dk_at dksX2_simpleNow_4 0 rfl rfl)
theorem dX2_simpleNow_91 : decode cX2_simpleNow 91 = .ok (.iconst 1, 1) := dk_4 (dk_at dksX2_simpleNow_4 3 rfl rfl)
theorem dX2_simpleNow_92 : decode cX2_simpleNow 92 = .ok (.invokestatic 149, 3) := dk_184 0 149 (dk_at dksX2_simpleNow_4 4 rfl rfl)
theorem dX2_simpleNow_95 : decode cX2_simpleNow 95 = .ok (.ireturn, 1) := dk_172 (dk_at dksX2_simpleNow_4 7 rfl rfl)
theorem dX2_simpleNow_96 : decode cX2_simpleNow 96 = .ok (.aload_n 0, 1) := dk_42 (dk_at dksX2_simpleNow_4 8 rfl rfl)
theorem dX2_simpleNow_97 : decode cX2_simpleNow 97 = .ok (.aload_n 0, 1) := dk_42 (dk_at dksX2_simpleNow_4 9 rfl rfl)
theorem dX2_simpleNow_98 : decode cX2_simpleNow 98 = .ok (.getfield 19, 3) := dk_180 0 19 (dk_at dksX2_simpleNow_4 10 rfl rfl)
theorem dX2_simpleNow_101 : decode cX2_simpleNow 101 = .ok (.iload_n 1, 1) := dk_27 (dk_at dksX2_simpleNow_4 13 rfl rfl)
theorem dX2_simpleNow_102 : decode cX2_simpleNow 102 = .ok (.iaload, 1) := dk_46 (dk_at dksX2_simpleNow_4 14 rfl rfl)
theorem dX2_simpleNow_103 : decode cX2_simpleNow 103 = .ok (.aload_n 0, 1) := dk_42 (dk_at dksX2_simpleNow_4 15 rfl rfl)
theorem dX2_simpleNow_104 : decode cX2_simpleNow 104 = .ok (.getfield 22, 3) := dk_180 0 22 (dk_at dksX2_simpleNow_4 16 rfl rfl)
theorem dX2_simpleNow_107 : decode cX2_simpleNow 107 = .ok (.iload_n 1, 1) := dk_27 (dk_at dksX2_simpleNow_4 19 rfl rfl)
theorem dX2_simpleNow_108 : decode cX2_simpleNow 108 = .ok (.iaload, 1) := dk_46 (dk_at dksX2_simpleNow_4 20 rfl rfl)
theorem dX2_simpleNow_109 : decode cX2_simpleNow 109 = .ok (.ineg, 1) := dk_116 (dk_at dksX2_simpleNow_4 21 rfl rfl)
theorem dX2_simpleNow_110 : decode cX2_simpleNow 110 = .ok (.aload_n 0, 1) := dk_42 (dk_at dksX2_simpleNow_4 22 rfl rfl)
theorem dX2_simpleNow_111 : decode cX2_simpleNow 111 = .ok (.getfield 25, 3) := dk_180 0 25 (dk_at dksX2_simpleNow_5 0 rfl rfl)
theorem dX2_simpleNow_114 : decode cX2_simpleNow 114 = .ok (.iload_n 1, 1) := dk_27 (dk_at dksX2_simpleNow_5 3 rfl rfl)
theorem dX2_simpleNow_115 : decode cX2_simpleNow 115 = .ok (.iaload, 1) := dk_46 (dk_at dksX2_simpleNow_5 4 rfl rfl)
theorem dX2_simpleNow_116 : decode cX2_simpleNow 116 = .ok (.invokevirtual 218, 3) := dk_182 0 218 (dk_at dksX2_simpleNow_5 5 rfl rfl)
theorem dX2_simpleNow_119 : decode cX2_simpleNow 119 = .ok (.ireturn, 1) := dk_172 (dk_at dksX2_simpleNow_5 8 rfl rfl)
theorem dX2_simpleNow_120 : decode cX2_simpleNow 120 = .ok (.aload_n 0, 1) := dk_42 (dk_at dksX2_simpleNow_5 9 rfl rfl)
theorem dX2_simpleNow_121 : decode cX2_simpleNow 121 = .ok (.aload_n 0, 1) := dk_42 (dk_at dksX2_simpleNow_5 10 rfl rfl)
theorem dX2_simpleNow_122 : decode cX2_simpleNow 122 = .ok (.getfield 25, 3) := dk_180 0 25 (dk_at dksX2_simpleNow_5 11 rfl rfl)
theorem dX2_simpleNow_125 : decode cX2_simpleNow 125 = .ok (.iload_n 1, 1) := dk_27 (dk_at dksX2_simpleNow_5 14 rfl rfl)
theorem dX2_simpleNow_126 : decode cX2_simpleNow 126 = .ok (.iaload, 1) := dk_46 (dk_at dksX2_simpleNow_5 15 rfl rfl)
theorem dX2_simpleNow_127 : decode cX2_simpleNow 127 = .ok (.ineg, 1) := dk_116 (dk_at dksX2_simpleNow_5 16 rfl rfl)
theorem dX2_simpleNow_128 : decode cX2_simpleNow 128 = .ok (.aload_n 0, 1) := dk_42 (dk_at dksX2_simpleNow_5 17 rfl rfl)
theorem dX2_simpleNow_129 : decode cX2_simpleNow 129 = .ok (.getfield 22, 3) := dk_180 0 22 (dk_at dksX2_simpleNow_5 18 rfl rfl)
theorem dX2_simpleNow_132 : decode cX2_simpleNow 132 = .ok (.iload_n 1, 1) := dk_27 (dk_at dksX2_simpleNow_5 21 rfl rfl)
theorem dX2_simpleNow_133 : decode cX2_simpleNow 133 = .ok (.iaload, 1) := dk_46 (dk_at dksX2_simpleNow_5 22 rfl rfl)
theorem dX2_simpleNow_134 : decode cX2_simpleNow 134 = .ok (.ineg, 1) := dk_116 (dk_at dksX2_simpleNow_5 23 rfl rfl)
theorem dX2_simpleNow_135 : decode cX2_simpleNow 135 = .ok (.aload_n 0, 1) := dk_42 (dk_at dksX2_simpleNow_6 0 rfl rfl)
theorem dX2_simpleNow_136 : decode cX2_simpleNow 136 = .ok (.getfield 19, 3) := dk_180 0 19 (dk_at dksX2_simpleNow_6 1 rfl rfl)
theorem dX2_simpleNow_139 : decode cX2_simpleNow 139 = .ok (.iload_n 1, 1) := dk_27 (dk_at dksX2_simpleNow_6 4 rfl rfl)
theorem dX2_simpleNow_140 : decode cX2_simpleNow 140 = .ok (.iaload, 1) := dk_46 (dk_at dksX2_simpleNow_6 5 rfl rfl)
theorem dX2_simpleNow_141 : decode cX2_simpleNow 141 = .ok (.ineg, 1) := dk_116 (dk_at dksX2_simpleNow_6 6 rfl rfl)
theorem dX2_simpleNow_142 : decode cX2_simpleNow 142 = .ok (.invokevirtual 218, 3) := dk_182 0 218 (dk_at dksX2_simpleNow_6 7 rfl rfl)
theorem dX2_simpleNow_145 : decode cX2_simpleNow 145 = .ok (.ireturn, 1) := dk_172 (dk_at dksX2_simpleNow_6 10 rfl rfl)
abbrev cX2_cycle : ByteArray := prog_9_method_67_code
def yX2_cycle : MethodName := ⟨RX2, "cycle", "(II)I"⟩
def dkwX2_cycle_1 : List UInt8 := [28, 182, 0, 248, 167, 0, 5, 18, 54, 172]
abbrev dktX2_cycle_1 : List UInt8 := dkwX2_cycle_1 ++ []
def dkwX2_cycle_0 : List UInt8 := [42, 27, 182, 0, 245, 154, 0, 8, 18, 145, 167, 0, 23, 28, 3, 7, 184, 0, 50, 153, 0, 12, 42, 27]
abbrev dktX2_cycle_0 : List UInt8 := dkwX2_cycle_0 ++ dktX2_cycle_1
theorem dksX2_cycle_0 : cX2_cycle.data.toList.drop 0 = dktX2_cycle_0 := by decide +kernel
theorem dksX2_cycle_1 : cX2_cycle.data.toList.drop 24 = dktX2_cycle_1 := dk_seg dksX2_cycle_0 24 rfl rfl
theorem dX2_cycle_0 : decode cX2_cycle 0 = .ok (.aload_n 0, 1) := dk_42 (dk_at dksX2_cycle_0 0 rfl rfl)
theorem dX2_cycle_1 : decode cX2_cycle 1 = .ok (.iload_n 1, 1) := dk_27 (dk_at dksX2_cycle_0 1 rfl rfl)
theorem dX2_cycle_2 : decode cX2_cycle 2 = .ok (.invokevirtual 245, 3) := dk_182 0 245 (dk_at dksX2_cycle_0 2 rfl rfl)
theorem dX2_cycle_5 : decode cX2_cycle 5 = .ok (.ifCond .ne 8, 3) := dk_154 0 8 (dk_at dksX2_cycle_0 5 rfl rfl)
theorem dX2_cycle_8 : decode cX2_cycle 8 = .ok (.ldc 145, 2) := dk_18 145 (dk_at dksX2_cycle_0 8 rfl rfl)
theorem dX2_cycle_10 : decode cX2_cycle 10 = .ok (.goto 23, 3) := dk_167 0 23 (dk_at dksX2_cycle_0 10 rfl rfl)
theorem dX2_cycle_13 : decode cX2_cycle 13 = .ok (.iload_n 2, 1) := dk_28 (dk_at dksX2_cycle_0 13 rfl rfl)
theorem dX2_cycle_14 : decode cX2_cycle 14 = .ok (.iconst 0, 1) := dk_3 (dk_at dksX2_cycle_0 14 rfl rfl)
theorem dX2_cycle_15 : decode cX2_cycle 15 = .ok (.iconst 4, 1) := dk_7 (dk_at dksX2_cycle_0 15 rfl rfl)
theorem dX2_cycle_16 : decode cX2_cycle 16 = .ok (.invokestatic 50, 3) := dk_184 0 50 (dk_at dksX2_cycle_0 16 rfl rfl)
theorem dX2_cycle_19 : decode cX2_cycle 19 = .ok (.ifCond .eq 12, 3) := dk_153 0 12 (dk_at dksX2_cycle_0 19 rfl rfl)
theorem dX2_cycle_22 : decode cX2_cycle 22 = .ok (.aload_n 0, 1) := dk_42 (dk_at dksX2_cycle_0 22 rfl rfl)
theorem dX2_cycle_23 : decode cX2_cycle 23 = .ok (.iload_n 1, 1) := dk_27 (dk_at dksX2_cycle_0 23 rfl rfl)
theorem dX2_cycle_24 : decode cX2_cycle 24 = .ok (.iload_n 2, 1) := dk_28 (dk_at dksX2_cycle_1 0 rfl rfl)
theorem dX2_cycle_25 : decode cX2_cycle 25 = .ok (.invokevirtual 248, 3) := dk_182 0 248 (dk_at dksX2_cycle_1 1 rfl rfl)
theorem dX2_cycle_28 : decode cX2_cycle 28 = .ok (.goto 5, 3) := dk_167 0 5 (dk_at dksX2_cycle_1 4 rfl rfl)
theorem dX2_cycle_31 : decode cX2_cycle 31 = .ok (.ldc 54, 2) := dk_18 54 (dk_at dksX2_cycle_1 7 rfl rfl)
theorem dX2_cycle_33 : decode cX2_cycle 33 = .ok (.ireturn, 1) := dk_172 (dk_at dksX2_cycle_1 9 rfl rfl)
abbrev cX2_isCycle : ByteArray := prog_9_method_63_code
def yX2_isCycle : MethodName := ⟨RX2, "isCycle", "(I)Z"⟩
def dkwX2_isCycle_0 : List UInt8 := [27, 3, 42, 180, 0, 224, 4, 100, 184, 0, 50, 172]
abbrev dktX2_isCycle_0 : List UInt8 := dkwX2_isCycle_0 ++ []
theorem dksX2_isCycle_0 : cX2_isCycle.data.toList.drop 0 = dktX2_isCycle_0 := by decide +kernel
theorem dX2_isCycle_0 : decode cX2_isCycle 0 = .ok (.iload_n 1, 1) := dk_27 (dk_at dksX2_isCycle_0 0 rfl rfl)
theorem dX2_isCycle_1 : decode cX2_isCycle 1 = .ok (.iconst 0, 1) := dk_3 (dk_at dksX2_isCycle_0 1 rfl rfl)
theorem dX2_isCycle_2 : decode cX2_isCycle 2 = .ok (.aload_n 0, 1) := dk_42 (dk_at dksX2_isCycle_0 2 rfl rfl)
theorem dX2_isCycle_3 : decode cX2_isCycle 3 = .ok (.getfield 224, 3) := dk_180 0 224 (dk_at dksX2_isCycle_0 3 rfl rfl)
theorem dX2_isCycle_6 : decode cX2_isCycle 6 = .ok (.iconst 1, 1) := dk_4 (dk_at dksX2_isCycle_0 6 rfl rfl)
theorem dX2_isCycle_7 : decode cX2_isCycle 7 = .ok (.isub, 1) := dk_100 (dk_at dksX2_isCycle_0 7 rfl rfl)
theorem dX2_isCycle_8 : decode cX2_isCycle 8 = .ok (.invokestatic 50, 3) := dk_184 0 50 (dk_at dksX2_isCycle_0 8 rfl rfl)
theorem dX2_isCycle_11 : decode cX2_isCycle 11 = .ok (.ireturn, 1) := dk_172 (dk_at dksX2_isCycle_0 11 rfl rfl)
abbrev cX2_cycleNow : ByteArray := prog_9_method_66_code
def yX2_cycleNow : MethodName := ⟨RX2, "cycleNow", "(II)I"⟩
def dkwX2_cycleNow_3 : List UInt8 := [182, 0, 236, 46, 172, 42, 180, 0, 31, 42, 29, 16, 7, 182, 0, 236, 46, 172]
abbrev dktX2_cycleNow_3 : List UInt8 := dkwX2_cycleNow_3 ++ []
def dkwX2_cycleNow_2 : List UInt8 := [29, 172, 42, 27, 182, 0, 239, 172, 42, 27, 182, 0, 242, 172, 42, 180, 0, 31, 42, 29, 16, 6]
abbrev dktX2_cycleNow_2 : List UInt8 := dkwX2_cycleNow_2 ++ dktX2_cycleNow_3
def dkwX2_cycleNow_1 : List UInt8 := [170, 0, 0, 0, 0, 0, 0, 59, 0, 0, 0, 0, 0, 0, 0, 3, 0, 0, 0, 32, 0, 0, 0, 34, 0, 0, 0, 40, 0, 0, 0, 46]
abbrev dktX2_cycleNow_1 : List UInt8 := dkwX2_cycleNow_1 ++ dktX2_cycleNow_2
def dkwX2_cycleNow_0 : List UInt8 := [42, 180, 0, 34, 27, 46, 62, 28]
abbrev dktX2_cycleNow_0 : List UInt8 := dkwX2_cycleNow_0 ++ dktX2_cycleNow_1
theorem dksX2_cycleNow_0 : cX2_cycleNow.data.toList.drop 0 = dktX2_cycleNow_0 := by decide +kernel
theorem dksX2_cycleNow_1 : cX2_cycleNow.data.toList.drop 8 = dktX2_cycleNow_1 := dk_seg dksX2_cycleNow_0 8 rfl rfl
theorem dksX2_cycleNow_2 : cX2_cycleNow.data.toList.drop 40 = dktX2_cycleNow_2 := dk_seg dksX2_cycleNow_1 32 rfl rfl
theorem dksX2_cycleNow_3 : cX2_cycleNow.data.toList.drop 62 = dktX2_cycleNow_3 := dk_seg dksX2_cycleNow_2 22 rfl rfl
theorem dX2_cycleNow_0 : decode cX2_cycleNow 0 = .ok (.aload_n 0, 1) := dk_42 (dk_at dksX2_cycleNow_0 0 rfl rfl)
theorem dX2_cycleNow_1 : decode cX2_cycleNow 1 = .ok (.getfield 34, 3) := dk_180 0 34 (dk_at dksX2_cycleNow_0 1 rfl rfl)
theorem dX2_cycleNow_4 : decode cX2_cycleNow 4 = .ok (.iload_n 1, 1) := dk_27 (dk_at dksX2_cycleNow_0 4 rfl rfl)
theorem dX2_cycleNow_5 : decode cX2_cycleNow 5 = .ok (.iaload, 1) := dk_46 (dk_at dksX2_cycleNow_0 5 rfl rfl)
theorem dX2_cycleNow_6 : decode cX2_cycleNow 6 = .ok (.istore_n 3, 1) := dk_62 (dk_at dksX2_cycleNow_0 6 rfl rfl)
theorem dX2_cycleNow_7 : decode cX2_cycleNow 7 = .ok (.iload_n 2, 1) := dk_28 (dk_at dksX2_cycleNow_0 7 rfl rfl)
theorem dX2_cycleNow_8 : decode cX2_cycleNow 8 = .ok (.tableswitch 59 0 3 #[32, 34, 40, 46], 32) := by decide +kernel
theorem dX2_cycleNow_40 : decode cX2_cycleNow 40 = .ok (.iload_n 3, 1) := dk_29 (dk_at dksX2_cycleNow_2 0 rfl rfl)
theorem dX2_cycleNow_41 : decode cX2_cycleNow 41 = .ok (.ireturn, 1) := dk_172 (dk_at dksX2_cycleNow_2 1 rfl rfl)
theorem dX2_cycleNow_42 : decode cX2_cycleNow 42 = .ok (.aload_n 0, 1) := dk_42 (dk_at dksX2_cycleNow_2 2 rfl rfl)
theorem dX2_cycleNow_43 : decode cX2_cycleNow 43 = .ok (.iload_n 1, 1) := dk_27 (dk_at dksX2_cycleNow_2 3 rfl rfl)
theorem dX2_cycleNow_44 : decode cX2_cycleNow 44 = .ok (.invokevirtual 239, 3) := dk_182 0 239 (dk_at dksX2_cycleNow_2 4 rfl rfl)
theorem dX2_cycleNow_47 : decode cX2_cycleNow 47 = .ok (.ireturn, 1) := dk_172 (dk_at dksX2_cycleNow_2 7 rfl rfl)
theorem dX2_cycleNow_48 : decode cX2_cycleNow 48 = .ok (.aload_n 0, 1) := dk_42 (dk_at dksX2_cycleNow_2 8 rfl rfl)
theorem dX2_cycleNow_49 : decode cX2_cycleNow 49 = .ok (.iload_n 1, 1) := dk_27 (dk_at dksX2_cycleNow_2 9 rfl rfl)
theorem dX2_cycleNow_50 : decode cX2_cycleNow 50 = .ok (.invokevirtual 242, 3) := dk_182 0 242 (dk_at dksX2_cycleNow_2 10 rfl rfl)
theorem dX2_cycleNow_53 : decode cX2_cycleNow 53 = .ok (.ireturn, 1) := dk_172 (dk_at dksX2_cycleNow_2 13 rfl rfl)
theorem dX2_cycleNow_54 : decode cX2_cycleNow 54 = .ok (.aload_n 0, 1) := dk_42 (dk_at dksX2_cycleNow_2 14 rfl rfl)
theorem dX2_cycleNow_55 : decode cX2_cycleNow 55 = .ok (.getfield 31, 3) := dk_180 0 31 (dk_at dksX2_cycleNow_2 15 rfl rfl)
theorem dX2_cycleNow_58 : decode cX2_cycleNow 58 = .ok (.aload_n 0, 1) := dk_42 (dk_at dksX2_cycleNow_2 18 rfl rfl)
theorem dX2_cycleNow_59 : decode cX2_cycleNow 59 = .ok (.iload_n 3, 1) := dk_29 (dk_at dksX2_cycleNow_2 19 rfl rfl)
theorem dX2_cycleNow_60 : decode cX2_cycleNow 60 = .ok (.bipush 6, 2) := dk_16 6 (dk_at dksX2_cycleNow_2 20 rfl rfl)
theorem dX2_cycleNow_62 : decode cX2_cycleNow 62 = .ok (.invokevirtual 236, 3) := dk_182 0 236 (dk_at dksX2_cycleNow_3 0 rfl rfl)
theorem dX2_cycleNow_65 : decode cX2_cycleNow 65 = .ok (.iaload, 1) := dk_46 (dk_at dksX2_cycleNow_3 3 rfl rfl)
theorem dX2_cycleNow_66 : decode cX2_cycleNow 66 = .ok (.ireturn, 1) := dk_172 (dk_at dksX2_cycleNow_3 4 rfl rfl)
theorem dX2_cycleNow_67 : decode cX2_cycleNow 67 = .ok (.aload_n 0, 1) := dk_42 (dk_at dksX2_cycleNow_3 5 rfl rfl)
theorem dX2_cycleNow_68 : decode cX2_cycleNow 68 = .ok (.getfield 31, 3) := dk_180 0 31 (dk_at dksX2_cycleNow_3 6 rfl rfl)
theorem dX2_cycleNow_71 : decode cX2_cycleNow 71 = .ok (.aload_n 0, 1) := dk_42 (dk_at dksX2_cycleNow_3 9 rfl rfl)
theorem dX2_cycleNow_72 : decode cX2_cycleNow 72 = .ok (.iload_n 3, 1) := dk_29 (dk_at dksX2_cycleNow_3 10 rfl rfl)
theorem dX2_cycleNow_73 : decode cX2_cycleNow 73 = .ok (.bipush 7, 2) := dk_16 7 (dk_at dksX2_cycleNow_3 11 rfl rfl)
theorem dX2_cycleNow_75 : decode cX2_cycleNow 75 = .ok (.invokevirtual 236, 3) := dk_182 0 236 (dk_at dksX2_cycleNow_3 13 rfl rfl)
theorem dX2_cycleNow_78 : decode cX2_cycleNow 78 = .ok (.iaload, 1) := dk_46 (dk_at dksX2_cycleNow_3 16 rfl rfl)
theorem dX2_cycleNow_79 : decode cX2_cycleNow 79 = .ok (.ireturn, 1) := dk_172 (dk_at dksX2_cycleNow_3 17 rfl rfl)
abbrev cX2_sizeOf : ByteArray := prog_9_method_64_code
def yX2_sizeOf : MethodName := ⟨RX2, "sizeOf", "(I)I"⟩
def dkwX2_sizeOf_1 : List UInt8 := [167, 0, 4, 3, 96, 61, 132, 3, 1, 167, 255, 227, 28, 172]
abbrev dktX2_sizeOf_1 : List UInt8 := dkwX2_sizeOf_1 ++ []
def dkwX2_sizeOf_0 : List UInt8 := [3, 61, 3, 62, 29, 42, 180, 0, 212, 162, 0, 27, 28, 42, 180, 0, 31, 29, 46, 27, 160, 0, 7, 4]
abbrev dktX2_sizeOf_0 : List UInt8 := dkwX2_sizeOf_0 ++ dktX2_sizeOf_1
theorem dksX2_sizeOf_0 : cX2_sizeOf.data.toList.drop 0 = dktX2_sizeOf_0 := by decide +kernel
theorem dksX2_sizeOf_1 : cX2_sizeOf.data.toList.drop 24 = dktX2_sizeOf_1 := dk_seg dksX2_sizeOf_0 24 rfl rfl
theorem dX2_sizeOf_0 : decode cX2_sizeOf 0 = .ok (.iconst 0, 1) := dk_3 (dk_at dksX2_sizeOf_0 0 rfl rfl)
theorem dX2_sizeOf_1 : decode cX2_sizeOf 1 = .ok (.istore_n 2, 1) := dk_61 (dk_at dksX2_sizeOf_0 1 rfl rfl)
theorem dX2_sizeOf_2 : decode cX2_sizeOf 2 = .ok (.iconst 0, 1) := dk_3 (dk_at dksX2_sizeOf_0 2 rfl rfl)
theorem dX2_sizeOf_3 : decode cX2_sizeOf 3 = .ok (.istore_n 3, 1) := dk_62 (dk_at dksX2_sizeOf_0 3 rfl rfl)
theorem dX2_sizeOf_4 : decode cX2_sizeOf 4 = .ok (.iload_n 3, 1) := dk_29 (dk_at dksX2_sizeOf_0 4 rfl rfl)
theorem dX2_sizeOf_5 : decode cX2_sizeOf 5 = .ok (.aload_n 0, 1) := dk_42 (dk_at dksX2_sizeOf_0 5 rfl rfl)
theorem dX2_sizeOf_6 : decode cX2_sizeOf 6 = .ok (.getfield 212, 3) := dk_180 0 212 (dk_at dksX2_sizeOf_0 6 rfl rfl)
theorem dX2_sizeOf_9 : decode cX2_sizeOf 9 = .ok (.if_icmp .ge 27, 3) := dk_162 0 27 (dk_at dksX2_sizeOf_0 9 rfl rfl)
theorem dX2_sizeOf_12 : decode cX2_sizeOf 12 = .ok (.iload_n 2, 1) := dk_28 (dk_at dksX2_sizeOf_0 12 rfl rfl)
theorem dX2_sizeOf_13 : decode cX2_sizeOf 13 = .ok (.aload_n 0, 1) := dk_42 (dk_at dksX2_sizeOf_0 13 rfl rfl)
theorem dX2_sizeOf_14 : decode cX2_sizeOf 14 = .ok (.getfield 31, 3) := dk_180 0 31 (dk_at dksX2_sizeOf_0 14 rfl rfl)
theorem dX2_sizeOf_17 : decode cX2_sizeOf 17 = .ok (.iload_n 3, 1) := dk_29 (dk_at dksX2_sizeOf_0 17 rfl rfl)
theorem dX2_sizeOf_18 : decode cX2_sizeOf 18 = .ok (.iaload, 1) := dk_46 (dk_at dksX2_sizeOf_0 18 rfl rfl)
theorem dX2_sizeOf_19 : decode cX2_sizeOf 19 = .ok (.iload_n 1, 1) := dk_27 (dk_at dksX2_sizeOf_0 19 rfl rfl)
theorem dX2_sizeOf_20 : decode cX2_sizeOf 20 = .ok (.if_icmp .ne 7, 3) := dk_160 0 7 (dk_at dksX2_sizeOf_0 20 rfl rfl)
theorem dX2_sizeOf_23 : decode cX2_sizeOf 23 = .ok (.iconst 1, 1) := dk_4 (dk_at dksX2_sizeOf_0 23 rfl rfl)
theorem dX2_sizeOf_24 : decode cX2_sizeOf 24 = .ok (.goto 4, 3) := dk_167 0 4 (dk_at dksX2_sizeOf_1 0 rfl rfl)
theorem dX2_sizeOf_27 : decode cX2_sizeOf 27 = .ok (.iconst 0, 1) := dk_3 (dk_at dksX2_sizeOf_1 3 rfl rfl)
theorem dX2_sizeOf_28 : decode cX2_sizeOf 28 = .ok (.iadd, 1) := dk_96 (dk_at dksX2_sizeOf_1 4 rfl rfl)
theorem dX2_sizeOf_29 : decode cX2_sizeOf 29 = .ok (.istore_n 2, 1) := dk_61 (dk_at dksX2_sizeOf_1 5 rfl rfl)
theorem dX2_sizeOf_30 : decode cX2_sizeOf 30 = .ok (.iinc 3 1, 3) := dk_132 3 1 (dk_at dksX2_sizeOf_1 6 rfl rfl)
theorem dX2_sizeOf_33 : decode cX2_sizeOf 33 = .ok (.goto (-29), 3) := dk_167 255 227 (dk_at dksX2_sizeOf_1 9 rfl rfl)
theorem dX2_sizeOf_36 : decode cX2_sizeOf 36 = .ok (.iload_n 2, 1) := dk_28 (dk_at dksX2_sizeOf_1 12 rfl rfl)
theorem dX2_sizeOf_37 : decode cX2_sizeOf 37 = .ok (.ireturn, 1) := dk_172 (dk_at dksX2_sizeOf_1 13 rfl rfl)
abbrev cX2_leftsOf : ByteArray := prog_9_method_65_code
def yX2_leftsOf : MethodName := ⟨RX2, "leftsOf", "(I)I"⟩
def dkwX2_leftsOf_1 : List UInt8 := [29, 182, 0, 215, 153, 0, 7, 4, 167, 0, 4, 3, 96, 61, 132, 3, 1, 167, 255, 219, 28, 172]
abbrev dktX2_leftsOf_1 : List UInt8 := dkwX2_leftsOf_1 ++ []
def dkwX2_leftsOf_0 : List UInt8 := [3, 61, 3, 62, 29, 42, 180, 0, 212, 162, 0, 35, 28, 42, 180, 0, 31, 29, 46, 27, 160, 0, 15, 42]
abbrev dktX2_leftsOf_0 : List UInt8 := dkwX2_leftsOf_0 ++ dktX2_leftsOf_1
theorem dksX2_leftsOf_0 : cX2_leftsOf.data.toList.drop 0 = dktX2_leftsOf_0 := by decide +kernel
theorem dksX2_leftsOf_1 : cX2_leftsOf.data.toList.drop 24 = dktX2_leftsOf_1 := dk_seg dksX2_leftsOf_0 24 rfl rfl
theorem dX2_leftsOf_0 : decode cX2_leftsOf 0 = .ok (.iconst 0, 1) := dk_3 (dk_at dksX2_leftsOf_0 0 rfl rfl)
theorem dX2_leftsOf_1 : decode cX2_leftsOf 1 = .ok (.istore_n 2, 1) := dk_61 (dk_at dksX2_leftsOf_0 1 rfl rfl)
theorem dX2_leftsOf_2 : decode cX2_leftsOf 2 = .ok (.iconst 0, 1) := dk_3 (dk_at dksX2_leftsOf_0 2 rfl rfl)
theorem dX2_leftsOf_3 : decode cX2_leftsOf 3 = .ok (.istore_n 3, 1) := dk_62 (dk_at dksX2_leftsOf_0 3 rfl rfl)
theorem dX2_leftsOf_4 : decode cX2_leftsOf 4 = .ok (.iload_n 3, 1) := dk_29 (dk_at dksX2_leftsOf_0 4 rfl rfl)
theorem dX2_leftsOf_5 : decode cX2_leftsOf 5 = .ok (.aload_n 0, 1) := dk_42 (dk_at dksX2_leftsOf_0 5 rfl rfl)
theorem dX2_leftsOf_6 : decode cX2_leftsOf 6 = .ok (.getfield 212, 3) := dk_180 0 212 (dk_at dksX2_leftsOf_0 6 rfl rfl)
theorem dX2_leftsOf_9 : decode cX2_leftsOf 9 = .ok (.if_icmp .ge 35, 3) := dk_162 0 35 (dk_at dksX2_leftsOf_0 9 rfl rfl)
theorem dX2_leftsOf_12 : decode cX2_leftsOf 12 = .ok (.iload_n 2, 1) := dk_28 (dk_at dksX2_leftsOf_0 12 rfl rfl)
theorem dX2_leftsOf_13 : decode cX2_leftsOf 13 = .ok (.aload_n 0, 1) := dk_42 (dk_at dksX2_leftsOf_0 13 rfl rfl)
theorem dX2_leftsOf_14 : decode cX2_leftsOf 14 = .ok (.getfield 31, 3) := dk_180 0 31 (dk_at dksX2_leftsOf_0 14 rfl rfl)
theorem dX2_leftsOf_17 : decode cX2_leftsOf 17 = .ok (.iload_n 3, 1) := dk_29 (dk_at dksX2_leftsOf_0 17 rfl rfl)
theorem dX2_leftsOf_18 : decode cX2_leftsOf 18 = .ok (.iaload, 1) := dk_46 (dk_at dksX2_leftsOf_0 18 rfl rfl)
theorem dX2_leftsOf_19 : decode cX2_leftsOf 19 = .ok (.iload_n 1, 1) := dk_27 (dk_at dksX2_leftsOf_0 19 rfl rfl)
theorem dX2_leftsOf_20 : decode cX2_leftsOf 20 = .ok (.if_icmp .ne 15, 3) := dk_160 0 15 (dk_at dksX2_leftsOf_0 20 rfl rfl)
theorem dX2_leftsOf_23 : decode cX2_leftsOf 23 = .ok (.aload_n 0, 1) := dk_42 (dk_at dksX2_leftsOf_0 23 rfl rfl)
theorem dX2_leftsOf_24 : decode cX2_leftsOf 24 = .ok (.iload_n 3, 1) := dk_29 (dk_at dksX2_leftsOf_1 0 rfl rfl)
theorem dX2_leftsOf_25 : decode cX2_leftsOf 25 = .ok (.invokevirtual 215, 3) := dk_182 0 215 (dk_at dksX2_leftsOf_1 1 rfl rfl)
theorem dX2_leftsOf_28 : decode cX2_leftsOf 28 = .ok (.ifCond .eq 7, 3) := dk_153 0 7 (dk_at dksX2_leftsOf_1 4 rfl rfl)
theorem dX2_leftsOf_31 : decode cX2_leftsOf 31 = .ok (.iconst 1, 1) := dk_4 (dk_at dksX2_leftsOf_1 7 rfl rfl)
theorem dX2_leftsOf_32 : decode cX2_leftsOf 32 = .ok (.goto 4, 3) := dk_167 0 4 (dk_at dksX2_leftsOf_1 8 rfl rfl)
theorem dX2_leftsOf_35 : decode cX2_leftsOf 35 = .ok (.iconst 0, 1) := dk_3 (dk_at dksX2_leftsOf_1 11 rfl rfl)
theorem dX2_leftsOf_36 : decode cX2_leftsOf 36 = .ok (.iadd, 1) := dk_96 (dk_at dksX2_leftsOf_1 12 rfl rfl)
theorem dX2_leftsOf_37 : decode cX2_leftsOf 37 = .ok (.istore_n 2, 1) := dk_61 (dk_at dksX2_leftsOf_1 13 rfl rfl)
theorem dX2_leftsOf_38 : decode cX2_leftsOf 38 = .ok (.iinc 3 1, 3) := dk_132 3 1 (dk_at dksX2_leftsOf_1 14 rfl rfl)
theorem dX2_leftsOf_41 : decode cX2_leftsOf 41 = .ok (.goto (-37), 3) := dk_167 255 219 (dk_at dksX2_leftsOf_1 17 rfl rfl)
theorem dX2_leftsOf_44 : decode cX2_leftsOf 44 = .ok (.iload_n 2, 1) := dk_28 (dk_at dksX2_leftsOf_1 20 rfl rfl)
theorem dX2_leftsOf_45 : decode cX2_leftsOf 45 = .ok (.ireturn, 1) := dk_172 (dk_at dksX2_leftsOf_1 21 rfl rfl)
abbrev cX2_step : ByteArray := prog_9_method_69_code
def yX2_step : MethodName := ⟨RX2, "step", "(II)I"⟩
def dkwX2_step_2 : List UInt8 := [172]
abbrev dktX2_step_2 : List UInt8 := dkwX2_step_2 ++ []
def dkwX2_step_1 : List UInt8 := [18, 145, 172, 42, 42, 27, 28, 182, 0, 251, 182, 0, 215, 153, 0, 7, 3, 167, 0, 4, 4, 184, 0, 149]
abbrev dktX2_step_1 : List UInt8 := dkwX2_step_1 ++ dktX2_step_2
def dkwX2_step_0 : List UInt8 := [42, 27, 182, 0, 245, 153, 0, 18, 28, 3, 42, 27, 182, 0, 239, 4, 100, 184, 0, 50, 154, 0, 6]
abbrev dktX2_step_0 : List UInt8 := dkwX2_step_0 ++ dktX2_step_1
theorem dksX2_step_0 : cX2_step.data.toList.drop 0 = dktX2_step_0 := by decide +kernel
theorem dksX2_step_1 : cX2_step.data.toList.drop 23 = dktX2_step_1 := dk_seg dksX2_step_0 23 rfl rfl
theorem dksX2_step_2 : cX2_step.data.toList.drop 47 = dktX2_step_2 := dk_seg dksX2_step_1 24 rfl rfl
theorem dX2_step_0 : decode cX2_step 0 = .ok (.aload_n 0, 1) := dk_42 (dk_at dksX2_step_0 0 rfl rfl)
theorem dX2_step_1 : decode cX2_step 1 = .ok (.iload_n 1, 1) := dk_27 (dk_at dksX2_step_0 1 rfl rfl)
theorem dX2_step_2 : decode cX2_step 2 = .ok (.invokevirtual 245, 3) := dk_182 0 245 (dk_at dksX2_step_0 2 rfl rfl)
theorem dX2_step_5 : decode cX2_step 5 = .ok (.ifCond .eq 18, 3) := dk_153 0 18 (dk_at dksX2_step_0 5 rfl rfl)
theorem dX2_step_8 : decode cX2_step 8 = .ok (.iload_n 2, 1) := dk_28 (dk_at dksX2_step_0 8 rfl rfl)
theorem dX2_step_9 : decode cX2_step 9 = .ok (.iconst 0, 1) := dk_3 (dk_at dksX2_step_0 9 rfl rfl)
theorem dX2_step_10 : decode cX2_step 10 = .ok (.aload_n 0, 1) := dk_42 (dk_at dksX2_step_0 10 rfl rfl)
theorem dX2_step_11 : decode cX2_step 11 = .ok (.iload_n 1, 1) := dk_27 (dk_at dksX2_step_0 11 rfl rfl)
theorem dX2_step_12 : decode cX2_step 12 = .ok (.invokevirtual 239, 3) := dk_182 0 239 (dk_at dksX2_step_0 12 rfl rfl)
theorem dX2_step_15 : decode cX2_step 15 = .ok (.iconst 1, 1) := dk_4 (dk_at dksX2_step_0 15 rfl rfl)
theorem dX2_step_16 : decode cX2_step 16 = .ok (.isub, 1) := dk_100 (dk_at dksX2_step_0 16 rfl rfl)
theorem dX2_step_17 : decode cX2_step 17 = .ok (.invokestatic 50, 3) := dk_184 0 50 (dk_at dksX2_step_0 17 rfl rfl)
theorem dX2_step_20 : decode cX2_step 20 = .ok (.ifCond .ne 6, 3) := dk_154 0 6 (dk_at dksX2_step_0 20 rfl rfl)
theorem dX2_step_23 : decode cX2_step 23 = .ok (.ldc 145, 2) := dk_18 145 (dk_at dksX2_step_1 0 rfl rfl)
theorem dX2_step_25 : decode cX2_step 25 = .ok (.ireturn, 1) := dk_172 (dk_at dksX2_step_1 2 rfl rfl)
theorem dX2_step_26 : decode cX2_step 26 = .ok (.aload_n 0, 1) := dk_42 (dk_at dksX2_step_1 3 rfl rfl)
theorem dX2_step_27 : decode cX2_step 27 = .ok (.aload_n 0, 1) := dk_42 (dk_at dksX2_step_1 4 rfl rfl)
theorem dX2_step_28 : decode cX2_step 28 = .ok (.iload_n 1, 1) := dk_27 (dk_at dksX2_step_1 5 rfl rfl)
theorem dX2_step_29 : decode cX2_step 29 = .ok (.iload_n 2, 1) := dk_28 (dk_at dksX2_step_1 6 rfl rfl)
theorem dX2_step_30 : decode cX2_step 30 = .ok (.invokevirtual 251, 3) := dk_182 0 251 (dk_at dksX2_step_1 7 rfl rfl)
theorem dX2_step_33 : decode cX2_step 33 = .ok (.invokevirtual 215, 3) := dk_182 0 215 (dk_at dksX2_step_1 10 rfl rfl)
theorem dX2_step_36 : decode cX2_step 36 = .ok (.ifCond .eq 7, 3) := dk_153 0 7 (dk_at dksX2_step_1 13 rfl rfl)
theorem dX2_step_39 : decode cX2_step 39 = .ok (.iconst 0, 1) := dk_3 (dk_at dksX2_step_1 16 rfl rfl)
theorem dX2_step_40 : decode cX2_step 40 = .ok (.goto 4, 3) := dk_167 0 4 (dk_at dksX2_step_1 17 rfl rfl)
theorem dX2_step_43 : decode cX2_step 43 = .ok (.iconst 1, 1) := dk_4 (dk_at dksX2_step_1 20 rfl rfl)
theorem dX2_step_44 : decode cX2_step 44 = .ok (.invokestatic 149, 3) := dk_184 0 149 (dk_at dksX2_step_1 21 rfl rfl)
theorem dX2_step_47 : decode cX2_step 47 = .ok (.ireturn, 1) := dk_172 (dk_at dksX2_step_2 0 rfl rfl)
abbrev cX2_formAt : ByteArray := prog_9_method_68_code
def yX2_formAt : MethodName := ⟨RX2, "formAt", "(II)I"⟩
def dkwX2_formAt_1 : List UInt8 := [132, 4, 1, 167, 255, 240, 29, 172]
abbrev dktX2_formAt_1 : List UInt8 := dkwX2_formAt_1 ++ []
def dkwX2_formAt_0 : List UInt8 := [42, 180, 0, 34, 27, 46, 62, 3, 54, 4, 21, 4, 28, 162, 0, 16, 42, 180, 0, 28, 29, 46, 62]
abbrev dktX2_formAt_0 : List UInt8 := dkwX2_formAt_0 ++ dktX2_formAt_1
theorem dksX2_formAt_0 : cX2_formAt.data.toList.drop 0 = dktX2_formAt_0 := by decide +kernel
theorem dksX2_formAt_1 : cX2_formAt.data.toList.drop 23 = dktX2_formAt_1 := dk_seg dksX2_formAt_0 23 rfl rfl
theorem dX2_formAt_0 : decode cX2_formAt 0 = .ok (.aload_n 0, 1) := dk_42 (dk_at dksX2_formAt_0 0 rfl rfl)
theorem dX2_formAt_1 : decode cX2_formAt 1 = .ok (.getfield 34, 3) := dk_180 0 34 (dk_at dksX2_formAt_0 1 rfl rfl)
theorem dX2_formAt_4 : decode cX2_formAt 4 = .ok (.iload_n 1, 1) := dk_27 (dk_at dksX2_formAt_0 4 rfl rfl)
theorem dX2_formAt_5 : decode cX2_formAt 5 = .ok (.iaload, 1) := dk_46 (dk_at dksX2_formAt_0 5 rfl rfl)
theorem dX2_formAt_6 : decode cX2_formAt 6 = .ok (.istore_n 3, 1) := dk_62 (dk_at dksX2_formAt_0 6 rfl rfl)
theorem dX2_formAt_7 : decode cX2_formAt 7 = .ok (.iconst 0, 1) := dk_3 (dk_at dksX2_formAt_0 7 rfl rfl)
theorem dX2_formAt_8 : decode cX2_formAt 8 = .ok (.istore 4, 2) := dk_54 4 (dk_at dksX2_formAt_0 8 rfl rfl)
theorem dX2_formAt_10 : decode cX2_formAt 10 = .ok (.iload 4, 2) := dk_21 4 (dk_at dksX2_formAt_0 10 rfl rfl)
theorem dX2_formAt_12 : decode cX2_formAt 12 = .ok (.iload_n 2, 1) := dk_28 (dk_at dksX2_formAt_0 12 rfl rfl)
theorem dX2_formAt_13 : decode cX2_formAt 13 = .ok (.if_icmp .ge 16, 3) := dk_162 0 16 (dk_at dksX2_formAt_0 13 rfl rfl)
theorem dX2_formAt_16 : decode cX2_formAt 16 = .ok (.aload_n 0, 1) := dk_42 (dk_at dksX2_formAt_0 16 rfl rfl)
theorem dX2_formAt_17 : decode cX2_formAt 17 = .ok (.getfield 28, 3) := dk_180 0 28 (dk_at dksX2_formAt_0 17 rfl rfl)
theorem dX2_formAt_20 : decode cX2_formAt 20 = .ok (.iload_n 3, 1) := dk_29 (dk_at dksX2_formAt_0 20 rfl rfl)
theorem dX2_formAt_21 : decode cX2_formAt 21 = .ok (.iaload, 1) := dk_46 (dk_at dksX2_formAt_0 21 rfl rfl)
theorem dX2_formAt_22 : decode cX2_formAt 22 = .ok (.istore_n 3, 1) := dk_62 (dk_at dksX2_formAt_0 22 rfl rfl)
theorem dX2_formAt_23 : decode cX2_formAt 23 = .ok (.iinc 4 1, 3) := dk_132 4 1 (dk_at dksX2_formAt_1 0 rfl rfl)
theorem dX2_formAt_26 : decode cX2_formAt 26 = .ok (.goto (-16), 3) := dk_167 255 240 (dk_at dksX2_formAt_1 3 rfl rfl)
theorem dX2_formAt_29 : decode cX2_formAt 29 = .ok (.iload_n 3, 1) := dk_29 (dk_at dksX2_formAt_1 6 rfl rfl)
theorem dX2_formAt_30 : decode cX2_formAt 30 = .ok (.ireturn, 1) := dk_172 (dk_at dksX2_formAt_1 7 rfl rfl)
abbrev cX2_trace : ByteArray := prog_9_method_71_code
def yX2_trace : MethodName := ⟨RX2, "trace", "(II)I"⟩
def dkwX2_trace_1 : List UInt8 := [42, 27, 28, 182, 0, 254, 167, 0, 5, 18, 54, 172]
abbrev dktX2_trace_1 : List UInt8 := dkwX2_trace_1 ++ []
def dkwX2_trace_0 : List UInt8 := [42, 27, 182, 0, 245, 154, 0, 8, 18, 145, 167, 0, 25, 28, 5, 17, 3, 232, 184, 0, 50, 153, 0, 12]
abbrev dktX2_trace_0 : List UInt8 := dkwX2_trace_0 ++ dktX2_trace_1
theorem dksX2_trace_0 : cX2_trace.data.toList.drop 0 = dktX2_trace_0 := by decide +kernel
theorem dksX2_trace_1 : cX2_trace.data.toList.drop 24 = dktX2_trace_1 := dk_seg dksX2_trace_0 24 rfl rfl
theorem dX2_trace_0 : decode cX2_trace 0 = .ok (.aload_n 0, 1) := dk_42 (dk_at dksX2_trace_0 0 rfl rfl)
theorem dX2_trace_1 : decode cX2_trace 1 = .ok (.iload_n 1, 1) := dk_27 (dk_at dksX2_trace_0 1 rfl rfl)
theorem dX2_trace_2 : decode cX2_trace 2 = .ok (.invokevirtual 245, 3) := dk_182 0 245 (dk_at dksX2_trace_0 2 rfl rfl)
theorem dX2_trace_5 : decode cX2_trace 5 = .ok (.ifCond .ne 8, 3) := dk_154 0 8 (dk_at dksX2_trace_0 5 rfl rfl)
theorem dX2_trace_8 : decode cX2_trace 8 = .ok (.ldc 145, 2) := dk_18 145 (dk_at dksX2_trace_0 8 rfl rfl)
theorem dX2_trace_10 : decode cX2_trace 10 = .ok (.goto 25, 3) := dk_167 0 25 (dk_at dksX2_trace_0 10 rfl rfl)
theorem dX2_trace_13 : decode cX2_trace 13 = .ok (.iload_n 2, 1) := dk_28 (dk_at dksX2_trace_0 13 rfl rfl)
theorem dX2_trace_14 : decode cX2_trace 14 = .ok (.iconst 2, 1) := dk_5 (dk_at dksX2_trace_0 14 rfl rfl)
theorem dX2_trace_15 : decode cX2_trace 15 = .ok (.sipush 1000, 3) := dk_17 3 232 (dk_at dksX2_trace_0 15 rfl rfl)
theorem dX2_trace_18 : decode cX2_trace 18 = .ok (.invokestatic 50, 3) := dk_184 0 50 (dk_at dksX2_trace_0 18 rfl rfl)
theorem dX2_trace_21 : decode cX2_trace 21 = .ok (.ifCond .eq 12, 3) := dk_153 0 12 (dk_at dksX2_trace_0 21 rfl rfl)
theorem dX2_trace_24 : decode cX2_trace 24 = .ok (.aload_n 0, 1) := dk_42 (dk_at dksX2_trace_1 0 rfl rfl)
theorem dX2_trace_25 : decode cX2_trace 25 = .ok (.iload_n 1, 1) := dk_27 (dk_at dksX2_trace_1 1 rfl rfl)
theorem dX2_trace_26 : decode cX2_trace 26 = .ok (.iload_n 2, 1) := dk_28 (dk_at dksX2_trace_1 2 rfl rfl)
theorem dX2_trace_27 : decode cX2_trace 27 = .ok (.invokevirtual 254, 3) := dk_182 0 254 (dk_at dksX2_trace_1 3 rfl rfl)
theorem dX2_trace_30 : decode cX2_trace 30 = .ok (.goto 5, 3) := dk_167 0 5 (dk_at dksX2_trace_1 6 rfl rfl)
theorem dX2_trace_33 : decode cX2_trace 33 = .ok (.ldc 54, 2) := dk_18 54 (dk_at dksX2_trace_1 9 rfl rfl)
theorem dX2_trace_35 : decode cX2_trace 35 = .ok (.ireturn, 1) := dk_172 (dk_at dksX2_trace_1 11 rfl rfl)
abbrev cX2_traceOf : ByteArray := prog_9_method_70_code
def yX2_traceOf : MethodName := ⟨RX2, "traceOf", "(II)I"⟩
def dkwX2_traceOf_3 : List UInt8 := [21, 7, 46, 54, 7, 21, 7, 42, 180, 0, 34, 27, 46, 160, 255, 194, 29, 21, 6, 96, 28, 112, 172]
abbrev dktX2_traceOf_3 : List UInt8 := dkwX2_traceOf_3 ++ []
def dkwX2_traceOf_2 : List UInt8 := [167, 0, 20, 29, 21, 4, 96, 28, 112, 54, 4, 21, 5, 21, 6, 96, 28, 112, 54, 6, 42, 180, 0, 28]
abbrev dktX2_traceOf_2 : List UInt8 := dkwX2_traceOf_2 ++ dktX2_traceOf_3
def dkwX2_traceOf_1 : List UInt8 := [182, 0, 215, 153, 0, 22, 29, 21, 4, 96, 28, 112, 62, 21, 5, 21, 6, 96, 28, 112, 54, 5]
abbrev dktX2_traceOf_1 : List UInt8 := dkwX2_traceOf_1 ++ dktX2_traceOf_2
def dkwX2_traceOf_0 : List UInt8 := [4, 62, 3, 54, 4, 3, 54, 5, 4, 54, 6, 42, 180, 0, 34, 27, 46, 54, 7, 42, 21, 7]
abbrev dktX2_traceOf_0 : List UInt8 := dkwX2_traceOf_0 ++ dktX2_traceOf_1
theorem dksX2_traceOf_0 : cX2_traceOf.data.toList.drop 0 = dktX2_traceOf_0 := by decide +kernel
theorem dksX2_traceOf_1 : cX2_traceOf.data.toList.drop 22 = dktX2_traceOf_1 := dk_seg dksX2_traceOf_0 22 rfl rfl
theorem dksX2_traceOf_2 : cX2_traceOf.data.toList.drop 44 = dktX2_traceOf_2 := dk_seg dksX2_traceOf_1 22 rfl rfl
theorem dksX2_traceOf_3 : cX2_traceOf.data.toList.drop 68 = dktX2_traceOf_3 := dk_seg dksX2_traceOf_2 24 rfl rfl
theorem dX2_traceOf_0 : decode cX2_traceOf 0 = .ok (.iconst 1, 1) := dk_4 (dk_at dksX2_traceOf_0 0 rfl rfl)
theorem dX2_traceOf_1 : decode cX2_traceOf 1 = .ok (.istore_n 3, 1) := dk_62 (dk_at dksX2_traceOf_0 1 rfl rfl)
theorem dX2_traceOf_2 : decode cX2_traceOf 2 = .ok (.iconst 0, 1) := dk_3 (dk_at dksX2_traceOf_0 2 rfl rfl)
theorem dX2_traceOf_3 : decode cX2_traceOf 3 = .ok (.istore 4, 2) := dk_54 4 (dk_at dksX2_traceOf_0 3 rfl rfl)
theorem dX2_traceOf_5 : decode cX2_traceOf 5 = .ok (.iconst 0, 1) := dk_3 (dk_at dksX2_traceOf_0 5 rfl rfl)
theorem dX2_traceOf_6 : decode cX2_traceOf 6 = .ok (.istore 5, 2) := dk_54 5 (dk_at dksX2_traceOf_0 6 rfl rfl)
theorem dX2_traceOf_8 : decode cX2_traceOf 8 = .ok (.iconst 1, 1) := dk_4 (dk_at dksX2_traceOf_0 8 rfl rfl)
theorem dX2_traceOf_9 : decode cX2_traceOf 9 = .ok (.istore 6, 2) := dk_54 6 (dk_at dksX2_traceOf_0 9 rfl rfl)
theorem dX2_traceOf_11 : decode cX2_traceOf 11 = .ok (.aload_n 0, 1) := dk_42 (dk_at dksX2_traceOf_0 11 rfl rfl)
theorem dX2_traceOf_12 : decode cX2_traceOf 12 = .ok (.getfield 34, 3) := dk_180 0 34 (dk_at dksX2_traceOf_0 12 rfl rfl)
theorem dX2_traceOf_15 : decode cX2_traceOf 15 = .ok (.iload_n 1, 1) := dk_27 (dk_at dksX2_traceOf_0 15 rfl rfl)
theorem dX2_traceOf_16 : decode cX2_traceOf 16 = .ok (.iaload, 1) := dk_46 (dk_at dksX2_traceOf_0 16 rfl rfl)
theorem dX2_traceOf_17 : decode cX2_traceOf 17 = .ok (.istore 7, 2) := dk_54 7 (dk_at dksX2_traceOf_0 17 rfl rfl)
theorem dX2_traceOf_19 : decode cX2_traceOf 19 = .ok (.aload_n 0, 1) := dk_42 (dk_at dksX2_traceOf_0 19 rfl rfl)
theorem dX2_traceOf_20 : decode cX2_traceOf 20 = .ok (.iload 7, 2) := dk_21 7 (dk_at dksX2_traceOf_0 20 rfl rfl)
theorem dX2_traceOf_22 : decode cX2_traceOf 22 = .ok (.invokevirtual 215, 3) := dk_182 0 215 (dk_at dksX2_traceOf_1 0 rfl rfl)
theorem dX2_traceOf_25 : decode cX2_traceOf 25 = .ok (.ifCond .eq 22, 3) := dk_153 0 22 (dk_at dksX2_traceOf_1 3 rfl rfl)
theorem dX2_traceOf_28 : decode cX2_traceOf 28 = .ok (.iload_n 3, 1) := dk_29 (dk_at dksX2_traceOf_1 6 rfl rfl)
theorem dX2_traceOf_29 : decode cX2_traceOf 29 = .ok (.iload 4, 2) := dk_21 4 (dk_at dksX2_traceOf_1 7 rfl rfl)
theorem dX2_traceOf_31 : decode cX2_traceOf 31 = .ok (.iadd, 1) := dk_96 (dk_at dksX2_traceOf_1 9 rfl rfl)
theorem dX2_traceOf_32 : decode cX2_traceOf 32 = .ok (.iload_n 2, 1) := dk_28 (dk_at dksX2_traceOf_1 10 rfl rfl)
theorem dX2_traceOf_33 : decode cX2_traceOf 33 = .ok (.irem, 1) := dk_112 (dk_at dksX2_traceOf_1 11 rfl rfl)
theorem dX2_traceOf_34 : decode cX2_traceOf 34 = .ok (.istore_n 3, 1) := dk_62 (dk_at dksX2_traceOf_1 12 rfl rfl)
theorem dX2_traceOf_35 : decode cX2_traceOf 35 = .ok (.iload 5, 2) := dk_21 5 (dk_at dksX2_traceOf_1 13 rfl rfl)
theorem dX2_traceOf_37 : decode cX2_traceOf 37 = .ok (.iload 6, 2) := dk_21 6 (dk_at dksX2_traceOf_1 15 rfl rfl)
theorem dX2_traceOf_39 : decode cX2_traceOf 39 = .ok (.iadd, 1) := dk_96 (dk_at dksX2_traceOf_1 17 rfl rfl)
theorem dX2_traceOf_40 : decode cX2_traceOf 40 = .ok (.iload_n 2, 1) := dk_28 (dk_at dksX2_traceOf_1 18 rfl rfl)
theorem dX2_traceOf_41 : decode cX2_traceOf 41 = .ok (.irem, 1) := dk_112 (dk_at dksX2_traceOf_1 19 rfl rfl)
theorem dX2_traceOf_42 : decode cX2_traceOf 42 = .ok (.istore 5, 2) := dk_54 5 (dk_at dksX2_traceOf_1 20 rfl rfl)
theorem dX2_traceOf_44 : decode cX2_traceOf 44 = .ok (.goto 20, 3) := dk_167 0 20 (dk_at dksX2_traceOf_2 0 rfl rfl)
theorem dX2_traceOf_47 : decode cX2_traceOf 47 = .ok (.iload_n 3, 1) := dk_29 (dk_at dksX2_traceOf_2 3 rfl rfl)
theorem dX2_traceOf_48 : decode cX2_traceOf 48 = .ok (.iload 4, 2) := dk_21 4 (dk_at dksX2_traceOf_2 4 rfl rfl)
theorem dX2_traceOf_50 : decode cX2_traceOf 50 = .ok (.iadd, 1) := dk_96 (dk_at dksX2_traceOf_2 6 rfl rfl)
theorem dX2_traceOf_51 : decode cX2_traceOf 51 = .ok (.iload_n 2, 1) := dk_28 (dk_at dksX2_traceOf_2 7 rfl rfl)
theorem dX2_traceOf_52 : decode cX2_traceOf 52 = .ok (.irem, 1) := dk_112 (dk_at dksX2_traceOf_2 8 rfl rfl)
theorem dX2_traceOf_53 : decode cX2_traceOf 53 = .ok (.istore 4, 2) := dk_54 4 (dk_at dksX2_traceOf_2 9 rfl rfl)
theorem dX2_traceOf_55 : decode cX2_traceOf 55 = .ok (.iload 5, 2) := dk_21 5 (dk_at dksX2_traceOf_2 11 rfl rfl)
theorem dX2_traceOf_57 : decode cX2_traceOf 57 = .ok (.iload 6, 2) := dk_21 6 (dk_at dksX2_traceOf_2 13 rfl rfl)
theorem dX2_traceOf_59 : decode cX2_traceOf 59 = .ok (.iadd, 1) := dk_96 (dk_at dksX2_traceOf_2 15 rfl rfl)
theorem dX2_traceOf_60 : decode cX2_traceOf 60 = .ok (.iload_n 2, 1) := dk_28 (dk_at dksX2_traceOf_2 16 rfl rfl)
theorem dX2_traceOf_61 : decode cX2_traceOf 61 = .ok (.irem, 1) := dk_112 (dk_at dksX2_traceOf_2 17 rfl rfl)
theorem dX2_traceOf_62 : decode cX2_traceOf 62 = .ok (.istore 6, 2) := dk_54 6 (dk_at dksX2_traceOf_2 18 rfl rfl)
theorem dX2_traceOf_64 : decode cX2_traceOf 64 = .ok (.aload_n 0, 1) := dk_42 (dk_at dksX2_traceOf_2 20 rfl rfl)
theorem dX2_traceOf_65 : decode cX2_traceOf 65 = .ok (.getfield 28, 3) := dk_180 0 28 (dk_at dksX2_traceOf_2 21 rfl rfl)
theorem dX2_traceOf_68 : decode cX2_traceOf 68 = .ok (.iload 7, 2) := dk_21 7 (dk_at dksX2_traceOf_3 0 rfl rfl)
theorem dX2_traceOf_70 : decode cX2_traceOf 70 = .ok (.iaload, 1) := dk_46 (dk_at dksX2_traceOf_3 2 rfl rfl)
theorem dX2_traceOf_71 : decode cX2_traceOf 71 = .ok (.istore 7, 2) := dk_54 7 (dk_at dksX2_traceOf_3 3 rfl rfl)
theorem dX2_traceOf_73 : decode cX2_traceOf 73 = .ok (.iload 7, 2) := dk_21 7 (dk_at dksX2_traceOf_3 5 rfl rfl)
theorem dX2_traceOf_75 : decode cX2_traceOf 75 = .ok (.aload_n 0, 1) := dk_42 (dk_at dksX2_traceOf_3 7 rfl rfl)
theorem dX2_traceOf_76 : decode cX2_traceOf 76 = .ok (.getfield 34, 3) := dk_180 0 34 (dk_at dksX2_traceOf_3 8 rfl rfl)
theorem dX2_traceOf_79 : decode cX2_traceOf 79 = .ok (.iload_n 1, 1) := dk_27 (dk_at dksX2_traceOf_3 11 rfl rfl)
theorem dX2_traceOf_80 : decode cX2_traceOf 80 = .ok (.iaload, 1) := dk_46 (dk_at dksX2_traceOf_3 12 rfl rfl)
theorem dX2_traceOf_81 : decode cX2_traceOf 81 = .ok (.if_icmp .ne (-62), 3) := dk_160 255 194 (dk_at dksX2_traceOf_3 13 rfl rfl)
theorem dX2_traceOf_84 : decode cX2_traceOf 84 = .ok (.iload_n 3, 1) := dk_29 (dk_at dksX2_traceOf_3 16 rfl rfl)
theorem dX2_traceOf_85 : decode cX2_traceOf 85 = .ok (.iload 6, 2) := dk_21 6 (dk_at dksX2_traceOf_3 17 rfl rfl)
theorem dX2_traceOf_87 : decode cX2_traceOf 87 = .ok (.iadd, 1) := dk_96 (dk_at dksX2_traceOf_3 19 rfl rfl)
theorem dX2_traceOf_88 : decode cX2_traceOf 88 = .ok (.iload_n 2, 1) := dk_28 (dk_at dksX2_traceOf_3 20 rfl rfl)
theorem dX2_traceOf_89 : decode cX2_traceOf 89 = .ok (.irem, 1) := dk_112 (dk_at dksX2_traceOf_3 21 rfl rfl)
theorem dX2_traceOf_90 : decode cX2_traceOf 90 = .ok (.ireturn, 1) := dk_172 (dk_at dksX2_traceOf_3 22 rfl rfl)
abbrev cX2_flow : ByteArray := prog_9_method_74_code
def yX2_flow : MethodName := ⟨RX2, "flow", "(IIIZ)I"⟩
def dkwX2_flow_4 : List UInt8 := [181, 1, 1, 42, 28, 181, 1, 4, 42, 29, 181, 1, 7, 42, 21, 4, 182, 1, 16, 172]
abbrev dktX2_flow_4 : List UInt8 := dkwX2_flow_4 ++ []
def dkwX2_flow_3 : List UInt8 := [180, 0, 209, 160, 0, 16, 27, 28, 184, 0, 155, 29, 184, 0, 155, 4, 164, 0, 6, 18, 54, 172, 42, 27]
abbrev dktX2_flow_3 : List UInt8 := dkwX2_flow_3 ++ dktX2_flow_4
def dkwX2_flow_2 : List UInt8 := [153, 0, 7, 4, 167, 0, 4, 3, 54, 5, 21, 5, 153, 0, 29, 27, 28, 29, 184, 0, 173, 42]
abbrev dktX2_flow_2 : List UInt8 := dkwX2_flow_2 ++ dktX2_flow_3
def dkwX2_flow_1 : List UInt8 := [17, 252, 25, 17, 3, 231, 184, 0, 50, 153, 0, 20, 29, 17, 252, 25, 17, 3, 231, 184, 0, 50]
abbrev dktX2_flow_1 : List UInt8 := dkwX2_flow_1 ++ dktX2_flow_2
def dkwX2_flow_0 : List UInt8 := [42, 182, 1, 13, 154, 0, 6, 18, 78, 172, 27, 17, 252, 25, 17, 3, 231, 184, 0, 50, 153, 0, 33, 28]
abbrev dktX2_flow_0 : List UInt8 := dkwX2_flow_0 ++ dktX2_flow_1
theorem dksX2_flow_0 : cX2_flow.data.toList.drop 0 = dktX2_flow_0 := by decide +kernel
theorem dksX2_flow_1 : cX2_flow.data.toList.drop 24 = dktX2_flow_1 := dk_seg dksX2_flow_0 24 rfl rfl
theorem dksX2_flow_2 : cX2_flow.data.toList.drop 46 = dktX2_flow_2 := dk_seg dksX2_flow_1 22 rfl rfl
theorem dksX2_flow_3 : cX2_flow.data.toList.drop 68 = dktX2_flow_3 := dk_seg dksX2_flow_2 22 rfl rfl
theorem dksX2_flow_4 : cX2_flow.data.toList.drop 92 = dktX2_flow_4 := dk_seg dksX2_flow_3 24 rfl rfl
theorem dX2_flow_0 : decode cX2_flow 0 = .ok (.aload_n 0, 1) := dk_42 (dk_at dksX2_flow_0 0 rfl rfl)
theorem dX2_flow_1 : decode cX2_flow 1 = .ok (.invokevirtual 269, 3) := dk_182 1 13 (dk_at dksX2_flow_0 1 rfl rfl)
theorem dX2_flow_4 : decode cX2_flow 4 = .ok (.ifCond .ne 6, 3) := dk_154 0 6 (dk_at dksX2_flow_0 4 rfl rfl)
theorem dX2_flow_7 : decode cX2_flow 7 = .ok (.ldc 78, 2) := dk_18 78 (dk_at dksX2_flow_0 7 rfl rfl)
theorem dX2_flow_9 : decode cX2_flow 9 = .ok (.ireturn, 1) := dk_172 (dk_at dksX2_flow_0 9 rfl rfl)
theorem dX2_flow_10 : decode cX2_flow 10 = .ok (.iload_n 1, 1) := dk_27 (dk_at dksX2_flow_0 10 rfl rfl)
theorem dX2_flow_11 : decode cX2_flow 11 = .ok (.sipush (-999), 3) := dk_17 252 25 (dk_at dksX2_flow_0 11 rfl rfl)
theorem dX2_flow_14 : decode cX2_flow 14 = .ok (.sipush 999, 3) := dk_17 3 231 (dk_at dksX2_flow_0 14 rfl rfl)
theorem dX2_flow_17 : decode cX2_flow 17 = .ok (.invokestatic 50, 3) := dk_184 0 50 (dk_at dksX2_flow_0 17 rfl rfl)
theorem dX2_flow_20 : decode cX2_flow 20 = .ok (.ifCond .eq 33, 3) := dk_153 0 33 (dk_at dksX2_flow_0 20 rfl rfl)
theorem dX2_flow_23 : decode cX2_flow 23 = .ok (.iload_n 2, 1) := dk_28 (dk_at dksX2_flow_0 23 rfl rfl)
theorem dX2_flow_24 : decode cX2_flow 24 = .ok (.sipush (-999), 3) := dk_17 252 25 (dk_at dksX2_flow_1 0 rfl rfl)
theorem dX2_flow_27 : decode cX2_flow 27 = .ok (.sipush 999, 3) := dk_17 3 231 (dk_at dksX2_flow_1 3 rfl rfl)
theorem dX2_flow_30 : decode cX2_flow 30 = .ok (.invokestatic 50, 3) := dk_184 0 50 (dk_at dksX2_flow_1 6 rfl rfl)
theorem dX2_flow_33 : decode cX2_flow 33 = .ok (.ifCond .eq 20, 3) := dk_153 0 20 (dk_at dksX2_flow_1 9 rfl rfl)
theorem dX2_flow_36 : decode cX2_flow 36 = .ok (.iload_n 3, 1) := dk_29 (dk_at dksX2_flow_1 12 rfl rfl)
theorem dX2_flow_37 : decode cX2_flow 37 = .ok (.sipush (-999), 3) := dk_17 252 25 (dk_at dksX2_flow_1 13 rfl rfl)
theorem dX2_flow_40 : decode cX2_flow 40 = .ok (.sipush 999, 3) := dk_17 3 231 (dk_at dksX2_flow_1 16 rfl rfl)
theorem dX2_flow_43 : decode cX2_flow 43 = .ok (.invokestatic 50, 3) := dk_184 0 50 (dk_at dksX2_flow_1 19 rfl rfl)
theorem dX2_flow_46 : decode cX2_flow 46 = .ok (.ifCond .eq 7, 3) := dk_153 0 7 (dk_at dksX2_flow_2 0 rfl rfl)
theorem dX2_flow_49 : decode cX2_flow 49 = .ok (.iconst 1, 1) := dk_4 (dk_at dksX2_flow_2 3 rfl rfl)
theorem dX2_flow_50 : decode cX2_flow 50 = .ok (.goto 4, 3) := dk_167 0 4 (dk_at dksX2_flow_2 4 rfl rfl)
theorem dX2_flow_53 : decode cX2_flow 53 = .ok (.iconst 0, 1) := dk_3 (dk_at dksX2_flow_2 7 rfl rfl)
theorem dX2_flow_54 : decode cX2_flow 54 = .ok (.istore 5, 2) := dk_54 5 (dk_at dksX2_flow_2 8 rfl rfl)
theorem dX2_flow_56 : decode cX2_flow 56 = .ok (.iload 5, 2) := dk_21 5 (dk_at dksX2_flow_2 10 rfl rfl)
theorem dX2_flow_58 : decode cX2_flow 58 = .ok (.ifCond .eq 29, 3) := dk_153 0 29 (dk_at dksX2_flow_2 12 rfl rfl)
theorem dX2_flow_61 : decode cX2_flow 61 = .ok (.iload_n 1, 1) := dk_27 (dk_at dksX2_flow_2 15 rfl rfl)
theorem dX2_flow_62 : decode cX2_flow 62 = .ok (.iload_n 2, 1) := dk_28 (dk_at dksX2_flow_2 16 rfl rfl)
theorem dX2_flow_63 : decode cX2_flow 63 = .ok (.iload_n 3, 1) := dk_29 (dk_at dksX2_flow_2 17 rfl rfl)
theorem dX2_flow_64 : decode cX2_flow 64 = .ok (.invokestatic 173, 3) := dk_184 0 173 (dk_at dksX2_flow_2 18 rfl rfl)
theorem dX2_flow_67 : decode cX2_flow 67 = .ok (.aload_n 0, 1) := dk_42 (dk_at dksX2_flow_2 21 rfl rfl)
theorem dX2_flow_68 : decode cX2_flow 68 = .ok (.getfield 209, 3) := dk_180 0 209 (dk_at dksX2_flow_3 0 rfl rfl)
theorem dX2_flow_71 : decode cX2_flow 71 = .ok (.if_icmp .ne 16, 3) := dk_160 0 16 (dk_at dksX2_flow_3 3 rfl rfl)
theorem dX2_flow_74 : decode cX2_flow 74 = .ok (.iload_n 1, 1) := dk_27 (dk_at dksX2_flow_3 6 rfl rfl)
theorem dX2_flow_75 : decode cX2_flow 75 = .ok (.iload_n 2, 1) := dk_28 (dk_at dksX2_flow_3 7 rfl rfl)
theorem dX2_flow_76 : decode cX2_flow 76 = .ok (.invokestatic 155, 3) := dk_184 0 155 (dk_at dksX2_flow_3 8 rfl rfl)
theorem dX2_flow_79 : decode cX2_flow 79 = .ok (.iload_n 3, 1) := dk_29 (dk_at dksX2_flow_3 11 rfl rfl)
theorem dX2_flow_80 : decode cX2_flow 80 = .ok (.invokestatic 155, 3) := dk_184 0 155 (dk_at dksX2_flow_3 12 rfl rfl)
theorem dX2_flow_83 : decode cX2_flow 83 = .ok (.iconst 1, 1) := dk_4 (dk_at dksX2_flow_3 15 rfl rfl)
theorem dX2_flow_84 : decode cX2_flow 84 = .ok (.if_icmp .le 6, 3) := dk_164 0 6 (dk_at dksX2_flow_3 16 rfl rfl)
theorem dX2_flow_87 : decode cX2_flow 87 = .ok (.ldc 54, 2) := dk_18 54 (dk_at dksX2_flow_3 19 rfl rfl)
theorem dX2_flow_89 : decode cX2_flow 89 = .ok (.ireturn, 1) := dk_172 (dk_at dksX2_flow_3 21 rfl rfl)
theorem dX2_flow_90 : decode cX2_flow 90 = .ok (.aload_n 0, 1) := dk_42 (dk_at dksX2_flow_3 22 rfl rfl)
theorem dX2_flow_91 : decode cX2_flow 91 = .ok (.iload_n 1, 1) := dk_27 (dk_at dksX2_flow_3 23 rfl rfl)
theorem dX2_flow_92 : decode cX2_flow 92 = .ok (.putfield 257, 3) := dk_181 1 1 (dk_at dksX2_flow_4 0 rfl rfl)
theorem dX2_flow_95 : decode cX2_flow 95 = .ok (.aload_n 0, 1) := dk_42 (dk_at dksX2_flow_4 3 rfl rfl)
theorem dX2_flow_96 : decode cX2_flow 96 = .ok (.iload_n 2, 1) := dk_28 (dk_at dksX2_flow_4 4 rfl rfl)
theorem dX2_flow_97 : decode cX2_flow 97 = .ok (.putfield 260, 3) := dk_181 1 4 (dk_at dksX2_flow_4 5 rfl rfl)
theorem dX2_flow_100 : decode cX2_flow 100 = .ok (.aload_n 0, 1) := dk_42 (dk_at dksX2_flow_4 8 rfl rfl)
theorem dX2_flow_101 : decode cX2_flow 101 = .ok (.iload_n 3, 1) := dk_29 (dk_at dksX2_flow_4 9 rfl rfl)
theorem dX2_flow_102 : decode cX2_flow 102 = .ok (.putfield 263, 3) := dk_181 1 7 (dk_at dksX2_flow_4 10 rfl rfl)
theorem dX2_flow_105 : decode cX2_flow 105 = .ok (.aload_n 0, 1) := dk_42 (dk_at dksX2_flow_4 13 rfl rfl)
theorem dX2_flow_106 : decode cX2_flow 106 = .ok (.iload 4, 2) := dk_21 4 (dk_at dksX2_flow_4 14 rfl rfl)
theorem dX2_flow_108 : decode cX2_flow 108 = .ok (.invokevirtual 272, 3) := dk_182 1 16 (dk_at dksX2_flow_4 16 rfl rfl)
theorem dX2_flow_111 : decode cX2_flow 111 = .ok (.ireturn, 1) := dk_172 (dk_at dksX2_flow_4 19 rfl rfl)
abbrev cX2_isRiver : ByteArray := prog_9_method_54_code
def yX2_isRiver : MethodName := ⟨RX2, "isRiver", "()Z"⟩
def dkwX2_isRiver_0 : List UInt8 := [42, 180, 0, 209, 158, 0, 7, 4, 167, 0, 4, 3, 172]
abbrev dktX2_isRiver_0 : List UInt8 := dkwX2_isRiver_0 ++ []
theorem dksX2_isRiver_0 : cX2_isRiver.data.toList.drop 0 = dktX2_isRiver_0 := by decide +kernel
theorem dX2_isRiver_0 : decode cX2_isRiver 0 = .ok (.aload_n 0, 1) := dk_42 (dk_at dksX2_isRiver_0 0 rfl rfl)
theorem dX2_isRiver_1 : decode cX2_isRiver 1 = .ok (.getfield 209, 3) := dk_180 0 209 (dk_at dksX2_isRiver_0 1 rfl rfl)
theorem dX2_isRiver_4 : decode cX2_isRiver 4 = .ok (.ifCond .le 7, 3) := dk_158 0 7 (dk_at dksX2_isRiver_0 4 rfl rfl)
theorem dX2_isRiver_7 : decode cX2_isRiver 7 = .ok (.iconst 1, 1) := dk_4 (dk_at dksX2_isRiver_0 7 rfl rfl)
theorem dX2_isRiver_8 : decode cX2_isRiver 8 = .ok (.goto 4, 3) := dk_167 0 4 (dk_at dksX2_isRiver_0 8 rfl rfl)
theorem dX2_isRiver_11 : decode cX2_isRiver 11 = .ok (.iconst 0, 1) := dk_3 (dk_at dksX2_isRiver_0 11 rfl rfl)
theorem dX2_isRiver_12 : decode cX2_isRiver 12 = .ok (.ireturn, 1) := dk_172 (dk_at dksX2_isRiver_0 12 rfl rfl)
abbrev cX2_flowNow : ByteArray := prog_9_method_73_code
def yX2_flowNow : MethodName := ⟨RX2, "flowNow", "(Z)I"⟩
def dkwX2_flowNow_3 : List UInt8 := [167, 0, 20, 42, 42, 180, 1, 7, 42, 180, 1, 4, 116, 42, 180, 1, 1, 182, 0, 218, 172]
abbrev dktX2_flowNow_3 : List UInt8 := dkwX2_flowNow_3 ++ []
def dkwX2_flowNow_2 : List UInt8 := [180, 1, 1, 158, 0, 22, 42, 42, 180, 1, 1, 42, 180, 1, 4, 42, 180, 1, 7, 182, 0, 218]
abbrev dktX2_flowNow_2 : List UInt8 := dkwX2_flowNow_2 ++ dktX2_flowNow_3
def dkwX2_flowNow_1 : List UInt8 := [167, 0, 4, 3, 160, 0, 13, 42, 182, 1, 10, 132, 2, 1, 167, 255, 222, 27, 153, 0, 5, 28, 172, 42]
abbrev dktX2_flowNow_1 : List UInt8 := dkwX2_flowNow_1 ++ dktX2_flowNow_2
def dkwX2_flowNow_0 : List UInt8 := [3, 61, 42, 180, 1, 1, 158, 0, 7, 4, 167, 0, 4, 3, 42, 180, 1, 7, 158, 0, 7, 4]
abbrev dktX2_flowNow_0 : List UInt8 := dkwX2_flowNow_0 ++ dktX2_flowNow_1
theorem dksX2_flowNow_0 : cX2_flowNow.data.toList.drop 0 = dktX2_flowNow_0 := by decide +kernel
theorem dksX2_flowNow_1 : cX2_flowNow.data.toList.drop 22 = dktX2_flowNow_1 := dk_seg dksX2_flowNow_0 22 rfl rfl
theorem dksX2_flowNow_2 : cX2_flowNow.data.toList.drop 46 = dktX2_flowNow_2 := dk_seg dksX2_flowNow_1 24 rfl rfl
theorem dksX2_flowNow_3 : cX2_flowNow.data.toList.drop 68 = dktX2_flowNow_3 := dk_seg dksX2_flowNow_2 22 rfl rfl
theorem dX2_flowNow_0 : decode cX2_flowNow 0 = .ok (.iconst 0, 1) := dk_3 (dk_at dksX2_flowNow_0 0 rfl rfl)
theorem dX2_flowNow_1 : decode cX2_flowNow 1 = .ok (.istore_n 2, 1) := dk_61 (dk_at dksX2_flowNow_0 1 rfl rfl)
theorem dX2_flowNow_2 : decode cX2_flowNow 2 = .ok (.aload_n 0, 1) := dk_42 (dk_at dksX2_flowNow_0 2 rfl rfl)
theorem dX2_flowNow_3 : decode cX2_flowNow 3 = .ok (.getfield 257, 3) := dk_180 1 1 (dk_at dksX2_flowNow_0 3 rfl rfl)
theorem dX2_flowNow_6 : decode cX2_flowNow 6 = .ok (.ifCond .le 7, 3) := dk_158 0 7 (dk_at dksX2_flowNow_0 6 rfl rfl)
theorem dX2_flowNow_9 : decode cX2_flowNow 9 = .ok (.iconst 1, 1) := dk_4 (dk_at dksX2_flowNow_0 9 rfl rfl)
theorem dX2_flowNow_10 : decode cX2_flowNow 10 = .ok (.goto 4, 3) := dk_167 0 4 (dk_at dksX2_flowNow_0 10 rfl rfl)
theorem dX2_flowNow_13 : decode cX2_flowNow 13 = .ok (.iconst 0, 1) := dk_3 (dk_at dksX2_flowNow_0 13 rfl rfl)
theorem dX2_flowNow_14 : decode cX2_flowNow 14 = .ok (.aload_n 0, 1) := dk_42 (dk_at dksX2_flowNow_0 14 rfl rfl)
theorem dX2_flowNow_15 : decode cX2_flowNow 15 = .ok (.getfield 263, 3) := dk_180 1 7 (dk_at dksX2_flowNow_0 15 rfl rfl)
theorem dX2_flowNow_18 : decode cX2_flowNow 18 = .ok (.ifCond .le 7, 3) := dk_158 0 7 (dk_at dksX2_flowNow_0 18 rfl rfl)
theorem dX2_flowNow_21 : decode cX2_flowNow 21 = .ok (.iconst 1, 1) := dk_4 (dk_at dksX2_flowNow_0 21 rfl rfl)
theorem dX2_flowNow_22 : decode cX2_flowNow 22 = .ok (.goto 4, 3) := dk_167 0 4 (dk_at dksX2_flowNow_1 0 rfl rfl)
theorem dX2_flowNow_25 : decode cX2_flowNow 25 = .ok (.iconst 0, 1) := dk_3 (dk_at dksX2_flowNow_1 3 rfl rfl)
theorem dX2_flowNow_26 : decode cX2_flowNow 26 = .ok (.if_icmp .ne 13, 3) := dk_160 0 13 (dk_at dksX2_flowNow_1 4 rfl rfl)
theorem dX2_flowNow_29 : decode cX2_flowNow 29 = .ok (.aload_n 0, 1) := dk_42 (dk_at dksX2_flowNow_1 7 rfl rfl)
theorem dX2_flowNow_30 : decode cX2_flowNow 30 = .ok (.invokevirtual 266, 3) := dk_182 1 10 (dk_at dksX2_flowNow_1 8 rfl rfl)
theorem dX2_flowNow_33 : decode cX2_flowNow 33 = .ok (.iinc 2 1, 3) := dk_132 2 1 (dk_at dksX2_flowNow_1 11 rfl rfl)
theorem dX2_flowNow_36 : decode cX2_flowNow 36 = .ok (.goto (-34), 3) := dk_167 255 222 (dk_at dksX2_flowNow_1 14 rfl rfl)
theorem dX2_flowNow_39 : decode cX2_flowNow 39 = .ok (.iload_n 1, 1) := dk_27 (dk_at dksX2_flowNow_1 17 rfl rfl)
theorem dX2_flowNow_40 : decode cX2_flowNow 40 = .ok (.ifCond .eq 5, 3) := dk_153 0 5 (dk_at dksX2_flowNow_1 18 rfl rfl)
theorem dX2_flowNow_43 : decode cX2_flowNow 43 = .ok (.iload_n 2, 1) := dk_28 (dk_at dksX2_flowNow_1 21 rfl rfl)
theorem dX2_flowNow_44 : decode cX2_flowNow 44 = .ok (.ireturn, 1) := dk_172 (dk_at dksX2_flowNow_1 22 rfl rfl)
theorem dX2_flowNow_45 : decode cX2_flowNow 45 = .ok (.aload_n 0, 1) := dk_42 (dk_at dksX2_flowNow_1 23 rfl rfl)
theorem dX2_flowNow_46 : decode cX2_flowNow 46 = .ok (.getfield 257, 3) := dk_180 1 1 (dk_at dksX2_flowNow_2 0 rfl rfl)
theorem dX2_flowNow_49 : decode cX2_flowNow 49 = .ok (.ifCond .le 22, 3) := dk_158 0 22 (dk_at dksX2_flowNow_2 3 rfl rfl)
theorem dX2_flowNow_52 : decode cX2_flowNow 52 = .ok (.aload_n 0, 1) := dk_42 (dk_at dksX2_flowNow_2 6 rfl rfl)
theorem dX2_flowNow_53 : decode cX2_flowNow 53 = .ok (.aload_n 0, 1) := dk_42 (dk_at dksX2_flowNow_2 7 rfl rfl)
theorem dX2_flowNow_54 : decode cX2_flowNow 54 = .ok (.getfield 257, 3) := dk_180 1 1 (dk_at dksX2_flowNow_2 8 rfl rfl)
theorem dX2_flowNow_57 : decode cX2_flowNow 57 = .ok (.aload_n 0, 1) := dk_42 (dk_at dksX2_flowNow_2 11 rfl rfl)
theorem dX2_flowNow_58 : decode cX2_flowNow 58 = .ok (.getfield 260, 3) := dk_180 1 4 (dk_at dksX2_flowNow_2 12 rfl rfl)
theorem dX2_flowNow_61 : decode cX2_flowNow 61 = .ok (.aload_n 0, 1) := dk_42 (dk_at dksX2_flowNow_2 15 rfl rfl)
theorem dX2_flowNow_62 : decode cX2_flowNow 62 = .ok (.getfield 263, 3) := dk_180 1 7 (dk_at dksX2_flowNow_2 16 rfl rfl)
theorem dX2_flowNow_65 : decode cX2_flowNow 65 = .ok (.invokevirtual 218, 3) := dk_182 0 218 (dk_at dksX2_flowNow_2 19 rfl rfl)
theorem dX2_flowNow_68 : decode cX2_flowNow 68 = .ok (.goto 20, 3) := dk_167 0 20 (dk_at dksX2_flowNow_3 0 rfl rfl)
theorem dX2_flowNow_71 : decode cX2_flowNow 71 = .ok (.aload_n 0, 1) := dk_42 (dk_at dksX2_flowNow_3 3 rfl rfl)
theorem dX2_flowNow_72 : decode cX2_flowNow 72 = .ok (.aload_n 0, 1) := dk_42 (dk_at dksX2_flowNow_3 4 rfl rfl)
theorem dX2_flowNow_73 : decode cX2_flowNow 73 = .ok (.getfield 263, 3) := dk_180 1 7 (dk_at dksX2_flowNow_3 5 rfl rfl)
theorem dX2_flowNow_76 : decode cX2_flowNow 76 = .ok (.aload_n 0, 1) := dk_42 (dk_at dksX2_flowNow_3 8 rfl rfl)
theorem dX2_flowNow_77 : decode cX2_flowNow 77 = .ok (.getfield 260, 3) := dk_180 1 4 (dk_at dksX2_flowNow_3 9 rfl rfl)
theorem dX2_flowNow_80 : decode cX2_flowNow 80 = .ok (.ineg, 1) := dk_116 (dk_at dksX2_flowNow_3 12 rfl rfl)
theorem dX2_flowNow_81 : decode cX2_flowNow 81 = .ok (.aload_n 0, 1) := dk_42 (dk_at dksX2_flowNow_3 13 rfl rfl)
theorem dX2_flowNow_82 : decode cX2_flowNow 82 = .ok (.getfield 257, 3) := dk_180 1 1 (dk_at dksX2_flowNow_3 14 rfl rfl)
theorem dX2_flowNow_85 : decode cX2_flowNow 85 = .ok (.invokevirtual 218, 3) := dk_182 0 218 (dk_at dksX2_flowNow_3 17 rfl rfl)
theorem dX2_flowNow_88 : decode cX2_flowNow 88 = .ok (.ireturn, 1) := dk_172 (dk_at dksX2_flowNow_3 20 rfl rfl)
abbrev cX2_flowStep : ByteArray := prog_9_method_72_code
def yX2_flowStep : MethodName := ⟨RX2, "flowStep", "()V"⟩
def dkwX2_flowStep_4 : List UInt8 := [180, 1, 4, 5, 27, 104, 42, 180, 1, 1, 104, 96, 181, 1, 4, 42, 28, 181, 1, 7, 177]
abbrev dktX2_flowStep_4 : List UInt8 := dkwX2_flowStep_4 ++ []
def dkwX2_flowStep_3 : List UInt8 := [5, 27, 104, 42, 180, 1, 7, 104, 96, 181, 1, 4, 42, 28, 181, 1, 1, 167, 0, 25, 42, 89]
abbrev dktX2_flowStep_3 : List UInt8 := dkwX2_flowStep_3 ++ dktX2_flowStep_4
def dkwX2_flowStep_2 : List UInt8 := [96, 61, 42, 180, 1, 1, 184, 0, 46, 42, 180, 1, 7, 184, 0, 46, 161, 0, 28, 42, 89, 180, 1, 4]
abbrev dktX2_flowStep_2 : List UInt8 := dkwX2_flowStep_2 ++ dktX2_flowStep_3
def dkwX2_flowStep_1 : List UInt8 := [160, 0, 7, 2, 167, 0, 4, 4, 60, 42, 180, 1, 1, 42, 180, 1, 7, 96, 27, 42, 180, 1, 4, 104]
abbrev dktX2_flowStep_1 : List UInt8 := dkwX2_flowStep_1 ++ dktX2_flowStep_2
def dkwX2_flowStep_0 : List UInt8 := [42, 180, 1, 1, 158, 0, 7, 4, 167, 0, 4, 3, 42, 180, 1, 4, 158, 0, 7, 4, 167, 0, 4, 3]
abbrev dktX2_flowStep_0 : List UInt8 := dkwX2_flowStep_0 ++ dktX2_flowStep_1
theorem dksX2_flowStep_0 : cX2_flowStep.data.toList.drop 0 = dktX2_flowStep_0 := by decide +kernel
theorem dksX2_flowStep_1 : cX2_flowStep.data.toList.drop 24 = dktX2_flowStep_1 := dk_seg dksX2_flowStep_0 24 rfl rfl
theorem dksX2_flowStep_2 : cX2_flowStep.data.toList.drop 48 = dktX2_flowStep_2 := dk_seg dksX2_flowStep_1 24 rfl rfl
theorem dksX2_flowStep_3 : cX2_flowStep.data.toList.drop 72 = dktX2_flowStep_3 := dk_seg dksX2_flowStep_2 24 rfl rfl
theorem dksX2_flowStep_4 : cX2_flowStep.data.toList.drop 94 = dktX2_flowStep_4 := dk_seg dksX2_flowStep_3 22 rfl rfl
theorem dX2_flowStep_0 : decode cX2_flowStep 0 = .ok (.aload_n 0, 1) := dk_42 (dk_at dksX2_flowStep_0 0 rfl rfl)
theorem dX2_flowStep_1 : decode cX2_flowStep 1 = .ok (.getfield 257, 3) := dk_180 1 1 (dk_at dksX2_flowStep_0 1 rfl rfl)
theorem dX2_flowStep_4 : decode cX2_flowStep 4 = .ok (.ifCond .le 7, 3) := dk_158 0 7 (dk_at dksX2_flowStep_0 4 rfl rfl)
theorem dX2_flowStep_7 : decode cX2_flowStep 7 = .ok (.iconst 1, 1) := dk_4 (dk_at dksX2_flowStep_0 7 rfl rfl)
theorem dX2_flowStep_8 : decode cX2_flowStep 8 = .ok (.goto 4, 3) := dk_167 0 4 (dk_at dksX2_flowStep_0 8 rfl rfl)
theorem dX2_flowStep_11 : decode cX2_flowStep 11 = .ok (.iconst 0, 1) := dk_3 (dk_at dksX2_flowStep_0 11 rfl rfl)
theorem dX2_flowStep_12 : decode cX2_flowStep 12 = .ok (.aload_n 0, 1) := dk_42 (dk_at dksX2_flowStep_0 12 rfl rfl)
theorem dX2_flowStep_13 : decode cX2_flowStep 13 = .ok (.getfield 260, 3) := dk_180 1 4 (dk_at dksX2_flowStep_0 13 rfl rfl)
theorem dX2_flowStep_16 : decode cX2_flowStep 16 = .ok (.ifCond .le 7, 3) := dk_158 0 7 (dk_at dksX2_flowStep_0 16 rfl rfl)
theorem dX2_flowStep_19 : decode cX2_flowStep 19 = .ok (.iconst 1, 1) := dk_4 (dk_at dksX2_flowStep_0 19 rfl rfl)
theorem dX2_flowStep_20 : decode cX2_flowStep 20 = .ok (.goto 4, 3) := dk_167 0 4 (dk_at dksX2_flowStep_0 20 rfl rfl)
theorem dX2_flowStep_23 : decode cX2_flowStep 23 = .ok (.iconst 0, 1) := dk_3 (dk_at dksX2_flowStep_0 23 rfl rfl)
theorem dX2_flowStep_24 : decode cX2_flowStep 24 = .ok (.if_icmp .ne 7, 3) := dk_160 0 7 (dk_at dksX2_flowStep_1 0 rfl rfl)
theorem dX2_flowStep_27 : decode cX2_flowStep 27 = .ok (.iconst (-1), 1) := dk_2 (dk_at dksX2_flowStep_1 3 rfl rfl)
theorem dX2_flowStep_28 : decode cX2_flowStep 28 = .ok (.goto 4, 3) := dk_167 0 4 (dk_at dksX2_flowStep_1 4 rfl rfl)
theorem dX2_flowStep_31 : decode cX2_flowStep 31 = .ok (.iconst 1, 1) := dk_4 (dk_at dksX2_flowStep_1 7 rfl rfl)
theorem dX2_flowStep_32 : decode cX2_flowStep 32 = .ok (.istore_n 1, 1) := dk_60 (dk_at dksX2_flowStep_1 8 rfl rfl)
theorem dX2_flowStep_33 : decode cX2_flowStep 33 = .ok (.aload_n 0, 1) := dk_42 (dk_at dksX2_flowStep_1 9 rfl rfl)
theorem dX2_flowStep_34 : decode cX2_flowStep 34 = .ok (.getfield 257, 3) := dk_180 1 1 (dk_at dksX2_flowStep_1 10 rfl rfl)
theorem dX2_flowStep_37 : decode cX2_flowStep 37 = .ok (.aload_n 0, 1) := dk_42 (dk_at dksX2_flowStep_1 13 rfl rfl)
theorem dX2_flowStep_38 : decode cX2_flowStep 38 = .ok (.getfield 263, 3) := dk_180 1 7 (dk_at dksX2_flowStep_1 14 rfl rfl)
theorem dX2_flowStep_41 : decode cX2_flowStep 41 = .ok (.iadd, 1) := dk_96 (dk_at dksX2_flowStep_1 17 rfl rfl)
theorem dX2_flowStep_42 : decode cX2_flowStep 42 = .ok (.iload_n 1, 1) := dk_27 (dk_at dksX2_flowStep_1 18 rfl rfl)
theorem dX2_flowStep_43 : decode cX2_flowStep 43 = .ok (.aload_n 0, 1) := dk_42 (dk_at dksX2_flowStep_1 19 rfl rfl)
theorem dX2_flowStep_44 : decode cX2_flowStep 44 = .ok (.getfield 260, 3) := dk_180 1 4 (dk_at dksX2_flowStep_1 20 rfl rfl)
theorem dX2_flowStep_47 : decode cX2_flowStep 47 = .ok (.imul, 1) := dk_104 (dk_at dksX2_flowStep_1 23 rfl rfl)
theorem dX2_flowStep_48 : decode cX2_flowStep 48 = .ok (.iadd, 1) := dk_96 (dk_at dksX2_flowStep_2 0 rfl rfl)
theorem dX2_flowStep_49 : decode cX2_flowStep 49 = .ok (.istore_n 2, 1) := dk_61 (dk_at dksX2_flowStep_2 1 rfl rfl)
theorem dX2_flowStep_50 : decode cX2_flowStep 50 = .ok (.aload_n 0, 1) := dk_42 (dk_at dksX2_flowStep_2 2 rfl rfl)
theorem dX2_flowStep_51 : decode cX2_flowStep 51 = .ok (.getfield 257, 3) := dk_180 1 1 (dk_at dksX2_flowStep_2 3 rfl rfl)
theorem dX2_flowStep_54 : decode cX2_flowStep 54 = .ok (.invokestatic 46, 3) := dk_184 0 46 (dk_at dksX2_flowStep_2 6 rfl rfl)
theorem dX2_flowStep_57 : decode cX2_flowStep 57 = .ok (.aload_n 0, 1) := dk_42 (dk_at dksX2_flowStep_2 9 rfl rfl)
theorem dX2_flowStep_58 : decode cX2_flowStep 58 = .ok (.getfield 263, 3) := dk_180 1 7 (dk_at dksX2_flowStep_2 10 rfl rfl)
theorem dX2_flowStep_61 : decode cX2_flowStep 61 = .ok (.invokestatic 46, 3) := dk_184 0 46 (dk_at dksX2_flowStep_2 13 rfl rfl)
theorem dX2_flowStep_64 : decode cX2_flowStep 64 = .ok (.if_icmp .lt 28, 3) := dk_161 0 28 (dk_at dksX2_flowStep_2 16 rfl rfl)
theorem dX2_flowStep_67 : decode cX2_flowStep 67 = .ok (.aload_n 0, 1) := dk_42 (dk_at dksX2_flowStep_2 19 rfl rfl)
theorem dX2_flowStep_68 : decode cX2_flowStep 68 = .ok (.dup, 1) := dk_89 (dk_at dksX2_flowStep_2 20 rfl rfl)
theorem dX2_flowStep_69 : decode cX2_flowStep 69 = .ok (.getfield 260, 3) := dk_180 1 4 (dk_at dksX2_flowStep_2 21 rfl rfl)
theorem dX2_flowStep_72 : decode cX2_flowStep 72 = .ok (.iconst 2, 1) := dk_5 (dk_at dksX2_flowStep_3 0 rfl rfl)
theorem dX2_flowStep_73 : decode cX2_flowStep 73 = .ok (.iload_n 1, 1) := dk_27 (dk_at dksX2_flowStep_3 1 rfl rfl)
theorem dX2_flowStep_74 : decode cX2_flowStep 74 = .ok (.imul, 1) := dk_104 (dk_at dksX2_flowStep_3 2 rfl rfl)
theorem dX2_flowStep_75 : decode cX2_flowStep 75 = .ok (.aload_n 0, 1) := dk_42 (dk_at dksX2_flowStep_3 3 rfl rfl)
theorem dX2_flowStep_76 : decode cX2_flowStep 76 = .ok (.getfield 263, 3) := dk_180 1 7 (dk_at dksX2_flowStep_3 4 rfl rfl)
theorem dX2_flowStep_79 : decode cX2_flowStep 79 = .ok (.imul, 1) := dk_104 (dk_at dksX2_flowStep_3 7 rfl rfl)
theorem dX2_flowStep_80 : decode cX2_flowStep 80 = .ok (.iadd, 1) := dk_96 (dk_at dksX2_flowStep_3 8 rfl rfl)
theorem dX2_flowStep_81 : decode cX2_flowStep 81 = .ok (.putfield 260, 3) := dk_181 1 4 (dk_at dksX2_flowStep_3 9 rfl rfl)
theorem dX2_flowStep_84 : decode cX2_flowStep 84 = .ok (.aload_n 0, 1) := dk_42 (dk_at dksX2_flowStep_3 12 rfl rfl)
theorem dX2_flowStep_85 : decode cX2_flowStep 85 = .ok (.iload_n 2, 1) := dk_28 (dk_at dksX2_flowStep_3 13 rfl rfl)
theorem dX2_flowStep_86 : decode cX2_flowStep 86 = .ok (.putfield 257, 3) := dk_181 1 1 (dk_at dksX2_flowStep_3 14 rfl rfl)
theorem dX2_flowStep_89 : decode cX2_flowStep 89 = .ok (.goto 25, 3) := dk_167 0 25 (dk_at dksX2_flowStep_3 17 rfl rfl)
theorem dX2_flowStep_92 : decode cX2_flowStep 92 = .ok (.aload_n 0, 1) := dk_42 (dk_at dksX2_flowStep_3 20 rfl rfl)
theorem dX2_flowStep_93 : decode cX2_flowStep 93 = .ok (.dup, 1) := dk_89 (dk_at dksX2_flowStep_3 21 rfl rfl)
theorem dX2_flowStep_94 : decode cX2_flowStep 94 = .ok (.getfield 260, 3) := dk_180 1 4 (dk_at dksX2_flowStep_4 0 rfl rfl)
theorem dX2_flowStep_97 : decode cX2_flowStep 97 = .ok (.iconst 2, 1) := dk_5 (dk_at dksX2_flowStep_4 3 rfl rfl)
theorem dX2_flowStep_98 : decode cX2_flowStep 98 = .ok (.iload_n 1, 1) := dk_27 (dk_at dksX2_flowStep_4 4 rfl rfl)
theorem dX2_flowStep_99 : decode cX2_flowStep 99 = .ok (.imul, 1) := dk_104 (dk_at dksX2_flowStep_4 5 rfl rfl)
theorem dX2_flowStep_100 : decode cX2_flowStep 100 = .ok (.aload_n 0, 1) := dk_42 (dk_at dksX2_flowStep_4 6 rfl rfl)
theorem dX2_flowStep_101 : decode cX2_flowStep 101 = .ok (.getfield 257, 3) := dk_180 1 1 (dk_at dksX2_flowStep_4 7 rfl rfl)
theorem dX2_flowStep_104 : decode cX2_flowStep 104 = .ok (.imul, 1) := dk_104 (dk_at dksX2_flowStep_4 10 rfl rfl)
theorem dX2_flowStep_105 : decode cX2_flowStep 105 = .ok (.iadd, 1) := dk_96 (dk_at dksX2_flowStep_4 11 rfl rfl)
theorem dX2_flowStep_106 : decode cX2_flowStep 106 = .ok (.putfield 260, 3) := dk_181 1 4 (dk_at dksX2_flowStep_4 12 rfl rfl)
theorem dX2_flowStep_109 : decode cX2_flowStep 109 = .ok (.aload_n 0, 1) := dk_42 (dk_at dksX2_flowStep_4 15 rfl rfl)
theorem dX2_flowStep_110 : decode cX2_flowStep 110 = .ok (.iload_n 2, 1) := dk_28 (dk_at dksX2_flowStep_4 16 rfl rfl)
theorem dX2_flowStep_111 : decode cX2_flowStep 111 = .ok (.putfield 263, 3) := dk_181 1 7 (dk_at dksX2_flowStep_4 17 rfl rfl)
theorem dX2_flowStep_114 : decode cX2_flowStep 114 = .ok (.return_, 1) := dk_177 (dk_at dksX2_flowStep_4 20 rfl rfl)
abbrev cX2_lay : ByteArray := prog_9_method_75_code
def yX2_lay : MethodName := ⟨RX2, "lay", "(I)I"⟩
def dkwX2_lay_3 : List UInt8 := [167, 0, 4, 4, 79, 132, 3, 1, 167, 255, 224, 42, 182, 0, 82, 172]
abbrev dktX2_lay_3 : List UInt8 := dkwX2_lay_3 ++ []
def dkwX2_lay_2 : List UInt8 := [162, 0, 33, 42, 180, 0, 37, 29, 42, 42, 27, 29, 182, 0, 251, 182, 0, 215, 153, 0, 7, 3]
abbrev dktX2_lay_2 : List UInt8 := dkwX2_lay_2 ++ dktX2_lay_3
def dkwX2_lay_1 : List UInt8 := [18, 78, 172, 42, 180, 0, 75, 16, 6, 160, 0, 6, 18, 59, 172, 42, 28, 181, 0, 60, 3, 62, 29, 28]
abbrev dktX2_lay_1 : List UInt8 := dkwX2_lay_1 ++ dktX2_lay_2
def dkwX2_lay_0 : List UInt8 := [42, 27, 182, 0, 245, 154, 0, 6, 18, 145, 172, 42, 27, 182, 0, 239, 61, 28, 16, 20, 164, 0, 6]
abbrev dktX2_lay_0 : List UInt8 := dkwX2_lay_0 ++ dktX2_lay_1
theorem dksX2_lay_0 : cX2_lay.data.toList.drop 0 = dktX2_lay_0 := by decide +kernel
theorem dksX2_lay_1 : cX2_lay.data.toList.drop 23 = dktX2_lay_1 := dk_seg dksX2_lay_0 23 rfl rfl
theorem dksX2_lay_2 : cX2_lay.data.toList.drop 47 = dktX2_lay_2 := dk_seg dksX2_lay_1 24 rfl rfl
theorem dksX2_lay_3 : cX2_lay.data.toList.drop 69 = dktX2_lay_3 := dk_seg dksX2_lay_2 22 rfl rfl
theorem dX2_lay_0 : decode cX2_lay 0 = .ok (.aload_n 0, 1) := dk_42 (dk_at dksX2_lay_0 0 rfl rfl)
theorem dX2_lay_1 : decode cX2_lay 1 = .ok (.iload_n 1, 1) := dk_27 (dk_at dksX2_lay_0 1 rfl rfl)
theorem dX2_lay_2 : decode cX2_lay 2 = .ok (.invokevirtual 245, 3) := dk_182 0 245 (dk_at dksX2_lay_0 2 rfl rfl)
theorem dX2_lay_5 : decode cX2_lay 5 = .ok (.ifCond .ne 6, 3) := dk_154 0 6 (dk_at dksX2_lay_0 5 rfl rfl)
theorem dX2_lay_8 : decode cX2_lay 8 = .ok (.ldc 145, 2) := dk_18 145 (dk_at dksX2_lay_0 8 rfl rfl)
theorem dX2_lay_10 : decode cX2_lay 10 = .ok (.ireturn, 1) := dk_172 (dk_at dksX2_lay_0 10 rfl rfl)
theorem dX2_lay_11 : decode cX2_lay 11 = .ok (.aload_n 0, 1) := dk_42 (dk_at dksX2_lay_0 11 rfl rfl)
theorem dX2_lay_12 : decode cX2_lay 12 = .ok (.iload_n 1, 1) := dk_27 (dk_at dksX2_lay_0 12 rfl rfl)
theorem dX2_lay_13 : decode cX2_lay 13 = .ok (.invokevirtual 239, 3) := dk_182 0 239 (dk_at dksX2_lay_0 13 rfl rfl)
theorem dX2_lay_16 : decode cX2_lay 16 = .ok (.istore_n 2, 1) := dk_61 (dk_at dksX2_lay_0 16 rfl rfl)
theorem dX2_lay_17 : decode cX2_lay 17 = .ok (.iload_n 2, 1) := dk_28 (dk_at dksX2_lay_0 17 rfl rfl)
theorem dX2_lay_18 : decode cX2_lay 18 = .ok (.bipush 20, 2) := dk_16 20 (dk_at dksX2_lay_0 18 rfl rfl)
theorem dX2_lay_20 : decode cX2_lay 20 = .ok (.if_icmp .le 6, 3) := dk_164 0 6 (dk_at dksX2_lay_0 20 rfl rfl)
theorem dX2_lay_23 : decode cX2_lay 23 = .ok (.ldc 78, 2) := dk_18 78 (dk_at dksX2_lay_1 0 rfl rfl)
theorem dX2_lay_25 : decode cX2_lay 25 = .ok (.ireturn, 1) := dk_172 (dk_at dksX2_lay_1 2 rfl rfl)
theorem dX2_lay_26 : decode cX2_lay 26 = .ok (.aload_n 0, 1) := dk_42 (dk_at dksX2_lay_1 3 rfl rfl)
theorem dX2_lay_27 : decode cX2_lay 27 = .ok (.getfield 75, 3) := dk_180 0 75 (dk_at dksX2_lay_1 4 rfl rfl)
theorem dX2_lay_30 : decode cX2_lay 30 = .ok (.bipush 6, 2) := dk_16 6 (dk_at dksX2_lay_1 7 rfl rfl)
theorem dX2_lay_32 : decode cX2_lay 32 = .ok (.if_icmp .ne 6, 3) := dk_160 0 6 (dk_at dksX2_lay_1 9 rfl rfl)
theorem dX2_lay_35 : decode cX2_lay 35 = .ok (.ldc 59, 2) := dk_18 59 (dk_at dksX2_lay_1 12 rfl rfl)
theorem dX2_lay_37 : decode cX2_lay 37 = .ok (.ireturn, 1) := dk_172 (dk_at dksX2_lay_1 14 rfl rfl)
theorem dX2_lay_38 : decode cX2_lay 38 = .ok (.aload_n 0, 1) := dk_42 (dk_at dksX2_lay_1 15 rfl rfl)
theorem dX2_lay_39 : decode cX2_lay 39 = .ok (.iload_n 2, 1) := dk_28 (dk_at dksX2_lay_1 16 rfl rfl)
theorem dX2_lay_40 : decode cX2_lay 40 = .ok (.putfield 60, 3) := dk_181 0 60 (dk_at dksX2_lay_1 17 rfl rfl)
theorem dX2_lay_43 : decode cX2_lay 43 = .ok (.iconst 0, 1) := dk_3 (dk_at dksX2_lay_1 20 rfl rfl)
theorem dX2_lay_44 : decode cX2_lay 44 = .ok (.istore_n 3, 1) := dk_62 (dk_at dksX2_lay_1 21 rfl rfl)
theorem dX2_lay_45 : decode cX2_lay 45 = .ok (.iload_n 3, 1) := dk_29 (dk_at dksX2_lay_1 22 rfl rfl)
theorem dX2_lay_46 : decode cX2_lay 46 = .ok (.iload_n 2, 1) := dk_28 (dk_at dksX2_lay_1 23 rfl rfl)
theorem dX2_lay_47 : decode cX2_lay 47 = .ok (.if_icmp .ge 33, 3) := dk_162 0 33 (dk_at dksX2_lay_2 0 rfl rfl)
theorem dX2_lay_50 : decode cX2_lay 50 = .ok (.aload_n 0, 1) := dk_42 (dk_at dksX2_lay_2 3 rfl rfl)
theorem dX2_lay_51 : decode cX2_lay 51 = .ok (.getfield 37, 3) := dk_180 0 37 (dk_at dksX2_lay_2 4 rfl rfl)
theorem dX2_lay_54 : decode cX2_lay 54 = .ok (.iload_n 3, 1) := dk_29 (dk_at dksX2_lay_2 7 rfl rfl)
theorem dX2_lay_55 : decode cX2_lay 55 = .ok (.aload_n 0, 1) := dk_42 (dk_at dksX2_lay_2 8 rfl rfl)
theorem dX2_lay_56 : decode cX2_lay 56 = .ok (.aload_n 0, 1) := dk_42 (dk_at dksX2_lay_2 9 rfl rfl)
theorem dX2_lay_57 : decode cX2_lay 57 = .ok (.iload_n 1, 1) := dk_27 (dk_at dksX2_lay_2 10 rfl rfl)
theorem dX2_lay_58 : decode cX2_lay 58 = .ok (.iload_n 3, 1) := dk_29 (dk_at dksX2_lay_2 11 rfl rfl)
theorem dX2_lay_59 : decode cX2_lay 59 = .ok (.invokevirtual 251, 3) := dk_182 0 251 (dk_at dksX2_lay_2 12 rfl rfl)
theorem dX2_lay_62 : decode cX2_lay 62 = .ok (.invokevirtual 215, 3) := dk_182 0 215 (dk_at dksX2_lay_2 15 rfl rfl)
theorem dX2_lay_65 : decode cX2_lay 65 = .ok (.ifCond .eq 7, 3) := dk_153 0 7 (dk_at dksX2_lay_2 18 rfl rfl)
theorem dX2_lay_68 : decode cX2_lay 68 = .ok (.iconst 0, 1) := dk_3 (dk_at dksX2_lay_2 21 rfl rfl)
theorem dX2_lay_69 : decode cX2_lay 69 = .ok (.goto 4, 3) := dk_167 0 4 (dk_at dksX2_lay_3 0 rfl rfl)
theorem dX2_lay_72 : decode cX2_lay 72 = .ok (.iconst 1, 1) := dk_4 (dk_at dksX2_lay_3 3 rfl rfl)
theorem dX2_lay_73 : decode cX2_lay 73 = .ok (.iastore, 1) := dk_79 (dk_at dksX2_lay_3 4 rfl rfl)
theorem dX2_lay_74 : decode cX2_lay 74 = .ok (.iinc 3 1, 3) := dk_132 3 1 (dk_at dksX2_lay_3 5 rfl rfl)
theorem dX2_lay_77 : decode cX2_lay 77 = .ok (.goto (-32), 3) := dk_167 255 224 (dk_at dksX2_lay_3 8 rfl rfl)
theorem dX2_lay_80 : decode cX2_lay 80 = .ok (.aload_n 0, 1) := dk_42 (dk_at dksX2_lay_3 11 rfl rfl)
theorem dX2_lay_81 : decode cX2_lay 81 = .ok (.invokevirtual 82, 3) := dk_182 0 82 (dk_at dksX2_lay_3 12 rfl rfl)
theorem dX2_lay_84 : decode cX2_lay 84 = .ok (.ireturn, 1) := dk_172 (dk_at dksX2_lay_3 15 rfl rfl)
abbrev cX2_where : ByteArray := prog_9_method_77_code
def yX2_where : MethodName := ⟨RX2, "where", "(I)I"⟩
def dkwX2_where_1 : List UInt8 := [153, 0, 11, 42, 27, 182, 1, 20, 167, 0, 5, 18, 78, 172]
abbrev dktX2_where_1 : List UInt8 := dkwX2_where_1 ++ []
def dkwX2_where_0 : List UInt8 := [42, 27, 182, 0, 142, 154, 0, 6, 18, 145, 172, 42, 27, 182, 0, 177, 153, 0, 18, 42, 182, 1, 13]
abbrev dktX2_where_0 : List UInt8 := dkwX2_where_0 ++ dktX2_where_1
theorem dksX2_where_0 : cX2_where.data.toList.drop 0 = dktX2_where_0 := by decide +kernel
theorem dksX2_where_1 : cX2_where.data.toList.drop 23 = dktX2_where_1 := dk_seg dksX2_where_0 23 rfl rfl
theorem dX2_where_0 : decode cX2_where 0 = .ok (.aload_n 0, 1) := dk_42 (dk_at dksX2_where_0 0 rfl rfl)
theorem dX2_where_1 : decode cX2_where 1 = .ok (.iload_n 1, 1) := dk_27 (dk_at dksX2_where_0 1 rfl rfl)
theorem dX2_where_2 : decode cX2_where 2 = .ok (.invokevirtual 142, 3) := dk_182 0 142 (dk_at dksX2_where_0 2 rfl rfl)
theorem dX2_where_5 : decode cX2_where 5 = .ok (.ifCond .ne 6, 3) := dk_154 0 6 (dk_at dksX2_where_0 5 rfl rfl)
theorem dX2_where_8 : decode cX2_where 8 = .ok (.ldc 145, 2) := dk_18 145 (dk_at dksX2_where_0 8 rfl rfl)
theorem dX2_where_10 : decode cX2_where 10 = .ok (.ireturn, 1) := dk_172 (dk_at dksX2_where_0 10 rfl rfl)
theorem dX2_where_11 : decode cX2_where 11 = .ok (.aload_n 0, 1) := dk_42 (dk_at dksX2_where_0 11 rfl rfl)
theorem dX2_where_12 : decode cX2_where 12 = .ok (.iload_n 1, 1) := dk_27 (dk_at dksX2_where_0 12 rfl rfl)
theorem dX2_where_13 : decode cX2_where 13 = .ok (.invokevirtual 177, 3) := dk_182 0 177 (dk_at dksX2_where_0 13 rfl rfl)
theorem dX2_where_16 : decode cX2_where 16 = .ok (.ifCond .eq 18, 3) := dk_153 0 18 (dk_at dksX2_where_0 16 rfl rfl)
theorem dX2_where_19 : decode cX2_where 19 = .ok (.aload_n 0, 1) := dk_42 (dk_at dksX2_where_0 19 rfl rfl)
theorem dX2_where_20 : decode cX2_where 20 = .ok (.invokevirtual 269, 3) := dk_182 1 13 (dk_at dksX2_where_0 20 rfl rfl)
theorem dX2_where_23 : decode cX2_where 23 = .ok (.ifCond .eq 11, 3) := dk_153 0 11 (dk_at dksX2_where_1 0 rfl rfl)
theorem dX2_where_26 : decode cX2_where 26 = .ok (.aload_n 0, 1) := dk_42 (dk_at dksX2_where_1 3 rfl rfl)
theorem dX2_where_27 : decode cX2_where 27 = .ok (.iload_n 1, 1) := dk_27 (dk_at dksX2_where_1 4 rfl rfl)
theorem dX2_where_28 : decode cX2_where 28 = .ok (.invokevirtual 276, 3) := dk_182 1 20 (dk_at dksX2_where_1 5 rfl rfl)
theorem dX2_where_31 : decode cX2_where 31 = .ok (.goto 5, 3) := dk_167 0 5 (dk_at dksX2_where_1 8 rfl rfl)
theorem dX2_where_34 : decode cX2_where 34 = .ok (.ldc 78, 2) := dk_18 78 (dk_at dksX2_where_1 11 rfl rfl)
theorem dX2_where_36 : decode cX2_where 36 = .ok (.ireturn, 1) := dk_172 (dk_at dksX2_where_1 13 rfl rfl)
abbrev cX2_whereNow : ByteArray := prog_9_method_76_code
def yX2_whereNow : MethodName := ⟨RX2, "whereNow", "(I)I"⟩
def dkwX2_whereNow_2 : List UInt8 := [172]
abbrev dktX2_whereNow_2 : List UInt8 := dkwX2_whereNow_2 ++ []
def dkwX2_whereNow_1 : List UInt8 := [160, 0, 22, 42, 42, 180, 0, 161, 42, 180, 0, 164, 42, 180, 0, 167, 182, 0, 218, 167, 0, 5, 18, 106]
abbrev dktX2_whereNow_1 : List UInt8 := dkwX2_whereNow_1 ++ dktX2_whereNow_2
def dkwX2_whereNow_0 : List UInt8 := [42, 27, 182, 0, 170, 42, 180, 0, 161, 42, 180, 0, 164, 42, 180, 0, 167, 184, 0, 173, 42, 180, 0, 209]
abbrev dktX2_whereNow_0 : List UInt8 := dkwX2_whereNow_0 ++ dktX2_whereNow_1
theorem dksX2_whereNow_0 : cX2_whereNow.data.toList.drop 0 = dktX2_whereNow_0 := by decide +kernel
theorem dksX2_whereNow_1 : cX2_whereNow.data.toList.drop 24 = dktX2_whereNow_1 := dk_seg dksX2_whereNow_0 24 rfl rfl
theorem dksX2_whereNow_2 : cX2_whereNow.data.toList.drop 48 = dktX2_whereNow_2 := dk_seg dksX2_whereNow_1 24 rfl rfl
theorem dX2_whereNow_0 : decode cX2_whereNow 0 = .ok (.aload_n 0, 1) := dk_42 (dk_at dksX2_whereNow_0 0 rfl rfl)
theorem dX2_whereNow_1 : decode cX2_whereNow 1 = .ok (.iload_n 1, 1) := dk_27 (dk_at dksX2_whereNow_0 1 rfl rfl)
theorem dX2_whereNow_2 : decode cX2_whereNow 2 = .ok (.invokevirtual 170, 3) := dk_182 0 170 (dk_at dksX2_whereNow_0 2 rfl rfl)
theorem dX2_whereNow_5 : decode cX2_whereNow 5 = .ok (.aload_n 0, 1) := dk_42 (dk_at dksX2_whereNow_0 5 rfl rfl)
theorem dX2_whereNow_6 : decode cX2_whereNow 6 = .ok (.getfield 161, 3) := dk_180 0 161 (dk_at dksX2_whereNow_0 6 rfl rfl)
theorem dX2_whereNow_9 : decode cX2_whereNow 9 = .ok (.aload_n 0, 1) := dk_42 (dk_at dksX2_whereNow_0 9 rfl rfl)
theorem dX2_whereNow_10 : decode cX2_whereNow 10 = .ok (.getfield 164, 3) := dk_180 0 164 (dk_at dksX2_whereNow_0 10 rfl rfl)
theorem dX2_whereNow_13 : decode cX2_whereNow 13 = .ok (.aload_n 0, 1) := dk_42 (dk_at dksX2_whereNow_0 13 rfl rfl)
theorem dX2_whereNow_14 : decode cX2_whereNow 14 = .ok (.getfield 167, 3) := dk_180 0 167 (dk_at dksX2_whereNow_0 14 rfl rfl)
theorem dX2_whereNow_17 : decode cX2_whereNow 17 = .ok (.invokestatic 173, 3) := dk_184 0 173 (dk_at dksX2_whereNow_0 17 rfl rfl)
theorem dX2_whereNow_20 : decode cX2_whereNow 20 = .ok (.aload_n 0, 1) := dk_42 (dk_at dksX2_whereNow_0 20 rfl rfl)
theorem dX2_whereNow_21 : decode cX2_whereNow 21 = .ok (.getfield 209, 3) := dk_180 0 209 (dk_at dksX2_whereNow_0 21 rfl rfl)
theorem dX2_whereNow_24 : decode cX2_whereNow 24 = .ok (.if_icmp .ne 22, 3) := dk_160 0 22 (dk_at dksX2_whereNow_1 0 rfl rfl)
theorem dX2_whereNow_27 : decode cX2_whereNow 27 = .ok (.aload_n 0, 1) := dk_42 (dk_at dksX2_whereNow_1 3 rfl rfl)
theorem dX2_whereNow_28 : decode cX2_whereNow 28 = .ok (.aload_n 0, 1) := dk_42 (dk_at dksX2_whereNow_1 4 rfl rfl)
theorem dX2_whereNow_29 : decode cX2_whereNow 29 = .ok (.getfield 161, 3) := dk_180 0 161 (dk_at dksX2_whereNow_1 5 rfl rfl)
theorem dX2_whereNow_32 : decode cX2_whereNow 32 = .ok (.aload_n 0, 1) := dk_42 (dk_at dksX2_whereNow_1 8 rfl rfl)
theorem dX2_whereNow_33 : decode cX2_whereNow 33 = .ok (.getfield 164, 3) := dk_180 0 164 (dk_at dksX2_whereNow_1 9 rfl rfl)
theorem dX2_whereNow_36 : decode cX2_whereNow 36 = .ok (.aload_n 0, 1) := dk_42 (dk_at dksX2_whereNow_1 12 rfl rfl)
theorem dX2_whereNow_37 : decode cX2_whereNow 37 = .ok (.getfield 167, 3) := dk_180 0 167 (dk_at dksX2_whereNow_1 13 rfl rfl)
theorem dX2_whereNow_40 : decode cX2_whereNow 40 = .ok (.invokevirtual 218, 3) := dk_182 0 218 (dk_at dksX2_whereNow_1 16 rfl rfl)
theorem dX2_whereNow_43 : decode cX2_whereNow 43 = .ok (.goto 5, 3) := dk_167 0 5 (dk_at dksX2_whereNow_1 19 rfl rfl)
theorem dX2_whereNow_46 : decode cX2_whereNow 46 = .ok (.ldc 106, 2) := dk_18 106 (dk_at dksX2_whereNow_1 22 rfl rfl)
theorem dX2_whereNow_48 : decode cX2_whereNow 48 = .ok (.ireturn, 1) := dk_172 (dk_at dksX2_whereNow_2 0 rfl rfl)
abbrev cX2_drawn : ByteArray := prog_9_method_80_code
def yX2_drawn : MethodName := ⟨RX2, "drawn", "(III)I"⟩
def dkwX2_drawn_1 : List UInt8 := [18, 54, 172, 42, 28, 133, 181, 1, 25, 42, 27, 29, 182, 1, 38, 172]
abbrev dktX2_drawn_1 : List UInt8 := dkwX2_drawn_1 ++ []
def dkwX2_drawn_0 : List UInt8 := [27, 4, 16, 40, 184, 0, 50, 153, 0, 16, 28, 155, 0, 12, 29, 3, 6, 184, 0, 50, 154, 0, 6]
abbrev dktX2_drawn_0 : List UInt8 := dkwX2_drawn_0 ++ dktX2_drawn_1
theorem dksX2_drawn_0 : cX2_drawn.data.toList.drop 0 = dktX2_drawn_0 := by decide +kernel
theorem dksX2_drawn_1 : cX2_drawn.data.toList.drop 23 = dktX2_drawn_1 := dk_seg dksX2_drawn_0 23 rfl rfl
theorem dX2_drawn_0 : decode cX2_drawn 0 = .ok (.iload_n 1, 1) := dk_27 (dk_at dksX2_drawn_0 0 rfl rfl)
theorem dX2_drawn_1 : decode cX2_drawn 1 = .ok (.iconst 1, 1) := dk_4 (dk_at dksX2_drawn_0 1 rfl rfl)
theorem dX2_drawn_2 : decode cX2_drawn 2 = .ok (.bipush 40, 2) := dk_16 40 (dk_at dksX2_drawn_0 2 rfl rfl)
theorem dX2_drawn_4 : decode cX2_drawn 4 = .ok (.invokestatic 50, 3) := dk_184 0 50 (dk_at dksX2_drawn_0 4 rfl rfl)
theorem dX2_drawn_7 : decode cX2_drawn 7 = .ok (.ifCond .eq 16, 3) := dk_153 0 16 (dk_at dksX2_drawn_0 7 rfl rfl)
theorem dX2_drawn_10 : decode cX2_drawn 10 = .ok (.iload_n 2, 1) := dk_28 (dk_at dksX2_drawn_0 10 rfl rfl)
theorem dX2_drawn_11 : decode cX2_drawn 11 = .ok (.ifCond .lt 12, 3) := dk_155 0 12 (dk_at dksX2_drawn_0 11 rfl rfl)
theorem dX2_drawn_14 : decode cX2_drawn 14 = .ok (.iload_n 3, 1) := dk_29 (dk_at dksX2_drawn_0 14 rfl rfl)
theorem dX2_drawn_15 : decode cX2_drawn 15 = .ok (.iconst 0, 1) := dk_3 (dk_at dksX2_drawn_0 15 rfl rfl)
theorem dX2_drawn_16 : decode cX2_drawn 16 = .ok (.iconst 3, 1) := dk_6 (dk_at dksX2_drawn_0 16 rfl rfl)
theorem dX2_drawn_17 : decode cX2_drawn 17 = .ok (.invokestatic 50, 3) := dk_184 0 50 (dk_at dksX2_drawn_0 17 rfl rfl)
theorem dX2_drawn_20 : decode cX2_drawn 20 = .ok (.ifCond .ne 6, 3) := dk_154 0 6 (dk_at dksX2_drawn_0 20 rfl rfl)
theorem dX2_drawn_23 : decode cX2_drawn 23 = .ok (.ldc 54, 2) := dk_18 54 (dk_at dksX2_drawn_1 0 rfl rfl)
theorem dX2_drawn_25 : decode cX2_drawn 25 = .ok (.ireturn, 1) := dk_172 (dk_at dksX2_drawn_1 2 rfl rfl)
theorem dX2_drawn_26 : decode cX2_drawn 26 = .ok (.aload_n 0, 1) := dk_42 (dk_at dksX2_drawn_1 3 rfl rfl)
theorem dX2_drawn_27 : decode cX2_drawn 27 = .ok (.iload_n 2, 1) := dk_28 (dk_at dksX2_drawn_1 4 rfl rfl)
theorem dX2_drawn_28 : decode cX2_drawn 28 = .ok (.i2l, 1) := dk_133 (dk_at dksX2_drawn_1 5 rfl rfl)
theorem dX2_drawn_29 : decode cX2_drawn 29 = .ok (.putfield 281, 3) := dk_181 1 25 (dk_at dksX2_drawn_1 6 rfl rfl)
theorem dX2_drawn_32 : decode cX2_drawn 32 = .ok (.aload_n 0, 1) := dk_42 (dk_at dksX2_drawn_1 9 rfl rfl)
theorem dX2_drawn_33 : decode cX2_drawn 33 = .ok (.iload_n 1, 1) := dk_27 (dk_at dksX2_drawn_1 10 rfl rfl)
theorem dX2_drawn_34 : decode cX2_drawn 34 = .ok (.iload_n 3, 1) := dk_29 (dk_at dksX2_drawn_1 11 rfl rfl)
theorem dX2_drawn_35 : decode cX2_drawn 35 = .ok (.invokevirtual 294, 3) := dk_182 1 38 (dk_at dksX2_drawn_1 12 rfl rfl)
theorem dX2_drawn_38 : decode cX2_drawn 38 = .ok (.ireturn, 1) := dk_172 (dk_at dksX2_drawn_1 15 rfl rfl)
abbrev cX2_drawnNow : ByteArray := prog_9_method_79_code
def yX2_drawnNow : MethodName := ⟨RX2, "drawnNow", "(II)I"⟩
def dkwX2_drawnNow_7 : List UInt8 := [21, 5, 167, 0, 8, 42, 180, 1, 25, 136, 172]
abbrev dktX2_drawnNow_7 : List UInt8 := dkwX2_drawnNow_7 ++ []
def dkwX2_drawnNow_6 : List UInt8 := [28, 154, 0, 7, 29, 167, 0, 28, 28, 4, 160, 0, 8, 21, 4, 167, 0, 18, 28, 5, 160, 0, 8]
abbrev dktX2_drawnNow_6 : List UInt8 := dkwX2_drawnNow_6 ++ dktX2_drawnNow_7
def dkwX2_drawnNow_5 : List UInt8 := [153, 0, 10, 42, 182, 0, 193, 167, 0, 4, 3, 96, 54, 5, 21, 8, 54, 6, 132, 7, 1, 167, 255, 134]
abbrev dktX2_drawnNow_5 : List UInt8 := dkwX2_drawnNow_5 ++ dktX2_drawnNow_6
def dkwX2_drawnNow_4 : List UInt8 := [153, 0, 10, 42, 182, 0, 135, 167, 0, 4, 3, 96, 54, 4, 21, 5, 21, 8, 153, 0, 15, 21, 6]
abbrev dktX2_drawnNow_4 : List UInt8 := dkwX2_drawnNow_4 ++ dktX2_drawnNow_5
def dkwX2_drawnNow_3 : List UInt8 := [182, 0, 95, 54, 8, 29, 21, 8, 153, 0, 7, 4, 167, 0, 4, 3, 96, 62, 21, 4, 21, 8]
abbrev dktX2_drawnNow_3 : List UInt8 := dkwX2_drawnNow_3 ++ dktX2_drawnNow_4
def dkwX2_drawnNow_2 : List UInt8 := [21, 8, 42, 5, 182, 1, 35, 4, 160, 0, 7, 4, 167, 0, 4, 3, 79, 132, 8, 1, 167, 255, 225, 42]
abbrev dktX2_drawnNow_2 : List UInt8 := dkwX2_drawnNow_2 ++ dktX2_drawnNow_3
def dkwX2_drawnNow_1 : List UInt8 := [182, 0, 107, 42, 16, 8, 181, 0, 85, 3, 54, 8, 21, 8, 16, 8, 162, 0, 30, 42, 180, 0, 40]
abbrev dktX2_drawnNow_1 : List UInt8 := dkwX2_drawnNow_1 ++ dktX2_drawnNow_2
def dkwX2_drawnNow_0 : List UInt8 := [3, 62, 3, 54, 4, 3, 54, 5, 3, 54, 6, 3, 54, 7, 21, 7, 27, 162, 0, 122, 42, 3, 3]
abbrev dktX2_drawnNow_0 : List UInt8 := dkwX2_drawnNow_0 ++ dktX2_drawnNow_1
theorem dksX2_drawnNow_0 : cX2_drawnNow.data.toList.drop 0 = dktX2_drawnNow_0 := by decide +kernel
theorem dksX2_drawnNow_1 : cX2_drawnNow.data.toList.drop 23 = dktX2_drawnNow_1 := dk_seg dksX2_drawnNow_0 23 rfl rfl
theorem dksX2_drawnNow_2 : cX2_drawnNow.data.toList.drop 46 = dktX2_drawnNow_2 := dk_seg dksX2_drawnNow_1 23 rfl rfl
theorem dksX2_drawnNow_3 : cX2_drawnNow.data.toList.drop 70 = dktX2_drawnNow_3 := dk_seg dksX2_drawnNow_2 24 rfl rfl
theorem dksX2_drawnNow_4 : cX2_drawnNow.data.toList.drop 92 = dktX2_drawnNow_4 := dk_seg dksX2_drawnNow_3 22 rfl rfl
theorem dksX2_drawnNow_5 : cX2_drawnNow.data.toList.drop 115 = dktX2_drawnNow_5 := dk_seg dksX2_drawnNow_4 23 rfl rfl
theorem dksX2_drawnNow_6 : cX2_drawnNow.data.toList.drop 139 = dktX2_drawnNow_6 := dk_seg dksX2_drawnNow_5 24 rfl rfl
theorem dksX2_drawnNow_7 : cX2_drawnNow.data.toList.drop 162 = dktX2_drawnNow_7 := dk_seg dksX2_drawnNow_6 23 rfl rfl
theorem dX2_drawnNow_0 : decode cX2_drawnNow 0 = .ok (.iconst 0, 1) := dk_3 (dk_at dksX2_drawnNow_0 0 rfl rfl)
theorem dX2_drawnNow_1 : decode cX2_drawnNow 1 = .ok (.istore_n 3, 1) := dk_62 (dk_at dksX2_drawnNow_0 1 rfl rfl)
theorem dX2_drawnNow_2 : decode cX2_drawnNow 2 = .ok (.iconst 0, 1) := dk_3 (dk_at dksX2_drawnNow_0 2 rfl rfl)
theorem dX2_drawnNow_3 : decode cX2_drawnNow 3 = .ok (.istore 4, 2) := dk_54 4 (dk_at dksX2_drawnNow_0 3 rfl rfl)
theorem dX2_drawnNow_5 : decode cX2_drawnNow 5 = .ok (.iconst 0, 1) := dk_3 (dk_at dksX2_drawnNow_0 5 rfl rfl)
theorem dX2_drawnNow_6 : decode cX2_drawnNow 6 = .ok (.istore 5, 2) := dk_54 5 (dk_at dksX2_drawnNow_0 6 rfl rfl)
theorem dX2_drawnNow_8 : decode cX2_drawnNow 8 = .ok (.iconst 0, 1) := dk_3 (dk_at dksX2_drawnNow_0 8 rfl rfl)
theorem dX2_drawnNow_9 : decode cX2_drawnNow 9 = .ok (.istore 6, 2) := dk_54 6 (dk_at dksX2_drawnNow_0 9 rfl rfl)
theorem dX2_drawnNow_11 : decode cX2_drawnNow 11 = .ok (.iconst 0, 1) := dk_3 (dk_at dksX2_drawnNow_0 11 rfl rfl)
theorem dX2_drawnNow_12 : decode cX2_drawnNow 12 = .ok (.istore 7, 2) := dk_54 7 (dk_at dksX2_drawnNow_0 12 rfl rfl)
theorem dX2_drawnNow_14 : decode cX2_drawnNow 14 = .ok (.iload 7, 2) := dk_21 7 (dk_at dksX2_drawnNow_0 14 rfl rfl)
theorem dX2_drawnNow_16 : decode cX2_drawnNow 16 = .ok (.iload_n 1, 1) := dk_27 (dk_at dksX2_drawnNow_0 16 rfl rfl)
theorem dX2_drawnNow_17 : decode cX2_drawnNow 17 = .ok (.if_icmp .ge 122, 3) := dk_162 0 122 (dk_at dksX2_drawnNow_0 17 rfl rfl)
theorem dX2_drawnNow_20 : decode cX2_drawnNow 20 = .ok (.aload_n 0, 1) := dk_42 (dk_at dksX2_drawnNow_0 20 rfl rfl)
theorem dX2_drawnNow_21 : decode cX2_drawnNow 21 = .ok (.iconst 0, 1) := dk_3 (dk_at dksX2_drawnNow_0 21 rfl rfl)
theorem dX2_drawnNow_22 : decode cX2_drawnNow 22 = .ok (.iconst 0, 1) := dk_3 (dk_at dksX2_drawnNow_0 22 rfl rfl)
theorem dX2_drawnNow_23 : decode cX2_drawnNow 23 = .ok (.invokevirtual 107, 3) := dk_182 0 107 (dk_at dksX2_drawnNow_1 0 rfl rfl)
theorem dX2_drawnNow_26 : decode cX2_drawnNow 26 = .ok (.aload_n 0, 1) := dk_42 (dk_at dksX2_drawnNow_1 3 rfl rfl)
theorem dX2_drawnNow_27 : decode cX2_drawnNow 27 = .ok (.bipush 8, 2) := dk_16 8 (dk_at dksX2_drawnNow_1 4 rfl rfl)
theorem dX2_drawnNow_29 : decode cX2_drawnNow 29 = .ok (.putfield 85, 3) := dk_181 0 85 (dk_at dksX2_drawnNow_1 6 rfl rfl)
theorem dX2_drawnNow_32 : decode cX2_drawnNow 32 = .ok (.iconst 0, 1) := dk_3 (dk_at dksX2_drawnNow_1 9 rfl rfl)
theorem dX2_drawnNow_33 : decode cX2_drawnNow 33 = .ok (.istore 8, 2) := dk_54 8 (dk_at dksX2_drawnNow_1 10 rfl rfl)
theorem dX2_drawnNow_35 : decode cX2_drawnNow 35 = .ok (.iload 8, 2) := dk_21 8 (dk_at dksX2_drawnNow_1 12 rfl rfl)
theorem dX2_drawnNow_37 : decode cX2_drawnNow 37 = .ok (.bipush 8, 2) := dk_16 8 (dk_at dksX2_drawnNow_1 14 rfl rfl)
theorem dX2_drawnNow_39 : decode cX2_drawnNow 39 = .ok (.if_icmp .ge 30, 3) := dk_162 0 30 (dk_at dksX2_drawnNow_1 16 rfl rfl)
theorem dX2_drawnNow_42 : decode cX2_drawnNow 42 = .ok (.aload_n 0, 1) := dk_42 (dk_at dksX2_drawnNow_1 19 rfl rfl)
theorem dX2_drawnNow_43 : decode cX2_drawnNow 43 = .ok (.getfield 40, 3) := dk_180 0 40 (dk_at dksX2_drawnNow_1 20 rfl rfl)
theorem dX2_drawnNow_46 : decode cX2_drawnNow 46 = .ok (.iload 8, 2) := dk_21 8 (dk_at dksX2_drawnNow_2 0 rfl rfl)
theorem dX2_drawnNow_48 : decode cX2_drawnNow 48 = .ok (.aload_n 0, 1) := dk_42 (dk_at dksX2_drawnNow_2 2 rfl rfl)
theorem dX2_drawnNow_49 : decode cX2_drawnNow 49 = .ok (.iconst 2, 1) := dk_5 (dk_at dksX2_drawnNow_2 3 rfl rfl)
theorem dX2_drawnNow_50 : decode cX2_drawnNow 50 = .ok (.invokevirtual 291, 3) := dk_182 1 35 (dk_at dksX2_drawnNow_2 4 rfl rfl)
theorem dX2_drawnNow_53 : decode cX2_drawnNow 53 = .ok (.iconst 1, 1) := dk_4 (dk_at dksX2_drawnNow_2 7 rfl rfl)
theorem dX2_drawnNow_54 : decode cX2_drawnNow 54 = .ok (.if_icmp .ne 7, 3) := dk_160 0 7 (dk_at dksX2_drawnNow_2 8 rfl rfl)
theorem dX2_drawnNow_57 : decode cX2_drawnNow 57 = .ok (.iconst 1, 1) := dk_4 (dk_at dksX2_drawnNow_2 11 rfl rfl)
theorem dX2_drawnNow_58 : decode cX2_drawnNow 58 = .ok (.goto 4, 3) := dk_167 0 4 (dk_at dksX2_drawnNow_2 12 rfl rfl)
theorem dX2_drawnNow_61 : decode cX2_drawnNow 61 = .ok (.iconst 0, 1) := dk_3 (dk_at dksX2_drawnNow_2 15 rfl rfl)
theorem dX2_drawnNow_62 : decode cX2_drawnNow 62 = .ok (.iastore, 1) := dk_79 (dk_at dksX2_drawnNow_2 16 rfl rfl)
theorem dX2_drawnNow_63 : decode cX2_drawnNow 63 = .ok (.iinc 8 1, 3) := dk_132 8 1 (dk_at dksX2_drawnNow_2 17 rfl rfl)
theorem dX2_drawnNow_66 : decode cX2_drawnNow 66 = .ok (.goto (-31), 3) := dk_167 255 225 (dk_at dksX2_drawnNow_2 20 rfl rfl)
theorem dX2_drawnNow_69 : decode cX2_drawnNow 69 = .ok (.aload_n 0, 1) := dk_42 (dk_at dksX2_drawnNow_2 23 rfl rfl)
theorem dX2_drawnNow_70 : decode cX2_drawnNow 70 = .ok (.invokevirtual 95, 3) := dk_182 0 95 (dk_at dksX2_drawnNow_3 0 rfl rfl)
theorem dX2_drawnNow_73 : decode cX2_drawnNow 73 = .ok (.istore 8, 2) := dk_54 8 (dk_at dksX2_drawnNow_3 3 rfl rfl)
theorem dX2_drawnNow_75 : decode cX2_drawnNow 75 = .ok (.iload_n 3, 1) := dk_29 (dk_at dksX2_drawnNow_3 5 rfl rfl)
theorem dX2_drawnNow_76 : decode cX2_drawnNow 76 = .ok (.iload 8, 2) := dk_21 8 (dk_at dksX2_drawnNow_3 6 rfl rfl)
theorem dX2_drawnNow_78 : decode cX2_drawnNow 78 = .ok (.ifCond .eq 7, 3) := dk_153 0 7 (dk_at dksX2_drawnNow_3 8 rfl rfl)
theorem dX2_drawnNow_81 : decode cX2_drawnNow 81 = .ok (.iconst 1, 1) := dk_4 (dk_at dksX2_drawnNow_3 11 rfl rfl)
theorem dX2_drawnNow_82 : decode cX2_drawnNow 82 = .ok (.goto 4, 3) := dk_167 0 4 (dk_at dksX2_drawnNow_3 12 rfl rfl)
theorem dX2_drawnNow_85 : decode cX2_drawnNow 85 = .ok (.iconst 0, 1) := dk_3 (dk_at dksX2_drawnNow_3 15 rfl rfl)
theorem dX2_drawnNow_86 : decode cX2_drawnNow 86 = .ok (.iadd, 1) := dk_96 (dk_at dksX2_drawnNow_3 16 rfl rfl)
theorem dX2_drawnNow_87 : decode cX2_drawnNow 87 = .ok (.istore_n 3, 1) := dk_62 (dk_at dksX2_drawnNow_3 17 rfl rfl)
theorem dX2_drawnNow_88 : decode cX2_drawnNow 88 = .ok (.iload 4, 2) := dk_21 4 (dk_at dksX2_drawnNow_3 18 rfl rfl)
theorem dX2_drawnNow_90 : decode cX2_drawnNow 90 = .ok (.iload 8, 2) := dk_21 8 (dk_at dksX2_drawnNow_3 20 rfl rfl)
theorem dX2_drawnNow_92 : decode cX2_drawnNow 92 = .ok (.ifCond .eq 10, 3) := dk_153 0 10 (dk_at dksX2_drawnNow_4 0 rfl rfl)
theorem dX2_drawnNow_95 : decode cX2_drawnNow 95 = .ok (.aload_n 0, 1) := dk_42 (dk_at dksX2_drawnNow_4 3 rfl rfl)
theorem dX2_drawnNow_96 : decode cX2_drawnNow 96 = .ok (.invokevirtual 135, 3) := dk_182 0 135 (dk_at dksX2_drawnNow_4 4 rfl rfl)
theorem dX2_drawnNow_99 : decode cX2_drawnNow 99 = .ok (.goto 4, 3) := dk_167 0 4 (dk_at dksX2_drawnNow_4 7 rfl rfl)
theorem dX2_drawnNow_102 : decode cX2_drawnNow 102 = .ok (.iconst 0, 1) := dk_3 (dk_at dksX2_drawnNow_4 10 rfl rfl)
theorem dX2_drawnNow_103 : decode cX2_drawnNow 103 = .ok (.iadd, 1) := dk_96 (dk_at dksX2_drawnNow_4 11 rfl rfl)
theorem dX2_drawnNow_104 : decode cX2_drawnNow 104 = .ok (.istore 4, 2) := dk_54 4 (dk_at dksX2_drawnNow_4 12 rfl rfl)
theorem dX2_drawnNow_106 : decode cX2_drawnNow 106 = .ok (.iload 5, 2) := dk_21 5 (dk_at dksX2_drawnNow_4 14 rfl rfl)
theorem dX2_drawnNow_108 : decode cX2_drawnNow 108 = .ok (.iload 8, 2) := dk_21 8 (dk_at dksX2_drawnNow_4 16 rfl rfl)
theorem dX2_drawnNow_110 : decode cX2_drawnNow 110 = .ok (.ifCond .eq 15, 3) := dk_153 0 15 (dk_at dksX2_drawnNow_4 18 rfl rfl)
theorem dX2_drawnNow_113 : decode cX2_drawnNow 113 = .ok (.iload 6, 2) := dk_21 6 (dk_at dksX2_drawnNow_4 21 rfl rfl)
theorem dX2_drawnNow_115 : decode cX2_drawnNow 115 = .ok (.ifCond .eq 10, 3) := dk_153 0 10 (dk_at dksX2_drawnNow_5 0 rfl rfl)
theorem dX2_drawnNow_118 : decode cX2_drawnNow 118 = .ok (.aload_n 0, 1) := dk_42 (dk_at dksX2_drawnNow_5 3 rfl rfl)
theorem dX2_drawnNow_119 : decode cX2_drawnNow 119 = .ok (.invokevirtual 193, 3) := dk_182 0 193 (dk_at dksX2_drawnNow_5 4 rfl rfl)
theorem dX2_drawnNow_122 : decode cX2_drawnNow 122 = .ok (.goto 4, 3) := dk_167 0 4 (dk_at dksX2_drawnNow_5 7 rfl rfl)
theorem dX2_drawnNow_125 : decode cX2_drawnNow 125 = .ok (.iconst 0, 1) := dk_3 (dk_at dksX2_drawnNow_5 10 rfl rfl)
theorem dX2_drawnNow_126 : decode cX2_drawnNow 126 = .ok (.iadd, 1) := dk_96 (dk_at dksX2_drawnNow_5 11 rfl rfl)
theorem dX2_drawnNow_127 : decode cX2_drawnNow 127 = .ok (.istore 5, 2) := dk_54 5 (dk_at dksX2_drawnNow_5 12 rfl rfl)
theorem dX2_drawnNow_129 : decode cX2_drawnNow 129 = .ok (.iload 8, 2) := dk_21 8 (dk_at dksX2_drawnNow_5 14 rfl rfl)
theorem dX2_drawnNow_131 : decode cX2_drawnNow 131 = .ok (.istore 6, 2) := dk_54 6 (dk_at dksX2_drawnNow_5 16 rfl rfl)
theorem dX2_drawnNow_133 : decode cX2_drawnNow 133 = .ok (.iinc 7 1, 3) := dk_132 7 1 (dk_at dksX2_drawnNow_5 18 rfl rfl)
theorem dX2_drawnNow_136 : decode cX2_drawnNow 136 = .ok (.goto (-122), 3) := dk_167 255 134 (dk_at dksX2_drawnNow_5 21 rfl rfl)
theorem dX2_drawnNow_139 : decode cX2_drawnNow 139 = .ok (.iload_n 2, 1) := dk_28 (dk_at dksX2_drawnNow_6 0 rfl rfl)
theorem dX2_drawnNow_140 : decode cX2_drawnNow 140 = .ok (.ifCond .ne 7, 3) := dk_154 0 7 (dk_at dksX2_drawnNow_6 1 rfl rfl)
theorem dX2_drawnNow_143 : decode cX2_drawnNow 143 = .ok (.iload_n 3, 1) := dk_29 (dk_at dksX2_drawnNow_6 4 rfl rfl)
theorem dX2_drawnNow_144 : decode cX2_drawnNow 144 = .ok (.goto 28, 3) := dk_167 0 28 (dk_at dksX2_drawnNow_6 5 rfl rfl)
theorem dX2_drawnNow_147 : decode cX2_drawnNow 147 = .ok (.iload_n 2, 1) := dk_28 (dk_at dksX2_drawnNow_6 8 rfl rfl)
theorem dX2_drawnNow_148 : decode cX2_drawnNow 148 = .ok (.iconst 1, 1) := dk_4 (dk_at dksX2_drawnNow_6 9 rfl rfl)
theorem dX2_drawnNow_149 : decode cX2_drawnNow 149 = .ok (.if_icmp .ne 8, 3) := dk_160 0 8 (dk_at dksX2_drawnNow_6 10 rfl rfl)
theorem dX2_drawnNow_152 : decode cX2_drawnNow 152 = .ok (.iload 4, 2) := dk_21 4 (dk_at dksX2_drawnNow_6 13 rfl rfl)
theorem dX2_drawnNow_154 : decode cX2_drawnNow 154 = .ok (.goto 18, 3) := dk_167 0 18 (dk_at dksX2_drawnNow_6 15 rfl rfl)
theorem dX2_drawnNow_157 : decode cX2_drawnNow 157 = .ok (.iload_n 2, 1) := dk_28 (dk_at dksX2_drawnNow_6 18 rfl rfl)
theorem dX2_drawnNow_158 : decode cX2_drawnNow 158 = .ok (.iconst 2, 1) := dk_5 (dk_at dksX2_drawnNow_6 19 rfl rfl)
theorem dX2_drawnNow_159 : decode cX2_drawnNow 159 = .ok (.if_icmp .ne 8, 3) := dk_160 0 8 (dk_at dksX2_drawnNow_6 20 rfl rfl)
theorem dX2_drawnNow_162 : decode cX2_drawnNow 162 = .ok (.iload 5, 2) := dk_21 5 (dk_at dksX2_drawnNow_7 0 rfl rfl)
theorem dX2_drawnNow_164 : decode cX2_drawnNow 164 = .ok (.goto 8, 3) := dk_167 0 8 (dk_at dksX2_drawnNow_7 2 rfl rfl)
theorem dX2_drawnNow_167 : decode cX2_drawnNow 167 = .ok (.aload_n 0, 1) := dk_42 (dk_at dksX2_drawnNow_7 5 rfl rfl)
theorem dX2_drawnNow_168 : decode cX2_drawnNow 168 = .ok (.getfield 281, 3) := dk_180 1 25 (dk_at dksX2_drawnNow_7 6 rfl rfl)
theorem dX2_drawnNow_171 : decode cX2_drawnNow 171 = .ok (.l2i, 1) := dk_136 (dk_at dksX2_drawnNow_7 9 rfl rfl)
theorem dX2_drawnNow_172 : decode cX2_drawnNow 172 = .ok (.ireturn, 1) := dk_172 (dk_at dksX2_drawnNow_7 10 rfl rfl)
abbrev cX2_drawOf : ByteArray := prog_9_method_78_code
def yX2_drawOf : MethodName := ⟨RX2, "drawOf", "(I)I"⟩
def dkwX2_drawOf_1 : List UInt8 := [20, 1, 33, 109, 27, 133, 113, 136, 172]
abbrev dktX2_drawOf_1 : List UInt8 := dkwX2_drawOf_1 ++ []
def dkwX2_drawOf_0 : List UInt8 := [42, 20, 1, 23, 42, 180, 1, 25, 105, 20, 1, 29, 97, 20, 1, 31, 113, 181, 1, 25, 42, 180, 1, 25]
abbrev dktX2_drawOf_0 : List UInt8 := dkwX2_drawOf_0 ++ dktX2_drawOf_1
theorem dksX2_drawOf_0 : cX2_drawOf.data.toList.drop 0 = dktX2_drawOf_0 := by decide +kernel
theorem dksX2_drawOf_1 : cX2_drawOf.data.toList.drop 24 = dktX2_drawOf_1 := dk_seg dksX2_drawOf_0 24 rfl rfl
theorem dX2_drawOf_0 : decode cX2_drawOf 0 = .ok (.aload_n 0, 1) := dk_42 (dk_at dksX2_drawOf_0 0 rfl rfl)
theorem dX2_drawOf_1 : decode cX2_drawOf 1 = .ok (.ldc2_w 279, 3) := dk_20 1 23 (dk_at dksX2_drawOf_0 1 rfl rfl)
theorem dX2_drawOf_4 : decode cX2_drawOf 4 = .ok (.aload_n 0, 1) := dk_42 (dk_at dksX2_drawOf_0 4 rfl rfl)
theorem dX2_drawOf_5 : decode cX2_drawOf 5 = .ok (.getfield 281, 3) := dk_180 1 25 (dk_at dksX2_drawOf_0 5 rfl rfl)
theorem dX2_drawOf_8 : decode cX2_drawOf 8 = .ok (.lmul, 1) := dk_105 (dk_at dksX2_drawOf_0 8 rfl rfl)
theorem dX2_drawOf_9 : decode cX2_drawOf 9 = .ok (.ldc2_w 285, 3) := dk_20 1 29 (dk_at dksX2_drawOf_0 9 rfl rfl)
theorem dX2_drawOf_12 : decode cX2_drawOf 12 = .ok (.ladd, 1) := dk_97 (dk_at dksX2_drawOf_0 12 rfl rfl)
theorem dX2_drawOf_13 : decode cX2_drawOf 13 = .ok (.ldc2_w 287, 3) := dk_20 1 31 (dk_at dksX2_drawOf_0 13 rfl rfl)
theorem dX2_drawOf_16 : decode cX2_drawOf 16 = .ok (.lrem, 1) := dk_113 (dk_at dksX2_drawOf_0 16 rfl rfl)
theorem dX2_drawOf_17 : decode cX2_drawOf 17 = .ok (.putfield 281, 3) := dk_181 1 25 (dk_at dksX2_drawOf_0 17 rfl rfl)
theorem dX2_drawOf_20 : decode cX2_drawOf 20 = .ok (.aload_n 0, 1) := dk_42 (dk_at dksX2_drawOf_0 20 rfl rfl)
theorem dX2_drawOf_21 : decode cX2_drawOf 21 = .ok (.getfield 281, 3) := dk_180 1 25 (dk_at dksX2_drawOf_0 21 rfl rfl)
theorem dX2_drawOf_24 : decode cX2_drawOf 24 = .ok (.ldc2_w 289, 3) := dk_20 1 33 (dk_at dksX2_drawOf_1 0 rfl rfl)
theorem dX2_drawOf_27 : decode cX2_drawOf 27 = .ok (.ldiv, 1) := dk_109 (dk_at dksX2_drawOf_1 3 rfl rfl)
theorem dX2_drawOf_28 : decode cX2_drawOf 28 = .ok (.iload_n 1, 1) := dk_27 (dk_at dksX2_drawOf_1 4 rfl rfl)
theorem dX2_drawOf_29 : decode cX2_drawOf 29 = .ok (.i2l, 1) := dk_133 (dk_at dksX2_drawOf_1 5 rfl rfl)
theorem dX2_drawOf_30 : decode cX2_drawOf 30 = .ok (.lrem, 1) := dk_113 (dk_at dksX2_drawOf_1 6 rfl rfl)
theorem dX2_drawOf_31 : decode cX2_drawOf 31 = .ok (.l2i, 1) := dk_136 (dk_at dksX2_drawOf_1 7 rfl rfl)
theorem dX2_drawOf_32 : decode cX2_drawOf 32 = .ok (.ireturn, 1) := dk_172 (dk_at dksX2_drawOf_1 8 rfl rfl)
abbrev cX2_count : ByteArray := prog_9_method_84_code
def yX2_count : MethodName := ⟨RX2, "count", "(I)I"⟩
def dkwX2_count_0 : List UInt8 := [42, 27, 182, 1, 47, 172]
abbrev dktX2_count_0 : List UInt8 := dkwX2_count_0 ++ []
theorem dksX2_count_0 : cX2_count.data.toList.drop 0 = dktX2_count_0 := by decide +kernel
theorem dX2_count_0 : decode cX2_count 0 = .ok (.aload_n 0, 1) := dk_42 (dk_at dksX2_count_0 0 rfl rfl)
theorem dX2_count_1 : decode cX2_count 1 = .ok (.iload_n 1, 1) := dk_27 (dk_at dksX2_count_0 1 rfl rfl)
theorem dX2_count_2 : decode cX2_count 2 = .ok (.invokevirtual 303, 3) := dk_182 1 47 (dk_at dksX2_count_0 2 rfl rfl)
theorem dX2_count_5 : decode cX2_count 5 = .ok (.ireturn, 1) := dk_172 (dk_at dksX2_count_0 5 rfl rfl)
abbrev cX2_howMany : ByteArray := prog_9_method_83_code
def yX2_howMany : MethodName := ⟨RX2, "howMany", "(I)I"⟩
def dkwX2_howMany_3 : List UInt8 := [172, 42, 180, 0, 212, 172, 42, 180, 0, 224, 172, 18, 54, 172]
abbrev dktX2_howMany_3 : List UInt8 := dkwX2_howMany_3 ++ []
def dkwX2_howMany_2 : List UInt8 := [42, 180, 0, 75, 172, 42, 182, 1, 41, 172, 42, 182, 1, 44, 172, 42, 180, 0, 55, 172, 42, 180, 0, 79]
abbrev dktX2_howMany_2 : List UInt8 := dkwX2_howMany_2 ++ dktX2_howMany_3
def dkwX2_howMany_1 : List UInt8 := [170, 0, 0, 0, 0, 0, 78, 0, 0, 0, 0, 0, 0, 0, 6, 0, 0, 0, 43, 0, 0, 0, 48, 0, 0, 0, 53, 0, 0, 0, 58, 0, 0, 0, 63, 0, 0, 0, 68, 0, 0, 0, 73]
abbrev dktX2_howMany_1 : List UInt8 := dkwX2_howMany_1 ++ dktX2_howMany_2
def dkwX2_howMany_0 : List UInt8 := [27]
abbrev dktX2_howMany_0 : List UInt8 := dkwX2_howMany_0 ++ dktX2_howMany_1
theorem dksX2_howMany_0 : cX2_howMany.data.toList.drop 0 = dktX2_howMany_0 := by decide +kernel
theorem dksX2_howMany_1 : cX2_howMany.data.toList.drop 1 = dktX2_howMany_1 := dk_seg dksX2_howMany_0 1 rfl rfl
theorem dksX2_howMany_2 : cX2_howMany.data.toList.drop 44 = dktX2_howMany_2 := dk_seg dksX2_howMany_1 43 rfl rfl
theorem dksX2_howMany_3 : cX2_howMany.data.toList.drop 68 = dktX2_howMany_3 := dk_seg dksX2_howMany_2 24 rfl rfl
theorem dX2_howMany_0 : decode cX2_howMany 0 = .ok (.iload_n 1, 1) := dk_27 (dk_at dksX2_howMany_0 0 rfl rfl)
theorem dX2_howMany_1 : decode cX2_howMany 1 = .ok (.tableswitch 78 0 6 #[43, 48, 53, 58, 63, 68, 73], 43) := by decide +kernel
theorem dX2_howMany_44 : decode cX2_howMany 44 = .ok (.aload_n 0, 1) := dk_42 (dk_at dksX2_howMany_2 0 rfl rfl)
theorem dX2_howMany_45 : decode cX2_howMany 45 = .ok (.getfield 75, 3) := dk_180 0 75 (dk_at dksX2_howMany_2 1 rfl rfl)
theorem dX2_howMany_48 : decode cX2_howMany 48 = .ok (.ireturn, 1) := dk_172 (dk_at dksX2_howMany_2 4 rfl rfl)
theorem dX2_howMany_49 : decode cX2_howMany 49 = .ok (.aload_n 0, 1) := dk_42 (dk_at dksX2_howMany_2 5 rfl rfl)
theorem dX2_howMany_50 : decode cX2_howMany 50 = .ok (.invokevirtual 297, 3) := dk_182 1 41 (dk_at dksX2_howMany_2 6 rfl rfl)
theorem dX2_howMany_53 : decode cX2_howMany 53 = .ok (.ireturn, 1) := dk_172 (dk_at dksX2_howMany_2 9 rfl rfl)
theorem dX2_howMany_54 : decode cX2_howMany 54 = .ok (.aload_n 0, 1) := dk_42 (dk_at dksX2_howMany_2 10 rfl rfl)
theorem dX2_howMany_55 : decode cX2_howMany 55 = .ok (.invokevirtual 300, 3) := dk_182 1 44 (dk_at dksX2_howMany_2 11 rfl rfl)
theorem dX2_howMany_58 : decode cX2_howMany 58 = .ok (.ireturn, 1) := dk_172 (dk_at dksX2_howMany_2 14 rfl rfl)
theorem dX2_howMany_59 : decode cX2_howMany 59 = .ok (.aload_n 0, 1) := dk_42 (dk_at dksX2_howMany_2 15 rfl rfl)
theorem dX2_howMany_60 : decode cX2_howMany 60 = .ok (.getfield 55, 3) := dk_180 0 55 (dk_at dksX2_howMany_2 16 rfl rfl)
theorem dX2_howMany_63 : decode cX2_howMany 63 = .ok (.ireturn, 1) := dk_172 (dk_at dksX2_howMany_2 19 rfl rfl)
theorem dX2_howMany_64 : decode cX2_howMany 64 = .ok (.aload_n 0, 1) := dk_42 (dk_at dksX2_howMany_2 20 rfl rfl)
theorem dX2_howMany_65 : decode cX2_howMany 65 = .ok (.getfield 79, 3) := dk_180 0 79 (dk_at dksX2_howMany_2 21 rfl rfl)
theorem dX2_howMany_68 : decode cX2_howMany 68 = .ok (.ireturn, 1) := dk_172 (dk_at dksX2_howMany_3 0 rfl rfl)
theorem dX2_howMany_69 : decode cX2_howMany 69 = .ok (.aload_n 0, 1) := dk_42 (dk_at dksX2_howMany_3 1 rfl rfl)
theorem dX2_howMany_70 : decode cX2_howMany 70 = .ok (.getfield 212, 3) := dk_180 0 212 (dk_at dksX2_howMany_3 2 rfl rfl)
theorem dX2_howMany_73 : decode cX2_howMany 73 = .ok (.ireturn, 1) := dk_172 (dk_at dksX2_howMany_3 5 rfl rfl)
theorem dX2_howMany_74 : decode cX2_howMany 74 = .ok (.aload_n 0, 1) := dk_42 (dk_at dksX2_howMany_3 6 rfl rfl)
theorem dX2_howMany_75 : decode cX2_howMany 75 = .ok (.getfield 224, 3) := dk_180 0 224 (dk_at dksX2_howMany_3 7 rfl rfl)
theorem dX2_howMany_78 : decode cX2_howMany 78 = .ok (.ireturn, 1) := dk_172 (dk_at dksX2_howMany_3 10 rfl rfl)
theorem dX2_howMany_79 : decode cX2_howMany 79 = .ok (.ldc 54, 2) := dk_18 54 (dk_at dksX2_howMany_3 11 rfl rfl)
theorem dX2_howMany_81 : decode cX2_howMany 81 = .ok (.ireturn, 1) := dk_172 (dk_at dksX2_howMany_3 13 rfl rfl)
abbrev cX2_closedMany : ByteArray := prog_9_method_81_code
def yX2_closedMany : MethodName := ⟨RX2, "closedMany", "()I"⟩
def dkwX2_closedMany_1 : List UInt8 := [167, 0, 4, 3, 96, 60, 132, 2, 1, 167, 255, 229, 27, 172]
abbrev dktX2_closedMany_1 : List UInt8 := dkwX2_closedMany_1 ++ []
def dkwX2_closedMany_0 : List UInt8 := [3, 60, 3, 61, 28, 42, 180, 0, 75, 162, 0, 25, 27, 42, 28, 182, 0, 177, 153, 0, 7, 4]
abbrev dktX2_closedMany_0 : List UInt8 := dkwX2_closedMany_0 ++ dktX2_closedMany_1
theorem dksX2_closedMany_0 : cX2_closedMany.data.toList.drop 0 = dktX2_closedMany_0 := by decide +kernel
theorem dksX2_closedMany_1 : cX2_closedMany.data.toList.drop 22 = dktX2_closedMany_1 := dk_seg dksX2_closedMany_0 22 rfl rfl
theorem dX2_closedMany_0 : decode cX2_closedMany 0 = .ok (.iconst 0, 1) := dk_3 (dk_at dksX2_closedMany_0 0 rfl rfl)
theorem dX2_closedMany_1 : decode cX2_closedMany 1 = .ok (.istore_n 1, 1) := dk_60 (dk_at dksX2_closedMany_0 1 rfl rfl)
theorem dX2_closedMany_2 : decode cX2_closedMany 2 = .ok (.iconst 0, 1) := dk_3 (dk_at dksX2_closedMany_0 2 rfl rfl)
theorem dX2_closedMany_3 : decode cX2_closedMany 3 = .ok (.istore_n 2, 1) := dk_61 (dk_at dksX2_closedMany_0 3 rfl rfl)
theorem dX2_closedMany_4 : decode cX2_closedMany 4 = .ok (.iload_n 2, 1) := dk_28 (dk_at dksX2_closedMany_0 4 rfl rfl)
theorem dX2_closedMany_5 : decode cX2_closedMany 5 = .ok (.aload_n 0, 1) := dk_42 (dk_at dksX2_closedMany_0 5 rfl rfl)
theorem dX2_closedMany_6 : decode cX2_closedMany 6 = .ok (.getfield 75, 3) := dk_180 0 75 (dk_at dksX2_closedMany_0 6 rfl rfl)
theorem dX2_closedMany_9 : decode cX2_closedMany 9 = .ok (.if_icmp .ge 25, 3) := dk_162 0 25 (dk_at dksX2_closedMany_0 9 rfl rfl)
theorem dX2_closedMany_12 : decode cX2_closedMany 12 = .ok (.iload_n 1, 1) := dk_27 (dk_at dksX2_closedMany_0 12 rfl rfl)
theorem dX2_closedMany_13 : decode cX2_closedMany 13 = .ok (.aload_n 0, 1) := dk_42 (dk_at dksX2_closedMany_0 13 rfl rfl)
theorem dX2_closedMany_14 : decode cX2_closedMany 14 = .ok (.iload_n 2, 1) := dk_28 (dk_at dksX2_closedMany_0 14 rfl rfl)
theorem dX2_closedMany_15 : decode cX2_closedMany 15 = .ok (.invokevirtual 177, 3) := dk_182 0 177 (dk_at dksX2_closedMany_0 15 rfl rfl)
theorem dX2_closedMany_18 : decode cX2_closedMany 18 = .ok (.ifCond .eq 7, 3) := dk_153 0 7 (dk_at dksX2_closedMany_0 18 rfl rfl)
theorem dX2_closedMany_21 : decode cX2_closedMany 21 = .ok (.iconst 1, 1) := dk_4 (dk_at dksX2_closedMany_0 21 rfl rfl)
theorem dX2_closedMany_22 : decode cX2_closedMany 22 = .ok (.goto 4, 3) := dk_167 0 4 (dk_at dksX2_closedMany_1 0 rfl rfl)
theorem dX2_closedMany_25 : decode cX2_closedMany 25 = .ok (.iconst 0, 1) := dk_3 (dk_at dksX2_closedMany_1 3 rfl rfl)
theorem dX2_closedMany_26 : decode cX2_closedMany 26 = .ok (.iadd, 1) := dk_96 (dk_at dksX2_closedMany_1 4 rfl rfl)
theorem dX2_closedMany_27 : decode cX2_closedMany 27 = .ok (.istore_n 1, 1) := dk_60 (dk_at dksX2_closedMany_1 5 rfl rfl)
theorem dX2_closedMany_28 : decode cX2_closedMany 28 = .ok (.iinc 2 1, 3) := dk_132 2 1 (dk_at dksX2_closedMany_1 6 rfl rfl)
theorem dX2_closedMany_31 : decode cX2_closedMany 31 = .ok (.goto (-27), 3) := dk_167 255 229 (dk_at dksX2_closedMany_1 9 rfl rfl)
theorem dX2_closedMany_34 : decode cX2_closedMany 34 = .ok (.iload_n 1, 1) := dk_27 (dk_at dksX2_closedMany_1 12 rfl rfl)
theorem dX2_closedMany_35 : decode cX2_closedMany 35 = .ok (.ireturn, 1) := dk_172 (dk_at dksX2_closedMany_1 13 rfl rfl)
abbrev cX2_newMany : ByteArray := prog_9_method_82_code
def yX2_newMany : MethodName := ⟨RX2, "newMany", "()I"⟩
def dkwX2_newMany_2 : List UInt8 := [167, 255, 225, 27, 29, 153, 0, 7, 4, 167, 0, 4, 3, 96, 60, 132, 2, 1, 167, 255, 194, 27, 172]
abbrev dktX2_newMany_2 : List UInt8 := dkwX2_newMany_2 ++ []
def dkwX2_newMany_1 : List UInt8 := [153, 0, 19, 42, 21, 4, 28, 182, 0, 186, 18, 106, 160, 0, 7, 4, 167, 0, 4, 3, 62, 132, 4, 1]
abbrev dktX2_newMany_1 : List UInt8 := dkwX2_newMany_1 ++ dktX2_newMany_2
def dkwX2_newMany_0 : List UInt8 := [3, 60, 3, 61, 28, 42, 180, 0, 75, 162, 0, 60, 4, 62, 3, 54, 4, 21, 4, 28, 162, 0, 31, 29]
abbrev dktX2_newMany_0 : List UInt8 := dkwX2_newMany_0 ++ dktX2_newMany_1
theorem dksX2_newMany_0 : cX2_newMany.data.toList.drop 0 = dktX2_newMany_0 := by decide +kernel
theorem dksX2_newMany_1 : cX2_newMany.data.toList.drop 24 = dktX2_newMany_1 := dk_seg dksX2_newMany_0 24 rfl rfl
theorem dksX2_newMany_2 : cX2_newMany.data.toList.drop 48 = dktX2_newMany_2 := dk_seg dksX2_newMany_1 24 rfl rfl
theorem dX2_newMany_0 : decode cX2_newMany 0 = .ok (.iconst 0, 1) := dk_3 (dk_at dksX2_newMany_0 0 rfl rfl)
theorem dX2_newMany_1 : decode cX2_newMany 1 = .ok (.istore_n 1, 1) := dk_60 (dk_at dksX2_newMany_0 1 rfl rfl)
theorem dX2_newMany_2 : decode cX2_newMany 2 = .ok (.iconst 0, 1) := dk_3 (dk_at dksX2_newMany_0 2 rfl rfl)
theorem dX2_newMany_3 : decode cX2_newMany 3 = .ok (.istore_n 2, 1) := dk_61 (dk_at dksX2_newMany_0 3 rfl rfl)
theorem dX2_newMany_4 : decode cX2_newMany 4 = .ok (.iload_n 2, 1) := dk_28 (dk_at dksX2_newMany_0 4 rfl rfl)
theorem dX2_newMany_5 : decode cX2_newMany 5 = .ok (.aload_n 0, 1) := dk_42 (dk_at dksX2_newMany_0 5 rfl rfl)
theorem dX2_newMany_6 : decode cX2_newMany 6 = .ok (.getfield 75, 3) := dk_180 0 75 (dk_at dksX2_newMany_0 6 rfl rfl)
theorem dX2_newMany_9 : decode cX2_newMany 9 = .ok (.if_icmp .ge 60, 3) := dk_162 0 60 (dk_at dksX2_newMany_0 9 rfl rfl)
theorem dX2_newMany_12 : decode cX2_newMany 12 = .ok (.iconst 1, 1) := dk_4 (dk_at dksX2_newMany_0 12 rfl rfl)
theorem dX2_newMany_13 : decode cX2_newMany 13 = .ok (.istore_n 3, 1) := dk_62 (dk_at dksX2_newMany_0 13 rfl rfl)
theorem dX2_newMany_14 : decode cX2_newMany 14 = .ok (.iconst 0, 1) := dk_3 (dk_at dksX2_newMany_0 14 rfl rfl)
theorem dX2_newMany_15 : decode cX2_newMany 15 = .ok (.istore 4, 2) := dk_54 4 (dk_at dksX2_newMany_0 15 rfl rfl)
theorem dX2_newMany_17 : decode cX2_newMany 17 = .ok (.iload 4, 2) := dk_21 4 (dk_at dksX2_newMany_0 17 rfl rfl)
theorem dX2_newMany_19 : decode cX2_newMany 19 = .ok (.iload_n 2, 1) := dk_28 (dk_at dksX2_newMany_0 19 rfl rfl)
theorem dX2_newMany_20 : decode cX2_newMany 20 = .ok (.if_icmp .ge 31, 3) := dk_162 0 31 (dk_at dksX2_newMany_0 20 rfl rfl)
theorem dX2_newMany_23 : decode cX2_newMany 23 = .ok (.iload_n 3, 1) := dk_29 (dk_at dksX2_newMany_0 23 rfl rfl)
theorem dX2_newMany_24 : decode cX2_newMany 24 = .ok (.ifCond .eq 19, 3) := dk_153 0 19 (dk_at dksX2_newMany_1 0 rfl rfl)
theorem dX2_newMany_27 : decode cX2_newMany 27 = .ok (.aload_n 0, 1) := dk_42 (dk_at dksX2_newMany_1 3 rfl rfl)
theorem dX2_newMany_28 : decode cX2_newMany 28 = .ok (.iload 4, 2) := dk_21 4 (dk_at dksX2_newMany_1 4 rfl rfl)
theorem dX2_newMany_30 : decode cX2_newMany 30 = .ok (.iload_n 2, 1) := dk_28 (dk_at dksX2_newMany_1 6 rfl rfl)
theorem dX2_newMany_31 : decode cX2_newMany 31 = .ok (.invokevirtual 186, 3) := dk_182 0 186 (dk_at dksX2_newMany_1 7 rfl rfl)
theorem dX2_newMany_34 : decode cX2_newMany 34 = .ok (.ldc 106, 2) := dk_18 106 (dk_at dksX2_newMany_1 10 rfl rfl)
theorem dX2_newMany_36 : decode cX2_newMany 36 = .ok (.if_icmp .ne 7, 3) := dk_160 0 7 (dk_at dksX2_newMany_1 12 rfl rfl)
theorem dX2_newMany_39 : decode cX2_newMany 39 = .ok (.iconst 1, 1) := dk_4 (dk_at dksX2_newMany_1 15 rfl rfl)
theorem dX2_newMany_40 : decode cX2_newMany 40 = .ok (.goto 4, 3) := dk_167 0 4 (dk_at dksX2_newMany_1 16 rfl rfl)
theorem dX2_newMany_43 : decode cX2_newMany 43 = .ok (.iconst 0, 1) := dk_3 (dk_at dksX2_newMany_1 19 rfl rfl)
theorem dX2_newMany_44 : decode cX2_newMany 44 = .ok (.istore_n 3, 1) := dk_62 (dk_at dksX2_newMany_1 20 rfl rfl)
theorem dX2_newMany_45 : decode cX2_newMany 45 = .ok (.iinc 4 1, 3) := dk_132 4 1 (dk_at dksX2_newMany_1 21 rfl rfl)
theorem dX2_newMany_48 : decode cX2_newMany 48 = .ok (.goto (-31), 3) := dk_167 255 225 (dk_at dksX2_newMany_2 0 rfl rfl)
theorem dX2_newMany_51 : decode cX2_newMany 51 = .ok (.iload_n 1, 1) := dk_27 (dk_at dksX2_newMany_2 3 rfl rfl)
theorem dX2_newMany_52 : decode cX2_newMany 52 = .ok (.iload_n 3, 1) := dk_29 (dk_at dksX2_newMany_2 4 rfl rfl)
theorem dX2_newMany_53 : decode cX2_newMany 53 = .ok (.ifCond .eq 7, 3) := dk_153 0 7 (dk_at dksX2_newMany_2 5 rfl rfl)
theorem dX2_newMany_56 : decode cX2_newMany 56 = .ok (.iconst 1, 1) := dk_4 (dk_at dksX2_newMany_2 8 rfl rfl)
theorem dX2_newMany_57 : decode cX2_newMany 57 = .ok (.goto 4, 3) := dk_167 0 4 (dk_at dksX2_newMany_2 9 rfl rfl)
theorem dX2_newMany_60 : decode cX2_newMany 60 = .ok (.iconst 0, 1) := dk_3 (dk_at dksX2_newMany_2 12 rfl rfl)
theorem dX2_newMany_61 : decode cX2_newMany 61 = .ok (.iadd, 1) := dk_96 (dk_at dksX2_newMany_2 13 rfl rfl)
theorem dX2_newMany_62 : decode cX2_newMany 62 = .ok (.istore_n 1, 1) := dk_60 (dk_at dksX2_newMany_2 14 rfl rfl)
theorem dX2_newMany_63 : decode cX2_newMany 63 = .ok (.iinc 2 1, 3) := dk_132 2 1 (dk_at dksX2_newMany_2 15 rfl rfl)
theorem dX2_newMany_66 : decode cX2_newMany 66 = .ok (.goto (-62), 3) := dk_167 255 194 (dk_at dksX2_newMany_2 18 rfl rfl)
theorem dX2_newMany_69 : decode cX2_newMany 69 = .ok (.iload_n 1, 1) := dk_27 (dk_at dksX2_newMany_2 21 rfl rfl)
theorem dX2_newMany_70 : decode cX2_newMany 70 = .ok (.ireturn, 1) := dk_172 (dk_at dksX2_newMany_2 22 rfl rfl)
abbrev cX2_digest : ByteArray := prog_9_method_89_code
def yX2_digest : MethodName := ⟨RX2, "digest", "()J"⟩
def dkwX2_digest_3 : List UInt8 := [162, 0, 19, 42, 42, 27, 182, 1, 47, 133, 182, 1, 55, 132, 1, 1, 167, 255, 237, 42, 180, 1, 52, 173]
abbrev dktX2_digest_3 : List UInt8 := dkwX2_digest_3 ++ []
def dkwX2_digest_2 : List UInt8 := [42, 42, 180, 0, 7, 27, 46, 133, 182, 1, 55, 132, 1, 1, 167, 255, 234, 3, 60, 27, 16, 7]
abbrev dktX2_digest_2 : List UInt8 := dkwX2_digest_2 ++ dktX2_digest_3
def dkwX2_digest_1 : List UInt8 := [132, 1, 1, 167, 255, 240, 42, 182, 1, 64, 42, 182, 1, 67, 3, 60, 27, 42, 180, 0, 55, 162, 0, 20]
abbrev dktX2_digest_1 : List UInt8 := dkwX2_digest_1 ++ dktX2_digest_2
def dkwX2_digest_0 : List UInt8 := [42, 20, 1, 59, 181, 1, 52, 3, 60, 27, 42, 180, 0, 75, 162, 0, 14, 42, 27, 182, 1, 61]
abbrev dktX2_digest_0 : List UInt8 := dkwX2_digest_0 ++ dktX2_digest_1
theorem dksX2_digest_0 : cX2_digest.data.toList.drop 0 = dktX2_digest_0 := by decide +kernel
theorem dksX2_digest_1 : cX2_digest.data.toList.drop 22 = dktX2_digest_1 := dk_seg dksX2_digest_0 22 rfl rfl
theorem dksX2_digest_2 : cX2_digest.data.toList.drop 46 = dktX2_digest_2 := dk_seg dksX2_digest_1 24 rfl rfl
theorem dksX2_digest_3 : cX2_digest.data.toList.drop 68 = dktX2_digest_3 := dk_seg dksX2_digest_2 22 rfl rfl
theorem dX2_digest_0 : decode cX2_digest 0 = .ok (.aload_n 0, 1) := dk_42 (dk_at dksX2_digest_0 0 rfl rfl)
theorem dX2_digest_1 : decode cX2_digest 1 = .ok (.ldc2_w 315, 3) := dk_20 1 59 (dk_at dksX2_digest_0 1 rfl rfl)
theorem dX2_digest_4 : decode cX2_digest 4 = .ok (.putfield 308, 3) := dk_181 1 52 (dk_at dksX2_digest_0 4 rfl rfl)
theorem dX2_digest_7 : decode cX2_digest 7 = .ok (.iconst 0, 1) := dk_3 (dk_at dksX2_digest_0 7 rfl rfl)
theorem dX2_digest_8 : decode cX2_digest 8 = .ok (.istore_n 1, 1) := dk_60 (dk_at dksX2_digest_0 8 rfl rfl)
theorem dX2_digest_9 : decode cX2_digest 9 = .ok (.iload_n 1, 1) := dk_27 (dk_at dksX2_digest_0 9 rfl rfl)
theorem dX2_digest_10 : decode cX2_digest 10 = .ok (.aload_n 0, 1) := dk_42 (dk_at dksX2_digest_0 10 rfl rfl)
theorem dX2_digest_11 : decode cX2_digest 11 = .ok (.getfield 75, 3) := dk_180 0 75 (dk_at dksX2_digest_0 11 rfl rfl)
theorem dX2_digest_14 : decode cX2_digest 14 = .ok (.if_icmp .ge 14, 3) := dk_162 0 14 (dk_at dksX2_digest_0 14 rfl rfl)
theorem dX2_digest_17 : decode cX2_digest 17 = .ok (.aload_n 0, 1) := dk_42 (dk_at dksX2_digest_0 17 rfl rfl)
theorem dX2_digest_18 : decode cX2_digest 18 = .ok (.iload_n 1, 1) := dk_27 (dk_at dksX2_digest_0 18 rfl rfl)
theorem dX2_digest_19 : decode cX2_digest 19 = .ok (.invokevirtual 317, 3) := dk_182 1 61 (dk_at dksX2_digest_0 19 rfl rfl)
theorem dX2_digest_22 : decode cX2_digest 22 = .ok (.iinc 1 1, 3) := dk_132 1 1 (dk_at dksX2_digest_1 0 rfl rfl)
theorem dX2_digest_25 : decode cX2_digest 25 = .ok (.goto (-16), 3) := dk_167 255 240 (dk_at dksX2_digest_1 3 rfl rfl)
theorem dX2_digest_28 : decode cX2_digest 28 = .ok (.aload_n 0, 1) := dk_42 (dk_at dksX2_digest_1 6 rfl rfl)
theorem dX2_digest_29 : decode cX2_digest 29 = .ok (.invokevirtual 320, 3) := dk_182 1 64 (dk_at dksX2_digest_1 7 rfl rfl)
theorem dX2_digest_32 : decode cX2_digest 32 = .ok (.aload_n 0, 1) := dk_42 (dk_at dksX2_digest_1 10 rfl rfl)
theorem dX2_digest_33 : decode cX2_digest 33 = .ok (.invokevirtual 323, 3) := dk_182 1 67 (dk_at dksX2_digest_1 11 rfl rfl)
theorem dX2_digest_36 : decode cX2_digest 36 = .ok (.iconst 0, 1) := dk_3 (dk_at dksX2_digest_1 14 rfl rfl)
theorem dX2_digest_37 : decode cX2_digest 37 = .ok (.istore_n 1, 1) := dk_60 (dk_at dksX2_digest_1 15 rfl rfl)
theorem dX2_digest_38 : decode cX2_digest 38 = .ok (.iload_n 1, 1) := dk_27 (dk_at dksX2_digest_1 16 rfl rfl)
theorem dX2_digest_39 : decode cX2_digest 39 = .ok (.aload_n 0, 1) := dk_42 (dk_at dksX2_digest_1 17 rfl rfl)
theorem dX2_digest_40 : decode cX2_digest 40 = .ok (.getfield 55, 3) := dk_180 0 55 (dk_at dksX2_digest_1 18 rfl rfl)
theorem dX2_digest_43 : decode cX2_digest 43 = .ok (.if_icmp .ge 20, 3) := dk_162 0 20 (dk_at dksX2_digest_1 21 rfl rfl)
theorem dX2_digest_46 : decode cX2_digest 46 = .ok (.aload_n 0, 1) := dk_42 (dk_at dksX2_digest_2 0 rfl rfl)
theorem dX2_digest_47 : decode cX2_digest 47 = .ok (.aload_n 0, 1) := dk_42 (dk_at dksX2_digest_2 1 rfl rfl)
theorem dX2_digest_48 : decode cX2_digest 48 = .ok (.getfield 7, 3) := dk_180 0 7 (dk_at dksX2_digest_2 2 rfl rfl)
theorem dX2_digest_51 : decode cX2_digest 51 = .ok (.iload_n 1, 1) := dk_27 (dk_at dksX2_digest_2 5 rfl rfl)
theorem dX2_digest_52 : decode cX2_digest 52 = .ok (.iaload, 1) := dk_46 (dk_at dksX2_digest_2 6 rfl rfl)
theorem dX2_digest_53 : decode cX2_digest 53 = .ok (.i2l, 1) := dk_133 (dk_at dksX2_digest_2 7 rfl rfl)
theorem dX2_digest_54 : decode cX2_digest 54 = .ok (.invokevirtual 311, 3) := dk_182 1 55 (dk_at dksX2_digest_2 8 rfl rfl)
theorem dX2_digest_57 : decode cX2_digest 57 = .ok (.iinc 1 1, 3) := dk_132 1 1 (dk_at dksX2_digest_2 11 rfl rfl)
theorem dX2_digest_60 : decode cX2_digest 60 = .ok (.goto (-22), 3) := dk_167 255 234 (dk_at dksX2_digest_2 14 rfl rfl)
theorem dX2_digest_63 : decode cX2_digest 63 = .ok (.iconst 0, 1) := dk_3 (dk_at dksX2_digest_2 17 rfl rfl)
theorem dX2_digest_64 : decode cX2_digest 64 = .ok (.istore_n 1, 1) := dk_60 (dk_at dksX2_digest_2 18 rfl rfl)
theorem dX2_digest_65 : decode cX2_digest 65 = .ok (.iload_n 1, 1) := dk_27 (dk_at dksX2_digest_2 19 rfl rfl)
theorem dX2_digest_66 : decode cX2_digest 66 = .ok (.bipush 7, 2) := dk_16 7 (dk_at dksX2_digest_2 20 rfl rfl)
theorem dX2_digest_68 : decode cX2_digest 68 = .ok (.if_icmp .ge 19, 3) := dk_162 0 19 (dk_at dksX2_digest_3 0 rfl rfl)
theorem dX2_digest_71 : decode cX2_digest 71 = .ok (.aload_n 0, 1) := dk_42 (dk_at dksX2_digest_3 3 rfl rfl)
theorem dX2_digest_72 : decode cX2_digest 72 = .ok (.aload_n 0, 1) := dk_42 (dk_at dksX2_digest_3 4 rfl rfl)
theorem dX2_digest_73 : decode cX2_digest 73 = .ok (.iload_n 1, 1) := dk_27 (dk_at dksX2_digest_3 5 rfl rfl)
theorem dX2_digest_74 : decode cX2_digest 74 = .ok (.invokevirtual 303, 3) := dk_182 1 47 (dk_at dksX2_digest_3 6 rfl rfl)
theorem dX2_digest_77 : decode cX2_digest 77 = .ok (.i2l, 1) := dk_133 (dk_at dksX2_digest_3 9 rfl rfl)
theorem dX2_digest_78 : decode cX2_digest 78 = .ok (.invokevirtual 311, 3) := dk_182 1 55 (dk_at dksX2_digest_3 10 rfl rfl)
theorem dX2_digest_81 : decode cX2_digest 81 = .ok (.iinc 1 1, 3) := dk_132 1 1 (dk_at dksX2_digest_3 13 rfl rfl)
theorem dX2_digest_84 : decode cX2_digest 84 = .ok (.goto (-19), 3) := dk_167 255 237 (dk_at dksX2_digest_3 16 rfl rfl)
theorem dX2_digest_87 : decode cX2_digest 87 = .ok (.aload_n 0, 1) := dk_42 (dk_at dksX2_digest_3 19 rfl rfl)
theorem dX2_digest_88 : decode cX2_digest 88 = .ok (.getfield 308, 3) := dk_180 1 52 (dk_at dksX2_digest_3 20 rfl rfl)
theorem dX2_digest_91 : decode cX2_digest 91 = .ok (.lreturn, 1) := dk_173 (dk_at dksX2_digest_3 23 rfl rfl)
abbrev cX2_mixRoad : ByteArray := prog_9_method_86_code
def yX2_mixRoad : MethodName := ⟨RX2, "mixRoad", "(I)V"⟩
def dkwX2_mixRoad_6 : List UInt8 := [177]
abbrev dktX2_mixRoad_6 : List UInt8 := dkwX2_mixRoad_6 ++ []
def dkwX2_mixRoad_5 : List UInt8 := [162, 0, 24, 28, 153, 0, 20, 42, 42, 27, 29, 182, 0, 180, 133, 182, 1, 55, 132, 3, 1, 167, 255, 233]
abbrev dktX2_mixRoad_5 : List UInt8 := dkwX2_mixRoad_5 ++ dktX2_mixRoad_6
def dkwX2_mixRoad_4 : List UInt8 := [182, 1, 55, 42, 42, 27, 4, 182, 0, 183, 133, 182, 1, 55, 42, 27, 182, 0, 177, 61, 3, 62, 29, 8]
abbrev dktX2_mixRoad_4 : List UInt8 := dkwX2_mixRoad_4 ++ dktX2_mixRoad_5
def dkwX2_mixRoad_3 : List UInt8 := [42, 27, 28, 182, 0, 152, 133, 182, 1, 55, 132, 2, 1, 167, 255, 237, 42, 42, 27, 3, 182, 0, 183, 133]
abbrev dktX2_mixRoad_3 : List UInt8 := dkwX2_mixRoad_3 ++ dktX2_mixRoad_4
def dkwX2_mixRoad_2 : List UInt8 := [28, 96, 46, 184, 0, 149, 133, 182, 1, 55, 132, 2, 1, 167, 255, 224, 3, 61, 28, 7, 162, 0, 20, 42]
abbrev dktX2_mixRoad_2 : List UInt8 := dkwX2_mixRoad_2 ++ dktX2_mixRoad_3
def dkwX2_mixRoad_1 : List UInt8 := [167, 255, 236, 3, 61, 28, 42, 180, 0, 13, 27, 46, 162, 0, 28, 42, 42, 180, 0, 16, 16, 20, 27, 104]
abbrev dktX2_mixRoad_1 : List UInt8 := dkwX2_mixRoad_1 ++ dktX2_mixRoad_2
def dkwX2_mixRoad_0 : List UInt8 := [3, 61, 28, 16, 10, 162, 0, 20, 42, 42, 27, 28, 182, 0, 146, 133, 182, 1, 55, 132, 2, 1]
abbrev dktX2_mixRoad_0 : List UInt8 := dkwX2_mixRoad_0 ++ dktX2_mixRoad_1
theorem dksX2_mixRoad_0 : cX2_mixRoad.data.toList.drop 0 = dktX2_mixRoad_0 := by decide +kernel
theorem dksX2_mixRoad_1 : cX2_mixRoad.data.toList.drop 22 = dktX2_mixRoad_1 := dk_seg dksX2_mixRoad_0 22 rfl rfl
theorem dksX2_mixRoad_2 : cX2_mixRoad.data.toList.drop 46 = dktX2_mixRoad_2 := dk_seg dksX2_mixRoad_1 24 rfl rfl
theorem dksX2_mixRoad_3 : cX2_mixRoad.data.toList.drop 70 = dktX2_mixRoad_3 := dk_seg dksX2_mixRoad_2 24 rfl rfl
theorem dksX2_mixRoad_4 : cX2_mixRoad.data.toList.drop 94 = dktX2_mixRoad_4 := dk_seg dksX2_mixRoad_3 24 rfl rfl
theorem dksX2_mixRoad_5 : cX2_mixRoad.data.toList.drop 118 = dktX2_mixRoad_5 := dk_seg dksX2_mixRoad_4 24 rfl rfl
theorem dksX2_mixRoad_6 : cX2_mixRoad.data.toList.drop 142 = dktX2_mixRoad_6 := dk_seg dksX2_mixRoad_5 24 rfl rfl
theorem dX2_mixRoad_0 : decode cX2_mixRoad 0 = .ok (.iconst 0, 1) := dk_3 (dk_at dksX2_mixRoad_0 0 rfl rfl)
theorem dX2_mixRoad_1 : decode cX2_mixRoad 1 = .ok (.istore_n 2, 1) := dk_61 (dk_at dksX2_mixRoad_0 1 rfl rfl)
theorem dX2_mixRoad_2 : decode cX2_mixRoad 2 = .ok (.iload_n 2, 1) := dk_28 (dk_at dksX2_mixRoad_0 2 rfl rfl)
theorem dX2_mixRoad_3 : decode cX2_mixRoad 3 = .ok (.bipush 10, 2) := dk_16 10 (dk_at dksX2_mixRoad_0 3 rfl rfl)
theorem dX2_mixRoad_5 : decode cX2_mixRoad 5 = .ok (.if_icmp .ge 20, 3) := dk_162 0 20 (dk_at dksX2_mixRoad_0 5 rfl rfl)
theorem dX2_mixRoad_8 : decode cX2_mixRoad 8 = .ok (.aload_n 0, 1) := dk_42 (dk_at dksX2_mixRoad_0 8 rfl rfl)
theorem dX2_mixRoad_9 : decode cX2_mixRoad 9 = .ok (.aload_n 0, 1) := dk_42 (dk_at dksX2_mixRoad_0 9 rfl rfl)
theorem dX2_mixRoad_10 : decode cX2_mixRoad 10 = .ok (.iload_n 1, 1) := dk_27 (dk_at dksX2_mixRoad_0 10 rfl rfl)
theorem dX2_mixRoad_11 : decode cX2_mixRoad 11 = .ok (.iload_n 2, 1) := dk_28 (dk_at dksX2_mixRoad_0 11 rfl rfl)
theorem dX2_mixRoad_12 : decode cX2_mixRoad 12 = .ok (.invokevirtual 146, 3) := dk_182 0 146 (dk_at dksX2_mixRoad_0 12 rfl rfl)
theorem dX2_mixRoad_15 : decode cX2_mixRoad 15 = .ok (.i2l, 1) := dk_133 (dk_at dksX2_mixRoad_0 15 rfl rfl)
theorem dX2_mixRoad_16 : decode cX2_mixRoad 16 = .ok (.invokevirtual 311, 3) := dk_182 1 55 (dk_at dksX2_mixRoad_0 16 rfl rfl)
theorem dX2_mixRoad_19 : decode cX2_mixRoad 19 = .ok (.iinc 2 1, 3) := dk_132 2 1 (dk_at dksX2_mixRoad_0 19 rfl rfl)
theorem dX2_mixRoad_22 : decode cX2_mixRoad 22 = .ok (.goto (-20), 3) := dk_167 255 236 (dk_at dksX2_mixRoad_1 0 rfl rfl)
theorem dX2_mixRoad_25 : decode cX2_mixRoad 25 = .ok (.iconst 0, 1) := dk_3 (dk_at dksX2_mixRoad_1 3 rfl rfl)
theorem dX2_mixRoad_26 : decode cX2_mixRoad 26 = .ok (.istore_n 2, 1) := dk_61 (dk_at dksX2_mixRoad_1 4 rfl rfl)
theorem dX2_mixRoad_27 : decode cX2_mixRoad 27 = .ok (.iload_n 2, 1) := dk_28 (dk_at dksX2_mixRoad_1 5 rfl rfl)
theorem dX2_mixRoad_28 : decode cX2_mixRoad 28 = .ok (.aload_n 0, 1) := dk_42 (dk_at dksX2_mixRoad_1 6 rfl rfl)
theorem dX2_mixRoad_29 : decode cX2_mixRoad 29 = .ok (.getfield 13, 3) := dk_180 0 13 (dk_at dksX2_mixRoad_1 7 rfl rfl)
theorem dX2_mixRoad_32 : decode cX2_mixRoad 32 = .ok (.iload_n 1, 1) := dk_27 (dk_at dksX2_mixRoad_1 10 rfl rfl)
theorem dX2_mixRoad_33 : decode cX2_mixRoad 33 = .ok (.iaload, 1) := dk_46 (dk_at dksX2_mixRoad_1 11 rfl rfl)
theorem dX2_mixRoad_34 : decode cX2_mixRoad 34 = .ok (.if_icmp .ge 28, 3) := dk_162 0 28 (dk_at dksX2_mixRoad_1 12 rfl rfl)
theorem dX2_mixRoad_37 : decode cX2_mixRoad 37 = .ok (.aload_n 0, 1) := dk_42 (dk_at dksX2_mixRoad_1 15 rfl rfl)
theorem dX2_mixRoad_38 : decode cX2_mixRoad 38 = .ok (.aload_n 0, 1) := dk_42 (dk_at dksX2_mixRoad_1 16 rfl rfl)
theorem dX2_mixRoad_39 : decode cX2_mixRoad 39 = .ok (.getfield 16, 3) := dk_180 0 16 (dk_at dksX2_mixRoad_1 17 rfl rfl)
theorem dX2_mixRoad_42 : decode cX2_mixRoad 42 = .ok (.bipush 20, 2) := dk_16 20 (dk_at dksX2_mixRoad_1 20 rfl rfl)
theorem dX2_mixRoad_44 : decode cX2_mixRoad 44 = .ok (.iload_n 1, 1) := dk_27 (dk_at dksX2_mixRoad_1 22 rfl rfl)
theorem dX2_mixRoad_45 : decode cX2_mixRoad 45 = .ok (.imul, 1) := dk_104 (dk_at dksX2_mixRoad_1 23 rfl rfl)
theorem dX2_mixRoad_46 : decode cX2_mixRoad 46 = .ok (.iload_n 2, 1) := dk_28 (dk_at dksX2_mixRoad_2 0 rfl rfl)
theorem dX2_mixRoad_47 : decode cX2_mixRoad 47 = .ok (.iadd, 1) := dk_96 (dk_at dksX2_mixRoad_2 1 rfl rfl)
theorem dX2_mixRoad_48 : decode cX2_mixRoad 48 = .ok (.iaload, 1) := dk_46 (dk_at dksX2_mixRoad_2 2 rfl rfl)
theorem dX2_mixRoad_49 : decode cX2_mixRoad 49 = .ok (.invokestatic 149, 3) := dk_184 0 149 (dk_at dksX2_mixRoad_2 3 rfl rfl)
theorem dX2_mixRoad_52 : decode cX2_mixRoad 52 = .ok (.i2l, 1) := dk_133 (dk_at dksX2_mixRoad_2 6 rfl rfl)
theorem dX2_mixRoad_53 : decode cX2_mixRoad 53 = .ok (.invokevirtual 311, 3) := dk_182 1 55 (dk_at dksX2_mixRoad_2 7 rfl rfl)
theorem dX2_mixRoad_56 : decode cX2_mixRoad 56 = .ok (.iinc 2 1, 3) := dk_132 2 1 (dk_at dksX2_mixRoad_2 10 rfl rfl)
theorem dX2_mixRoad_59 : decode cX2_mixRoad 59 = .ok (.goto (-32), 3) := dk_167 255 224 (dk_at dksX2_mixRoad_2 13 rfl rfl)
theorem dX2_mixRoad_62 : decode cX2_mixRoad 62 = .ok (.iconst 0, 1) := dk_3 (dk_at dksX2_mixRoad_2 16 rfl rfl)
theorem dX2_mixRoad_63 : decode cX2_mixRoad 63 = .ok (.istore_n 2, 1) := dk_61 (dk_at dksX2_mixRoad_2 17 rfl rfl)
theorem dX2_mixRoad_64 : decode cX2_mixRoad 64 = .ok (.iload_n 2, 1) := dk_28 (dk_at dksX2_mixRoad_2 18 rfl rfl)
theorem dX2_mixRoad_65 : decode cX2_mixRoad 65 = .ok (.iconst 4, 1) := dk_7 (dk_at dksX2_mixRoad_2 19 rfl rfl)
theorem dX2_mixRoad_66 : decode cX2_mixRoad 66 = .ok (.if_icmp .ge 20, 3) := dk_162 0 20 (dk_at dksX2_mixRoad_2 20 rfl rfl)
theorem dX2_mixRoad_69 : decode cX2_mixRoad 69 = .ok (.aload_n 0, 1) := dk_42 (dk_at dksX2_mixRoad_2 23 rfl rfl)
theorem dX2_mixRoad_70 : decode cX2_mixRoad 70 = .ok (.aload_n 0, 1) := dk_42 (dk_at dksX2_mixRoad_3 0 rfl rfl)
theorem dX2_mixRoad_71 : decode cX2_mixRoad 71 = .ok (.iload_n 1, 1) := dk_27 (dk_at dksX2_mixRoad_3 1 rfl rfl)
theorem dX2_mixRoad_72 : decode cX2_mixRoad 72 = .ok (.iload_n 2, 1) := dk_28 (dk_at dksX2_mixRoad_3 2 rfl rfl)
theorem dX2_mixRoad_73 : decode cX2_mixRoad 73 = .ok (.invokevirtual 152, 3) := dk_182 0 152 (dk_at dksX2_mixRoad_3 3 rfl rfl)
theorem dX2_mixRoad_76 : decode cX2_mixRoad 76 = .ok (.i2l, 1) := dk_133 (dk_at dksX2_mixRoad_3 6 rfl rfl)
theorem dX2_mixRoad_77 : decode cX2_mixRoad 77 = .ok (.invokevirtual 311, 3) := dk_182 1 55 (dk_at dksX2_mixRoad_3 7 rfl rfl)
theorem dX2_mixRoad_80 : decode cX2_mixRoad 80 = .ok (.iinc 2 1, 3) := dk_132 2 1 (dk_at dksX2_mixRoad_3 10 rfl rfl)
theorem dX2_mixRoad_83 : decode cX2_mixRoad 83 = .ok (.goto (-19), 3) := dk_167 255 237 (dk_at dksX2_mixRoad_3 13 rfl rfl)
theorem dX2_mixRoad_86 : decode cX2_mixRoad 86 = .ok (.aload_n 0, 1) := dk_42 (dk_at dksX2_mixRoad_3 16 rfl rfl)
theorem dX2_mixRoad_87 : decode cX2_mixRoad 87 = .ok (.aload_n 0, 1) := dk_42 (dk_at dksX2_mixRoad_3 17 rfl rfl)
theorem dX2_mixRoad_88 : decode cX2_mixRoad 88 = .ok (.iload_n 1, 1) := dk_27 (dk_at dksX2_mixRoad_3 18 rfl rfl)
theorem dX2_mixRoad_89 : decode cX2_mixRoad 89 = .ok (.iconst 0, 1) := dk_3 (dk_at dksX2_mixRoad_3 19 rfl rfl)
theorem dX2_mixRoad_90 : decode cX2_mixRoad 90 = .ok (.invokevirtual 183, 3) := dk_182 0 183 (dk_at dksX2_mixRoad_3 20 rfl rfl)
theorem dX2_mixRoad_93 : decode cX2_mixRoad 93 = .ok (.i2l, 1) := dk_133 (dk_at dksX2_mixRoad_3 23 rfl rfl)
theorem dX2_mixRoad_94 : decode cX2_mixRoad 94 = .ok (.invokevirtual 311, 3) := dk_182 1 55 (dk_at dksX2_mixRoad_4 0 rfl rfl)
theorem dX2_mixRoad_97 : decode cX2_mixRoad 97 = .ok (.aload_n 0, 1) := dk_42 (dk_at dksX2_mixRoad_4 3 rfl rfl)
theorem dX2_mixRoad_98 : decode cX2_mixRoad 98 = .ok (.aload_n 0, 1) := dk_42 (dk_at dksX2_mixRoad_4 4 rfl rfl)
theorem dX2_mixRoad_99 : decode cX2_mixRoad 99 = .ok (.iload_n 1, 1) := dk_27 (dk_at dksX2_mixRoad_4 5 rfl rfl)
theorem dX2_mixRoad_100 : decode cX2_mixRoad 100 = .ok (.iconst 1, 1) := dk_4 (dk_at dksX2_mixRoad_4 6 rfl rfl)
theorem dX2_mixRoad_101 : decode cX2_mixRoad 101 = .ok (.invokevirtual 183, 3) := dk_182 0 183 (dk_at dksX2_mixRoad_4 7 rfl rfl)
theorem dX2_mixRoad_104 : decode cX2_mixRoad 104 = .ok (.i2l, 1) := dk_133 (dk_at dksX2_mixRoad_4 10 rfl rfl)
theorem dX2_mixRoad_105 : decode cX2_mixRoad 105 = .ok (.invokevirtual 311, 3) := dk_182 1 55 (dk_at dksX2_mixRoad_4 11 rfl rfl)
theorem dX2_mixRoad_108 : decode cX2_mixRoad 108 = .ok (.aload_n 0, 1) := dk_42 (dk_at dksX2_mixRoad_4 14 rfl rfl)
theorem dX2_mixRoad_109 : decode cX2_mixRoad 109 = .ok (.iload_n 1, 1) := dk_27 (dk_at dksX2_mixRoad_4 15 rfl rfl)
theorem dX2_mixRoad_110 : decode cX2_mixRoad 110 = .ok (.invokevirtual 177, 3) := dk_182 0 177 (dk_at dksX2_mixRoad_4 16 rfl rfl)
theorem dX2_mixRoad_113 : decode cX2_mixRoad 113 = .ok (.istore_n 2, 1) := dk_61 (dk_at dksX2_mixRoad_4 19 rfl rfl)
theorem dX2_mixRoad_114 : decode cX2_mixRoad 114 = .ok (.iconst 0, 1) := dk_3 (dk_at dksX2_mixRoad_4 20 rfl rfl)
theorem dX2_mixRoad_115 : decode cX2_mixRoad 115 = .ok (.istore_n 3, 1) := dk_62 (dk_at dksX2_mixRoad_4 21 rfl rfl)
theorem dX2_mixRoad_116 : decode cX2_mixRoad 116 = .ok (.iload_n 3, 1) := dk_29 (dk_at dksX2_mixRoad_4 22 rfl rfl)
theorem dX2_mixRoad_117 : decode cX2_mixRoad 117 = .ok (.iconst 5, 1) := dk_8 (dk_at dksX2_mixRoad_4 23 rfl rfl)
theorem dX2_mixRoad_118 : decode cX2_mixRoad 118 = .ok (.if_icmp .ge 24, 3) := dk_162 0 24 (dk_at dksX2_mixRoad_5 0 rfl rfl)
theorem dX2_mixRoad_121 : decode cX2_mixRoad 121 = .ok (.iload_n 2, 1) := dk_28 (dk_at dksX2_mixRoad_5 3 rfl rfl)
theorem dX2_mixRoad_122 : decode cX2_mixRoad 122 = .ok (.ifCond .eq 20, 3) := dk_153 0 20 (dk_at dksX2_mixRoad_5 4 rfl rfl)
theorem dX2_mixRoad_125 : decode cX2_mixRoad 125 = .ok (.aload_n 0, 1) := dk_42 (dk_at dksX2_mixRoad_5 7 rfl rfl)
theorem dX2_mixRoad_126 : decode cX2_mixRoad 126 = .ok (.aload_n 0, 1) := dk_42 (dk_at dksX2_mixRoad_5 8 rfl rfl)
theorem dX2_mixRoad_127 : decode cX2_mixRoad 127 = .ok (.iload_n 1, 1) := dk_27 (dk_at dksX2_mixRoad_5 9 rfl rfl)
theorem dX2_mixRoad_128 : decode cX2_mixRoad 128 = .ok (.iload_n 3, 1) := dk_29 (dk_at dksX2_mixRoad_5 10 rfl rfl)
theorem dX2_mixRoad_129 : decode cX2_mixRoad 129 = .ok (.invokevirtual 180, 3) := dk_182 0 180 (dk_at dksX2_mixRoad_5 11 rfl rfl)
theorem dX2_mixRoad_132 : decode cX2_mixRoad 132 = .ok (.i2l, 1) := dk_133 (dk_at dksX2_mixRoad_5 14 rfl rfl)
theorem dX2_mixRoad_133 : decode cX2_mixRoad 133 = .ok (.invokevirtual 311, 3) := dk_182 1 55 (dk_at dksX2_mixRoad_5 15 rfl rfl)
theorem dX2_mixRoad_136 : decode cX2_mixRoad 136 = .ok (.iinc 3 1, 3) := dk_132 3 1 (dk_at dksX2_mixRoad_5 18 rfl rfl)
theorem dX2_mixRoad_139 : decode cX2_mixRoad 139 = .ok (.goto (-23), 3) := dk_167 255 233 (dk_at dksX2_mixRoad_5 21 rfl rfl)
theorem dX2_mixRoad_142 : decode cX2_mixRoad 142 = .ok (.return_, 1) := dk_177 (dk_at dksX2_mixRoad_6 0 rfl rfl)
abbrev cX2_mix : ByteArray := prog_9_method_85_code
def yX2_mix : MethodName := ⟨RX2, "mix", "(J)V"⟩
def dkwX2_mix_0 : List UInt8 := [42, 20, 1, 50, 42, 180, 1, 52, 105, 31, 97, 181, 1, 52, 177]
abbrev dktX2_mix_0 : List UInt8 := dkwX2_mix_0 ++ []
theorem dksX2_mix_0 : cX2_mix.data.toList.drop 0 = dktX2_mix_0 := by decide +kernel
theorem dX2_mix_0 : decode cX2_mix 0 = .ok (.aload_n 0, 1) := dk_42 (dk_at dksX2_mix_0 0 rfl rfl)
theorem dX2_mix_1 : decode cX2_mix 1 = .ok (.ldc2_w 306, 3) := dk_20 1 50 (dk_at dksX2_mix_0 1 rfl rfl)
theorem dX2_mix_4 : decode cX2_mix 4 = .ok (.aload_n 0, 1) := dk_42 (dk_at dksX2_mix_0 4 rfl rfl)
theorem dX2_mix_5 : decode cX2_mix 5 = .ok (.getfield 308, 3) := dk_180 1 52 (dk_at dksX2_mix_0 5 rfl rfl)
theorem dX2_mix_8 : decode cX2_mix 8 = .ok (.lmul, 1) := dk_105 (dk_at dksX2_mix_0 8 rfl rfl)
theorem dX2_mix_9 : decode cX2_mix 9 = .ok (.lload_n 1, 1) := dk_31 (dk_at dksX2_mix_0 9 rfl rfl)
theorem dX2_mix_10 : decode cX2_mix 10 = .ok (.ladd, 1) := dk_97 (dk_at dksX2_mix_0 10 rfl rfl)
theorem dX2_mix_11 : decode cX2_mix 11 = .ok (.putfield 308, 3) := dk_181 1 52 (dk_at dksX2_mix_0 11 rfl rfl)
theorem dX2_mix_14 : decode cX2_mix 14 = .ok (.return_, 1) := dk_177 (dk_at dksX2_mix_0 14 rfl rfl)
abbrev cX2_mixCrossings : ByteArray := prog_9_method_87_code
def yX2_mixCrossings : MethodName := ⟨RX2, "mixCrossings", "()V"⟩
def dkwX2_mixCrossings_2 : List UInt8 := [182, 1, 55, 132, 2, 1, 167, 255, 218, 132, 1, 1, 167, 255, 202, 177]
abbrev dktX2_mixCrossings_2 : List UInt8 := dkwX2_mixCrossings_2 ++ []
def dkwX2_mixCrossings_1 : List UInt8 := [182, 0, 177, 153, 0, 22, 42, 28, 182, 0, 177, 153, 0, 14, 42, 42, 27, 28, 182, 0, 196, 133]
abbrev dktX2_mixCrossings_1 : List UInt8 := dkwX2_mixCrossings_1 ++ dktX2_mixCrossings_2
def dkwX2_mixCrossings_0 : List UInt8 := [3, 60, 27, 42, 180, 0, 75, 162, 0, 52, 27, 61, 28, 42, 180, 0, 75, 162, 0, 36, 42, 27]
abbrev dktX2_mixCrossings_0 : List UInt8 := dkwX2_mixCrossings_0 ++ dktX2_mixCrossings_1
theorem dksX2_mixCrossings_0 : cX2_mixCrossings.data.toList.drop 0 = dktX2_mixCrossings_0 := by decide +kernel
theorem dksX2_mixCrossings_1 : cX2_mixCrossings.data.toList.drop 22 = dktX2_mixCrossings_1 := dk_seg dksX2_mixCrossings_0 22 rfl rfl
theorem dksX2_mixCrossings_2 : cX2_mixCrossings.data.toList.drop 44 = dktX2_mixCrossings_2 := dk_seg dksX2_mixCrossings_1 22 rfl rfl
theorem dX2_mixCrossings_0 : decode cX2_mixCrossings 0 = .ok (.iconst 0, 1) := dk_3 (dk_at dksX2_mixCrossings_0 0 rfl rfl)
theorem dX2_mixCrossings_1 : decode cX2_mixCrossings 1 = .ok (.istore_n 1, 1) := dk_60 (dk_at dksX2_mixCrossings_0 1 rfl rfl)
theorem dX2_mixCrossings_2 : decode cX2_mixCrossings 2 = .ok (.iload_n 1, 1) := dk_27 (dk_at dksX2_mixCrossings_0 2 rfl rfl)
theorem dX2_mixCrossings_3 : decode cX2_mixCrossings 3 = .ok (.aload_n 0, 1) := dk_42 (dk_at dksX2_mixCrossings_0 3 rfl rfl)
theorem dX2_mixCrossings_4 : decode cX2_mixCrossings 4 = .ok (.getfield 75, 3) := dk_180 0 75 (dk_at dksX2_mixCrossings_0 4 rfl rfl)
theorem dX2_mixCrossings_7 : decode cX2_mixCrossings 7 = .ok (.if_icmp .ge 52, 3) := dk_162 0 52 (dk_at dksX2_mixCrossings_0 7 rfl rfl)
theorem dX2_mixCrossings_10 : decode cX2_mixCrossings 10 = .ok (.iload_n 1, 1) := dk_27 (dk_at dksX2_mixCrossings_0 10 rfl rfl)
theorem dX2_mixCrossings_11 : decode cX2_mixCrossings 11 = .ok (.istore_n 2, 1) := dk_61 (dk_at dksX2_mixCrossings_0 11 rfl rfl)
theorem dX2_mixCrossings_12 : decode cX2_mixCrossings 12 = .ok (.iload_n 2, 1) := dk_28 (dk_at dksX2_mixCrossings_0 12 rfl rfl)
theorem dX2_mixCrossings_13 : decode cX2_mixCrossings 13 = .ok (.aload_n 0, 1) := dk_42 (dk_at dksX2_mixCrossings_0 13 rfl rfl)
theorem dX2_mixCrossings_14 : decode cX2_mixCrossings 14 = .ok (.getfield 75, 3) := dk_180 0 75 (dk_at dksX2_mixCrossings_0 14 rfl rfl)
theorem dX2_mixCrossings_17 : decode cX2_mixCrossings 17 = .ok (.if_icmp .ge 36, 3) := dk_162 0 36 (dk_at dksX2_mixCrossings_0 17 rfl rfl)
theorem dX2_mixCrossings_20 : decode cX2_mixCrossings 20 = .ok (.aload_n 0, 1) := dk_42 (dk_at dksX2_mixCrossings_0 20 rfl rfl)
theorem dX2_mixCrossings_21 : decode cX2_mixCrossings 21 = .ok (.iload_n 1, 1) := dk_27 (dk_at dksX2_mixCrossings_0 21 rfl rfl)
theorem dX2_mixCrossings_22 : decode cX2_mixCrossings 22 = .ok (.invokevirtual 177, 3) := dk_182 0 177 (dk_at dksX2_mixCrossings_1 0 rfl rfl)
theorem dX2_mixCrossings_25 : decode cX2_mixCrossings 25 = .ok (.ifCond .eq 22, 3) := dk_153 0 22 (dk_at dksX2_mixCrossings_1 3 rfl rfl)
theorem dX2_mixCrossings_28 : decode cX2_mixCrossings 28 = .ok (.aload_n 0, 1) := dk_42 (dk_at dksX2_mixCrossings_1 6 rfl rfl)
theorem dX2_mixCrossings_29 : decode cX2_mixCrossings 29 = .ok (.iload_n 2, 1) := dk_28 (dk_at dksX2_mixCrossings_1 7 rfl rfl)
theorem dX2_mixCrossings_30 : decode cX2_mixCrossings 30 = .ok (.invokevirtual 177, 3) := dk_182 0 177 (dk_at dksX2_mixCrossings_1 8 rfl rfl)
theorem dX2_mixCrossings_33 : decode cX2_mixCrossings 33 = .ok (.ifCond .eq 14, 3) := dk_153 0 14 (dk_at dksX2_mixCrossings_1 11 rfl rfl)
theorem dX2_mixCrossings_36 : decode cX2_mixCrossings 36 = .ok (.aload_n 0, 1) := dk_42 (dk_at dksX2_mixCrossings_1 14 rfl rfl)
theorem dX2_mixCrossings_37 : decode cX2_mixCrossings 37 = .ok (.aload_n 0, 1) := dk_42 (dk_at dksX2_mixCrossings_1 15 rfl rfl)
theorem dX2_mixCrossings_38 : decode cX2_mixCrossings 38 = .ok (.iload_n 1, 1) := dk_27 (dk_at dksX2_mixCrossings_1 16 rfl rfl)
theorem dX2_mixCrossings_39 : decode cX2_mixCrossings 39 = .ok (.iload_n 2, 1) := dk_28 (dk_at dksX2_mixCrossings_1 17 rfl rfl)
theorem dX2_mixCrossings_40 : decode cX2_mixCrossings 40 = .ok (.invokevirtual 196, 3) := dk_182 0 196 (dk_at dksX2_mixCrossings_1 18 rfl rfl)
theorem dX2_mixCrossings_43 : decode cX2_mixCrossings 43 = .ok (.i2l, 1) := dk_133 (dk_at dksX2_mixCrossings_1 21 rfl rfl)
theorem dX2_mixCrossings_44 : decode cX2_mixCrossings 44 = .ok (.invokevirtual 311, 3) := dk_182 1 55 (dk_at dksX2_mixCrossings_2 0 rfl rfl)
theorem dX2_mixCrossings_47 : decode cX2_mixCrossings 47 = .ok (.iinc 2 1, 3) := dk_132 2 1 (dk_at dksX2_mixCrossings_2 3 rfl rfl)
theorem dX2_mixCrossings_50 : decode cX2_mixCrossings 50 = .ok (.goto (-38), 3) := dk_167 255 218 (dk_at dksX2_mixCrossings_2 6 rfl rfl)
theorem dX2_mixCrossings_53 : decode cX2_mixCrossings 53 = .ok (.iinc 1 1, 3) := dk_132 1 1 (dk_at dksX2_mixCrossings_2 9 rfl rfl)
theorem dX2_mixCrossings_56 : decode cX2_mixCrossings 56 = .ok (.goto (-54), 3) := dk_167 255 202 (dk_at dksX2_mixCrossings_2 12 rfl rfl)
theorem dX2_mixCrossings_59 : decode cX2_mixCrossings 59 = .ok (.return_, 1) := dk_177 (dk_at dksX2_mixCrossings_2 15 rfl rfl)
abbrev cX2_mixRiver : ByteArray := prog_9_method_88_code
def yX2_mixRiver : MethodName := ⟨RX2, "mixRiver", "()V"⟩
def dkwX2_mixRiver_3 : List UInt8 := [42, 27, 17, 3, 229, 182, 0, 254, 133, 182, 1, 55, 132, 1, 1, 167, 255, 208, 177]
abbrev dktX2_mixRiver_3 : List UInt8 := dkwX2_mixRiver_3 ++ []
def dkwX2_mixRiver_2 : List UInt8 := [61, 28, 8, 162, 0, 20, 42, 42, 27, 28, 182, 0, 248, 133, 182, 1, 55, 132, 2, 1, 167, 255, 237, 42]
abbrev dktX2_mixRiver_2 : List UInt8 := dkwX2_mixRiver_2 ++ dktX2_mixRiver_3
def dkwX2_mixRiver_1 : List UInt8 := [182, 0, 236, 133, 182, 1, 55, 132, 1, 1, 167, 255, 225, 3, 60, 27, 42, 180, 0, 224, 162, 0, 46, 3]
abbrev dktX2_mixRiver_1 : List UInt8 := dkwX2_mixRiver_1 ++ dktX2_mixRiver_2
def dkwX2_mixRiver_0 : List UInt8 := [3, 60, 27, 16, 8, 42, 180, 0, 212, 104, 162, 0, 26, 42, 42, 27, 16, 8, 108, 27, 16, 8, 112]
abbrev dktX2_mixRiver_0 : List UInt8 := dkwX2_mixRiver_0 ++ dktX2_mixRiver_1
theorem dksX2_mixRiver_0 : cX2_mixRiver.data.toList.drop 0 = dktX2_mixRiver_0 := by decide +kernel
theorem dksX2_mixRiver_1 : cX2_mixRiver.data.toList.drop 23 = dktX2_mixRiver_1 := dk_seg dksX2_mixRiver_0 23 rfl rfl
theorem dksX2_mixRiver_2 : cX2_mixRiver.data.toList.drop 47 = dktX2_mixRiver_2 := dk_seg dksX2_mixRiver_1 24 rfl rfl
theorem dksX2_mixRiver_3 : cX2_mixRiver.data.toList.drop 71 = dktX2_mixRiver_3 := dk_seg dksX2_mixRiver_2 24 rfl rfl
theorem dX2_mixRiver_0 : decode cX2_mixRiver 0 = .ok (.iconst 0, 1) := dk_3 (dk_at dksX2_mixRiver_0 0 rfl rfl)
theorem dX2_mixRiver_1 : decode cX2_mixRiver 1 = .ok (.istore_n 1, 1) := dk_60 (dk_at dksX2_mixRiver_0 1 rfl rfl)
theorem dX2_mixRiver_2 : decode cX2_mixRiver 2 = .ok (.iload_n 1, 1) := dk_27 (dk_at dksX2_mixRiver_0 2 rfl rfl)
theorem dX2_mixRiver_3 : decode cX2_mixRiver 3 = .ok (.bipush 8, 2) := dk_16 8 (dk_at dksX2_mixRiver_0 3 rfl rfl)
theorem dX2_mixRiver_5 : decode cX2_mixRiver 5 = .ok (.aload_n 0, 1) := dk_42 (dk_at dksX2_mixRiver_0 5 rfl rfl)
theorem dX2_mixRiver_6 : decode cX2_mixRiver 6 = .ok (.getfield 212, 3) := dk_180 0 212 (dk_at dksX2_mixRiver_0 6 rfl rfl)
theorem dX2_mixRiver_9 : decode cX2_mixRiver 9 = .ok (.imul, 1) := dk_104 (dk_at dksX2_mixRiver_0 9 rfl rfl)
theorem dX2_mixRiver_10 : decode cX2_mixRiver 10 = .ok (.if_icmp .ge 26, 3) := dk_162 0 26 (dk_at dksX2_mixRiver_0 10 rfl rfl)
theorem dX2_mixRiver_13 : decode cX2_mixRiver 13 = .ok (.aload_n 0, 1) := dk_42 (dk_at dksX2_mixRiver_0 13 rfl rfl)
theorem dX2_mixRiver_14 : decode cX2_mixRiver 14 = .ok (.aload_n 0, 1) := dk_42 (dk_at dksX2_mixRiver_0 14 rfl rfl)
theorem dX2_mixRiver_15 : decode cX2_mixRiver 15 = .ok (.iload_n 1, 1) := dk_27 (dk_at dksX2_mixRiver_0 15 rfl rfl)
theorem dX2_mixRiver_16 : decode cX2_mixRiver 16 = .ok (.bipush 8, 2) := dk_16 8 (dk_at dksX2_mixRiver_0 16 rfl rfl)
theorem dX2_mixRiver_18 : decode cX2_mixRiver 18 = .ok (.idiv, 1) := dk_108 (dk_at dksX2_mixRiver_0 18 rfl rfl)
theorem dX2_mixRiver_19 : decode cX2_mixRiver 19 = .ok (.iload_n 1, 1) := dk_27 (dk_at dksX2_mixRiver_0 19 rfl rfl)
theorem dX2_mixRiver_20 : decode cX2_mixRiver 20 = .ok (.bipush 8, 2) := dk_16 8 (dk_at dksX2_mixRiver_0 20 rfl rfl)
theorem dX2_mixRiver_22 : decode cX2_mixRiver 22 = .ok (.irem, 1) := dk_112 (dk_at dksX2_mixRiver_0 22 rfl rfl)
theorem dX2_mixRiver_23 : decode cX2_mixRiver 23 = .ok (.invokevirtual 236, 3) := dk_182 0 236 (dk_at dksX2_mixRiver_1 0 rfl rfl)
theorem dX2_mixRiver_26 : decode cX2_mixRiver 26 = .ok (.i2l, 1) := dk_133 (dk_at dksX2_mixRiver_1 3 rfl rfl)
theorem dX2_mixRiver_27 : decode cX2_mixRiver 27 = .ok (.invokevirtual 311, 3) := dk_182 1 55 (dk_at dksX2_mixRiver_1 4 rfl rfl)
theorem dX2_mixRiver_30 : decode cX2_mixRiver 30 = .ok (.iinc 1 1, 3) := dk_132 1 1 (dk_at dksX2_mixRiver_1 7 rfl rfl)
theorem dX2_mixRiver_33 : decode cX2_mixRiver 33 = .ok (.goto (-31), 3) := dk_167 255 225 (dk_at dksX2_mixRiver_1 10 rfl rfl)
theorem dX2_mixRiver_36 : decode cX2_mixRiver 36 = .ok (.iconst 0, 1) := dk_3 (dk_at dksX2_mixRiver_1 13 rfl rfl)
theorem dX2_mixRiver_37 : decode cX2_mixRiver 37 = .ok (.istore_n 1, 1) := dk_60 (dk_at dksX2_mixRiver_1 14 rfl rfl)
theorem dX2_mixRiver_38 : decode cX2_mixRiver 38 = .ok (.iload_n 1, 1) := dk_27 (dk_at dksX2_mixRiver_1 15 rfl rfl)
theorem dX2_mixRiver_39 : decode cX2_mixRiver 39 = .ok (.aload_n 0, 1) := dk_42 (dk_at dksX2_mixRiver_1 16 rfl rfl)
theorem dX2_mixRiver_40 : decode cX2_mixRiver 40 = .ok (.getfield 224, 3) := dk_180 0 224 (dk_at dksX2_mixRiver_1 17 rfl rfl)
theorem dX2_mixRiver_43 : decode cX2_mixRiver 43 = .ok (.if_icmp .ge 46, 3) := dk_162 0 46 (dk_at dksX2_mixRiver_1 20 rfl rfl)
theorem dX2_mixRiver_46 : decode cX2_mixRiver 46 = .ok (.iconst 0, 1) := dk_3 (dk_at dksX2_mixRiver_1 23 rfl rfl)
theorem dX2_mixRiver_47 : decode cX2_mixRiver 47 = .ok (.istore_n 2, 1) := dk_61 (dk_at dksX2_mixRiver_2 0 rfl rfl)
theorem dX2_mixRiver_48 : decode cX2_mixRiver 48 = .ok (.iload_n 2, 1) := dk_28 (dk_at dksX2_mixRiver_2 1 rfl rfl)
theorem dX2_mixRiver_49 : decode cX2_mixRiver 49 = .ok (.iconst 5, 1) := dk_8 (dk_at dksX2_mixRiver_2 2 rfl rfl)
theorem dX2_mixRiver_50 : decode cX2_mixRiver 50 = .ok (.if_icmp .ge 20, 3) := dk_162 0 20 (dk_at dksX2_mixRiver_2 3 rfl rfl)
theorem dX2_mixRiver_53 : decode cX2_mixRiver 53 = .ok (.aload_n 0, 1) := dk_42 (dk_at dksX2_mixRiver_2 6 rfl rfl)
theorem dX2_mixRiver_54 : decode cX2_mixRiver 54 = .ok (.aload_n 0, 1) := dk_42 (dk_at dksX2_mixRiver_2 7 rfl rfl)
theorem dX2_mixRiver_55 : decode cX2_mixRiver 55 = .ok (.iload_n 1, 1) := dk_27 (dk_at dksX2_mixRiver_2 8 rfl rfl)
theorem dX2_mixRiver_56 : decode cX2_mixRiver 56 = .ok (.iload_n 2, 1) := dk_28 (dk_at dksX2_mixRiver_2 9 rfl rfl)
theorem dX2_mixRiver_57 : decode cX2_mixRiver 57 = .ok (.invokevirtual 248, 3) := dk_182 0 248 (dk_at dksX2_mixRiver_2 10 rfl rfl)
theorem dX2_mixRiver_60 : decode cX2_mixRiver 60 = .ok (.i2l, 1) := dk_133 (dk_at dksX2_mixRiver_2 13 rfl rfl)
theorem dX2_mixRiver_61 : decode cX2_mixRiver 61 = .ok (.invokevirtual 311, 3) := dk_182 1 55 (dk_at dksX2_mixRiver_2 14 rfl rfl)
theorem dX2_mixRiver_64 : decode cX2_mixRiver 64 = .ok (.iinc 2 1, 3) := dk_132 2 1 (dk_at dksX2_mixRiver_2 17 rfl rfl)
theorem dX2_mixRiver_67 : decode cX2_mixRiver 67 = .ok (.goto (-19), 3) := dk_167 255 237 (dk_at dksX2_mixRiver_2 20 rfl rfl)
theorem dX2_mixRiver_70 : decode cX2_mixRiver 70 = .ok (.aload_n 0, 1) := dk_42 (dk_at dksX2_mixRiver_2 23 rfl rfl)
theorem dX2_mixRiver_71 : decode cX2_mixRiver 71 = .ok (.aload_n 0, 1) := dk_42 (dk_at dksX2_mixRiver_3 0 rfl rfl)
theorem dX2_mixRiver_72 : decode cX2_mixRiver 72 = .ok (.iload_n 1, 1) := dk_27 (dk_at dksX2_mixRiver_3 1 rfl rfl)
theorem dX2_mixRiver_73 : decode cX2_mixRiver 73 = .ok (.sipush 997, 3) := dk_17 3 229 (dk_at dksX2_mixRiver_3 2 rfl rfl)
theorem dX2_mixRiver_76 : decode cX2_mixRiver 76 = .ok (.invokevirtual 254, 3) := dk_182 0 254 (dk_at dksX2_mixRiver_3 5 rfl rfl)
theorem dX2_mixRiver_79 : decode cX2_mixRiver 79 = .ok (.i2l, 1) := dk_133 (dk_at dksX2_mixRiver_3 8 rfl rfl)
theorem dX2_mixRiver_80 : decode cX2_mixRiver 80 = .ok (.invokevirtual 311, 3) := dk_182 1 55 (dk_at dksX2_mixRiver_3 9 rfl rfl)
theorem dX2_mixRiver_83 : decode cX2_mixRiver 83 = .ok (.iinc 1 1, 3) := dk_132 1 1 (dk_at dksX2_mixRiver_3 12 rfl rfl)
theorem dX2_mixRiver_86 : decode cX2_mixRiver 86 = .ok (.goto (-48), 3) := dk_167 255 208 (dk_at dksX2_mixRiver_3 15 rfl rfl)
theorem dX2_mixRiver_89 : decode cX2_mixRiver 89 = .ok (.return_, 1) := dk_177 (dk_at dksX2_mixRiver_3 18 rfl rfl)
theorem q92 : (Jvm.Cond.initialized "RiverWordsModel") ∈ lw_all := lw_g (lw_at lw_m1 12 rfl) rfl
theorem q647 : (Jvm.Cond.selects "RiverWordsModel" ({ cls := "java/lang/Object", name := "getClass", desc := "()Ljava/lang/Class;" } : Jvm.MethodName) ({ cls := "java/lang/Object", name := "getClass", desc := "()Ljava/lang/Class;" } : Jvm.MethodName)) ∈ lw_all := lw_g (lw_at lw_m3 87 rfl) rfl
theorem q1167 : (Jvm.Cond.instantiable "RiverWordsModel" (35 : Nat)) ∈ lw_all := lw_g (lw_at lw_m5 127 rfl) rfl
theorem q1169 : (Jvm.Cond.instanceMethod ({ cls := "RiverWordsModel", name := "<init>", desc := "()V" } : Jvm.MethodName)) ∈ lw_all := lw_g (lw_at lw_m5 129 rfl) rfl
theorem q1170 : (Jvm.Cond.code ({ cls := "RiverWordsModel", name := "<init>", desc := "()V" } : Jvm.MethodName) prog_9_method_1_code (1 : Nat) (Option.none : Option Jvm.ClassFile.FieldType)) ∈ lw_all := lw_g (lw_at lw_m5 130 rfl) rfl
theorem q1171 : (Jvm.Cond.methodLink "RiverWordsModel" (1 : Nat) ({ cls := "java/lang/Object", name := "<init>", desc := "()V" } : Jvm.MethodName)) ∈ lw_all := lw_g (lw_at lw_m5 131 rfl) rfl
theorem q1172 : (Jvm.Cond.fieldLink "RiverWordsModel" (55 : Nat) "RiverWordsModel" "pageLength" "I") ∈ lw_all := lw_g (lw_at lw_m5 132 rfl) rfl
theorem q1173 : (Jvm.Cond.fieldLink "RiverWordsModel" (7 : Nat) "RiverWordsModel" "page" "[I") ∈ lw_all := lw_g (lw_at lw_m5 133 rfl) rfl
theorem q1174 : (Jvm.Cond.fieldLink "RiverWordsModel" (75 : Nat) "RiverWordsModel" "roads" "I") ∈ lw_all := lw_g (lw_at lw_m5 134 rfl) rfl
theorem q1175 : (Jvm.Cond.fieldLink "RiverWordsModel" (13 : Nat) "RiverWordsModel" "lengths" "[I") ∈ lw_all := lw_g (lw_at lw_m5 135 rfl) rfl
theorem q1176 : (Jvm.Cond.fieldLink "RiverWordsModel" (16 : Nat) "RiverWordsModel" "signs" "[I") ∈ lw_all := lw_g (lw_at lw_m5 136 rfl) rfl
theorem q1177 : (Jvm.Cond.fieldLink "RiverWordsModel" (79 : Nat) "RiverWordsModel" "wordsRead" "I") ∈ lw_all := lw_g (lw_at lw_m5 137 rfl) rfl
theorem q1178 : (Jvm.Cond.fieldLink "RiverWordsModel" (209 : Nat) "RiverWordsModel" "disc" "I") ∈ lw_all := lw_g (lw_at lw_m5 138 rfl) rfl
theorem q1179 : (Jvm.Cond.fieldLink "RiverWordsModel" (212 : Nat) "RiverWordsModel" "forms" "I") ∈ lw_all := lw_g (lw_at lw_m5 139 rfl) rfl
theorem q1180 : (Jvm.Cond.fieldLink "RiverWordsModel" (19 : Nat) "RiverWordsModel" "formA" "[I") ∈ lw_all := lw_g (lw_at lw_m5 140 rfl) rfl
theorem q1181 : (Jvm.Cond.fieldLink "RiverWordsModel" (22 : Nat) "RiverWordsModel" "formB" "[I") ∈ lw_all := lw_g (lw_at lw_m5 141 rfl) rfl
theorem q1182 : (Jvm.Cond.fieldLink "RiverWordsModel" (25 : Nat) "RiverWordsModel" "formC" "[I") ∈ lw_all := lw_g (lw_at lw_m5 142 rfl) rfl
theorem q1183 : (Jvm.Cond.fieldLink "RiverWordsModel" (28 : Nat) "RiverWordsModel" "nextOf" "[I") ∈ lw_all := lw_g (lw_at lw_m5 143 rfl) rfl
theorem q1184 : (Jvm.Cond.fieldLink "RiverWordsModel" (31 : Nat) "RiverWordsModel" "cycleOf" "[I") ∈ lw_all := lw_g (lw_at lw_m5 144 rfl) rfl
theorem q1185 : (Jvm.Cond.fieldLink "RiverWordsModel" (224 : Nat) "RiverWordsModel" "cycles" "I") ∈ lw_all := lw_g (lw_at lw_m5 145 rfl) rfl
theorem q1186 : (Jvm.Cond.fieldLink "RiverWordsModel" (34 : Nat) "RiverWordsModel" "firstOf" "[I") ∈ lw_all := lw_g (lw_at lw_m5 146 rfl) rfl
theorem q1187 : (Jvm.Cond.fieldLink "RiverWordsModel" (60 : Nat) "RiverWordsModel" "newLength" "I") ∈ lw_all := lw_g (lw_at lw_m5 147 rfl) rfl
theorem q1188 : (Jvm.Cond.fieldLink "RiverWordsModel" (37 : Nat) "RiverWordsModel" "newSigns" "[I") ∈ lw_all := lw_g (lw_at lw_m5 148 rfl) rfl
theorem q1189 : (Jvm.Cond.fieldLink "RiverWordsModel" (63 : Nat) "RiverWordsModel" "mayRun" "Z") ∈ lw_all := lw_g (lw_at lw_m5 149 rfl) rfl
theorem q1190 : (Jvm.Cond.fieldLink "RiverWordsModel" (85 : Nat) "RiverWordsModel" "size" "I") ∈ lw_all := lw_g (lw_at lw_m5 150 rfl) rfl
theorem q1191 : (Jvm.Cond.fieldLink "RiverWordsModel" (40 : Nat) "RiverWordsModel" "at" "[I") ∈ lw_all := lw_g (lw_at lw_m5 151 rfl) rfl
theorem q1192 : (Jvm.Cond.fieldLink "RiverWordsModel" (103 : Nat) "RiverWordsModel" "otherSize" "I") ∈ lw_all := lw_g (lw_at lw_m5 152 rfl) rfl
theorem q1193 : (Jvm.Cond.fieldLink "RiverWordsModel" (43 : Nat) "RiverWordsModel" "other" "[I") ∈ lw_all := lw_g (lw_at lw_m5 153 rfl) rfl
theorem q1194 : (Jvm.Cond.fieldLink "RiverWordsModel" (114 : Nat) "RiverWordsModel" "tableA" "I") ∈ lw_all := lw_g (lw_at lw_m5 154 rfl) rfl
theorem q1195 : (Jvm.Cond.fieldLink "RiverWordsModel" (117 : Nat) "RiverWordsModel" "tableB" "I") ∈ lw_all := lw_g (lw_at lw_m5 155 rfl) rfl
theorem q1196 : (Jvm.Cond.fieldLink "RiverWordsModel" (120 : Nat) "RiverWordsModel" "tableC" "I") ∈ lw_all := lw_g (lw_at lw_m5 156 rfl) rfl
theorem q1197 : (Jvm.Cond.fieldLink "RiverWordsModel" (123 : Nat) "RiverWordsModel" "tableD" "I") ∈ lw_all := lw_g (lw_at lw_m5 157 rfl) rfl
theorem q1198 : (Jvm.Cond.fieldLink "RiverWordsModel" (161 : Nat) "RiverWordsModel" "a" "I") ∈ lw_all := lw_g (lw_at lw_m5 158 rfl) rfl
theorem q1199 : (Jvm.Cond.fieldLink "RiverWordsModel" (164 : Nat) "RiverWordsModel" "b" "I") ∈ lw_all := lw_g (lw_at lw_m5 159 rfl) rfl
theorem q1200 : (Jvm.Cond.fieldLink "RiverWordsModel" (167 : Nat) "RiverWordsModel" "c" "I") ∈ lw_all := lw_g (lw_at lw_m5 160 rfl) rfl
theorem q1201 : (Jvm.Cond.fieldLink "RiverWordsModel" (158 : Nat) "RiverWordsModel" "grade" "I") ∈ lw_all := lw_g (lw_at lw_m5 161 rfl) rfl
theorem q1202 : (Jvm.Cond.fieldLink "RiverWordsModel" (257 : Nat) "RiverWordsModel" "flowA" "I") ∈ lw_all := lw_g (lw_at lw_m5 162 rfl) rfl
theorem q1203 : (Jvm.Cond.fieldLink "RiverWordsModel" (260 : Nat) "RiverWordsModel" "flowB" "I") ∈ lw_all := lw_g (lw_at lw_m5 163 rfl) rfl
theorem q1204 : (Jvm.Cond.fieldLink "RiverWordsModel" (263 : Nat) "RiverWordsModel" "flowC" "I") ∈ lw_all := lw_g (lw_at lw_m5 164 rfl) rfl
theorem q1205 : (Jvm.Cond.fieldLink "RiverWordsModel" (281 : Nat) "RiverWordsModel" "seedNow" "J") ∈ lw_all := lw_g (lw_at lw_m5 165 rfl) rfl
theorem q1206 : (Jvm.Cond.fieldLink "RiverWordsModel" (308 : Nat) "RiverWordsModel" "h" "J") ∈ lw_all := lw_g (lw_at lw_m5 166 rfl) rfl
theorem q1207 : (Jvm.Cond.lays "RiverWordsModel" "RiverWordsModel" "pageLength" "I") ∈ lw_all := lw_g (lw_at lw_m5 167 rfl) rfl
theorem q1208 : (Jvm.Cond.soleField "RiverWordsModel" "pageLength") ∈ lw_all := lw_g (lw_at lw_m5 168 rfl) rfl
theorem q1209 : (Jvm.Cond.laysFinal "RiverWordsModel" "RiverWordsModel" "page" "[I") ∈ lw_all := lw_g (lw_at lw_m5 169 rfl) rfl
theorem q1210 : (Jvm.Cond.soleField "RiverWordsModel" "page") ∈ lw_all := lw_g (lw_at lw_m5 170 rfl) rfl
theorem q1211 : (Jvm.Cond.lays "RiverWordsModel" "RiverWordsModel" "roads" "I") ∈ lw_all := lw_g (lw_at lw_m5 171 rfl) rfl
theorem q1212 : (Jvm.Cond.soleField "RiverWordsModel" "roads") ∈ lw_all := lw_g (lw_at lw_m5 172 rfl) rfl
theorem q1213 : (Jvm.Cond.laysFinal "RiverWordsModel" "RiverWordsModel" "lengths" "[I") ∈ lw_all := lw_g (lw_at lw_m5 173 rfl) rfl
theorem q1214 : (Jvm.Cond.soleField "RiverWordsModel" "lengths") ∈ lw_all := lw_g (lw_at lw_m5 174 rfl) rfl
theorem q1215 : (Jvm.Cond.laysFinal "RiverWordsModel" "RiverWordsModel" "signs" "[I") ∈ lw_all := lw_g (lw_at lw_m5 175 rfl) rfl
theorem q1216 : (Jvm.Cond.soleField "RiverWordsModel" "signs") ∈ lw_all := lw_g (lw_at lw_m5 176 rfl) rfl
theorem q1217 : (Jvm.Cond.lays "RiverWordsModel" "RiverWordsModel" "wordsRead" "I") ∈ lw_all := lw_g (lw_at lw_m5 177 rfl) rfl
theorem q1218 : (Jvm.Cond.soleField "RiverWordsModel" "wordsRead") ∈ lw_all := lw_g (lw_at lw_m5 178 rfl) rfl
theorem q1219 : (Jvm.Cond.lays "RiverWordsModel" "RiverWordsModel" "disc" "I") ∈ lw_all := lw_g (lw_at lw_m5 179 rfl) rfl
theorem q1220 : (Jvm.Cond.soleField "RiverWordsModel" "disc") ∈ lw_all := lw_g (lw_at lw_m5 180 rfl) rfl
theorem q1221 : (Jvm.Cond.lays "RiverWordsModel" "RiverWordsModel" "forms" "I") ∈ lw_all := lw_g (lw_at lw_m5 181 rfl) rfl
theorem q1222 : (Jvm.Cond.soleField "RiverWordsModel" "forms") ∈ lw_all := lw_g (lw_at lw_m5 182 rfl) rfl
theorem q1223 : (Jvm.Cond.laysFinal "RiverWordsModel" "RiverWordsModel" "formA" "[I") ∈ lw_all := lw_g (lw_at lw_m5 183 rfl) rfl
theorem q1224 : (Jvm.Cond.soleField "RiverWordsModel" "formA") ∈ lw_all := lw_g (lw_at lw_m5 184 rfl) rfl
theorem q1225 : (Jvm.Cond.laysFinal "RiverWordsModel" "RiverWordsModel" "formB" "[I") ∈ lw_all := lw_g (lw_at lw_m5 185 rfl) rfl
theorem q1226 : (Jvm.Cond.soleField "RiverWordsModel" "formB") ∈ lw_all := lw_g (lw_at lw_m5 186 rfl) rfl
theorem q1227 : (Jvm.Cond.laysFinal "RiverWordsModel" "RiverWordsModel" "formC" "[I") ∈ lw_all := lw_g (lw_at lw_m5 187 rfl) rfl
theorem q1228 : (Jvm.Cond.soleField "RiverWordsModel" "formC") ∈ lw_all := lw_g (lw_at lw_m5 188 rfl) rfl
theorem q1229 : (Jvm.Cond.laysFinal "RiverWordsModel" "RiverWordsModel" "nextOf" "[I") ∈ lw_all := lw_g (lw_at lw_m5 189 rfl) rfl
theorem q1230 : (Jvm.Cond.soleField "RiverWordsModel" "nextOf") ∈ lw_all := lw_g (lw_at lw_m5 190 rfl) rfl
theorem q1231 : (Jvm.Cond.laysFinal "RiverWordsModel" "RiverWordsModel" "cycleOf" "[I") ∈ lw_all := lw_g (lw_at lw_m5 191 rfl) rfl
theorem q1232 : (Jvm.Cond.soleField "RiverWordsModel" "cycleOf") ∈ lw_all := lw_g (lw_at lw_m5 192 rfl) rfl
theorem q1233 : (Jvm.Cond.lays "RiverWordsModel" "RiverWordsModel" "cycles" "I") ∈ lw_all := lw_g (lw_at lw_m5 193 rfl) rfl
theorem q1234 : (Jvm.Cond.soleField "RiverWordsModel" "cycles") ∈ lw_all := lw_g (lw_at lw_m5 194 rfl) rfl
theorem q1235 : (Jvm.Cond.laysFinal "RiverWordsModel" "RiverWordsModel" "firstOf" "[I") ∈ lw_all := lw_g (lw_at lw_m5 195 rfl) rfl
theorem q1236 : (Jvm.Cond.soleField "RiverWordsModel" "firstOf") ∈ lw_all := lw_g (lw_at lw_m5 196 rfl) rfl
theorem q1237 : (Jvm.Cond.lays "RiverWordsModel" "RiverWordsModel" "newLength" "I") ∈ lw_all := lw_g (lw_at lw_m5 197 rfl) rfl
theorem q1238 : (Jvm.Cond.soleField "RiverWordsModel" "newLength") ∈ lw_all := lw_g (lw_at lw_m5 198 rfl) rfl
theorem q1239 : (Jvm.Cond.laysFinal "RiverWordsModel" "RiverWordsModel" "newSigns" "[I") ∈ lw_all := lw_g (lw_at lw_m5 199 rfl) rfl
theorem q1240 : (Jvm.Cond.soleField "RiverWordsModel" "newSigns") ∈ lw_all := lw_g (lw_at lw_m5 200 rfl) rfl
theorem q1241 : (Jvm.Cond.lays "RiverWordsModel" "RiverWordsModel" "mayRun" "Z") ∈ lw_all := lw_g (lw_at lw_m5 201 rfl) rfl
theorem q1242 : (Jvm.Cond.soleField "RiverWordsModel" "mayRun") ∈ lw_all := lw_g (lw_at lw_m5 202 rfl) rfl
theorem q1243 : (Jvm.Cond.lays "RiverWordsModel" "RiverWordsModel" "size" "I") ∈ lw_all := lw_g (lw_at lw_m5 203 rfl) rfl
theorem q1244 : (Jvm.Cond.soleField "RiverWordsModel" "size") ∈ lw_all := lw_g (lw_at lw_m5 204 rfl) rfl
theorem q1245 : (Jvm.Cond.laysFinal "RiverWordsModel" "RiverWordsModel" "at" "[I") ∈ lw_all := lw_g (lw_at lw_m5 205 rfl) rfl
theorem q1246 : (Jvm.Cond.soleField "RiverWordsModel" "at") ∈ lw_all := lw_g (lw_at lw_m5 206 rfl) rfl
theorem q1247 : (Jvm.Cond.lays "RiverWordsModel" "RiverWordsModel" "otherSize" "I") ∈ lw_all := lw_g (lw_at lw_m5 207 rfl) rfl
theorem q1248 : (Jvm.Cond.soleField "RiverWordsModel" "otherSize") ∈ lw_all := lw_g (lw_at lw_m5 208 rfl) rfl
theorem q1249 : (Jvm.Cond.laysFinal "RiverWordsModel" "RiverWordsModel" "other" "[I") ∈ lw_all := lw_g (lw_at lw_m5 209 rfl) rfl
theorem q1250 : (Jvm.Cond.soleField "RiverWordsModel" "other") ∈ lw_all := lw_g (lw_at lw_m5 210 rfl) rfl
theorem q1251 : (Jvm.Cond.lays "RiverWordsModel" "RiverWordsModel" "tableA" "I") ∈ lw_all := lw_g (lw_at lw_m5 211 rfl) rfl
theorem q1252 : (Jvm.Cond.soleField "RiverWordsModel" "tableA") ∈ lw_all := lw_g (lw_at lw_m5 212 rfl) rfl
theorem q1253 : (Jvm.Cond.lays "RiverWordsModel" "RiverWordsModel" "tableB" "I") ∈ lw_all := lw_g (lw_at lw_m5 213 rfl) rfl
theorem q1254 : (Jvm.Cond.soleField "RiverWordsModel" "tableB") ∈ lw_all := lw_g (lw_at lw_m5 214 rfl) rfl
theorem q1255 : (Jvm.Cond.lays "RiverWordsModel" "RiverWordsModel" "tableC" "I") ∈ lw_all := lw_g (lw_at lw_m5 215 rfl) rfl
theorem q1256 : (Jvm.Cond.soleField "RiverWordsModel" "tableC") ∈ lw_all := lw_g (lw_at lw_m5 216 rfl) rfl
theorem q1257 : (Jvm.Cond.lays "RiverWordsModel" "RiverWordsModel" "tableD" "I") ∈ lw_all := lw_g (lw_at lw_m5 217 rfl) rfl
theorem q1258 : (Jvm.Cond.soleField "RiverWordsModel" "tableD") ∈ lw_all := lw_g (lw_at lw_m5 218 rfl) rfl
theorem q1259 : (Jvm.Cond.lays "RiverWordsModel" "RiverWordsModel" "a" "I") ∈ lw_all := lw_g (lw_at lw_m5 219 rfl) rfl
theorem q1260 : (Jvm.Cond.soleField "RiverWordsModel" "a") ∈ lw_all := lw_g (lw_at lw_m5 220 rfl) rfl
theorem q1261 : (Jvm.Cond.lays "RiverWordsModel" "RiverWordsModel" "b" "I") ∈ lw_all := lw_g (lw_at lw_m5 221 rfl) rfl
theorem q1262 : (Jvm.Cond.soleField "RiverWordsModel" "b") ∈ lw_all := lw_g (lw_at lw_m5 222 rfl) rfl
theorem q1263 : (Jvm.Cond.lays "RiverWordsModel" "RiverWordsModel" "c" "I") ∈ lw_all := lw_g (lw_at lw_m5 223 rfl) rfl
theorem q1264 : (Jvm.Cond.soleField "RiverWordsModel" "c") ∈ lw_all := lw_g (lw_at lw_m5 224 rfl) rfl
theorem q1265 : (Jvm.Cond.lays "RiverWordsModel" "RiverWordsModel" "grade" "I") ∈ lw_all := lw_g (lw_at lw_m5 225 rfl) rfl
theorem q1266 : (Jvm.Cond.soleField "RiverWordsModel" "grade") ∈ lw_all := lw_g (lw_at lw_m5 226 rfl) rfl
theorem q1267 : (Jvm.Cond.lays "RiverWordsModel" "RiverWordsModel" "flowA" "I") ∈ lw_all := lw_g (lw_at lw_m5 227 rfl) rfl
theorem q1268 : (Jvm.Cond.soleField "RiverWordsModel" "flowA") ∈ lw_all := lw_g (lw_at lw_m5 228 rfl) rfl
theorem q1269 : (Jvm.Cond.lays "RiverWordsModel" "RiverWordsModel" "flowB" "I") ∈ lw_all := lw_g (lw_at lw_m5 229 rfl) rfl
theorem q1270 : (Jvm.Cond.soleField "RiverWordsModel" "flowB") ∈ lw_all := lw_g (lw_at lw_m5 230 rfl) rfl
theorem q1271 : (Jvm.Cond.lays "RiverWordsModel" "RiverWordsModel" "flowC" "I") ∈ lw_all := lw_g (lw_at lw_m5 231 rfl) rfl
theorem q1272 : (Jvm.Cond.soleField "RiverWordsModel" "flowC") ∈ lw_all := lw_g (lw_at lw_m5 232 rfl) rfl
theorem q1273 : (Jvm.Cond.lays "RiverWordsModel" "RiverWordsModel" "seedNow" "J") ∈ lw_all := lw_g (lw_at lw_m5 233 rfl) rfl
theorem q1274 : (Jvm.Cond.soleField "RiverWordsModel" "seedNow") ∈ lw_all := lw_g (lw_at lw_m5 234 rfl) rfl
theorem q1275 : (Jvm.Cond.lays "RiverWordsModel" "RiverWordsModel" "h" "J") ∈ lw_all := lw_g (lw_at lw_m5 235 rfl) rfl
theorem q1276 : (Jvm.Cond.soleField "RiverWordsModel" "h") ∈ lw_all := lw_g (lw_at lw_m5 236 rfl) rfl
theorem q1277 : (Jvm.Cond.superclass "RiverWordsModel" "java/lang/Object") ∈ lw_all := lw_g (lw_at lw_m5 237 rfl) rfl
theorem q1280 : (Jvm.Cond.instanceMethod ({ cls := "RiverWordsModel", name := "letter", desc := "(I)I" } : Jvm.MethodName)) ∈ lw_all := lw_g (lw_at lw_m6 0 rfl) rfl
theorem q1281 : (Jvm.Cond.selects "RiverWordsModel" ({ cls := "RiverWordsModel", name := "letter", desc := "(I)I" } : Jvm.MethodName) ({ cls := "RiverWordsModel", name := "letter", desc := "(I)I" } : Jvm.MethodName)) ∈ lw_all := lw_g (lw_at lw_m6 1 rfl) rfl
theorem q1282 : (Jvm.Cond.code ({ cls := "RiverWordsModel", name := "letter", desc := "(I)I" } : Jvm.MethodName) prog_9_method_6_code (2 : Nat) (Option.some Jvm.ClassFile.FieldType.int)) ∈ lw_all := lw_g (lw_at lw_m6 2 rfl) rfl
theorem q1283 : (Jvm.Cond.methodLink "RiverWordsModel" (50 : Nat) ({ cls := "RiverWordsModel", name := "within", desc := "(III)Z" } : Jvm.MethodName)) ∈ lw_all := lw_g (lw_at lw_m6 3 rfl) rfl
theorem q1284 : (Jvm.Cond.static ({ cls := "RiverWordsModel", name := "within", desc := "(III)Z" } : Jvm.MethodName)) ∈ lw_all := lw_g (lw_at lw_m6 4 rfl) rfl
theorem q1285 : (Jvm.Cond.code ({ cls := "RiverWordsModel", name := "within", desc := "(III)Z" } : Jvm.MethodName) prog_9_method_3_code (3 : Nat) (Option.some Jvm.ClassFile.FieldType.boolean)) ∈ lw_all := lw_g (lw_at lw_m6 5 rfl) rfl
theorem q1286 : (Jvm.Cond.constant "RiverWordsModel" (54 : Nat) (-2000000102 : Int32)) ∈ lw_all := lw_g (lw_at lw_m6 6 rfl) rfl
theorem q1287 : (Jvm.Cond.constant "RiverWordsModel" (59 : Nat) (-2000000104 : Int32)) ∈ lw_all := lw_g (lw_at lw_m6 7 rfl) rfl
theorem q1289 : (Jvm.Cond.instanceMethod ({ cls := "RiverWordsModel", name := "blank", desc := "()I" } : Jvm.MethodName)) ∈ lw_all := lw_g (lw_at lw_m6 9 rfl) rfl
theorem q1290 : (Jvm.Cond.selects "RiverWordsModel" ({ cls := "RiverWordsModel", name := "blank", desc := "()I" } : Jvm.MethodName) ({ cls := "RiverWordsModel", name := "blank", desc := "()I" } : Jvm.MethodName)) ∈ lw_all := lw_g (lw_at lw_m6 10 rfl) rfl
theorem q1291 : (Jvm.Cond.code ({ cls := "RiverWordsModel", name := "blank", desc := "()I" } : Jvm.MethodName) prog_9_method_7_code (2 : Nat) (Option.some Jvm.ClassFile.FieldType.int)) ∈ lw_all := lw_g (lw_at lw_m6 11 rfl) rfl
theorem q1293 : (Jvm.Cond.instanceMethod ({ cls := "RiverWordsModel", name := "fault", desc := "()I" } : Jvm.MethodName)) ∈ lw_all := lw_g (lw_at lw_m6 13 rfl) rfl
theorem q1294 : (Jvm.Cond.selects "RiverWordsModel" ({ cls := "RiverWordsModel", name := "fault", desc := "()I" } : Jvm.MethodName) ({ cls := "RiverWordsModel", name := "fault", desc := "()I" } : Jvm.MethodName)) ∈ lw_all := lw_g (lw_at lw_m6 14 rfl) rfl
theorem q1295 : (Jvm.Cond.code ({ cls := "RiverWordsModel", name := "fault", desc := "()I" } : Jvm.MethodName) prog_9_method_10_code (1 : Nat) (Option.some Jvm.ClassFile.FieldType.int)) ∈ lw_all := lw_g (lw_at lw_m6 15 rfl) rfl
theorem q1296 : (Jvm.Cond.methodLink "RiverWordsModel" (71 : Nat) ({ cls := "RiverWordsModel", name := "read", desc := "()I" } : Jvm.MethodName)) ∈ lw_all := lw_g (lw_at lw_m6 16 rfl) rfl
theorem q1297 : (Jvm.Cond.privateMethod ({ cls := "RiverWordsModel", name := "read", desc := "()I" } : Jvm.MethodName)) ∈ lw_tbl := lw_at lw_m6 17 rfl
theorem q1298 : (Jvm.Cond.instanceMethod ({ cls := "RiverWordsModel", name := "read", desc := "()I" } : Jvm.MethodName)) ∈ lw_all := lw_g (lw_at lw_m6 18 rfl) rfl
theorem q1299 : (Jvm.Cond.code ({ cls := "RiverWordsModel", name := "read", desc := "()I" } : Jvm.MethodName) prog_9_method_9_code (2 : Nat) (Option.some Jvm.ClassFile.FieldType.int)) ∈ lw_all := lw_g (lw_at lw_m6 19 rfl) rfl
theorem q1300 : (Jvm.Cond.methodLink "RiverWordsModel" (67 : Nat) ({ cls := "RiverWordsModel", name := "takes", desc := "(I)Z" } : Jvm.MethodName)) ∈ lw_all := lw_g (lw_at lw_m6 20 rfl) rfl
theorem q1301 : (Jvm.Cond.privateMethod ({ cls := "RiverWordsModel", name := "takes", desc := "(I)Z" } : Jvm.MethodName)) ∈ lw_tbl := lw_at lw_m6 21 rfl
theorem q1302 : (Jvm.Cond.instanceMethod ({ cls := "RiverWordsModel", name := "takes", desc := "(I)Z" } : Jvm.MethodName)) ∈ lw_all := lw_g (lw_at lw_m6 22 rfl) rfl
theorem q1303 : (Jvm.Cond.code ({ cls := "RiverWordsModel", name := "takes", desc := "(I)Z" } : Jvm.MethodName) prog_9_method_8_code (4 : Nat) (Option.some Jvm.ClassFile.FieldType.boolean)) ∈ lw_all := lw_g (lw_at lw_m6 23 rfl) rfl
theorem q1305 : (Jvm.Cond.instanceMethod ({ cls := "RiverWordsModel", name := "word", desc := "()I" } : Jvm.MethodName)) ∈ lw_all := lw_g (lw_at lw_m6 25 rfl) rfl
theorem q1306 : (Jvm.Cond.selects "RiverWordsModel" ({ cls := "RiverWordsModel", name := "word", desc := "()I" } : Jvm.MethodName) ({ cls := "RiverWordsModel", name := "word", desc := "()I" } : Jvm.MethodName)) ∈ lw_all := lw_g (lw_at lw_m6 26 rfl) rfl
theorem q1307 : (Jvm.Cond.code ({ cls := "RiverWordsModel", name := "word", desc := "()I" } : Jvm.MethodName) prog_9_method_12_code (1 : Nat) (Option.some Jvm.ClassFile.FieldType.int)) ∈ lw_all := lw_g (lw_at lw_m6 27 rfl) rfl
theorem q1308 : (Jvm.Cond.constant "RiverWordsModel" (78 : Nat) (-2000000103 : Int32)) ∈ lw_all := lw_g (lw_at lw_m6 28 rfl) rfl
theorem q1309 : (Jvm.Cond.methodLink "RiverWordsModel" (82 : Nat) ({ cls := "RiverWordsModel", name := "keepNew", desc := "()I" } : Jvm.MethodName)) ∈ lw_all := lw_g (lw_at lw_m6 29 rfl) rfl
theorem q1310 : (Jvm.Cond.privateMethod ({ cls := "RiverWordsModel", name := "keepNew", desc := "()I" } : Jvm.MethodName)) ∈ lw_tbl := lw_at lw_m6 30 rfl
theorem q1311 : (Jvm.Cond.instanceMethod ({ cls := "RiverWordsModel", name := "keepNew", desc := "()I" } : Jvm.MethodName)) ∈ lw_all := lw_g (lw_at lw_m6 31 rfl) rfl
theorem q1312 : (Jvm.Cond.code ({ cls := "RiverWordsModel", name := "keepNew", desc := "()I" } : Jvm.MethodName) prog_9_method_11_code (2 : Nat) (Option.some Jvm.ClassFile.FieldType.int)) ∈ lw_all := lw_g (lw_at lw_m6 32 rfl) rfl
theorem q1314 : (Jvm.Cond.instanceMethod ({ cls := "RiverWordsModel", name := "road", desc := "(II)I" } : Jvm.MethodName)) ∈ lw_all := lw_g (lw_at lw_m6 34 rfl) rfl
theorem q1315 : (Jvm.Cond.selects "RiverWordsModel" ({ cls := "RiverWordsModel", name := "road", desc := "(II)I" } : Jvm.MethodName) ({ cls := "RiverWordsModel", name := "road", desc := "(II)I" } : Jvm.MethodName)) ∈ lw_all := lw_g (lw_at lw_m6 35 rfl) rfl
theorem q1316 : (Jvm.Cond.code ({ cls := "RiverWordsModel", name := "road", desc := "(II)I" } : Jvm.MethodName) prog_9_method_27_code (3 : Nat) (Option.some Jvm.ClassFile.FieldType.int)) ∈ lw_all := lw_g (lw_at lw_m6 36 rfl) rfl
theorem q1317 : (Jvm.Cond.methodLink "RiverWordsModel" (142 : Nat) ({ cls := "RiverWordsModel", name := "isRoad", desc := "(I)Z" } : Jvm.MethodName)) ∈ lw_all := lw_g (lw_at lw_m6 37 rfl) rfl
theorem q1318 : (Jvm.Cond.privateMethod ({ cls := "RiverWordsModel", name := "isRoad", desc := "(I)Z" } : Jvm.MethodName)) ∈ lw_tbl := lw_at lw_m6 38 rfl
theorem q1319 : (Jvm.Cond.instanceMethod ({ cls := "RiverWordsModel", name := "isRoad", desc := "(I)Z" } : Jvm.MethodName)) ∈ lw_all := lw_g (lw_at lw_m6 39 rfl) rfl
theorem q1320 : (Jvm.Cond.code ({ cls := "RiverWordsModel", name := "isRoad", desc := "(I)Z" } : Jvm.MethodName) prog_9_method_25_code (2 : Nat) (Option.some Jvm.ClassFile.FieldType.boolean)) ∈ lw_all := lw_g (lw_at lw_m6 40 rfl) rfl
theorem q1321 : (Jvm.Cond.constant "RiverWordsModel" (145 : Nat) (-2000000101 : Int32)) ∈ lw_all := lw_g (lw_at lw_m6 41 rfl) rfl
theorem q1322 : (Jvm.Cond.methodLink "RiverWordsModel" (146 : Nat) ({ cls := "RiverWordsModel", name := "roadNow", desc := "(II)I" } : Jvm.MethodName)) ∈ lw_all := lw_g (lw_at lw_m6 42 rfl) rfl
theorem q1323 : (Jvm.Cond.privateMethod ({ cls := "RiverWordsModel", name := "roadNow", desc := "(II)I" } : Jvm.MethodName)) ∈ lw_tbl := lw_at lw_m6 43 rfl
theorem q1324 : (Jvm.Cond.instanceMethod ({ cls := "RiverWordsModel", name := "roadNow", desc := "(II)I" } : Jvm.MethodName)) ∈ lw_all := lw_g (lw_at lw_m6 44 rfl) rfl
theorem q1325 : (Jvm.Cond.code ({ cls := "RiverWordsModel", name := "roadNow", desc := "(II)I" } : Jvm.MethodName) prog_9_method_26_code (3 : Nat) (Option.some Jvm.ClassFile.FieldType.int)) ∈ lw_all := lw_g (lw_at lw_m6 45 rfl) rfl
theorem q1326 : (Jvm.Cond.methodLink "RiverWordsModel" (91 : Nat) ({ cls := "RiverWordsModel", name := "look", desc := "(I)V" } : Jvm.MethodName)) ∈ lw_all := lw_g (lw_at lw_m6 46 rfl) rfl
theorem q1327 : (Jvm.Cond.privateMethod ({ cls := "RiverWordsModel", name := "look", desc := "(I)V" } : Jvm.MethodName)) ∈ lw_tbl := lw_at lw_m6 47 rfl
theorem q1328 : (Jvm.Cond.instanceMethod ({ cls := "RiverWordsModel", name := "look", desc := "(I)V" } : Jvm.MethodName)) ∈ lw_all := lw_g (lw_at lw_m6 48 rfl) rfl
theorem q1329 : (Jvm.Cond.code ({ cls := "RiverWordsModel", name := "look", desc := "(I)V" } : Jvm.MethodName) prog_9_method_13_code (3 : Nat) (Option.none : Option Jvm.ClassFile.FieldType)) ∈ lw_all := lw_g (lw_at lw_m6 49 rfl) rfl
theorem q1330 : (Jvm.Cond.methodLink "RiverWordsModel" (88 : Nat) ({ cls := "RiverWordsModel", name := "lefts", desc := "()I" } : Jvm.MethodName)) ∈ lw_all := lw_g (lw_at lw_m6 50 rfl) rfl
theorem q1331 : (Jvm.Cond.privateMethod ({ cls := "RiverWordsModel", name := "lefts", desc := "()I" } : Jvm.MethodName)) ∈ lw_tbl := lw_at lw_m6 51 rfl
theorem q1332 : (Jvm.Cond.instanceMethod ({ cls := "RiverWordsModel", name := "lefts", desc := "()I" } : Jvm.MethodName)) ∈ lw_all := lw_g (lw_at lw_m6 52 rfl) rfl
theorem q1333 : (Jvm.Cond.code ({ cls := "RiverWordsModel", name := "lefts", desc := "()I" } : Jvm.MethodName) prog_9_method_14_code (3 : Nat) (Option.some Jvm.ClassFile.FieldType.int)) ∈ lw_all := lw_g (lw_at lw_m6 53 rfl) rfl
theorem q1334 : (Jvm.Cond.methodLink "RiverWordsModel" (129 : Nat) ({ cls := "RiverWordsModel", name := "periodNow", desc := "()I" } : Jvm.MethodName)) ∈ lw_all := lw_g (lw_at lw_m6 54 rfl) rfl
theorem q1335 : (Jvm.Cond.privateMethod ({ cls := "RiverWordsModel", name := "periodNow", desc := "()I" } : Jvm.MethodName)) ∈ lw_tbl := lw_at lw_m6 55 rfl
theorem q1336 : (Jvm.Cond.instanceMethod ({ cls := "RiverWordsModel", name := "periodNow", desc := "()I" } : Jvm.MethodName)) ∈ lw_all := lw_g (lw_at lw_m6 56 rfl) rfl
theorem q1337 : (Jvm.Cond.code ({ cls := "RiverWordsModel", name := "periodNow", desc := "()I" } : Jvm.MethodName) prog_9_method_18_code (2 : Nat) (Option.some Jvm.ClassFile.FieldType.int)) ∈ lw_all := lw_g (lw_at lw_m6 57 rfl) rfl
theorem q1338 : (Jvm.Cond.methodLink "RiverWordsModel" (99 : Nat) ({ cls := "RiverWordsModel", name := "compareTurns", desc := "(II)I" } : Jvm.MethodName)) ∈ lw_all := lw_g (lw_at lw_m6 58 rfl) rfl
theorem q1339 : (Jvm.Cond.privateMethod ({ cls := "RiverWordsModel", name := "compareTurns", desc := "(II)I" } : Jvm.MethodName)) ∈ lw_tbl := lw_at lw_m6 59 rfl
theorem q1340 : (Jvm.Cond.instanceMethod ({ cls := "RiverWordsModel", name := "compareTurns", desc := "(II)I" } : Jvm.MethodName)) ∈ lw_all := lw_g (lw_at lw_m6 60 rfl) rfl
theorem q1341 : (Jvm.Cond.code ({ cls := "RiverWordsModel", name := "compareTurns", desc := "(II)I" } : Jvm.MethodName) prog_9_method_17_code (5 : Nat) (Option.some Jvm.ClassFile.FieldType.int)) ∈ lw_all := lw_g (lw_at lw_m6 61 rfl) rfl
theorem q1342 : (Jvm.Cond.methodLink "RiverWordsModel" (132 : Nat) ({ cls := "RiverWordsModel", name := "leastTurnNow", desc := "()I" } : Jvm.MethodName)) ∈ lw_all := lw_g (lw_at lw_m6 62 rfl) rfl
theorem q1343 : (Jvm.Cond.privateMethod ({ cls := "RiverWordsModel", name := "leastTurnNow", desc := "()I" } : Jvm.MethodName)) ∈ lw_tbl := lw_at lw_m6 63 rfl
theorem q1344 : (Jvm.Cond.instanceMethod ({ cls := "RiverWordsModel", name := "leastTurnNow", desc := "()I" } : Jvm.MethodName)) ∈ lw_all := lw_g (lw_at lw_m6 64 rfl) rfl
theorem q1345 : (Jvm.Cond.code ({ cls := "RiverWordsModel", name := "leastTurnNow", desc := "()I" } : Jvm.MethodName) prog_9_method_19_code (3 : Nat) (Option.some Jvm.ClassFile.FieldType.int)) ∈ lw_all := lw_g (lw_at lw_m6 65 rfl) rfl
theorem q1346 : (Jvm.Cond.methodLink "RiverWordsModel" (135 : Nat) ({ cls := "RiverWordsModel", name := "traceNow", desc := "()I" } : Jvm.MethodName)) ∈ lw_all := lw_g (lw_at lw_m6 66 rfl) rfl
theorem q1347 : (Jvm.Cond.privateMethod ({ cls := "RiverWordsModel", name := "traceNow", desc := "()I" } : Jvm.MethodName)) ∈ lw_tbl := lw_at lw_m6 67 rfl
theorem q1348 : (Jvm.Cond.instanceMethod ({ cls := "RiverWordsModel", name := "traceNow", desc := "()I" } : Jvm.MethodName)) ∈ lw_all := lw_g (lw_at lw_m6 68 rfl) rfl
theorem q1349 : (Jvm.Cond.code ({ cls := "RiverWordsModel", name := "traceNow", desc := "()I" } : Jvm.MethodName) prog_9_method_24_code (1 : Nat) (Option.some Jvm.ClassFile.FieldType.int)) ∈ lw_all := lw_g (lw_at lw_m6 69 rfl) rfl
theorem q1350 : (Jvm.Cond.methodLink "RiverWordsModel" (126 : Nat) ({ cls := "RiverWordsModel", name := "layTable", desc := "()V" } : Jvm.MethodName)) ∈ lw_all := lw_g (lw_at lw_m6 70 rfl) rfl
theorem q1351 : (Jvm.Cond.privateMethod ({ cls := "RiverWordsModel", name := "layTable", desc := "()V" } : Jvm.MethodName)) ∈ lw_tbl := lw_at lw_m6 71 rfl
theorem q1352 : (Jvm.Cond.instanceMethod ({ cls := "RiverWordsModel", name := "layTable", desc := "()V" } : Jvm.MethodName)) ∈ lw_all := lw_g (lw_at lw_m6 72 rfl) rfl
theorem q1353 : (Jvm.Cond.code ({ cls := "RiverWordsModel", name := "layTable", desc := "()V" } : Jvm.MethodName) prog_9_method_23_code (2 : Nat) (Option.none : Option Jvm.ClassFile.FieldType)) ∈ lw_all := lw_g (lw_at lw_m6 73 rfl) rfl
theorem q1354 : (Jvm.Cond.methodLink "RiverWordsModel" (95 : Nat) ({ cls := "RiverWordsModel", name := "isClosedNow", desc := "()Z" } : Jvm.MethodName)) ∈ lw_all := lw_g (lw_at lw_m6 74 rfl) rfl
theorem q1355 : (Jvm.Cond.privateMethod ({ cls := "RiverWordsModel", name := "isClosedNow", desc := "()Z" } : Jvm.MethodName)) ∈ lw_tbl := lw_at lw_m6 75 rfl
theorem q1356 : (Jvm.Cond.instanceMethod ({ cls := "RiverWordsModel", name := "isClosedNow", desc := "()Z" } : Jvm.MethodName)) ∈ lw_all := lw_g (lw_at lw_m6 76 rfl) rfl
theorem q1357 : (Jvm.Cond.code ({ cls := "RiverWordsModel", name := "isClosedNow", desc := "()Z" } : Jvm.MethodName) prog_9_method_15_code (1 : Nat) (Option.some Jvm.ClassFile.FieldType.boolean)) ∈ lw_all := lw_g (lw_at lw_m6 77 rfl) rfl
theorem q1358 : (Jvm.Cond.methodLink "RiverWordsModel" (138 : Nat) ({ cls := "RiverWordsModel", name := "isAlike", desc := "(ZZ)Z" } : Jvm.MethodName)) ∈ lw_all := lw_g (lw_at lw_m6 78 rfl) rfl
theorem q1359 : (Jvm.Cond.privateMethod ({ cls := "RiverWordsModel", name := "isAlike", desc := "(ZZ)Z" } : Jvm.MethodName)) ∈ lw_tbl := lw_at lw_m6 79 rfl
theorem q1360 : (Jvm.Cond.instanceMethod ({ cls := "RiverWordsModel", name := "isAlike", desc := "(ZZ)Z" } : Jvm.MethodName)) ∈ lw_all := lw_g (lw_at lw_m6 80 rfl) rfl
theorem q1361 : (Jvm.Cond.code ({ cls := "RiverWordsModel", name := "isAlike", desc := "(ZZ)Z" } : Jvm.MethodName) prog_9_method_22_code (3 : Nat) (Option.some Jvm.ClassFile.FieldType.boolean)) ∈ lw_all := lw_g (lw_at lw_m6 81 rfl) rfl
theorem q1362 : (Jvm.Cond.methodLink "RiverWordsModel" (107 : Nat) ({ cls := "RiverWordsModel", name := "layOther", desc := "(ZZ)V" } : Jvm.MethodName)) ∈ lw_all := lw_g (lw_at lw_m6 82 rfl) rfl
theorem q1363 : (Jvm.Cond.privateMethod ({ cls := "RiverWordsModel", name := "layOther", desc := "(ZZ)V" } : Jvm.MethodName)) ∈ lw_tbl := lw_at lw_m6 83 rfl
theorem q1364 : (Jvm.Cond.instanceMethod ({ cls := "RiverWordsModel", name := "layOther", desc := "(ZZ)V" } : Jvm.MethodName)) ∈ lw_all := lw_g (lw_at lw_m6 84 rfl) rfl
theorem q1365 : (Jvm.Cond.code ({ cls := "RiverWordsModel", name := "layOther", desc := "(ZZ)V" } : Jvm.MethodName) prog_9_method_21_code (5 : Nat) (Option.none : Option Jvm.ClassFile.FieldType)) ∈ lw_all := lw_g (lw_at lw_m6 85 rfl) rfl
theorem q1366 : (Jvm.Cond.methodLink "RiverWordsModel" (111 : Nat) ({ cls := "RiverWordsModel", name := "turnTo", desc := "()I" } : Jvm.MethodName)) ∈ lw_all := lw_g (lw_at lw_m6 86 rfl) rfl
theorem q1367 : (Jvm.Cond.privateMethod ({ cls := "RiverWordsModel", name := "turnTo", desc := "()I" } : Jvm.MethodName)) ∈ lw_tbl := lw_at lw_m6 87 rfl
theorem q1368 : (Jvm.Cond.instanceMethod ({ cls := "RiverWordsModel", name := "turnTo", desc := "()I" } : Jvm.MethodName)) ∈ lw_all := lw_g (lw_at lw_m6 88 rfl) rfl
theorem q1369 : (Jvm.Cond.code ({ cls := "RiverWordsModel", name := "turnTo", desc := "()I" } : Jvm.MethodName) prog_9_method_20_code (4 : Nat) (Option.some Jvm.ClassFile.FieldType.int)) ∈ lw_all := lw_g (lw_at lw_m6 89 rfl) rfl
theorem q1370 : (Jvm.Cond.constant "RiverWordsModel" (106 : Nat) (-2000000001 : Int32)) ∈ lw_all := lw_g (lw_at lw_m6 90 rfl) rfl
theorem q1372 : (Jvm.Cond.instanceMethod ({ cls := "RiverWordsModel", name := "sign", desc := "(II)I" } : Jvm.MethodName)) ∈ lw_all := lw_g (lw_at lw_m6 92 rfl) rfl
theorem q1373 : (Jvm.Cond.selects "RiverWordsModel" ({ cls := "RiverWordsModel", name := "sign", desc := "(II)I" } : Jvm.MethodName) ({ cls := "RiverWordsModel", name := "sign", desc := "(II)I" } : Jvm.MethodName)) ∈ lw_all := lw_g (lw_at lw_m6 93 rfl) rfl
theorem q1374 : (Jvm.Cond.code ({ cls := "RiverWordsModel", name := "sign", desc := "(II)I" } : Jvm.MethodName) prog_9_method_29_code (3 : Nat) (Option.some Jvm.ClassFile.FieldType.int)) ∈ lw_all := lw_g (lw_at lw_m6 94 rfl) rfl
theorem q1375 : (Jvm.Cond.methodLink "RiverWordsModel" (149 : Nat) ({ cls := "RiverWordsModel", name := "codeOf", desc := "(I)I" } : Jvm.MethodName)) ∈ lw_all := lw_g (lw_at lw_m6 95 rfl) rfl
theorem q1376 : (Jvm.Cond.static ({ cls := "RiverWordsModel", name := "codeOf", desc := "(I)I" } : Jvm.MethodName)) ∈ lw_all := lw_g (lw_at lw_m6 96 rfl) rfl
theorem q1377 : (Jvm.Cond.code ({ cls := "RiverWordsModel", name := "codeOf", desc := "(I)I" } : Jvm.MethodName) prog_9_method_28_code (1 : Nat) (Option.some Jvm.ClassFile.FieldType.int)) ∈ lw_all := lw_g (lw_at lw_m6 97 rfl) rfl
theorem q1379 : (Jvm.Cond.instanceMethod ({ cls := "RiverWordsModel", name := "table", desc := "(II)I" } : Jvm.MethodName)) ∈ lw_all := lw_g (lw_at lw_m6 99 rfl) rfl
theorem q1380 : (Jvm.Cond.selects "RiverWordsModel" ({ cls := "RiverWordsModel", name := "table", desc := "(II)I" } : Jvm.MethodName) ({ cls := "RiverWordsModel", name := "table", desc := "(II)I" } : Jvm.MethodName)) ∈ lw_all := lw_g (lw_at lw_m6 100 rfl) rfl
theorem q1381 : (Jvm.Cond.code ({ cls := "RiverWordsModel", name := "table", desc := "(II)I" } : Jvm.MethodName) prog_9_method_31_code (3 : Nat) (Option.some Jvm.ClassFile.FieldType.int)) ∈ lw_all := lw_g (lw_at lw_m6 101 rfl) rfl
theorem q1382 : (Jvm.Cond.methodLink "RiverWordsModel" (152 : Nat) ({ cls := "RiverWordsModel", name := "tableNow", desc := "(II)I" } : Jvm.MethodName)) ∈ lw_all := lw_g (lw_at lw_m6 102 rfl) rfl
theorem q1383 : (Jvm.Cond.privateMethod ({ cls := "RiverWordsModel", name := "tableNow", desc := "(II)I" } : Jvm.MethodName)) ∈ lw_tbl := lw_at lw_m6 103 rfl
theorem q1384 : (Jvm.Cond.instanceMethod ({ cls := "RiverWordsModel", name := "tableNow", desc := "(II)I" } : Jvm.MethodName)) ∈ lw_all := lw_g (lw_at lw_m6 104 rfl) rfl
theorem q1385 : (Jvm.Cond.code ({ cls := "RiverWordsModel", name := "tableNow", desc := "(II)I" } : Jvm.MethodName) prog_9_method_30_code (3 : Nat) (Option.some Jvm.ClassFile.FieldType.int)) ∈ lw_all := lw_g (lw_at lw_m6 105 rfl) rfl
theorem q1387 : (Jvm.Cond.instanceMethod ({ cls := "RiverWordsModel", name := "form", desc := "(II)I" } : Jvm.MethodName)) ∈ lw_all := lw_g (lw_at lw_m6 107 rfl) rfl
theorem q1388 : (Jvm.Cond.selects "RiverWordsModel" ({ cls := "RiverWordsModel", name := "form", desc := "(II)I" } : Jvm.MethodName) ({ cls := "RiverWordsModel", name := "form", desc := "(II)I" } : Jvm.MethodName)) ∈ lw_all := lw_g (lw_at lw_m6 108 rfl) rfl
theorem q1389 : (Jvm.Cond.code ({ cls := "RiverWordsModel", name := "form", desc := "(II)I" } : Jvm.MethodName) prog_9_method_35_code (3 : Nat) (Option.some Jvm.ClassFile.FieldType.int)) ∈ lw_all := lw_g (lw_at lw_m6 109 rfl) rfl
theorem q1390 : (Jvm.Cond.methodLink "RiverWordsModel" (177 : Nat) ({ cls := "RiverWordsModel", name := "isClosed", desc := "(I)Z" } : Jvm.MethodName)) ∈ lw_all := lw_g (lw_at lw_m6 110 rfl) rfl
theorem q1391 : (Jvm.Cond.privateMethod ({ cls := "RiverWordsModel", name := "isClosed", desc := "(I)Z" } : Jvm.MethodName)) ∈ lw_tbl := lw_at lw_m6 111 rfl
theorem q1392 : (Jvm.Cond.instanceMethod ({ cls := "RiverWordsModel", name := "isClosed", desc := "(I)Z" } : Jvm.MethodName)) ∈ lw_all := lw_g (lw_at lw_m6 112 rfl) rfl
theorem q1393 : (Jvm.Cond.code ({ cls := "RiverWordsModel", name := "isClosed", desc := "(I)Z" } : Jvm.MethodName) prog_9_method_16_code (2 : Nat) (Option.some Jvm.ClassFile.FieldType.boolean)) ∈ lw_all := lw_g (lw_at lw_m6 113 rfl) rfl
theorem q1394 : (Jvm.Cond.methodLink "RiverWordsModel" (180 : Nat) ({ cls := "RiverWordsModel", name := "formNow", desc := "(II)I" } : Jvm.MethodName)) ∈ lw_all := lw_g (lw_at lw_m6 114 rfl) rfl
theorem q1395 : (Jvm.Cond.privateMethod ({ cls := "RiverWordsModel", name := "formNow", desc := "(II)I" } : Jvm.MethodName)) ∈ lw_tbl := lw_at lw_m6 115 rfl
theorem q1396 : (Jvm.Cond.instanceMethod ({ cls := "RiverWordsModel", name := "formNow", desc := "(II)I" } : Jvm.MethodName)) ∈ lw_all := lw_g (lw_at lw_m6 116 rfl) rfl
theorem q1397 : (Jvm.Cond.code ({ cls := "RiverWordsModel", name := "formNow", desc := "(II)I" } : Jvm.MethodName) prog_9_method_34_code (3 : Nat) (Option.some Jvm.ClassFile.FieldType.int)) ∈ lw_all := lw_g (lw_at lw_m6 117 rfl) rfl
theorem q1398 : (Jvm.Cond.methodLink "RiverWordsModel" (170 : Nat) ({ cls := "RiverWordsModel", name := "layForm", desc := "(I)V" } : Jvm.MethodName)) ∈ lw_all := lw_g (lw_at lw_m6 118 rfl) rfl
theorem q1399 : (Jvm.Cond.privateMethod ({ cls := "RiverWordsModel", name := "layForm", desc := "(I)V" } : Jvm.MethodName)) ∈ lw_tbl := lw_at lw_m6 119 rfl
theorem q1400 : (Jvm.Cond.instanceMethod ({ cls := "RiverWordsModel", name := "layForm", desc := "(I)V" } : Jvm.MethodName)) ∈ lw_all := lw_g (lw_at lw_m6 120 rfl) rfl
theorem q1401 : (Jvm.Cond.code ({ cls := "RiverWordsModel", name := "layForm", desc := "(I)V" } : Jvm.MethodName) prog_9_method_32_code (2 : Nat) (Option.none : Option Jvm.ClassFile.FieldType)) ∈ lw_all := lw_g (lw_at lw_m6 121 rfl) rfl
theorem q1402 : (Jvm.Cond.methodLink "RiverWordsModel" (155 : Nat) ({ cls := "RiverWordsModel", name := "common", desc := "(II)I" } : Jvm.MethodName)) ∈ lw_all := lw_g (lw_at lw_m6 122 rfl) rfl
theorem q1403 : (Jvm.Cond.static ({ cls := "RiverWordsModel", name := "common", desc := "(II)I" } : Jvm.MethodName)) ∈ lw_all := lw_g (lw_at lw_m6 123 rfl) rfl
theorem q1404 : (Jvm.Cond.code ({ cls := "RiverWordsModel", name := "common", desc := "(II)I" } : Jvm.MethodName) prog_9_method_5_code (5 : Nat) (Option.some Jvm.ClassFile.FieldType.int)) ∈ lw_all := lw_g (lw_at lw_m6 124 rfl) rfl
theorem q1405 : (Jvm.Cond.methodLink "RiverWordsModel" (46 : Nat) ({ cls := "RiverWordsModel", name := "abs", desc := "(I)I" } : Jvm.MethodName)) ∈ lw_all := lw_g (lw_at lw_m6 125 rfl) rfl
theorem q1406 : (Jvm.Cond.static ({ cls := "RiverWordsModel", name := "abs", desc := "(I)I" } : Jvm.MethodName)) ∈ lw_all := lw_g (lw_at lw_m6 126 rfl) rfl
theorem q1407 : (Jvm.Cond.code ({ cls := "RiverWordsModel", name := "abs", desc := "(I)I" } : Jvm.MethodName) prog_9_method_4_code (1 : Nat) (Option.some Jvm.ClassFile.FieldType.int)) ∈ lw_all := lw_g (lw_at lw_m6 127 rfl) rfl
theorem q1408 : (Jvm.Cond.methodLink "RiverWordsModel" (173 : Nat) ({ cls := "RiverWordsModel", name := "discOf", desc := "(III)I" } : Jvm.MethodName)) ∈ lw_all := lw_g (lw_at lw_m6 128 rfl) rfl
theorem q1409 : (Jvm.Cond.static ({ cls := "RiverWordsModel", name := "discOf", desc := "(III)I" } : Jvm.MethodName)) ∈ lw_all := lw_g (lw_at lw_m6 129 rfl) rfl
theorem q1410 : (Jvm.Cond.code ({ cls := "RiverWordsModel", name := "discOf", desc := "(III)I" } : Jvm.MethodName) prog_9_method_33_code (3 : Nat) (Option.some Jvm.ClassFile.FieldType.int)) ∈ lw_all := lw_g (lw_at lw_m6 130 rfl) rfl
theorem q1412 : (Jvm.Cond.instanceMethod ({ cls := "RiverWordsModel", name := "end", desc := "(II)I" } : Jvm.MethodName)) ∈ lw_all := lw_g (lw_at lw_m6 132 rfl) rfl
theorem q1413 : (Jvm.Cond.selects "RiverWordsModel" ({ cls := "RiverWordsModel", name := "end", desc := "(II)I" } : Jvm.MethodName) ({ cls := "RiverWordsModel", name := "end", desc := "(II)I" } : Jvm.MethodName)) ∈ lw_all := lw_g (lw_at lw_m6 133 rfl) rfl
theorem q1414 : (Jvm.Cond.code ({ cls := "RiverWordsModel", name := "end", desc := "(II)I" } : Jvm.MethodName) prog_9_method_37_code (3 : Nat) (Option.some Jvm.ClassFile.FieldType.int)) ∈ lw_all := lw_g (lw_at lw_m6 134 rfl) rfl
theorem q1415 : (Jvm.Cond.methodLink "RiverWordsModel" (183 : Nat) ({ cls := "RiverWordsModel", name := "endNow", desc := "(II)I" } : Jvm.MethodName)) ∈ lw_all := lw_g (lw_at lw_m6 135 rfl) rfl
theorem q1416 : (Jvm.Cond.privateMethod ({ cls := "RiverWordsModel", name := "endNow", desc := "(II)I" } : Jvm.MethodName)) ∈ lw_tbl := lw_at lw_m6 136 rfl
theorem q1417 : (Jvm.Cond.instanceMethod ({ cls := "RiverWordsModel", name := "endNow", desc := "(II)I" } : Jvm.MethodName)) ∈ lw_all := lw_g (lw_at lw_m6 137 rfl) rfl
theorem q1418 : (Jvm.Cond.code ({ cls := "RiverWordsModel", name := "endNow", desc := "(II)I" } : Jvm.MethodName) prog_9_method_36_code (3 : Nat) (Option.some Jvm.ClassFile.FieldType.int)) ∈ lw_all := lw_g (lw_at lw_m6 138 rfl) rfl
theorem q1420 : (Jvm.Cond.instanceMethod ({ cls := "RiverWordsModel", name := "alike", desc := "(II)I" } : Jvm.MethodName)) ∈ lw_all := lw_g (lw_at lw_m6 140 rfl) rfl
theorem q1421 : (Jvm.Cond.selects "RiverWordsModel" ({ cls := "RiverWordsModel", name := "alike", desc := "(II)I" } : Jvm.MethodName) ({ cls := "RiverWordsModel", name := "alike", desc := "(II)I" } : Jvm.MethodName)) ∈ lw_all := lw_g (lw_at lw_m6 141 rfl) rfl
theorem q1422 : (Jvm.Cond.code ({ cls := "RiverWordsModel", name := "alike", desc := "(II)I" } : Jvm.MethodName) prog_9_method_39_code (3 : Nat) (Option.some Jvm.ClassFile.FieldType.int)) ∈ lw_all := lw_g (lw_at lw_m6 142 rfl) rfl
theorem q1423 : (Jvm.Cond.methodLink "RiverWordsModel" (186 : Nat) ({ cls := "RiverWordsModel", name := "alikeNow", desc := "(II)I" } : Jvm.MethodName)) ∈ lw_all := lw_g (lw_at lw_m6 143 rfl) rfl
theorem q1424 : (Jvm.Cond.privateMethod ({ cls := "RiverWordsModel", name := "alikeNow", desc := "(II)I" } : Jvm.MethodName)) ∈ lw_tbl := lw_at lw_m6 144 rfl
theorem q1425 : (Jvm.Cond.instanceMethod ({ cls := "RiverWordsModel", name := "alikeNow", desc := "(II)I" } : Jvm.MethodName)) ∈ lw_all := lw_g (lw_at lw_m6 145 rfl) rfl
theorem q1426 : (Jvm.Cond.code ({ cls := "RiverWordsModel", name := "alikeNow", desc := "(II)I" } : Jvm.MethodName) prog_9_method_38_code (3 : Nat) (Option.some Jvm.ClassFile.FieldType.int)) ∈ lw_all := lw_g (lw_at lw_m6 146 rfl) rfl
theorem q1428 : (Jvm.Cond.instanceMethod ({ cls := "RiverWordsModel", name := "cross", desc := "(II)I" } : Jvm.MethodName)) ∈ lw_all := lw_g (lw_at lw_m6 148 rfl) rfl
theorem q1429 : (Jvm.Cond.selects "RiverWordsModel" ({ cls := "RiverWordsModel", name := "cross", desc := "(II)I" } : Jvm.MethodName) ({ cls := "RiverWordsModel", name := "cross", desc := "(II)I" } : Jvm.MethodName)) ∈ lw_all := lw_g (lw_at lw_m6 149 rfl) rfl
theorem q1430 : (Jvm.Cond.code ({ cls := "RiverWordsModel", name := "cross", desc := "(II)I" } : Jvm.MethodName) prog_9_method_43_code (3 : Nat) (Option.some Jvm.ClassFile.FieldType.int)) ∈ lw_all := lw_g (lw_at lw_m6 150 rfl) rfl
theorem q1431 : (Jvm.Cond.methodLink "RiverWordsModel" (196 : Nat) ({ cls := "RiverWordsModel", name := "crossings", desc := "(II)I" } : Jvm.MethodName)) ∈ lw_all := lw_g (lw_at lw_m6 151 rfl) rfl
theorem q1432 : (Jvm.Cond.privateMethod ({ cls := "RiverWordsModel", name := "crossings", desc := "(II)I" } : Jvm.MethodName)) ∈ lw_tbl := lw_at lw_m6 152 rfl
theorem q1433 : (Jvm.Cond.instanceMethod ({ cls := "RiverWordsModel", name := "crossings", desc := "(II)I" } : Jvm.MethodName)) ∈ lw_all := lw_g (lw_at lw_m6 153 rfl) rfl
theorem q1434 : (Jvm.Cond.code ({ cls := "RiverWordsModel", name := "crossings", desc := "(II)I" } : Jvm.MethodName) prog_9_method_42_code (3 : Nat) (Option.some Jvm.ClassFile.FieldType.int)) ∈ lw_all := lw_g (lw_at lw_m6 154 rfl) rfl
theorem q1435 : (Jvm.Cond.methodLink "RiverWordsModel" (193 : Nat) ({ cls := "RiverWordsModel", name := "crossNow", desc := "()I" } : Jvm.MethodName)) ∈ lw_all := lw_g (lw_at lw_m6 155 rfl) rfl
theorem q1436 : (Jvm.Cond.privateMethod ({ cls := "RiverWordsModel", name := "crossNow", desc := "()I" } : Jvm.MethodName)) ∈ lw_tbl := lw_at lw_m6 156 rfl
theorem q1437 : (Jvm.Cond.instanceMethod ({ cls := "RiverWordsModel", name := "crossNow", desc := "()I" } : Jvm.MethodName)) ∈ lw_all := lw_g (lw_at lw_m6 157 rfl) rfl
theorem q1438 : (Jvm.Cond.code ({ cls := "RiverWordsModel", name := "crossNow", desc := "()I" } : Jvm.MethodName) prog_9_method_41_code (4 : Nat) (Option.some Jvm.ClassFile.FieldType.int)) ∈ lw_all := lw_g (lw_at lw_m6 158 rfl) rfl
theorem q1439 : (Jvm.Cond.methodLink "RiverWordsModel" (189 : Nat) ({ cls := "RiverWordsModel", name := "isCross", desc := "(II)Z" } : Jvm.MethodName)) ∈ lw_all := lw_g (lw_at lw_m6 159 rfl) rfl
theorem q1440 : (Jvm.Cond.privateMethod ({ cls := "RiverWordsModel", name := "isCross", desc := "(II)Z" } : Jvm.MethodName)) ∈ lw_tbl := lw_at lw_m6 160 rfl
theorem q1441 : (Jvm.Cond.instanceMethod ({ cls := "RiverWordsModel", name := "isCross", desc := "(II)Z" } : Jvm.MethodName)) ∈ lw_all := lw_g (lw_at lw_m6 161 rfl) rfl
theorem q1442 : (Jvm.Cond.code ({ cls := "RiverWordsModel", name := "isCross", desc := "(II)Z" } : Jvm.MethodName) prog_9_method_40_code (7 : Nat) (Option.some Jvm.ClassFile.FieldType.boolean)) ∈ lw_all := lw_g (lw_at lw_m6 162 rfl) rfl
theorem q1444 : (Jvm.Cond.instanceMethod ({ cls := "RiverWordsModel", name := "turn", desc := "(II)I" } : Jvm.MethodName)) ∈ lw_all := lw_g (lw_at lw_m6 164 rfl) rfl
theorem q1445 : (Jvm.Cond.selects "RiverWordsModel" ({ cls := "RiverWordsModel", name := "turn", desc := "(II)I" } : Jvm.MethodName) ({ cls := "RiverWordsModel", name := "turn", desc := "(II)I" } : Jvm.MethodName)) ∈ lw_all := lw_g (lw_at lw_m6 165 rfl) rfl
theorem q1446 : (Jvm.Cond.code ({ cls := "RiverWordsModel", name := "turn", desc := "(II)I" } : Jvm.MethodName) prog_9_method_45_code (3 : Nat) (Option.some Jvm.ClassFile.FieldType.int)) ∈ lw_all := lw_g (lw_at lw_m6 166 rfl) rfl
theorem q1447 : (Jvm.Cond.methodLink "RiverWordsModel" (199 : Nat) ({ cls := "RiverWordsModel", name := "put", desc := "(II)V" } : Jvm.MethodName)) ∈ lw_all := lw_g (lw_at lw_m6 167 rfl) rfl
theorem q1448 : (Jvm.Cond.privateMethod ({ cls := "RiverWordsModel", name := "put", desc := "(II)V" } : Jvm.MethodName)) ∈ lw_tbl := lw_at lw_m6 168 rfl
theorem q1449 : (Jvm.Cond.instanceMethod ({ cls := "RiverWordsModel", name := "put", desc := "(II)V" } : Jvm.MethodName)) ∈ lw_all := lw_g (lw_at lw_m6 169 rfl) rfl
theorem q1450 : (Jvm.Cond.code ({ cls := "RiverWordsModel", name := "put", desc := "(II)V" } : Jvm.MethodName) prog_9_method_44_code (4 : Nat) (Option.none : Option Jvm.ClassFile.FieldType)) ∈ lw_all := lw_g (lw_at lw_m6 170 rfl) rfl
theorem q1452 : (Jvm.Cond.instanceMethod ({ cls := "RiverWordsModel", name := "change", desc := "(II)I" } : Jvm.MethodName)) ∈ lw_all := lw_g (lw_at lw_m6 172 rfl) rfl
theorem q1453 : (Jvm.Cond.selects "RiverWordsModel" ({ cls := "RiverWordsModel", name := "change", desc := "(II)I" } : Jvm.MethodName) ({ cls := "RiverWordsModel", name := "change", desc := "(II)I" } : Jvm.MethodName)) ∈ lw_all := lw_g (lw_at lw_m6 173 rfl) rfl
theorem q1454 : (Jvm.Cond.code ({ cls := "RiverWordsModel", name := "change", desc := "(II)I" } : Jvm.MethodName) prog_9_method_46_code (4 : Nat) (Option.some Jvm.ClassFile.FieldType.int)) ∈ lw_all := lw_g (lw_at lw_m6 174 rfl) rfl
theorem q1456 : (Jvm.Cond.instanceMethod ({ cls := "RiverWordsModel", name := "join", desc := "(II)I" } : Jvm.MethodName)) ∈ lw_all := lw_g (lw_at lw_m6 176 rfl) rfl
theorem q1457 : (Jvm.Cond.selects "RiverWordsModel" ({ cls := "RiverWordsModel", name := "join", desc := "(II)I" } : Jvm.MethodName) ({ cls := "RiverWordsModel", name := "join", desc := "(II)I" } : Jvm.MethodName)) ∈ lw_all := lw_g (lw_at lw_m6 177 rfl) rfl
theorem q1458 : (Jvm.Cond.code ({ cls := "RiverWordsModel", name := "join", desc := "(II)I" } : Jvm.MethodName) prog_9_method_48_code (3 : Nat) (Option.some Jvm.ClassFile.FieldType.int)) ∈ lw_all := lw_g (lw_at lw_m6 178 rfl) rfl
theorem q1459 : (Jvm.Cond.methodLink "RiverWordsModel" (203 : Nat) ({ cls := "RiverWordsModel", name := "addRoad", desc := "(I)V" } : Jvm.MethodName)) ∈ lw_all := lw_g (lw_at lw_m6 179 rfl) rfl
theorem q1460 : (Jvm.Cond.privateMethod ({ cls := "RiverWordsModel", name := "addRoad", desc := "(I)V" } : Jvm.MethodName)) ∈ lw_tbl := lw_at lw_m6 180 rfl
theorem q1461 : (Jvm.Cond.instanceMethod ({ cls := "RiverWordsModel", name := "addRoad", desc := "(I)V" } : Jvm.MethodName)) ∈ lw_all := lw_g (lw_at lw_m6 181 rfl) rfl
theorem q1462 : (Jvm.Cond.code ({ cls := "RiverWordsModel", name := "addRoad", desc := "(I)V" } : Jvm.MethodName) prog_9_method_47_code (3 : Nat) (Option.none : Option Jvm.ClassFile.FieldType)) ∈ lw_all := lw_g (lw_at lw_m6 182 rfl) rfl
theorem q1464 : (Jvm.Cond.instanceMethod ({ cls := "RiverWordsModel", name := "times", desc := "(II)I" } : Jvm.MethodName)) ∈ lw_all := lw_g (lw_at lw_m6 184 rfl) rfl
theorem q1465 : (Jvm.Cond.selects "RiverWordsModel" ({ cls := "RiverWordsModel", name := "times", desc := "(II)I" } : Jvm.MethodName) ({ cls := "RiverWordsModel", name := "times", desc := "(II)I" } : Jvm.MethodName)) ∈ lw_all := lw_g (lw_at lw_m6 185 rfl) rfl
theorem q1466 : (Jvm.Cond.code ({ cls := "RiverWordsModel", name := "times", desc := "(II)I" } : Jvm.MethodName) prog_9_method_49_code (4 : Nat) (Option.some Jvm.ClassFile.FieldType.int)) ∈ lw_all := lw_g (lw_at lw_m6 186 rfl) rfl
theorem q1468 : (Jvm.Cond.instanceMethod ({ cls := "RiverWordsModel", name := "cut", desc := "(II)I" } : Jvm.MethodName)) ∈ lw_all := lw_g (lw_at lw_m6 188 rfl) rfl
theorem q1469 : (Jvm.Cond.selects "RiverWordsModel" ({ cls := "RiverWordsModel", name := "cut", desc := "(II)I" } : Jvm.MethodName) ({ cls := "RiverWordsModel", name := "cut", desc := "(II)I" } : Jvm.MethodName)) ∈ lw_all := lw_g (lw_at lw_m6 189 rfl) rfl
theorem q1470 : (Jvm.Cond.code ({ cls := "RiverWordsModel", name := "cut", desc := "(II)I" } : Jvm.MethodName) prog_9_method_51_code (3 : Nat) (Option.some Jvm.ClassFile.FieldType.int)) ∈ lw_all := lw_g (lw_at lw_m6 190 rfl) rfl
theorem q1471 : (Jvm.Cond.methodLink "RiverWordsModel" (206 : Nat) ({ cls := "RiverWordsModel", name := "layCut", desc := "(II)I" } : Jvm.MethodName)) ∈ lw_all := lw_g (lw_at lw_m6 191 rfl) rfl
theorem q1472 : (Jvm.Cond.privateMethod ({ cls := "RiverWordsModel", name := "layCut", desc := "(II)I" } : Jvm.MethodName)) ∈ lw_tbl := lw_at lw_m6 192 rfl
theorem q1473 : (Jvm.Cond.instanceMethod ({ cls := "RiverWordsModel", name := "layCut", desc := "(II)I" } : Jvm.MethodName)) ∈ lw_all := lw_g (lw_at lw_m6 193 rfl) rfl
theorem q1474 : (Jvm.Cond.code ({ cls := "RiverWordsModel", name := "layCut", desc := "(II)I" } : Jvm.MethodName) prog_9_method_50_code (7 : Nat) (Option.some Jvm.ClassFile.FieldType.int)) ∈ lw_all := lw_g (lw_at lw_m6 194 rfl) rfl
theorem q1476 : (Jvm.Cond.instanceMethod ({ cls := "RiverWordsModel", name := "drop", desc := "()I" } : Jvm.MethodName)) ∈ lw_all := lw_g (lw_at lw_m6 196 rfl) rfl
theorem q1477 : (Jvm.Cond.selects "RiverWordsModel" ({ cls := "RiverWordsModel", name := "drop", desc := "()I" } : Jvm.MethodName) ({ cls := "RiverWordsModel", name := "drop", desc := "()I" } : Jvm.MethodName)) ∈ lw_all := lw_g (lw_at lw_m6 197 rfl) rfl
theorem q1478 : (Jvm.Cond.code ({ cls := "RiverWordsModel", name := "drop", desc := "()I" } : Jvm.MethodName) prog_9_method_52_code (1 : Nat) (Option.some Jvm.ClassFile.FieldType.int)) ∈ lw_all := lw_g (lw_at lw_m6 198 rfl) rfl
theorem q1480 : (Jvm.Cond.instanceMethod ({ cls := "RiverWordsModel", name := "river", desc := "(I)I" } : Jvm.MethodName)) ∈ lw_all := lw_g (lw_at lw_m6 200 rfl) rfl
theorem q1481 : (Jvm.Cond.selects "RiverWordsModel" ({ cls := "RiverWordsModel", name := "river", desc := "(I)I" } : Jvm.MethodName) ({ cls := "RiverWordsModel", name := "river", desc := "(I)I" } : Jvm.MethodName)) ∈ lw_all := lw_g (lw_at lw_m6 201 rfl) rfl
theorem q1482 : (Jvm.Cond.code ({ cls := "RiverWordsModel", name := "river", desc := "(I)I" } : Jvm.MethodName) prog_9_method_60_code (3 : Nat) (Option.some Jvm.ClassFile.FieldType.int)) ∈ lw_all := lw_g (lw_at lw_m6 202 rfl) rfl
theorem q1483 : (Jvm.Cond.methodLink "RiverWordsModel" (227 : Nat) ({ cls := "RiverWordsModel", name := "isSquare", desc := "(I)Z" } : Jvm.MethodName)) ∈ lw_all := lw_g (lw_at lw_m6 203 rfl) rfl
theorem q1484 : (Jvm.Cond.static ({ cls := "RiverWordsModel", name := "isSquare", desc := "(I)Z" } : Jvm.MethodName)) ∈ lw_all := lw_g (lw_at lw_m6 204 rfl) rfl
theorem q1485 : (Jvm.Cond.code ({ cls := "RiverWordsModel", name := "isSquare", desc := "(I)Z" } : Jvm.MethodName) prog_9_method_53_code (2 : Nat) (Option.some Jvm.ClassFile.FieldType.boolean)) ∈ lw_all := lw_g (lw_at lw_m6 205 rfl) rfl
theorem q1486 : (Jvm.Cond.methodLink "RiverWordsModel" (230 : Nat) ({ cls := "RiverWordsModel", name := "layMiddle", desc := "(I)V" } : Jvm.MethodName)) ∈ lw_all := lw_g (lw_at lw_m6 206 rfl) rfl
theorem q1487 : (Jvm.Cond.privateMethod ({ cls := "RiverWordsModel", name := "layMiddle", desc := "(I)V" } : Jvm.MethodName)) ∈ lw_tbl := lw_at lw_m6 207 rfl
theorem q1488 : (Jvm.Cond.instanceMethod ({ cls := "RiverWordsModel", name := "layMiddle", desc := "(I)V" } : Jvm.MethodName)) ∈ lw_all := lw_g (lw_at lw_m6 208 rfl) rfl
theorem q1489 : (Jvm.Cond.code ({ cls := "RiverWordsModel", name := "layMiddle", desc := "(I)V" } : Jvm.MethodName) prog_9_method_55_code (4 : Nat) (Option.none : Option Jvm.ClassFile.FieldType)) ∈ lw_all := lw_g (lw_at lw_m6 209 rfl) rfl
theorem q1490 : (Jvm.Cond.methodLink "RiverWordsModel" (233 : Nat) ({ cls := "RiverWordsModel", name := "layCycles", desc := "()V" } : Jvm.MethodName)) ∈ lw_all := lw_g (lw_at lw_m6 210 rfl) rfl
theorem q1491 : (Jvm.Cond.privateMethod ({ cls := "RiverWordsModel", name := "layCycles", desc := "()V" } : Jvm.MethodName)) ∈ lw_tbl := lw_at lw_m6 211 rfl
theorem q1492 : (Jvm.Cond.instanceMethod ({ cls := "RiverWordsModel", name := "layCycles", desc := "()V" } : Jvm.MethodName)) ∈ lw_all := lw_g (lw_at lw_m6 212 rfl) rfl
theorem q1493 : (Jvm.Cond.code ({ cls := "RiverWordsModel", name := "layCycles", desc := "()V" } : Jvm.MethodName) prog_9_method_59_code (3 : Nat) (Option.none : Option Jvm.ClassFile.FieldType)) ∈ lw_all := lw_g (lw_at lw_m6 213 rfl) rfl
theorem q1494 : (Jvm.Cond.methodLink "RiverWordsModel" (221 : Nat) ({ cls := "RiverWordsModel", name := "findNext", desc := "(I)I" } : Jvm.MethodName)) ∈ lw_all := lw_g (lw_at lw_m6 214 rfl) rfl
theorem q1495 : (Jvm.Cond.privateMethod ({ cls := "RiverWordsModel", name := "findNext", desc := "(I)I" } : Jvm.MethodName)) ∈ lw_tbl := lw_at lw_m6 215 rfl
theorem q1496 : (Jvm.Cond.instanceMethod ({ cls := "RiverWordsModel", name := "findNext", desc := "(I)I" } : Jvm.MethodName)) ∈ lw_all := lw_g (lw_at lw_m6 216 rfl) rfl
theorem q1497 : (Jvm.Cond.code ({ cls := "RiverWordsModel", name := "findNext", desc := "(I)I" } : Jvm.MethodName) prog_9_method_58_code (3 : Nat) (Option.some Jvm.ClassFile.FieldType.int)) ∈ lw_all := lw_g (lw_at lw_m6 217 rfl) rfl
theorem q1498 : (Jvm.Cond.methodLink "RiverWordsModel" (215 : Nat) ({ cls := "RiverWordsModel", name := "isLeft", desc := "(I)Z" } : Jvm.MethodName)) ∈ lw_all := lw_g (lw_at lw_m6 218 rfl) rfl
theorem q1499 : (Jvm.Cond.privateMethod ({ cls := "RiverWordsModel", name := "isLeft", desc := "(I)Z" } : Jvm.MethodName)) ∈ lw_tbl := lw_at lw_m6 219 rfl
theorem q1500 : (Jvm.Cond.instanceMethod ({ cls := "RiverWordsModel", name := "isLeft", desc := "(I)Z" } : Jvm.MethodName)) ∈ lw_all := lw_g (lw_at lw_m6 220 rfl) rfl
theorem q1501 : (Jvm.Cond.code ({ cls := "RiverWordsModel", name := "isLeft", desc := "(I)Z" } : Jvm.MethodName) prog_9_method_57_code (2 : Nat) (Option.some Jvm.ClassFile.FieldType.boolean)) ∈ lw_all := lw_g (lw_at lw_m6 221 rfl) rfl
theorem q1502 : (Jvm.Cond.methodLink "RiverWordsModel" (218 : Nat) ({ cls := "RiverWordsModel", name := "numberOf", desc := "(III)I" } : Jvm.MethodName)) ∈ lw_all := lw_g (lw_at lw_m6 222 rfl) rfl
theorem q1503 : (Jvm.Cond.privateMethod ({ cls := "RiverWordsModel", name := "numberOf", desc := "(III)I" } : Jvm.MethodName)) ∈ lw_tbl := lw_at lw_m6 223 rfl
theorem q1504 : (Jvm.Cond.instanceMethod ({ cls := "RiverWordsModel", name := "numberOf", desc := "(III)I" } : Jvm.MethodName)) ∈ lw_all := lw_g (lw_at lw_m6 224 rfl) rfl
theorem q1505 : (Jvm.Cond.code ({ cls := "RiverWordsModel", name := "numberOf", desc := "(III)I" } : Jvm.MethodName) prog_9_method_56_code (5 : Nat) (Option.some Jvm.ClassFile.FieldType.int)) ∈ lw_all := lw_g (lw_at lw_m6 225 rfl) rfl
theorem q1507 : (Jvm.Cond.instanceMethod ({ cls := "RiverWordsModel", name := "simple", desc := "(II)I" } : Jvm.MethodName)) ∈ lw_all := lw_g (lw_at lw_m6 227 rfl) rfl
theorem q1508 : (Jvm.Cond.selects "RiverWordsModel" ({ cls := "RiverWordsModel", name := "simple", desc := "(II)I" } : Jvm.MethodName) ({ cls := "RiverWordsModel", name := "simple", desc := "(II)I" } : Jvm.MethodName)) ∈ lw_all := lw_g (lw_at lw_m6 228 rfl) rfl
theorem q1509 : (Jvm.Cond.code ({ cls := "RiverWordsModel", name := "simple", desc := "(II)I" } : Jvm.MethodName) prog_9_method_62_code (3 : Nat) (Option.some Jvm.ClassFile.FieldType.int)) ∈ lw_all := lw_g (lw_at lw_m6 229 rfl) rfl
theorem q1510 : (Jvm.Cond.methodLink "RiverWordsModel" (236 : Nat) ({ cls := "RiverWordsModel", name := "simpleNow", desc := "(II)I" } : Jvm.MethodName)) ∈ lw_all := lw_g (lw_at lw_m6 230 rfl) rfl
theorem q1511 : (Jvm.Cond.privateMethod ({ cls := "RiverWordsModel", name := "simpleNow", desc := "(II)I" } : Jvm.MethodName)) ∈ lw_tbl := lw_at lw_m6 231 rfl
theorem q1512 : (Jvm.Cond.instanceMethod ({ cls := "RiverWordsModel", name := "simpleNow", desc := "(II)I" } : Jvm.MethodName)) ∈ lw_all := lw_g (lw_at lw_m6 232 rfl) rfl
theorem q1513 : (Jvm.Cond.code ({ cls := "RiverWordsModel", name := "simpleNow", desc := "(II)I" } : Jvm.MethodName) prog_9_method_61_code (3 : Nat) (Option.some Jvm.ClassFile.FieldType.int)) ∈ lw_all := lw_g (lw_at lw_m6 233 rfl) rfl
theorem q1515 : (Jvm.Cond.instanceMethod ({ cls := "RiverWordsModel", name := "cycle", desc := "(II)I" } : Jvm.MethodName)) ∈ lw_all := lw_g (lw_at lw_m6 235 rfl) rfl
theorem q1516 : (Jvm.Cond.selects "RiverWordsModel" ({ cls := "RiverWordsModel", name := "cycle", desc := "(II)I" } : Jvm.MethodName) ({ cls := "RiverWordsModel", name := "cycle", desc := "(II)I" } : Jvm.MethodName)) ∈ lw_all := lw_g (lw_at lw_m6 236 rfl) rfl
theorem q1517 : (Jvm.Cond.code ({ cls := "RiverWordsModel", name := "cycle", desc := "(II)I" } : Jvm.MethodName) prog_9_method_67_code (3 : Nat) (Option.some Jvm.ClassFile.FieldType.int)) ∈ lw_all := lw_g (lw_at lw_m6 237 rfl) rfl
theorem q1518 : (Jvm.Cond.methodLink "RiverWordsModel" (245 : Nat) ({ cls := "RiverWordsModel", name := "isCycle", desc := "(I)Z" } : Jvm.MethodName)) ∈ lw_all := lw_g (lw_at lw_m6 238 rfl) rfl
theorem q1519 : (Jvm.Cond.privateMethod ({ cls := "RiverWordsModel", name := "isCycle", desc := "(I)Z" } : Jvm.MethodName)) ∈ lw_tbl := lw_at lw_m6 239 rfl
theorem q1520 : (Jvm.Cond.instanceMethod ({ cls := "RiverWordsModel", name := "isCycle", desc := "(I)Z" } : Jvm.MethodName)) ∈ lw_all := lw_g (lw_at lw_m7 0 rfl) rfl
theorem q1521 : (Jvm.Cond.code ({ cls := "RiverWordsModel", name := "isCycle", desc := "(I)Z" } : Jvm.MethodName) prog_9_method_63_code (2 : Nat) (Option.some Jvm.ClassFile.FieldType.boolean)) ∈ lw_all := lw_g (lw_at lw_m7 1 rfl) rfl
theorem q1522 : (Jvm.Cond.methodLink "RiverWordsModel" (248 : Nat) ({ cls := "RiverWordsModel", name := "cycleNow", desc := "(II)I" } : Jvm.MethodName)) ∈ lw_all := lw_g (lw_at lw_m7 2 rfl) rfl
theorem q1523 : (Jvm.Cond.privateMethod ({ cls := "RiverWordsModel", name := "cycleNow", desc := "(II)I" } : Jvm.MethodName)) ∈ lw_tbl := lw_at lw_m7 3 rfl
theorem q1524 : (Jvm.Cond.instanceMethod ({ cls := "RiverWordsModel", name := "cycleNow", desc := "(II)I" } : Jvm.MethodName)) ∈ lw_all := lw_g (lw_at lw_m7 4 rfl) rfl
theorem q1525 : (Jvm.Cond.code ({ cls := "RiverWordsModel", name := "cycleNow", desc := "(II)I" } : Jvm.MethodName) prog_9_method_66_code (4 : Nat) (Option.some Jvm.ClassFile.FieldType.int)) ∈ lw_all := lw_g (lw_at lw_m7 5 rfl) rfl
theorem q1526 : (Jvm.Cond.methodLink "RiverWordsModel" (239 : Nat) ({ cls := "RiverWordsModel", name := "sizeOf", desc := "(I)I" } : Jvm.MethodName)) ∈ lw_all := lw_g (lw_at lw_m7 6 rfl) rfl
theorem q1527 : (Jvm.Cond.privateMethod ({ cls := "RiverWordsModel", name := "sizeOf", desc := "(I)I" } : Jvm.MethodName)) ∈ lw_tbl := lw_at lw_m7 7 rfl
theorem q1528 : (Jvm.Cond.instanceMethod ({ cls := "RiverWordsModel", name := "sizeOf", desc := "(I)I" } : Jvm.MethodName)) ∈ lw_all := lw_g (lw_at lw_m7 8 rfl) rfl
theorem q1529 : (Jvm.Cond.code ({ cls := "RiverWordsModel", name := "sizeOf", desc := "(I)I" } : Jvm.MethodName) prog_9_method_64_code (4 : Nat) (Option.some Jvm.ClassFile.FieldType.int)) ∈ lw_all := lw_g (lw_at lw_m7 9 rfl) rfl
theorem q1530 : (Jvm.Cond.methodLink "RiverWordsModel" (242 : Nat) ({ cls := "RiverWordsModel", name := "leftsOf", desc := "(I)I" } : Jvm.MethodName)) ∈ lw_all := lw_g (lw_at lw_m7 10 rfl) rfl
theorem q1531 : (Jvm.Cond.privateMethod ({ cls := "RiverWordsModel", name := "leftsOf", desc := "(I)I" } : Jvm.MethodName)) ∈ lw_tbl := lw_at lw_m7 11 rfl
theorem q1532 : (Jvm.Cond.instanceMethod ({ cls := "RiverWordsModel", name := "leftsOf", desc := "(I)I" } : Jvm.MethodName)) ∈ lw_all := lw_g (lw_at lw_m7 12 rfl) rfl
theorem q1533 : (Jvm.Cond.code ({ cls := "RiverWordsModel", name := "leftsOf", desc := "(I)I" } : Jvm.MethodName) prog_9_method_65_code (4 : Nat) (Option.some Jvm.ClassFile.FieldType.int)) ∈ lw_all := lw_g (lw_at lw_m7 13 rfl) rfl
theorem q1535 : (Jvm.Cond.instanceMethod ({ cls := "RiverWordsModel", name := "step", desc := "(II)I" } : Jvm.MethodName)) ∈ lw_all := lw_g (lw_at lw_m7 15 rfl) rfl
theorem q1536 : (Jvm.Cond.selects "RiverWordsModel" ({ cls := "RiverWordsModel", name := "step", desc := "(II)I" } : Jvm.MethodName) ({ cls := "RiverWordsModel", name := "step", desc := "(II)I" } : Jvm.MethodName)) ∈ lw_all := lw_g (lw_at lw_m7 16 rfl) rfl
theorem q1537 : (Jvm.Cond.code ({ cls := "RiverWordsModel", name := "step", desc := "(II)I" } : Jvm.MethodName) prog_9_method_69_code (3 : Nat) (Option.some Jvm.ClassFile.FieldType.int)) ∈ lw_all := lw_g (lw_at lw_m7 17 rfl) rfl
theorem q1538 : (Jvm.Cond.methodLink "RiverWordsModel" (251 : Nat) ({ cls := "RiverWordsModel", name := "formAt", desc := "(II)I" } : Jvm.MethodName)) ∈ lw_all := lw_g (lw_at lw_m7 18 rfl) rfl
theorem q1539 : (Jvm.Cond.privateMethod ({ cls := "RiverWordsModel", name := "formAt", desc := "(II)I" } : Jvm.MethodName)) ∈ lw_tbl := lw_at lw_m7 19 rfl
theorem q1540 : (Jvm.Cond.instanceMethod ({ cls := "RiverWordsModel", name := "formAt", desc := "(II)I" } : Jvm.MethodName)) ∈ lw_all := lw_g (lw_at lw_m7 20 rfl) rfl
theorem q1541 : (Jvm.Cond.code ({ cls := "RiverWordsModel", name := "formAt", desc := "(II)I" } : Jvm.MethodName) prog_9_method_68_code (5 : Nat) (Option.some Jvm.ClassFile.FieldType.int)) ∈ lw_all := lw_g (lw_at lw_m7 21 rfl) rfl
theorem q1543 : (Jvm.Cond.instanceMethod ({ cls := "RiverWordsModel", name := "trace", desc := "(II)I" } : Jvm.MethodName)) ∈ lw_all := lw_g (lw_at lw_m7 23 rfl) rfl
theorem q1544 : (Jvm.Cond.selects "RiverWordsModel" ({ cls := "RiverWordsModel", name := "trace", desc := "(II)I" } : Jvm.MethodName) ({ cls := "RiverWordsModel", name := "trace", desc := "(II)I" } : Jvm.MethodName)) ∈ lw_all := lw_g (lw_at lw_m7 24 rfl) rfl
theorem q1545 : (Jvm.Cond.code ({ cls := "RiverWordsModel", name := "trace", desc := "(II)I" } : Jvm.MethodName) prog_9_method_71_code (3 : Nat) (Option.some Jvm.ClassFile.FieldType.int)) ∈ lw_all := lw_g (lw_at lw_m7 25 rfl) rfl
theorem q1546 : (Jvm.Cond.methodLink "RiverWordsModel" (254 : Nat) ({ cls := "RiverWordsModel", name := "traceOf", desc := "(II)I" } : Jvm.MethodName)) ∈ lw_all := lw_g (lw_at lw_m7 26 rfl) rfl
theorem q1547 : (Jvm.Cond.privateMethod ({ cls := "RiverWordsModel", name := "traceOf", desc := "(II)I" } : Jvm.MethodName)) ∈ lw_tbl := lw_at lw_m7 27 rfl
theorem q1548 : (Jvm.Cond.instanceMethod ({ cls := "RiverWordsModel", name := "traceOf", desc := "(II)I" } : Jvm.MethodName)) ∈ lw_all := lw_g (lw_at lw_m7 28 rfl) rfl
theorem q1549 : (Jvm.Cond.code ({ cls := "RiverWordsModel", name := "traceOf", desc := "(II)I" } : Jvm.MethodName) prog_9_method_70_code (8 : Nat) (Option.some Jvm.ClassFile.FieldType.int)) ∈ lw_all := lw_g (lw_at lw_m7 29 rfl) rfl
theorem q1551 : (Jvm.Cond.instanceMethod ({ cls := "RiverWordsModel", name := "flow", desc := "(IIIZ)I" } : Jvm.MethodName)) ∈ lw_all := lw_g (lw_at lw_m7 31 rfl) rfl
theorem q1552 : (Jvm.Cond.selects "RiverWordsModel" ({ cls := "RiverWordsModel", name := "flow", desc := "(IIIZ)I" } : Jvm.MethodName) ({ cls := "RiverWordsModel", name := "flow", desc := "(IIIZ)I" } : Jvm.MethodName)) ∈ lw_all := lw_g (lw_at lw_m7 32 rfl) rfl
theorem q1553 : (Jvm.Cond.code ({ cls := "RiverWordsModel", name := "flow", desc := "(IIIZ)I" } : Jvm.MethodName) prog_9_method_74_code (6 : Nat) (Option.some Jvm.ClassFile.FieldType.int)) ∈ lw_all := lw_g (lw_at lw_m7 33 rfl) rfl
theorem q1554 : (Jvm.Cond.methodLink "RiverWordsModel" (269 : Nat) ({ cls := "RiverWordsModel", name := "isRiver", desc := "()Z" } : Jvm.MethodName)) ∈ lw_all := lw_g (lw_at lw_m7 34 rfl) rfl
theorem q1555 : (Jvm.Cond.privateMethod ({ cls := "RiverWordsModel", name := "isRiver", desc := "()Z" } : Jvm.MethodName)) ∈ lw_tbl := lw_at lw_m7 35 rfl
theorem q1556 : (Jvm.Cond.instanceMethod ({ cls := "RiverWordsModel", name := "isRiver", desc := "()Z" } : Jvm.MethodName)) ∈ lw_all := lw_g (lw_at lw_m7 36 rfl) rfl
theorem q1557 : (Jvm.Cond.code ({ cls := "RiverWordsModel", name := "isRiver", desc := "()Z" } : Jvm.MethodName) prog_9_method_54_code (1 : Nat) (Option.some Jvm.ClassFile.FieldType.boolean)) ∈ lw_all := lw_g (lw_at lw_m7 37 rfl) rfl
theorem q1558 : (Jvm.Cond.methodLink "RiverWordsModel" (272 : Nat) ({ cls := "RiverWordsModel", name := "flowNow", desc := "(Z)I" } : Jvm.MethodName)) ∈ lw_all := lw_g (lw_at lw_m7 38 rfl) rfl
theorem q1559 : (Jvm.Cond.privateMethod ({ cls := "RiverWordsModel", name := "flowNow", desc := "(Z)I" } : Jvm.MethodName)) ∈ lw_tbl := lw_at lw_m7 39 rfl
theorem q1560 : (Jvm.Cond.instanceMethod ({ cls := "RiverWordsModel", name := "flowNow", desc := "(Z)I" } : Jvm.MethodName)) ∈ lw_all := lw_g (lw_at lw_m7 40 rfl) rfl
theorem q1561 : (Jvm.Cond.code ({ cls := "RiverWordsModel", name := "flowNow", desc := "(Z)I" } : Jvm.MethodName) prog_9_method_73_code (3 : Nat) (Option.some Jvm.ClassFile.FieldType.int)) ∈ lw_all := lw_g (lw_at lw_m7 41 rfl) rfl
theorem q1562 : (Jvm.Cond.methodLink "RiverWordsModel" (266 : Nat) ({ cls := "RiverWordsModel", name := "flowStep", desc := "()V" } : Jvm.MethodName)) ∈ lw_all := lw_g (lw_at lw_m7 42 rfl) rfl
theorem q1563 : (Jvm.Cond.privateMethod ({ cls := "RiverWordsModel", name := "flowStep", desc := "()V" } : Jvm.MethodName)) ∈ lw_tbl := lw_at lw_m7 43 rfl
theorem q1564 : (Jvm.Cond.instanceMethod ({ cls := "RiverWordsModel", name := "flowStep", desc := "()V" } : Jvm.MethodName)) ∈ lw_all := lw_g (lw_at lw_m7 44 rfl) rfl
theorem q1565 : (Jvm.Cond.code ({ cls := "RiverWordsModel", name := "flowStep", desc := "()V" } : Jvm.MethodName) prog_9_method_72_code (3 : Nat) (Option.none : Option Jvm.ClassFile.FieldType)) ∈ lw_all := lw_g (lw_at lw_m7 45 rfl) rfl
theorem q1567 : (Jvm.Cond.instanceMethod ({ cls := "RiverWordsModel", name := "lay", desc := "(I)I" } : Jvm.MethodName)) ∈ lw_all := lw_g (lw_at lw_m7 47 rfl) rfl
theorem q1568 : (Jvm.Cond.selects "RiverWordsModel" ({ cls := "RiverWordsModel", name := "lay", desc := "(I)I" } : Jvm.MethodName) ({ cls := "RiverWordsModel", name := "lay", desc := "(I)I" } : Jvm.MethodName)) ∈ lw_all := lw_g (lw_at lw_m7 48 rfl) rfl
theorem q1569 : (Jvm.Cond.code ({ cls := "RiverWordsModel", name := "lay", desc := "(I)I" } : Jvm.MethodName) prog_9_method_75_code (4 : Nat) (Option.some Jvm.ClassFile.FieldType.int)) ∈ lw_all := lw_g (lw_at lw_m7 49 rfl) rfl
theorem q1571 : (Jvm.Cond.instanceMethod ({ cls := "RiverWordsModel", name := "where", desc := "(I)I" } : Jvm.MethodName)) ∈ lw_all := lw_g (lw_at lw_m7 51 rfl) rfl
theorem q1572 : (Jvm.Cond.selects "RiverWordsModel" ({ cls := "RiverWordsModel", name := "where", desc := "(I)I" } : Jvm.MethodName) ({ cls := "RiverWordsModel", name := "where", desc := "(I)I" } : Jvm.MethodName)) ∈ lw_all := lw_g (lw_at lw_m7 52 rfl) rfl
theorem q1573 : (Jvm.Cond.code ({ cls := "RiverWordsModel", name := "where", desc := "(I)I" } : Jvm.MethodName) prog_9_method_77_code (2 : Nat) (Option.some Jvm.ClassFile.FieldType.int)) ∈ lw_all := lw_g (lw_at lw_m7 53 rfl) rfl
theorem q1574 : (Jvm.Cond.methodLink "RiverWordsModel" (276 : Nat) ({ cls := "RiverWordsModel", name := "whereNow", desc := "(I)I" } : Jvm.MethodName)) ∈ lw_all := lw_g (lw_at lw_m7 54 rfl) rfl
theorem q1575 : (Jvm.Cond.privateMethod ({ cls := "RiverWordsModel", name := "whereNow", desc := "(I)I" } : Jvm.MethodName)) ∈ lw_tbl := lw_at lw_m7 55 rfl
theorem q1576 : (Jvm.Cond.instanceMethod ({ cls := "RiverWordsModel", name := "whereNow", desc := "(I)I" } : Jvm.MethodName)) ∈ lw_all := lw_g (lw_at lw_m7 56 rfl) rfl
theorem q1577 : (Jvm.Cond.code ({ cls := "RiverWordsModel", name := "whereNow", desc := "(I)I" } : Jvm.MethodName) prog_9_method_76_code (2 : Nat) (Option.some Jvm.ClassFile.FieldType.int)) ∈ lw_all := lw_g (lw_at lw_m7 57 rfl) rfl
theorem q1579 : (Jvm.Cond.instanceMethod ({ cls := "RiverWordsModel", name := "drawn", desc := "(III)I" } : Jvm.MethodName)) ∈ lw_all := lw_g (lw_at lw_m7 59 rfl) rfl
theorem q1580 : (Jvm.Cond.selects "RiverWordsModel" ({ cls := "RiverWordsModel", name := "drawn", desc := "(III)I" } : Jvm.MethodName) ({ cls := "RiverWordsModel", name := "drawn", desc := "(III)I" } : Jvm.MethodName)) ∈ lw_all := lw_g (lw_at lw_m7 60 rfl) rfl
theorem q1581 : (Jvm.Cond.code ({ cls := "RiverWordsModel", name := "drawn", desc := "(III)I" } : Jvm.MethodName) prog_9_method_80_code (4 : Nat) (Option.some Jvm.ClassFile.FieldType.int)) ∈ lw_all := lw_g (lw_at lw_m7 61 rfl) rfl
theorem q1582 : (Jvm.Cond.methodLink "RiverWordsModel" (294 : Nat) ({ cls := "RiverWordsModel", name := "drawnNow", desc := "(II)I" } : Jvm.MethodName)) ∈ lw_all := lw_g (lw_at lw_m7 62 rfl) rfl
theorem q1583 : (Jvm.Cond.privateMethod ({ cls := "RiverWordsModel", name := "drawnNow", desc := "(II)I" } : Jvm.MethodName)) ∈ lw_tbl := lw_at lw_m7 63 rfl
theorem q1584 : (Jvm.Cond.instanceMethod ({ cls := "RiverWordsModel", name := "drawnNow", desc := "(II)I" } : Jvm.MethodName)) ∈ lw_all := lw_g (lw_at lw_m7 64 rfl) rfl
theorem q1585 : (Jvm.Cond.code ({ cls := "RiverWordsModel", name := "drawnNow", desc := "(II)I" } : Jvm.MethodName) prog_9_method_79_code (9 : Nat) (Option.some Jvm.ClassFile.FieldType.int)) ∈ lw_all := lw_g (lw_at lw_m7 65 rfl) rfl
theorem q1586 : (Jvm.Cond.methodLink "RiverWordsModel" (291 : Nat) ({ cls := "RiverWordsModel", name := "drawOf", desc := "(I)I" } : Jvm.MethodName)) ∈ lw_all := lw_g (lw_at lw_m7 66 rfl) rfl
theorem q1587 : (Jvm.Cond.privateMethod ({ cls := "RiverWordsModel", name := "drawOf", desc := "(I)I" } : Jvm.MethodName)) ∈ lw_tbl := lw_at lw_m7 67 rfl
theorem q1588 : (Jvm.Cond.instanceMethod ({ cls := "RiverWordsModel", name := "drawOf", desc := "(I)I" } : Jvm.MethodName)) ∈ lw_all := lw_g (lw_at lw_m7 68 rfl) rfl
theorem q1589 : (Jvm.Cond.code ({ cls := "RiverWordsModel", name := "drawOf", desc := "(I)I" } : Jvm.MethodName) prog_9_method_78_code (2 : Nat) (Option.some Jvm.ClassFile.FieldType.int)) ∈ lw_all := lw_g (lw_at lw_m7 69 rfl) rfl
theorem q1590 : (Jvm.Cond.constantLong "RiverWordsModel" (279 : Nat) (1103515245 : Int64)) ∈ lw_all := lw_g (lw_at lw_m7 70 rfl) rfl
theorem q1591 : (Jvm.Cond.constantLong "RiverWordsModel" (285 : Nat) (12345 : Int64)) ∈ lw_all := lw_g (lw_at lw_m7 71 rfl) rfl
theorem q1592 : (Jvm.Cond.constantLong "RiverWordsModel" (287 : Nat) (2147483648 : Int64)) ∈ lw_all := lw_g (lw_at lw_m7 72 rfl) rfl
theorem q1593 : (Jvm.Cond.constantLong "RiverWordsModel" (289 : Nat) (65536 : Int64)) ∈ lw_all := lw_g (lw_at lw_m7 73 rfl) rfl
theorem q1595 : (Jvm.Cond.instanceMethod ({ cls := "RiverWordsModel", name := "count", desc := "(I)I" } : Jvm.MethodName)) ∈ lw_all := lw_g (lw_at lw_m7 75 rfl) rfl
theorem q1596 : (Jvm.Cond.selects "RiverWordsModel" ({ cls := "RiverWordsModel", name := "count", desc := "(I)I" } : Jvm.MethodName) ({ cls := "RiverWordsModel", name := "count", desc := "(I)I" } : Jvm.MethodName)) ∈ lw_all := lw_g (lw_at lw_m7 76 rfl) rfl
theorem q1597 : (Jvm.Cond.code ({ cls := "RiverWordsModel", name := "count", desc := "(I)I" } : Jvm.MethodName) prog_9_method_84_code (2 : Nat) (Option.some Jvm.ClassFile.FieldType.int)) ∈ lw_all := lw_g (lw_at lw_m7 77 rfl) rfl
theorem q1598 : (Jvm.Cond.methodLink "RiverWordsModel" (303 : Nat) ({ cls := "RiverWordsModel", name := "howMany", desc := "(I)I" } : Jvm.MethodName)) ∈ lw_all := lw_g (lw_at lw_m7 78 rfl) rfl
theorem q1599 : (Jvm.Cond.privateMethod ({ cls := "RiverWordsModel", name := "howMany", desc := "(I)I" } : Jvm.MethodName)) ∈ lw_tbl := lw_at lw_m7 79 rfl
theorem q1600 : (Jvm.Cond.instanceMethod ({ cls := "RiverWordsModel", name := "howMany", desc := "(I)I" } : Jvm.MethodName)) ∈ lw_all := lw_g (lw_at lw_m7 80 rfl) rfl
theorem q1601 : (Jvm.Cond.code ({ cls := "RiverWordsModel", name := "howMany", desc := "(I)I" } : Jvm.MethodName) prog_9_method_83_code (2 : Nat) (Option.some Jvm.ClassFile.FieldType.int)) ∈ lw_all := lw_g (lw_at lw_m7 81 rfl) rfl
theorem q1602 : (Jvm.Cond.methodLink "RiverWordsModel" (297 : Nat) ({ cls := "RiverWordsModel", name := "closedMany", desc := "()I" } : Jvm.MethodName)) ∈ lw_all := lw_g (lw_at lw_m7 82 rfl) rfl
theorem q1603 : (Jvm.Cond.privateMethod ({ cls := "RiverWordsModel", name := "closedMany", desc := "()I" } : Jvm.MethodName)) ∈ lw_tbl := lw_at lw_m7 83 rfl
theorem q1604 : (Jvm.Cond.instanceMethod ({ cls := "RiverWordsModel", name := "closedMany", desc := "()I" } : Jvm.MethodName)) ∈ lw_all := lw_g (lw_at lw_m7 84 rfl) rfl
theorem q1605 : (Jvm.Cond.code ({ cls := "RiverWordsModel", name := "closedMany", desc := "()I" } : Jvm.MethodName) prog_9_method_81_code (3 : Nat) (Option.some Jvm.ClassFile.FieldType.int)) ∈ lw_all := lw_g (lw_at lw_m7 85 rfl) rfl
theorem q1606 : (Jvm.Cond.methodLink "RiverWordsModel" (300 : Nat) ({ cls := "RiverWordsModel", name := "newMany", desc := "()I" } : Jvm.MethodName)) ∈ lw_all := lw_g (lw_at lw_m7 86 rfl) rfl
theorem q1607 : (Jvm.Cond.privateMethod ({ cls := "RiverWordsModel", name := "newMany", desc := "()I" } : Jvm.MethodName)) ∈ lw_tbl := lw_at lw_m7 87 rfl
theorem q1608 : (Jvm.Cond.instanceMethod ({ cls := "RiverWordsModel", name := "newMany", desc := "()I" } : Jvm.MethodName)) ∈ lw_all := lw_g (lw_at lw_m7 88 rfl) rfl
theorem q1609 : (Jvm.Cond.code ({ cls := "RiverWordsModel", name := "newMany", desc := "()I" } : Jvm.MethodName) prog_9_method_82_code (5 : Nat) (Option.some Jvm.ClassFile.FieldType.int)) ∈ lw_all := lw_g (lw_at lw_m7 89 rfl) rfl
theorem q1611 : (Jvm.Cond.instanceMethod ({ cls := "RiverWordsModel", name := "digest", desc := "()J" } : Jvm.MethodName)) ∈ lw_all := lw_g (lw_at lw_m7 91 rfl) rfl
theorem q1612 : (Jvm.Cond.selects "RiverWordsModel" ({ cls := "RiverWordsModel", name := "digest", desc := "()J" } : Jvm.MethodName) ({ cls := "RiverWordsModel", name := "digest", desc := "()J" } : Jvm.MethodName)) ∈ lw_all := lw_g (lw_at lw_m7 92 rfl) rfl
theorem q1613 : (Jvm.Cond.code ({ cls := "RiverWordsModel", name := "digest", desc := "()J" } : Jvm.MethodName) prog_9_method_89_code (2 : Nat) (Option.some Jvm.ClassFile.FieldType.long)) ∈ lw_all := lw_g (lw_at lw_m7 93 rfl) rfl
theorem q1614 : (Jvm.Cond.constantLong "RiverWordsModel" (315 : Nat) (1549 : Int64)) ∈ lw_all := lw_g (lw_at lw_m7 94 rfl) rfl
theorem q1615 : (Jvm.Cond.methodLink "RiverWordsModel" (317 : Nat) ({ cls := "RiverWordsModel", name := "mixRoad", desc := "(I)V" } : Jvm.MethodName)) ∈ lw_all := lw_g (lw_at lw_m7 95 rfl) rfl
theorem q1616 : (Jvm.Cond.privateMethod ({ cls := "RiverWordsModel", name := "mixRoad", desc := "(I)V" } : Jvm.MethodName)) ∈ lw_tbl := lw_at lw_m7 96 rfl
theorem q1617 : (Jvm.Cond.instanceMethod ({ cls := "RiverWordsModel", name := "mixRoad", desc := "(I)V" } : Jvm.MethodName)) ∈ lw_all := lw_g (lw_at lw_m7 97 rfl) rfl
theorem q1618 : (Jvm.Cond.code ({ cls := "RiverWordsModel", name := "mixRoad", desc := "(I)V" } : Jvm.MethodName) prog_9_method_86_code (4 : Nat) (Option.none : Option Jvm.ClassFile.FieldType)) ∈ lw_all := lw_g (lw_at lw_m7 98 rfl) rfl
theorem q1619 : (Jvm.Cond.methodLink "RiverWordsModel" (311 : Nat) ({ cls := "RiverWordsModel", name := "mix", desc := "(J)V" } : Jvm.MethodName)) ∈ lw_all := lw_g (lw_at lw_m7 99 rfl) rfl
theorem q1620 : (Jvm.Cond.privateMethod ({ cls := "RiverWordsModel", name := "mix", desc := "(J)V" } : Jvm.MethodName)) ∈ lw_tbl := lw_at lw_m7 100 rfl
theorem q1621 : (Jvm.Cond.instanceMethod ({ cls := "RiverWordsModel", name := "mix", desc := "(J)V" } : Jvm.MethodName)) ∈ lw_all := lw_g (lw_at lw_m7 101 rfl) rfl
theorem q1622 : (Jvm.Cond.code ({ cls := "RiverWordsModel", name := "mix", desc := "(J)V" } : Jvm.MethodName) prog_9_method_85_code (3 : Nat) (Option.none : Option Jvm.ClassFile.FieldType)) ∈ lw_all := lw_g (lw_at lw_m7 102 rfl) rfl
theorem q1623 : (Jvm.Cond.constantLong "RiverWordsModel" (306 : Nat) (31 : Int64)) ∈ lw_all := lw_g (lw_at lw_m7 103 rfl) rfl
theorem q1624 : (Jvm.Cond.methodLink "RiverWordsModel" (320 : Nat) ({ cls := "RiverWordsModel", name := "mixCrossings", desc := "()V" } : Jvm.MethodName)) ∈ lw_all := lw_g (lw_at lw_m7 104 rfl) rfl
theorem q1625 : (Jvm.Cond.privateMethod ({ cls := "RiverWordsModel", name := "mixCrossings", desc := "()V" } : Jvm.MethodName)) ∈ lw_tbl := lw_at lw_m7 105 rfl
theorem q1626 : (Jvm.Cond.instanceMethod ({ cls := "RiverWordsModel", name := "mixCrossings", desc := "()V" } : Jvm.MethodName)) ∈ lw_all := lw_g (lw_at lw_m7 106 rfl) rfl
theorem q1627 : (Jvm.Cond.code ({ cls := "RiverWordsModel", name := "mixCrossings", desc := "()V" } : Jvm.MethodName) prog_9_method_87_code (3 : Nat) (Option.none : Option Jvm.ClassFile.FieldType)) ∈ lw_all := lw_g (lw_at lw_m7 107 rfl) rfl
theorem q1628 : (Jvm.Cond.methodLink "RiverWordsModel" (323 : Nat) ({ cls := "RiverWordsModel", name := "mixRiver", desc := "()V" } : Jvm.MethodName)) ∈ lw_all := lw_g (lw_at lw_m7 108 rfl) rfl
theorem q1629 : (Jvm.Cond.privateMethod ({ cls := "RiverWordsModel", name := "mixRiver", desc := "()V" } : Jvm.MethodName)) ∈ lw_tbl := lw_at lw_m7 109 rfl
theorem q1630 : (Jvm.Cond.instanceMethod ({ cls := "RiverWordsModel", name := "mixRiver", desc := "()V" } : Jvm.MethodName)) ∈ lw_all := lw_g (lw_at lw_m7 110 rfl) rfl
theorem q1631 : (Jvm.Cond.code ({ cls := "RiverWordsModel", name := "mixRiver", desc := "()V" } : Jvm.MethodName) prog_9_method_88_code (3 : Nat) (Option.none : Option Jvm.ClassFile.FieldType)) ∈ lw_all := lw_g (lw_at lw_m7 111 rfl) rfl
theorem q1652 : (Jvm.Cond.castable "RiverWordsModel" "java/lang/Object") ∈ lw_tbl := lw_at lw_m7 132 rfl
theorem in_X2 : ∀ w ∈ wsX20, w ∈ lw_all := lw_in wsX20 [1207, 1209, 1211, 1213, 1215, 1217, 1219, 1221, 1223, 1225, 1227, 1229, 1231, 1233, 1235, 1237, 1239, 1241, 1243, 1245, 1247, 1249, 1251, 1253, 1255, 1257, 1259, 1261, 1263, 1265, 1267, 1269, 1271, 1273, 1275] (by decide +kernel) (by decide +kernel)
