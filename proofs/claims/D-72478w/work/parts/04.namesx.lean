/-! RiverWords -/
set_option maxRecDepth 100000
def RX0 : String := "RiverWords"
def TX0 : u_T := fun k => match k with
  | 0 => ("RiverWords", "none", "LRiverWords$Table;", true)
  | 1 => ("RiverWords", "left", "LRiverWords$Table;", true)
  | 2 => ("RiverWords", "right", "LRiverWords$Table;", true)
  | 3 => ("RiverWords", "roads", "Ljava/util/ArrayList;", true)
  | 4 => ("RiverWords", "read", "I", false)
  | 5 => ("RiverWords", "page", "Ljava/lang/StringBuilder;", true)
  | 6 => ("RiverWords", "river", "I", false)
  | 7 => ("RiverWords", "forms", "Ljava/util/ArrayList;", true)
  | 8 => ("RiverWords", "cycles", "Ljava/util/ArrayList;", true)
  | _ => ("RiverWords", "drawn", "J", false)
def tyX0 : Nat → FieldType := fun k => match k with
  | 0 => .object "RiverWords$Table"
  | 1 => .object "RiverWords$Table"
  | 2 => .object "RiverWords$Table"
  | 3 => .object "java/util/ArrayList"
  | 4 => .int
  | 5 => .object "java/lang/StringBuilder"
  | 6 => .int
  | 7 => .object "java/util/ArrayList"
  | 8 => .object "java/util/ArrayList"
  | _ => .long
abbrev wsX00 : List Cond := u_ws RX0 TX0 10
theorem nmX0 : ∀ a, a < 10 → ∀ b, b < 10 → a ≠ b → (TX0 a).2.1 ≠ (TX0 b).2.1 := by decide +kernel
theorem tyX0_ok : ∀ k, k < 10 → parseFieldDescriptor (TX0 k).2.2.1 = some (tyX0 k) := by decide +kernel
abbrev cX0_init : ByteArray := prog_1_method_1_code
def yX0_init : MethodName := ⟨RX0, "<init>", "()V"⟩
def dkwX0_init_3 : List UInt8 := [183, 0, 33, 181, 0, 50, 177]
abbrev dktX0_init_3 : List UInt8 := dkwX0_init_3 ++ []
def dkwX0_init_2 : List UInt8 := [16, 20, 183, 0, 40, 181, 0, 43, 42, 187, 0, 31, 89, 183, 0, 33, 181, 0, 47, 42, 187, 0, 31, 89]
abbrev dktX0_init_2 : List UInt8 := dkwX0_init_2 ++ dktX0_init_3
def dkwX0_init_1 : List UInt8 := [18, 26, 184, 0, 9, 181, 0, 28, 42, 187, 0, 31, 89, 183, 0, 33, 181, 0, 34, 42, 187, 0, 38, 89]
abbrev dktX0_init_1 : List UInt8 := dkwX0_init_1 ++ dktX0_init_2
def dkwX0_init_0 : List UInt8 := [42, 183, 0, 1, 42, 18, 7, 184, 0, 9, 181, 0, 15, 42, 18, 21, 184, 0, 9, 181, 0, 23, 42]
abbrev dktX0_init_0 : List UInt8 := dkwX0_init_0 ++ dktX0_init_1
theorem dksX0_init_0 : cX0_init.data.toList.drop 0 = dktX0_init_0 := by decide +kernel
theorem dksX0_init_1 : cX0_init.data.toList.drop 23 = dktX0_init_1 := dk_seg dksX0_init_0 23 rfl rfl
theorem dksX0_init_2 : cX0_init.data.toList.drop 47 = dktX0_init_2 := dk_seg dksX0_init_1 24 rfl rfl
theorem dksX0_init_3 : cX0_init.data.toList.drop 71 = dktX0_init_3 := dk_seg dksX0_init_2 24 rfl rfl
theorem dX0_init_0 : decode cX0_init 0 = .ok (.aload_n 0, 1) := dk_42 (dk_at dksX0_init_0 0 rfl rfl)
theorem dX0_init_1 : decode cX0_init 1 = .ok (.invokespecial 1, 3) := dk_183 0 1 (dk_at dksX0_init_0 1 rfl rfl)
theorem dX0_init_4 : decode cX0_init 4 = .ok (.aload_n 0, 1) := dk_42 (dk_at dksX0_init_0 4 rfl rfl)
theorem dX0_init_5 : decode cX0_init 5 = .ok (.ldc 7, 2) := dk_18 7 (dk_at dksX0_init_0 5 rfl rfl)
theorem dX0_init_7 : decode cX0_init 7 = .ok (.invokestatic 9, 3) := dk_184 0 9 (dk_at dksX0_init_0 7 rfl rfl)
theorem dX0_init_10 : decode cX0_init 10 = .ok (.putfield 15, 3) := dk_181 0 15 (dk_at dksX0_init_0 10 rfl rfl)
theorem dX0_init_13 : decode cX0_init 13 = .ok (.aload_n 0, 1) := dk_42 (dk_at dksX0_init_0 13 rfl rfl)
theorem dX0_init_14 : decode cX0_init 14 = .ok (.ldc 21, 2) := dk_18 21 (dk_at dksX0_init_0 14 rfl rfl)
theorem dX0_init_16 : decode cX0_init 16 = .ok (.invokestatic 9, 3) := dk_184 0 9 (dk_at dksX0_init_0 16 rfl rfl)
theorem dX0_init_19 : decode cX0_init 19 = .ok (.putfield 23, 3) := dk_181 0 23 (dk_at dksX0_init_0 19 rfl rfl)
theorem dX0_init_22 : decode cX0_init 22 = .ok (.aload_n 0, 1) := dk_42 (dk_at dksX0_init_0 22 rfl rfl)
theorem dX0_init_23 : decode cX0_init 23 = .ok (.ldc 26, 2) := dk_18 26 (dk_at dksX0_init_1 0 rfl rfl)
theorem dX0_init_25 : decode cX0_init 25 = .ok (.invokestatic 9, 3) := dk_184 0 9 (dk_at dksX0_init_1 2 rfl rfl)
theorem dX0_init_28 : decode cX0_init 28 = .ok (.putfield 28, 3) := dk_181 0 28 (dk_at dksX0_init_1 5 rfl rfl)
theorem dX0_init_31 : decode cX0_init 31 = .ok (.aload_n 0, 1) := dk_42 (dk_at dksX0_init_1 8 rfl rfl)
theorem dX0_init_32 : decode cX0_init 32 = .ok (.new 31, 3) := dk_187 0 31 (dk_at dksX0_init_1 9 rfl rfl)
theorem dX0_init_35 : decode cX0_init 35 = .ok (.dup, 1) := dk_89 (dk_at dksX0_init_1 12 rfl rfl)
theorem dX0_init_36 : decode cX0_init 36 = .ok (.invokespecial 33, 3) := dk_183 0 33 (dk_at dksX0_init_1 13 rfl rfl)
theorem dX0_init_39 : decode cX0_init 39 = .ok (.putfield 34, 3) := dk_181 0 34 (dk_at dksX0_init_1 16 rfl rfl)
theorem dX0_init_42 : decode cX0_init 42 = .ok (.aload_n 0, 1) := dk_42 (dk_at dksX0_init_1 19 rfl rfl)
theorem dX0_init_43 : decode cX0_init 43 = .ok (.new 38, 3) := dk_187 0 38 (dk_at dksX0_init_1 20 rfl rfl)
theorem dX0_init_46 : decode cX0_init 46 = .ok (.dup, 1) := dk_89 (dk_at dksX0_init_1 23 rfl rfl)
theorem dX0_init_47 : decode cX0_init 47 = .ok (.bipush 20, 2) := dk_16 20 (dk_at dksX0_init_2 0 rfl rfl)
theorem dX0_init_49 : decode cX0_init 49 = .ok (.invokespecial 40, 3) := dk_183 0 40 (dk_at dksX0_init_2 2 rfl rfl)
theorem dX0_init_52 : decode cX0_init 52 = .ok (.putfield 43, 3) := dk_181 0 43 (dk_at dksX0_init_2 5 rfl rfl)
theorem dX0_init_55 : decode cX0_init 55 = .ok (.aload_n 0, 1) := dk_42 (dk_at dksX0_init_2 8 rfl rfl)
theorem dX0_init_56 : decode cX0_init 56 = .ok (.new 31, 3) := dk_187 0 31 (dk_at dksX0_init_2 9 rfl rfl)
theorem dX0_init_59 : decode cX0_init 59 = .ok (.dup, 1) := dk_89 (dk_at dksX0_init_2 12 rfl rfl)
theorem dX0_init_60 : decode cX0_init 60 = .ok (.invokespecial 33, 3) := dk_183 0 33 (dk_at dksX0_init_2 13 rfl rfl)
theorem dX0_init_63 : decode cX0_init 63 = .ok (.putfield 47, 3) := dk_181 0 47 (dk_at dksX0_init_2 16 rfl rfl)
theorem dX0_init_66 : decode cX0_init 66 = .ok (.aload_n 0, 1) := dk_42 (dk_at dksX0_init_2 19 rfl rfl)
theorem dX0_init_67 : decode cX0_init 67 = .ok (.new 31, 3) := dk_187 0 31 (dk_at dksX0_init_2 20 rfl rfl)
theorem dX0_init_70 : decode cX0_init 70 = .ok (.dup, 1) := dk_89 (dk_at dksX0_init_2 23 rfl rfl)
theorem dX0_init_71 : decode cX0_init 71 = .ok (.invokespecial 33, 3) := dk_183 0 33 (dk_at dksX0_init_3 0 rfl rfl)
theorem dX0_init_74 : decode cX0_init 74 = .ok (.putfield 50, 3) := dk_181 0 50 (dk_at dksX0_init_3 3 rfl rfl)
theorem dX0_init_77 : decode cX0_init 77 = .ok (.return_, 1) := dk_177 (dk_at dksX0_init_3 6 rfl rfl)
abbrev cX0_letter : ByteArray := prog_1_method_9_code
def yX0_letter : MethodName := ⟨RX0, "letter", "(I)I"⟩
def dkwX0_letter_1 : List UInt8 := [160, 0, 6, 18, 105, 172, 42, 180, 0, 43, 27, 146, 182, 0, 117, 87, 42, 180, 0, 43, 182, 0, 116, 172]
abbrev dktX0_letter_1 : List UInt8 := dkwX0_letter_1 ++ []
def dkwX0_letter_0 : List UInt8 := [27, 16, 32, 16, 126, 184, 0, 97, 154, 0, 6, 18, 115, 172, 42, 180, 0, 43, 182, 0, 116, 16, 20]
abbrev dktX0_letter_0 : List UInt8 := dkwX0_letter_0 ++ dktX0_letter_1
theorem dksX0_letter_0 : cX0_letter.data.toList.drop 0 = dktX0_letter_0 := by decide +kernel
theorem dksX0_letter_1 : cX0_letter.data.toList.drop 23 = dktX0_letter_1 := dk_seg dksX0_letter_0 23 rfl rfl
theorem dX0_letter_0 : decode cX0_letter 0 = .ok (.iload_n 1, 1) := dk_27 (dk_at dksX0_letter_0 0 rfl rfl)
theorem dX0_letter_1 : decode cX0_letter 1 = .ok (.bipush 32, 2) := dk_16 32 (dk_at dksX0_letter_0 1 rfl rfl)
theorem dX0_letter_3 : decode cX0_letter 3 = .ok (.bipush 126, 2) := dk_16 126 (dk_at dksX0_letter_0 3 rfl rfl)
theorem dX0_letter_5 : decode cX0_letter 5 = .ok (.invokestatic 97, 3) := dk_184 0 97 (dk_at dksX0_letter_0 5 rfl rfl)
theorem dX0_letter_8 : decode cX0_letter 8 = .ok (.ifCond .ne 6, 3) := dk_154 0 6 (dk_at dksX0_letter_0 8 rfl rfl)
theorem dX0_letter_11 : decode cX0_letter 11 = .ok (.ldc 115, 2) := dk_18 115 (dk_at dksX0_letter_0 11 rfl rfl)
theorem dX0_letter_13 : decode cX0_letter 13 = .ok (.ireturn, 1) := dk_172 (dk_at dksX0_letter_0 13 rfl rfl)
theorem dX0_letter_14 : decode cX0_letter 14 = .ok (.aload_n 0, 1) := dk_42 (dk_at dksX0_letter_0 14 rfl rfl)
theorem dX0_letter_15 : decode cX0_letter 15 = .ok (.getfield 43, 3) := dk_180 0 43 (dk_at dksX0_letter_0 15 rfl rfl)
theorem dX0_letter_18 : decode cX0_letter 18 = .ok (.invokevirtual 116, 3) := dk_182 0 116 (dk_at dksX0_letter_0 18 rfl rfl)
theorem dX0_letter_21 : decode cX0_letter 21 = .ok (.bipush 20, 2) := dk_16 20 (dk_at dksX0_letter_0 21 rfl rfl)
theorem dX0_letter_23 : decode cX0_letter 23 = .ok (.if_icmp .ne 6, 3) := dk_160 0 6 (dk_at dksX0_letter_1 0 rfl rfl)
theorem dX0_letter_26 : decode cX0_letter 26 = .ok (.ldc 105, 2) := dk_18 105 (dk_at dksX0_letter_1 3 rfl rfl)
theorem dX0_letter_28 : decode cX0_letter 28 = .ok (.ireturn, 1) := dk_172 (dk_at dksX0_letter_1 5 rfl rfl)
theorem dX0_letter_29 : decode cX0_letter 29 = .ok (.aload_n 0, 1) := dk_42 (dk_at dksX0_letter_1 6 rfl rfl)
theorem dX0_letter_30 : decode cX0_letter 30 = .ok (.getfield 43, 3) := dk_180 0 43 (dk_at dksX0_letter_1 7 rfl rfl)
theorem dX0_letter_33 : decode cX0_letter 33 = .ok (.iload_n 1, 1) := dk_27 (dk_at dksX0_letter_1 10 rfl rfl)
theorem dX0_letter_34 : decode cX0_letter 34 = .ok (.i2c, 1) := dk_146 (dk_at dksX0_letter_1 11 rfl rfl)
theorem dX0_letter_35 : decode cX0_letter 35 = .ok (.invokevirtual 117, 3) := dk_182 0 117 (dk_at dksX0_letter_1 12 rfl rfl)
theorem dX0_letter_38 : decode cX0_letter 38 = .ok (.pop, 1) := dk_87 (dk_at dksX0_letter_1 15 rfl rfl)
theorem dX0_letter_39 : decode cX0_letter 39 = .ok (.aload_n 0, 1) := dk_42 (dk_at dksX0_letter_1 16 rfl rfl)
theorem dX0_letter_40 : decode cX0_letter 40 = .ok (.getfield 43, 3) := dk_180 0 43 (dk_at dksX0_letter_1 17 rfl rfl)
theorem dX0_letter_43 : decode cX0_letter 43 = .ok (.invokevirtual 116, 3) := dk_182 0 116 (dk_at dksX0_letter_1 20 rfl rfl)
theorem dX0_letter_46 : decode cX0_letter 46 = .ok (.ireturn, 1) := dk_172 (dk_at dksX0_letter_1 23 rfl rfl)
abbrev cX0_in : ByteArray := prog_1_method_2_code
def yX0_in : MethodName := ⟨RX0, "in", "(III)Z"⟩
def dkwX0_in_0 : List UInt8 := [26, 27, 161, 0, 12, 26, 28, 163, 0, 7, 4, 167, 0, 4, 3, 172]
abbrev dktX0_in_0 : List UInt8 := dkwX0_in_0 ++ []
theorem dksX0_in_0 : cX0_in.data.toList.drop 0 = dktX0_in_0 := by decide +kernel
theorem dX0_in_0 : decode cX0_in 0 = .ok (.iload_n 0, 1) := dk_26 (dk_at dksX0_in_0 0 rfl rfl)
theorem dX0_in_1 : decode cX0_in 1 = .ok (.iload_n 1, 1) := dk_27 (dk_at dksX0_in_0 1 rfl rfl)
theorem dX0_in_2 : decode cX0_in 2 = .ok (.if_icmp .lt 12, 3) := dk_161 0 12 (dk_at dksX0_in_0 2 rfl rfl)
theorem dX0_in_5 : decode cX0_in 5 = .ok (.iload_n 0, 1) := dk_26 (dk_at dksX0_in_0 5 rfl rfl)
theorem dX0_in_6 : decode cX0_in 6 = .ok (.iload_n 2, 1) := dk_28 (dk_at dksX0_in_0 6 rfl rfl)
theorem dX0_in_7 : decode cX0_in 7 = .ok (.if_icmp .gt 7, 3) := dk_163 0 7 (dk_at dksX0_in_0 7 rfl rfl)
theorem dX0_in_10 : decode cX0_in 10 = .ok (.iconst 1, 1) := dk_4 (dk_at dksX0_in_0 10 rfl rfl)
theorem dX0_in_11 : decode cX0_in 11 = .ok (.goto 4, 3) := dk_167 0 4 (dk_at dksX0_in_0 11 rfl rfl)
theorem dX0_in_14 : decode cX0_in 14 = .ok (.iconst 0, 1) := dk_3 (dk_at dksX0_in_0 14 rfl rfl)
theorem dX0_in_15 : decode cX0_in 15 = .ok (.ireturn, 1) := dk_172 (dk_at dksX0_in_0 15 rfl rfl)
abbrev cX0_blank : ByteArray := prog_1_method_10_code
def yX0_blank : MethodName := ⟨RX0, "blank", "()I"⟩
def dkwX0_blank_0 : List UInt8 := [42, 180, 0, 43, 182, 0, 116, 60, 42, 180, 0, 43, 3, 182, 0, 121, 27, 172]
abbrev dktX0_blank_0 : List UInt8 := dkwX0_blank_0 ++ []
theorem dksX0_blank_0 : cX0_blank.data.toList.drop 0 = dktX0_blank_0 := by decide +kernel
theorem dX0_blank_0 : decode cX0_blank 0 = .ok (.aload_n 0, 1) := dk_42 (dk_at dksX0_blank_0 0 rfl rfl)
theorem dX0_blank_1 : decode cX0_blank 1 = .ok (.getfield 43, 3) := dk_180 0 43 (dk_at dksX0_blank_0 1 rfl rfl)
theorem dX0_blank_4 : decode cX0_blank 4 = .ok (.invokevirtual 116, 3) := dk_182 0 116 (dk_at dksX0_blank_0 4 rfl rfl)
theorem dX0_blank_7 : decode cX0_blank 7 = .ok (.istore_n 1, 1) := dk_60 (dk_at dksX0_blank_0 7 rfl rfl)
theorem dX0_blank_8 : decode cX0_blank 8 = .ok (.aload_n 0, 1) := dk_42 (dk_at dksX0_blank_0 8 rfl rfl)
theorem dX0_blank_9 : decode cX0_blank 9 = .ok (.getfield 43, 3) := dk_180 0 43 (dk_at dksX0_blank_0 9 rfl rfl)
theorem dX0_blank_12 : decode cX0_blank 12 = .ok (.iconst 0, 1) := dk_3 (dk_at dksX0_blank_0 12 rfl rfl)
theorem dX0_blank_13 : decode cX0_blank 13 = .ok (.invokevirtual 121, 3) := dk_182 0 121 (dk_at dksX0_blank_0 13 rfl rfl)
theorem dX0_blank_16 : decode cX0_blank 16 = .ok (.iload_n 1, 1) := dk_27 (dk_at dksX0_blank_0 16 rfl rfl)
theorem dX0_blank_17 : decode cX0_blank 17 = .ok (.ireturn, 1) := dk_172 (dk_at dksX0_blank_0 17 rfl rfl)
abbrev cX0_fault : ByteArray := prog_1_method_11_code
def yX0_fault : MethodName := ⟨RX0, "fault", "()I"⟩
def dkwX0_fault_0 : List UInt8 := [187, 0, 124, 89, 42, 180, 0, 43, 183, 0, 126, 180, 0, 129, 172]
abbrev dktX0_fault_0 : List UInt8 := dkwX0_fault_0 ++ []
theorem dksX0_fault_0 : cX0_fault.data.toList.drop 0 = dktX0_fault_0 := by decide +kernel
theorem dX0_fault_0 : decode cX0_fault 0 = .ok (.new 124, 3) := dk_187 0 124 (dk_at dksX0_fault_0 0 rfl rfl)
theorem dX0_fault_3 : decode cX0_fault 3 = .ok (.dup, 1) := dk_89 (dk_at dksX0_fault_0 3 rfl rfl)
theorem dX0_fault_4 : decode cX0_fault 4 = .ok (.aload_n 0, 1) := dk_42 (dk_at dksX0_fault_0 4 rfl rfl)
theorem dX0_fault_5 : decode cX0_fault 5 = .ok (.getfield 43, 3) := dk_180 0 43 (dk_at dksX0_fault_0 5 rfl rfl)
theorem dX0_fault_8 : decode cX0_fault 8 = .ok (.invokespecial 126, 3) := dk_183 0 126 (dk_at dksX0_fault_0 8 rfl rfl)
theorem dX0_fault_11 : decode cX0_fault 11 = .ok (.getfield 129, 3) := dk_180 0 129 (dk_at dksX0_fault_0 11 rfl rfl)
theorem dX0_fault_14 : decode cX0_fault 14 = .ok (.ireturn, 1) := dk_172 (dk_at dksX0_fault_0 14 rfl rfl)
abbrev cX0_word : ByteArray := prog_1_method_12_code
def yX0_word : MethodName := ⟨RX0, "word", "()I"⟩
def dkwX0_word_3 : List UInt8 := [182, 0, 121, 28, 172]
abbrev dktX0_word_3 : List UInt8 := dkwX0_word_3 ++ []
def dkwX0_word_2 : List UInt8 := [61, 28, 18, 105, 159, 0, 21, 42, 89, 180, 0, 143, 4, 96, 181, 0, 143, 42, 180, 0, 43, 3]
abbrev dktX0_word_2 : List UInt8 := dkwX0_word_2 ++ dktX0_word_3
def dkwX0_word_1 : List UInt8 := [161, 0, 10, 43, 180, 0, 129, 154, 0, 6, 18, 104, 172, 42, 43, 180, 0, 132, 182, 0, 135, 182, 0, 139]
abbrev dktX0_word_1 : List UInt8 := dkwX0_word_1 ++ dktX0_word_2
def dkwX0_word_0 : List UInt8 := [187, 0, 124, 89, 42, 180, 0, 43, 183, 0, 126, 76, 43, 180, 0, 129, 42, 180, 0, 43, 182, 0, 116]
abbrev dktX0_word_0 : List UInt8 := dkwX0_word_0 ++ dktX0_word_1
theorem dksX0_word_0 : cX0_word.data.toList.drop 0 = dktX0_word_0 := by decide +kernel
theorem dksX0_word_1 : cX0_word.data.toList.drop 23 = dktX0_word_1 := dk_seg dksX0_word_0 23 rfl rfl
theorem dksX0_word_2 : cX0_word.data.toList.drop 47 = dktX0_word_2 := dk_seg dksX0_word_1 24 rfl rfl
theorem dksX0_word_3 : cX0_word.data.toList.drop 69 = dktX0_word_3 := dk_seg dksX0_word_2 22 rfl rfl
theorem dX0_word_0 : decode cX0_word 0 = .ok (.new 124, 3) := dk_187 0 124 (dk_at dksX0_word_0 0 rfl rfl)
theorem dX0_word_3 : decode cX0_word 3 = .ok (.dup, 1) := dk_89 (dk_at dksX0_word_0 3 rfl rfl)
theorem dX0_word_4 : decode cX0_word 4 = .ok (.aload_n 0, 1) := dk_42 (dk_at dksX0_word_0 4 rfl rfl)
theorem dX0_word_5 : decode cX0_word 5 = .ok (.getfield 43, 3) := dk_180 0 43 (dk_at dksX0_word_0 5 rfl rfl)
theorem dX0_word_8 : decode cX0_word 8 = .ok (.invokespecial 126, 3) := dk_183 0 126 (dk_at dksX0_word_0 8 rfl rfl)
theorem dX0_word_11 : decode cX0_word 11 = .ok (.astore_n 1, 1) := dk_76 (dk_at dksX0_word_0 11 rfl rfl)
theorem dX0_word_12 : decode cX0_word 12 = .ok (.aload_n 1, 1) := dk_43 (dk_at dksX0_word_0 12 rfl rfl)
theorem dX0_word_13 : decode cX0_word 13 = .ok (.getfield 129, 3) := dk_180 0 129 (dk_at dksX0_word_0 13 rfl rfl)
theorem dX0_word_16 : decode cX0_word 16 = .ok (.aload_n 0, 1) := dk_42 (dk_at dksX0_word_0 16 rfl rfl)
theorem dX0_word_17 : decode cX0_word 17 = .ok (.getfield 43, 3) := dk_180 0 43 (dk_at dksX0_word_0 17 rfl rfl)
theorem dX0_word_20 : decode cX0_word 20 = .ok (.invokevirtual 116, 3) := dk_182 0 116 (dk_at dksX0_word_0 20 rfl rfl)
theorem dX0_word_23 : decode cX0_word 23 = .ok (.if_icmp .lt 10, 3) := dk_161 0 10 (dk_at dksX0_word_1 0 rfl rfl)
theorem dX0_word_26 : decode cX0_word 26 = .ok (.aload_n 1, 1) := dk_43 (dk_at dksX0_word_1 3 rfl rfl)
theorem dX0_word_27 : decode cX0_word 27 = .ok (.getfield 129, 3) := dk_180 0 129 (dk_at dksX0_word_1 4 rfl rfl)
theorem dX0_word_30 : decode cX0_word 30 = .ok (.ifCond .ne 6, 3) := dk_154 0 6 (dk_at dksX0_word_1 7 rfl rfl)
theorem dX0_word_33 : decode cX0_word 33 = .ok (.ldc 104, 2) := dk_18 104 (dk_at dksX0_word_1 10 rfl rfl)
theorem dX0_word_35 : decode cX0_word 35 = .ok (.ireturn, 1) := dk_172 (dk_at dksX0_word_1 12 rfl rfl)
theorem dX0_word_36 : decode cX0_word 36 = .ok (.aload_n 0, 1) := dk_42 (dk_at dksX0_word_1 13 rfl rfl)
theorem dX0_word_37 : decode cX0_word 37 = .ok (.aload_n 1, 1) := dk_43 (dk_at dksX0_word_1 14 rfl rfl)
theorem dX0_word_38 : decode cX0_word 38 = .ok (.getfield 132, 3) := dk_180 0 132 (dk_at dksX0_word_1 15 rfl rfl)
theorem dX0_word_41 : decode cX0_word 41 = .ok (.invokevirtual 135, 3) := dk_182 0 135 (dk_at dksX0_word_1 18 rfl rfl)
theorem dX0_word_44 : decode cX0_word 44 = .ok (.invokevirtual 139, 3) := dk_182 0 139 (dk_at dksX0_word_1 21 rfl rfl)
theorem dX0_word_47 : decode cX0_word 47 = .ok (.istore_n 2, 1) := dk_61 (dk_at dksX0_word_2 0 rfl rfl)
theorem dX0_word_48 : decode cX0_word 48 = .ok (.iload_n 2, 1) := dk_28 (dk_at dksX0_word_2 1 rfl rfl)
theorem dX0_word_49 : decode cX0_word 49 = .ok (.ldc 105, 2) := dk_18 105 (dk_at dksX0_word_2 2 rfl rfl)
theorem dX0_word_51 : decode cX0_word 51 = .ok (.if_icmp .eq 21, 3) := dk_159 0 21 (dk_at dksX0_word_2 4 rfl rfl)
theorem dX0_word_54 : decode cX0_word 54 = .ok (.aload_n 0, 1) := dk_42 (dk_at dksX0_word_2 7 rfl rfl)
theorem dX0_word_55 : decode cX0_word 55 = .ok (.dup, 1) := dk_89 (dk_at dksX0_word_2 8 rfl rfl)
theorem dX0_word_56 : decode cX0_word 56 = .ok (.getfield 143, 3) := dk_180 0 143 (dk_at dksX0_word_2 9 rfl rfl)
theorem dX0_word_59 : decode cX0_word 59 = .ok (.iconst 1, 1) := dk_4 (dk_at dksX0_word_2 12 rfl rfl)
theorem dX0_word_60 : decode cX0_word 60 = .ok (.iadd, 1) := dk_96 (dk_at dksX0_word_2 13 rfl rfl)
theorem dX0_word_61 : decode cX0_word 61 = .ok (.putfield 143, 3) := dk_181 0 143 (dk_at dksX0_word_2 14 rfl rfl)
theorem dX0_word_64 : decode cX0_word 64 = .ok (.aload_n 0, 1) := dk_42 (dk_at dksX0_word_2 17 rfl rfl)
theorem dX0_word_65 : decode cX0_word 65 = .ok (.getfield 43, 3) := dk_180 0 43 (dk_at dksX0_word_2 18 rfl rfl)
theorem dX0_word_68 : decode cX0_word 68 = .ok (.iconst 0, 1) := dk_3 (dk_at dksX0_word_2 21 rfl rfl)
theorem dX0_word_69 : decode cX0_word 69 = .ok (.invokevirtual 121, 3) := dk_182 0 121 (dk_at dksX0_word_3 0 rfl rfl)
theorem dX0_word_72 : decode cX0_word 72 = .ok (.iload_n 2, 1) := dk_28 (dk_at dksX0_word_3 3 rfl rfl)
theorem dX0_word_73 : decode cX0_word 73 = .ok (.ireturn, 1) := dk_172 (dk_at dksX0_word_3 4 rfl rfl)
abbrev cX0_comes : ByteArray := prog_1_method_8_code
def yX0_comes : MethodName := ⟨RX0, "comes", "(Ljava/lang/String;)I"⟩
def dkwX0_comes_2 : List UInt8 := [182, 0, 94, 4, 100, 172]
abbrev dktX0_comes_2 : List UInt8 := dkwX0_comes_2 ++ []
def dkwX0_comes_1 : List UInt8 := [18, 105, 172, 42, 180, 0, 34, 187, 0, 106, 89, 42, 43, 183, 0, 108, 182, 0, 111, 87, 42, 180, 0, 34]
abbrev dktX0_comes_1 : List UInt8 := dkwX0_comes_1 ++ dktX0_comes_2
def dkwX0_comes_0 : List UInt8 := [43, 182, 0, 101, 16, 20, 164, 0, 6, 18, 104, 172, 42, 180, 0, 34, 182, 0, 94, 16, 6, 160, 0, 6]
abbrev dktX0_comes_0 : List UInt8 := dkwX0_comes_0 ++ dktX0_comes_1
theorem dksX0_comes_0 : cX0_comes.data.toList.drop 0 = dktX0_comes_0 := by decide +kernel
theorem dksX0_comes_1 : cX0_comes.data.toList.drop 24 = dktX0_comes_1 := dk_seg dksX0_comes_0 24 rfl rfl
theorem dksX0_comes_2 : cX0_comes.data.toList.drop 48 = dktX0_comes_2 := dk_seg dksX0_comes_1 24 rfl rfl
theorem dX0_comes_0 : decode cX0_comes 0 = .ok (.aload_n 1, 1) := dk_43 (dk_at dksX0_comes_0 0 rfl rfl)
theorem dX0_comes_1 : decode cX0_comes 1 = .ok (.invokevirtual 101, 3) := dk_182 0 101 (dk_at dksX0_comes_0 1 rfl rfl)
theorem dX0_comes_4 : decode cX0_comes 4 = .ok (.bipush 20, 2) := dk_16 20 (dk_at dksX0_comes_0 4 rfl rfl)
theorem dX0_comes_6 : decode cX0_comes 6 = .ok (.if_icmp .le 6, 3) := dk_164 0 6 (dk_at dksX0_comes_0 6 rfl rfl)
theorem dX0_comes_9 : decode cX0_comes 9 = .ok (.ldc 104, 2) := dk_18 104 (dk_at dksX0_comes_0 9 rfl rfl)
theorem dX0_comes_11 : decode cX0_comes 11 = .ok (.ireturn, 1) := dk_172 (dk_at dksX0_comes_0 11 rfl rfl)
theorem dX0_comes_12 : decode cX0_comes 12 = .ok (.aload_n 0, 1) := dk_42 (dk_at dksX0_comes_0 12 rfl rfl)
theorem dX0_comes_13 : decode cX0_comes 13 = .ok (.getfield 34, 3) := dk_180 0 34 (dk_at dksX0_comes_0 13 rfl rfl)
theorem dX0_comes_16 : decode cX0_comes 16 = .ok (.invokevirtual 94, 3) := dk_182 0 94 (dk_at dksX0_comes_0 16 rfl rfl)
theorem dX0_comes_19 : decode cX0_comes 19 = .ok (.bipush 6, 2) := dk_16 6 (dk_at dksX0_comes_0 19 rfl rfl)
theorem dX0_comes_21 : decode cX0_comes 21 = .ok (.if_icmp .ne 6, 3) := dk_160 0 6 (dk_at dksX0_comes_0 21 rfl rfl)
theorem dX0_comes_24 : decode cX0_comes 24 = .ok (.ldc 105, 2) := dk_18 105 (dk_at dksX0_comes_1 0 rfl rfl)
theorem dX0_comes_26 : decode cX0_comes 26 = .ok (.ireturn, 1) := dk_172 (dk_at dksX0_comes_1 2 rfl rfl)
theorem dX0_comes_27 : decode cX0_comes 27 = .ok (.aload_n 0, 1) := dk_42 (dk_at dksX0_comes_1 3 rfl rfl)
theorem dX0_comes_28 : decode cX0_comes 28 = .ok (.getfield 34, 3) := dk_180 0 34 (dk_at dksX0_comes_1 4 rfl rfl)
theorem dX0_comes_31 : decode cX0_comes 31 = .ok (.new 106, 3) := dk_187 0 106 (dk_at dksX0_comes_1 7 rfl rfl)
theorem dX0_comes_34 : decode cX0_comes 34 = .ok (.dup, 1) := dk_89 (dk_at dksX0_comes_1 10 rfl rfl)
theorem dX0_comes_35 : decode cX0_comes 35 = .ok (.aload_n 0, 1) := dk_42 (dk_at dksX0_comes_1 11 rfl rfl)
theorem dX0_comes_36 : decode cX0_comes 36 = .ok (.aload_n 1, 1) := dk_43 (dk_at dksX0_comes_1 12 rfl rfl)
theorem dX0_comes_37 : decode cX0_comes 37 = .ok (.invokespecial 108, 3) := dk_183 0 108 (dk_at dksX0_comes_1 13 rfl rfl)
theorem dX0_comes_40 : decode cX0_comes 40 = .ok (.invokevirtual 111, 3) := dk_182 0 111 (dk_at dksX0_comes_1 16 rfl rfl)
theorem dX0_comes_43 : decode cX0_comes 43 = .ok (.pop, 1) := dk_87 (dk_at dksX0_comes_1 19 rfl rfl)
theorem dX0_comes_44 : decode cX0_comes 44 = .ok (.aload_n 0, 1) := dk_42 (dk_at dksX0_comes_1 20 rfl rfl)
theorem dX0_comes_45 : decode cX0_comes 45 = .ok (.getfield 34, 3) := dk_180 0 34 (dk_at dksX0_comes_1 21 rfl rfl)
theorem dX0_comes_48 : decode cX0_comes 48 = .ok (.invokevirtual 94, 3) := dk_182 0 94 (dk_at dksX0_comes_2 0 rfl rfl)
theorem dX0_comes_51 : decode cX0_comes 51 = .ok (.iconst 1, 1) := dk_4 (dk_at dksX0_comes_2 3 rfl rfl)
theorem dX0_comes_52 : decode cX0_comes 52 = .ok (.isub, 1) := dk_100 (dk_at dksX0_comes_2 4 rfl rfl)
theorem dX0_comes_53 : decode cX0_comes 53 = .ok (.ireturn, 1) := dk_172 (dk_at dksX0_comes_2 5 rfl rfl)
abbrev cX0_tableOf : ByteArray := prog_1_method_4_code
def yX0_tableOf : MethodName := ⟨RX0, "tableOf", "(Ljava/lang/CharSequence;)LRiverWords$Table;"⟩
def dkwX0_tableOf_2 : List UInt8 := [77, 132, 3, 1, 167, 255, 215, 44, 176]
abbrev dktX0_tableOf_2 : List UInt8 := dkwX0_tableOf_2 ++ []
def dkwX0_tableOf_1 : List UInt8 := [185, 0, 65, 2, 0, 16, 76, 160, 0, 10, 42, 180, 0, 23, 167, 0, 7, 42, 180, 0, 28, 182, 0, 69]
abbrev dktX0_tableOf_1 : List UInt8 := dkwX0_tableOf_1 ++ dktX0_tableOf_2
def dkwX0_tableOf_0 : List UInt8 := [42, 180, 0, 15, 77, 3, 62, 29, 43, 185, 0, 59, 1, 0, 162, 0, 37, 44, 43, 29]
abbrev dktX0_tableOf_0 : List UInt8 := dkwX0_tableOf_0 ++ dktX0_tableOf_1
theorem dksX0_tableOf_0 : cX0_tableOf.data.toList.drop 0 = dktX0_tableOf_0 := by decide +kernel
theorem dksX0_tableOf_1 : cX0_tableOf.data.toList.drop 20 = dktX0_tableOf_1 := dk_seg dksX0_tableOf_0 20 rfl rfl
theorem dksX0_tableOf_2 : cX0_tableOf.data.toList.drop 44 = dktX0_tableOf_2 := dk_seg dksX0_tableOf_1 24 rfl rfl
theorem dX0_tableOf_0 : decode cX0_tableOf 0 = .ok (.aload_n 0, 1) := dk_42 (dk_at dksX0_tableOf_0 0 rfl rfl)
theorem dX0_tableOf_1 : decode cX0_tableOf 1 = .ok (.getfield 15, 3) := dk_180 0 15 (dk_at dksX0_tableOf_0 1 rfl rfl)
theorem dX0_tableOf_4 : decode cX0_tableOf 4 = .ok (.astore_n 2, 1) := dk_77 (dk_at dksX0_tableOf_0 4 rfl rfl)
theorem dX0_tableOf_5 : decode cX0_tableOf 5 = .ok (.iconst 0, 1) := dk_3 (dk_at dksX0_tableOf_0 5 rfl rfl)
theorem dX0_tableOf_6 : decode cX0_tableOf 6 = .ok (.istore_n 3, 1) := dk_62 (dk_at dksX0_tableOf_0 6 rfl rfl)
theorem dX0_tableOf_7 : decode cX0_tableOf 7 = .ok (.iload_n 3, 1) := dk_29 (dk_at dksX0_tableOf_0 7 rfl rfl)
theorem dX0_tableOf_8 : decode cX0_tableOf 8 = .ok (.aload_n 1, 1) := dk_43 (dk_at dksX0_tableOf_0 8 rfl rfl)
theorem dX0_tableOf_9 : decode cX0_tableOf 9 = .ok (.invokeinterface 59 1, 5) := by decide +kernel
theorem dX0_tableOf_14 : decode cX0_tableOf 14 = .ok (.if_icmp .ge 37, 3) := dk_162 0 37 (dk_at dksX0_tableOf_0 14 rfl rfl)
theorem dX0_tableOf_17 : decode cX0_tableOf 17 = .ok (.aload_n 2, 1) := dk_44 (dk_at dksX0_tableOf_0 17 rfl rfl)
theorem dX0_tableOf_18 : decode cX0_tableOf 18 = .ok (.aload_n 1, 1) := dk_43 (dk_at dksX0_tableOf_0 18 rfl rfl)
theorem dX0_tableOf_19 : decode cX0_tableOf 19 = .ok (.iload_n 3, 1) := dk_29 (dk_at dksX0_tableOf_0 19 rfl rfl)
theorem dX0_tableOf_20 : decode cX0_tableOf 20 = .ok (.invokeinterface 65 2, 5) := by decide +kernel
theorem dX0_tableOf_25 : decode cX0_tableOf 25 = .ok (.bipush 76, 2) := dk_16 76 (dk_at dksX0_tableOf_1 5 rfl rfl)
theorem dX0_tableOf_27 : decode cX0_tableOf 27 = .ok (.if_icmp .ne 10, 3) := dk_160 0 10 (dk_at dksX0_tableOf_1 7 rfl rfl)
theorem dX0_tableOf_30 : decode cX0_tableOf 30 = .ok (.aload_n 0, 1) := dk_42 (dk_at dksX0_tableOf_1 10 rfl rfl)
theorem dX0_tableOf_31 : decode cX0_tableOf 31 = .ok (.getfield 23, 3) := dk_180 0 23 (dk_at dksX0_tableOf_1 11 rfl rfl)
theorem dX0_tableOf_34 : decode cX0_tableOf 34 = .ok (.goto 7, 3) := dk_167 0 7 (dk_at dksX0_tableOf_1 14 rfl rfl)
theorem dX0_tableOf_37 : decode cX0_tableOf 37 = .ok (.aload_n 0, 1) := dk_42 (dk_at dksX0_tableOf_1 17 rfl rfl)
theorem dX0_tableOf_38 : decode cX0_tableOf 38 = .ok (.getfield 28, 3) := dk_180 0 28 (dk_at dksX0_tableOf_1 18 rfl rfl)
theorem dX0_tableOf_41 : decode cX0_tableOf 41 = .ok (.invokevirtual 69, 3) := dk_182 0 69 (dk_at dksX0_tableOf_1 21 rfl rfl)
theorem dX0_tableOf_44 : decode cX0_tableOf 44 = .ok (.astore_n 2, 1) := dk_77 (dk_at dksX0_tableOf_2 0 rfl rfl)
theorem dX0_tableOf_45 : decode cX0_tableOf 45 = .ok (.iinc 3 1, 3) := dk_132 3 1 (dk_at dksX0_tableOf_2 1 rfl rfl)
theorem dX0_tableOf_48 : decode cX0_tableOf 48 = .ok (.goto (-41), 3) := dk_167 255 215 (dk_at dksX0_tableOf_2 4 rfl rfl)
theorem dX0_tableOf_51 : decode cX0_tableOf 51 = .ok (.aload_n 2, 1) := dk_44 (dk_at dksX0_tableOf_2 7 rfl rfl)
theorem dX0_tableOf_52 : decode cX0_tableOf 52 = .ok (.areturn, 1) := dk_176 (dk_at dksX0_tableOf_2 8 rfl rfl)
abbrev cX0_road : ByteArray := prog_1_method_15_code
def yX0_road : MethodName := ⟨RX0, "road", "(II)I"⟩
def dkwX0_road_1 : List UInt8 := [180, 0, 34, 27, 182, 0, 193, 192, 0, 106, 28, 182, 0, 197, 167, 0, 5, 18, 115, 172]
abbrev dktX0_road_1 : List UInt8 := dkwX0_road_1 ++ []
def dkwX0_road_0 : List UInt8 := [42, 27, 182, 0, 188, 154, 0, 6, 18, 192, 172, 28, 3, 16, 9, 184, 0, 97, 153, 0, 22, 42, 42]
abbrev dktX0_road_0 : List UInt8 := dkwX0_road_0 ++ dktX0_road_1
theorem dksX0_road_0 : cX0_road.data.toList.drop 0 = dktX0_road_0 := by decide +kernel
theorem dksX0_road_1 : cX0_road.data.toList.drop 23 = dktX0_road_1 := dk_seg dksX0_road_0 23 rfl rfl
theorem dX0_road_0 : decode cX0_road 0 = .ok (.aload_n 0, 1) := dk_42 (dk_at dksX0_road_0 0 rfl rfl)
theorem dX0_road_1 : decode cX0_road 1 = .ok (.iload_n 1, 1) := dk_27 (dk_at dksX0_road_0 1 rfl rfl)
theorem dX0_road_2 : decode cX0_road 2 = .ok (.invokevirtual 188, 3) := dk_182 0 188 (dk_at dksX0_road_0 2 rfl rfl)
theorem dX0_road_5 : decode cX0_road 5 = .ok (.ifCond .ne 6, 3) := dk_154 0 6 (dk_at dksX0_road_0 5 rfl rfl)
theorem dX0_road_8 : decode cX0_road 8 = .ok (.ldc 192, 2) := dk_18 192 (dk_at dksX0_road_0 8 rfl rfl)
theorem dX0_road_10 : decode cX0_road 10 = .ok (.ireturn, 1) := dk_172 (dk_at dksX0_road_0 10 rfl rfl)
theorem dX0_road_11 : decode cX0_road 11 = .ok (.iload_n 2, 1) := dk_28 (dk_at dksX0_road_0 11 rfl rfl)
theorem dX0_road_12 : decode cX0_road 12 = .ok (.iconst 0, 1) := dk_3 (dk_at dksX0_road_0 12 rfl rfl)
theorem dX0_road_13 : decode cX0_road 13 = .ok (.bipush 9, 2) := dk_16 9 (dk_at dksX0_road_0 13 rfl rfl)
theorem dX0_road_15 : decode cX0_road 15 = .ok (.invokestatic 97, 3) := dk_184 0 97 (dk_at dksX0_road_0 15 rfl rfl)
theorem dX0_road_18 : decode cX0_road 18 = .ok (.ifCond .eq 22, 3) := dk_153 0 22 (dk_at dksX0_road_0 18 rfl rfl)
theorem dX0_road_21 : decode cX0_road 21 = .ok (.aload_n 0, 1) := dk_42 (dk_at dksX0_road_0 21 rfl rfl)
theorem dX0_road_22 : decode cX0_road 22 = .ok (.aload_n 0, 1) := dk_42 (dk_at dksX0_road_0 22 rfl rfl)
theorem dX0_road_23 : decode cX0_road 23 = .ok (.getfield 34, 3) := dk_180 0 34 (dk_at dksX0_road_1 0 rfl rfl)
theorem dX0_road_26 : decode cX0_road 26 = .ok (.iload_n 1, 1) := dk_27 (dk_at dksX0_road_1 3 rfl rfl)
theorem dX0_road_27 : decode cX0_road 27 = .ok (.invokevirtual 193, 3) := dk_182 0 193 (dk_at dksX0_road_1 4 rfl rfl)
theorem dX0_road_30 : decode cX0_road 30 = .ok (.checkcast 106, 3) := dk_192 0 106 (dk_at dksX0_road_1 7 rfl rfl)
theorem dX0_road_33 : decode cX0_road 33 = .ok (.iload_n 2, 1) := dk_28 (dk_at dksX0_road_1 10 rfl rfl)
theorem dX0_road_34 : decode cX0_road 34 = .ok (.invokevirtual 197, 3) := dk_182 0 197 (dk_at dksX0_road_1 11 rfl rfl)
theorem dX0_road_37 : decode cX0_road 37 = .ok (.goto 5, 3) := dk_167 0 5 (dk_at dksX0_road_1 14 rfl rfl)
theorem dX0_road_40 : decode cX0_road 40 = .ok (.ldc 115, 2) := dk_18 115 (dk_at dksX0_road_1 17 rfl rfl)
theorem dX0_road_42 : decode cX0_road 42 = .ok (.ireturn, 1) := dk_172 (dk_at dksX0_road_1 19 rfl rfl)
abbrev cX0_isRoad : ByteArray := prog_1_method_7_code
def yX0_isRoad : MethodName := ⟨RX0, "isRoad", "(I)Z"⟩
def dkwX0_isRoad_0 : List UInt8 := [27, 3, 42, 180, 0, 34, 182, 0, 94, 4, 100, 184, 0, 97, 172]
abbrev dktX0_isRoad_0 : List UInt8 := dkwX0_isRoad_0 ++ []
theorem dksX0_isRoad_0 : cX0_isRoad.data.toList.drop 0 = dktX0_isRoad_0 := by decide +kernel
theorem dX0_isRoad_0 : decode cX0_isRoad 0 = .ok (.iload_n 1, 1) := dk_27 (dk_at dksX0_isRoad_0 0 rfl rfl)
theorem dX0_isRoad_1 : decode cX0_isRoad 1 = .ok (.iconst 0, 1) := dk_3 (dk_at dksX0_isRoad_0 1 rfl rfl)
theorem dX0_isRoad_2 : decode cX0_isRoad 2 = .ok (.aload_n 0, 1) := dk_42 (dk_at dksX0_isRoad_0 2 rfl rfl)
theorem dX0_isRoad_3 : decode cX0_isRoad 3 = .ok (.getfield 34, 3) := dk_180 0 34 (dk_at dksX0_isRoad_0 3 rfl rfl)
theorem dX0_isRoad_6 : decode cX0_isRoad 6 = .ok (.invokevirtual 94, 3) := dk_182 0 94 (dk_at dksX0_isRoad_0 6 rfl rfl)
theorem dX0_isRoad_9 : decode cX0_isRoad 9 = .ok (.iconst 1, 1) := dk_4 (dk_at dksX0_isRoad_0 9 rfl rfl)
theorem dX0_isRoad_10 : decode cX0_isRoad 10 = .ok (.isub, 1) := dk_100 (dk_at dksX0_isRoad_0 10 rfl rfl)
theorem dX0_isRoad_11 : decode cX0_isRoad 11 = .ok (.invokestatic 97, 3) := dk_184 0 97 (dk_at dksX0_isRoad_0 11 rfl rfl)
theorem dX0_isRoad_14 : decode cX0_isRoad 14 = .ok (.ireturn, 1) := dk_172 (dk_at dksX0_isRoad_0 14 rfl rfl)
abbrev cX0_roadTold : ByteArray := prog_1_method_14_code
def yX0_roadTold : MethodName := ⟨RX0, "roadTold", "(LRiverWords$Road;I)I"⟩
def dkwX0_roadTold_7 : List UInt8 := [184, 0, 181, 184, 0, 173, 172]
abbrev dktX0_roadTold_7 : List UInt8 := dkwX0_roadTold_7 ++ []
def dkwX0_roadTold_6 : List UInt8 := [184, 0, 181, 184, 0, 173, 167, 0, 23, 43, 180, 0, 154, 43, 180, 0, 154, 184, 0, 185, 184, 0, 177]
abbrev dktX0_roadTold_6 : List UInt8 := dkwX0_roadTold_6 ++ dktX0_roadTold_7
def dkwX0_roadTold_5 : List UInt8 := [184, 0, 177, 184, 0, 181, 184, 0, 173, 167, 0, 43, 43, 180, 0, 154, 43, 180, 0, 154, 184, 0, 185]
abbrev dktX0_roadTold_5 : List UInt8 := dkwX0_roadTold_5 ++ dktX0_roadTold_6
def dkwX0_roadTold_4 : List UInt8 := [182, 0, 166, 167, 0, 73, 43, 182, 0, 169, 184, 0, 173, 167, 0, 63, 43, 180, 0, 154, 43, 180, 0, 154]
abbrev dktX0_roadTold_4 : List UInt8 := dkwX0_roadTold_4 ++ dktX0_roadTold_5
def dkwX0_roadTold_3 : List UInt8 := [167, 0, 100, 43, 182, 0, 151, 167, 0, 93, 43, 180, 0, 154, 184, 0, 157, 167, 0, 83, 43, 180, 0, 163]
abbrev dktX0_roadTold_3 : List UInt8 := dkwX0_roadTold_3 ++ dktX0_roadTold_4
def dkwX0_roadTold_2 : List UInt8 := [43, 182, 0, 146, 167, 0, 118, 43, 16, 76, 182, 0, 147, 167, 0, 109, 43, 16, 82, 182, 0, 147]
abbrev dktX0_roadTold_2 : List UInt8 := dkwX0_roadTold_2 ++ dktX0_roadTold_3
def dkwX0_roadTold_1 : List UInt8 := [170, 0, 0, 0, 0, 0, 153, 0, 0, 0, 0, 0, 0, 0, 8, 0, 0, 0, 51, 0, 0, 0, 58, 0, 0, 0, 67, 0, 0, 0, 76, 0, 0, 0, 83, 0, 0, 0, 93, 0, 0, 0, 103, 0, 0, 0, 113, 0, 0, 0, 133]
abbrev dktX0_roadTold_1 : List UInt8 := dkwX0_roadTold_1 ++ dktX0_roadTold_2
def dkwX0_roadTold_0 : List UInt8 := [28]
abbrev dktX0_roadTold_0 : List UInt8 := dkwX0_roadTold_0 ++ dktX0_roadTold_1
theorem dksX0_roadTold_0 : cX0_roadTold.data.toList.drop 0 = dktX0_roadTold_0 := by decide +kernel
theorem dksX0_roadTold_1 : cX0_roadTold.data.toList.drop 1 = dktX0_roadTold_1 := dk_seg dksX0_roadTold_0 1 rfl rfl
theorem dksX0_roadTold_2 : cX0_roadTold.data.toList.drop 52 = dktX0_roadTold_2 := dk_seg dksX0_roadTold_1 51 rfl rfl
theorem dksX0_roadTold_3 : cX0_roadTold.data.toList.drop 74 = dktX0_roadTold_3 := dk_seg dksX0_roadTold_2 22 rfl rfl
theorem dksX0_roadTold_4 : cX0_roadTold.data.toList.drop 98 = dktX0_roadTold_4 := dk_seg dksX0_roadTold_3 24 rfl rfl
theorem dksX0_roadTold_5 : cX0_roadTold.data.toList.drop 122 = dktX0_roadTold_5 := dk_seg dksX0_roadTold_4 24 rfl rfl
theorem dksX0_roadTold_6 : cX0_roadTold.data.toList.drop 145 = dktX0_roadTold_6 := dk_seg dksX0_roadTold_5 23 rfl rfl
theorem dksX0_roadTold_7 : cX0_roadTold.data.toList.drop 168 = dktX0_roadTold_7 := dk_seg dksX0_roadTold_6 23 rfl rfl
theorem dX0_roadTold_0 : decode cX0_roadTold 0 = .ok (.iload_n 2, 1) := dk_28 (dk_at dksX0_roadTold_0 0 rfl rfl)
theorem dX0_roadTold_1 : decode cX0_roadTold 1 = .ok (.tableswitch 153 0 8 #[51, 58, 67, 76, 83, 93, 103, 113, 133], 51) := by decide +kernel
theorem dX0_roadTold_52 : decode cX0_roadTold 52 = .ok (.aload_n 1, 1) := dk_43 (dk_at dksX0_roadTold_2 0 rfl rfl)
theorem dX0_roadTold_53 : decode cX0_roadTold 53 = .ok (.invokevirtual 146, 3) := dk_182 0 146 (dk_at dksX0_roadTold_2 1 rfl rfl)
theorem dX0_roadTold_56 : decode cX0_roadTold 56 = .ok (.goto 118, 3) := dk_167 0 118 (dk_at dksX0_roadTold_2 4 rfl rfl)
theorem dX0_roadTold_59 : decode cX0_roadTold 59 = .ok (.aload_n 1, 1) := dk_43 (dk_at dksX0_roadTold_2 7 rfl rfl)
theorem dX0_roadTold_60 : decode cX0_roadTold 60 = .ok (.bipush 76, 2) := dk_16 76 (dk_at dksX0_roadTold_2 8 rfl rfl)
theorem dX0_roadTold_62 : decode cX0_roadTold 62 = .ok (.invokevirtual 147, 3) := dk_182 0 147 (dk_at dksX0_roadTold_2 10 rfl rfl)
theorem dX0_roadTold_65 : decode cX0_roadTold 65 = .ok (.goto 109, 3) := dk_167 0 109 (dk_at dksX0_roadTold_2 13 rfl rfl)
theorem dX0_roadTold_68 : decode cX0_roadTold 68 = .ok (.aload_n 1, 1) := dk_43 (dk_at dksX0_roadTold_2 16 rfl rfl)
theorem dX0_roadTold_69 : decode cX0_roadTold 69 = .ok (.bipush 82, 2) := dk_16 82 (dk_at dksX0_roadTold_2 17 rfl rfl)
theorem dX0_roadTold_71 : decode cX0_roadTold 71 = .ok (.invokevirtual 147, 3) := dk_182 0 147 (dk_at dksX0_roadTold_2 19 rfl rfl)
theorem dX0_roadTold_74 : decode cX0_roadTold 74 = .ok (.goto 100, 3) := dk_167 0 100 (dk_at dksX0_roadTold_3 0 rfl rfl)
theorem dX0_roadTold_77 : decode cX0_roadTold 77 = .ok (.aload_n 1, 1) := dk_43 (dk_at dksX0_roadTold_3 3 rfl rfl)
theorem dX0_roadTold_78 : decode cX0_roadTold 78 = .ok (.invokevirtual 151, 3) := dk_182 0 151 (dk_at dksX0_roadTold_3 4 rfl rfl)
theorem dX0_roadTold_81 : decode cX0_roadTold 81 = .ok (.goto 93, 3) := dk_167 0 93 (dk_at dksX0_roadTold_3 7 rfl rfl)
theorem dX0_roadTold_84 : decode cX0_roadTold 84 = .ok (.aload_n 1, 1) := dk_43 (dk_at dksX0_roadTold_3 10 rfl rfl)
theorem dX0_roadTold_85 : decode cX0_roadTold 85 = .ok (.getfield 154, 3) := dk_180 0 154 (dk_at dksX0_roadTold_3 11 rfl rfl)
theorem dX0_roadTold_88 : decode cX0_roadTold 88 = .ok (.invokestatic 157, 3) := dk_184 0 157 (dk_at dksX0_roadTold_3 14 rfl rfl)
theorem dX0_roadTold_91 : decode cX0_roadTold 91 = .ok (.goto 83, 3) := dk_167 0 83 (dk_at dksX0_roadTold_3 17 rfl rfl)
theorem dX0_roadTold_94 : decode cX0_roadTold 94 = .ok (.aload_n 1, 1) := dk_43 (dk_at dksX0_roadTold_3 20 rfl rfl)
theorem dX0_roadTold_95 : decode cX0_roadTold 95 = .ok (.getfield 163, 3) := dk_180 0 163 (dk_at dksX0_roadTold_3 21 rfl rfl)
theorem dX0_roadTold_98 : decode cX0_roadTold 98 = .ok (.invokevirtual 166, 3) := dk_182 0 166 (dk_at dksX0_roadTold_4 0 rfl rfl)
theorem dX0_roadTold_101 : decode cX0_roadTold 101 = .ok (.goto 73, 3) := dk_167 0 73 (dk_at dksX0_roadTold_4 3 rfl rfl)
theorem dX0_roadTold_104 : decode cX0_roadTold 104 = .ok (.aload_n 1, 1) := dk_43 (dk_at dksX0_roadTold_4 6 rfl rfl)
theorem dX0_roadTold_105 : decode cX0_roadTold 105 = .ok (.invokevirtual 169, 3) := dk_182 0 169 (dk_at dksX0_roadTold_4 7 rfl rfl)
theorem dX0_roadTold_108 : decode cX0_roadTold 108 = .ok (.invokestatic 173, 3) := dk_184 0 173 (dk_at dksX0_roadTold_4 10 rfl rfl)
theorem dX0_roadTold_111 : decode cX0_roadTold 111 = .ok (.goto 63, 3) := dk_167 0 63 (dk_at dksX0_roadTold_4 13 rfl rfl)
theorem dX0_roadTold_114 : decode cX0_roadTold 114 = .ok (.aload_n 1, 1) := dk_43 (dk_at dksX0_roadTold_4 16 rfl rfl)
theorem dX0_roadTold_115 : decode cX0_roadTold 115 = .ok (.getfield 154, 3) := dk_180 0 154 (dk_at dksX0_roadTold_4 17 rfl rfl)
theorem dX0_roadTold_118 : decode cX0_roadTold 118 = .ok (.aload_n 1, 1) := dk_43 (dk_at dksX0_roadTold_4 20 rfl rfl)
theorem dX0_roadTold_119 : decode cX0_roadTold 119 = .ok (.getfield 154, 3) := dk_180 0 154 (dk_at dksX0_roadTold_4 21 rfl rfl)
theorem dX0_roadTold_122 : decode cX0_roadTold 122 = .ok (.invokestatic 177, 3) := dk_184 0 177 (dk_at dksX0_roadTold_5 0 rfl rfl)
theorem dX0_roadTold_125 : decode cX0_roadTold 125 = .ok (.invokestatic 181, 3) := dk_184 0 181 (dk_at dksX0_roadTold_5 3 rfl rfl)
theorem dX0_roadTold_128 : decode cX0_roadTold 128 = .ok (.invokestatic 173, 3) := dk_184 0 173 (dk_at dksX0_roadTold_5 6 rfl rfl)
theorem dX0_roadTold_131 : decode cX0_roadTold 131 = .ok (.goto 43, 3) := dk_167 0 43 (dk_at dksX0_roadTold_5 9 rfl rfl)
theorem dX0_roadTold_134 : decode cX0_roadTold 134 = .ok (.aload_n 1, 1) := dk_43 (dk_at dksX0_roadTold_5 12 rfl rfl)
theorem dX0_roadTold_135 : decode cX0_roadTold 135 = .ok (.getfield 154, 3) := dk_180 0 154 (dk_at dksX0_roadTold_5 13 rfl rfl)
theorem dX0_roadTold_138 : decode cX0_roadTold 138 = .ok (.aload_n 1, 1) := dk_43 (dk_at dksX0_roadTold_5 16 rfl rfl)
theorem dX0_roadTold_139 : decode cX0_roadTold 139 = .ok (.getfield 154, 3) := dk_180 0 154 (dk_at dksX0_roadTold_5 17 rfl rfl)
theorem dX0_roadTold_142 : decode cX0_roadTold 142 = .ok (.invokestatic 185, 3) := dk_184 0 185 (dk_at dksX0_roadTold_5 20 rfl rfl)
theorem dX0_roadTold_145 : decode cX0_roadTold 145 = .ok (.invokestatic 181, 3) := dk_184 0 181 (dk_at dksX0_roadTold_6 0 rfl rfl)
theorem dX0_roadTold_148 : decode cX0_roadTold 148 = .ok (.invokestatic 173, 3) := dk_184 0 173 (dk_at dksX0_roadTold_6 3 rfl rfl)
theorem dX0_roadTold_151 : decode cX0_roadTold 151 = .ok (.goto 23, 3) := dk_167 0 23 (dk_at dksX0_roadTold_6 6 rfl rfl)
theorem dX0_roadTold_154 : decode cX0_roadTold 154 = .ok (.aload_n 1, 1) := dk_43 (dk_at dksX0_roadTold_6 9 rfl rfl)
theorem dX0_roadTold_155 : decode cX0_roadTold 155 = .ok (.getfield 154, 3) := dk_180 0 154 (dk_at dksX0_roadTold_6 10 rfl rfl)
theorem dX0_roadTold_158 : decode cX0_roadTold 158 = .ok (.aload_n 1, 1) := dk_43 (dk_at dksX0_roadTold_6 13 rfl rfl)
theorem dX0_roadTold_159 : decode cX0_roadTold 159 = .ok (.getfield 154, 3) := dk_180 0 154 (dk_at dksX0_roadTold_6 14 rfl rfl)
theorem dX0_roadTold_162 : decode cX0_roadTold 162 = .ok (.invokestatic 185, 3) := dk_184 0 185 (dk_at dksX0_roadTold_6 17 rfl rfl)
theorem dX0_roadTold_165 : decode cX0_roadTold 165 = .ok (.invokestatic 177, 3) := dk_184 0 177 (dk_at dksX0_roadTold_6 20 rfl rfl)
theorem dX0_roadTold_168 : decode cX0_roadTold 168 = .ok (.invokestatic 181, 3) := dk_184 0 181 (dk_at dksX0_roadTold_7 0 rfl rfl)
theorem dX0_roadTold_171 : decode cX0_roadTold 171 = .ok (.invokestatic 173, 3) := dk_184 0 173 (dk_at dksX0_roadTold_7 3 rfl rfl)
theorem dX0_roadTold_174 : decode cX0_roadTold 174 = .ok (.ireturn, 1) := dk_172 (dk_at dksX0_roadTold_7 6 rfl rfl)
abbrev cX0_truth : ByteArray := prog_1_method_13_code
def yX0_truth : MethodName := ⟨RX0, "truth", "(Z)I"⟩
def dkwX0_truth_0 : List UInt8 := [26, 153, 0, 7, 4, 167, 0, 4, 3, 172]
abbrev dktX0_truth_0 : List UInt8 := dkwX0_truth_0 ++ []
theorem dksX0_truth_0 : cX0_truth.data.toList.drop 0 = dktX0_truth_0 := by decide +kernel
theorem dX0_truth_0 : decode cX0_truth 0 = .ok (.iload_n 0, 1) := dk_26 (dk_at dksX0_truth_0 0 rfl rfl)
theorem dX0_truth_1 : decode cX0_truth 1 = .ok (.ifCond .eq 7, 3) := dk_153 0 7 (dk_at dksX0_truth_0 1 rfl rfl)
theorem dX0_truth_4 : decode cX0_truth 4 = .ok (.iconst 1, 1) := dk_4 (dk_at dksX0_truth_0 4 rfl rfl)
theorem dX0_truth_5 : decode cX0_truth 5 = .ok (.goto 4, 3) := dk_167 0 4 (dk_at dksX0_truth_0 5 rfl rfl)
theorem dX0_truth_8 : decode cX0_truth 8 = .ok (.iconst 0, 1) := dk_3 (dk_at dksX0_truth_0 8 rfl rfl)
theorem dX0_truth_9 : decode cX0_truth 9 = .ok (.ireturn, 1) := dk_172 (dk_at dksX0_truth_0 9 rfl rfl)
abbrev cX0_sign : ByteArray := prog_1_method_16_code
def yX0_sign : MethodName := ⟨RX0, "sign", "(II)I"⟩
def dkwX0_sign_2 : List UInt8 := [167, 0, 5, 18, 192, 172]
abbrev dktX0_sign_2 : List UInt8 := dkwX0_sign_2 ++ []
def dkwX0_sign_1 : List UInt8 := [4, 100, 184, 0, 97, 153, 0, 21, 42, 180, 0, 34, 27, 182, 0, 193, 192, 0, 106, 28, 182, 0, 201]
abbrev dktX0_sign_1 : List UInt8 := dkwX0_sign_1 ++ dktX0_sign_2
def dkwX0_sign_0 : List UInt8 := [42, 27, 182, 0, 188, 153, 0, 45, 28, 3, 42, 180, 0, 34, 27, 182, 0, 193, 192, 0, 106, 182, 0, 146]
abbrev dktX0_sign_0 : List UInt8 := dkwX0_sign_0 ++ dktX0_sign_1
theorem dksX0_sign_0 : cX0_sign.data.toList.drop 0 = dktX0_sign_0 := by decide +kernel
theorem dksX0_sign_1 : cX0_sign.data.toList.drop 24 = dktX0_sign_1 := dk_seg dksX0_sign_0 24 rfl rfl
theorem dksX0_sign_2 : cX0_sign.data.toList.drop 47 = dktX0_sign_2 := dk_seg dksX0_sign_1 23 rfl rfl
theorem dX0_sign_0 : decode cX0_sign 0 = .ok (.aload_n 0, 1) := dk_42 (dk_at dksX0_sign_0 0 rfl rfl)
theorem dX0_sign_1 : decode cX0_sign 1 = .ok (.iload_n 1, 1) := dk_27 (dk_at dksX0_sign_0 1 rfl rfl)
theorem dX0_sign_2 : decode cX0_sign 2 = .ok (.invokevirtual 188, 3) := dk_182 0 188 (dk_at dksX0_sign_0 2 rfl rfl)
theorem dX0_sign_5 : decode cX0_sign 5 = .ok (.ifCond .eq 45, 3) := dk_153 0 45 (dk_at dksX0_sign_0 5 rfl rfl)
theorem dX0_sign_8 : decode cX0_sign 8 = .ok (.iload_n 2, 1) := dk_28 (dk_at dksX0_sign_0 8 rfl rfl)
theorem dX0_sign_9 : decode cX0_sign 9 = .ok (.iconst 0, 1) := dk_3 (dk_at dksX0_sign_0 9 rfl rfl)
theorem dX0_sign_10 : decode cX0_sign 10 = .ok (.aload_n 0, 1) := dk_42 (dk_at dksX0_sign_0 10 rfl rfl)
theorem dX0_sign_11 : decode cX0_sign 11 = .ok (.getfield 34, 3) := dk_180 0 34 (dk_at dksX0_sign_0 11 rfl rfl)
theorem dX0_sign_14 : decode cX0_sign 14 = .ok (.iload_n 1, 1) := dk_27 (dk_at dksX0_sign_0 14 rfl rfl)
theorem dX0_sign_15 : decode cX0_sign 15 = .ok (.invokevirtual 193, 3) := dk_182 0 193 (dk_at dksX0_sign_0 15 rfl rfl)
theorem dX0_sign_18 : decode cX0_sign 18 = .ok (.checkcast 106, 3) := dk_192 0 106 (dk_at dksX0_sign_0 18 rfl rfl)
theorem dX0_sign_21 : decode cX0_sign 21 = .ok (.invokevirtual 146, 3) := dk_182 0 146 (dk_at dksX0_sign_0 21 rfl rfl)
theorem dX0_sign_24 : decode cX0_sign 24 = .ok (.iconst 1, 1) := dk_4 (dk_at dksX0_sign_1 0 rfl rfl)
theorem dX0_sign_25 : decode cX0_sign 25 = .ok (.isub, 1) := dk_100 (dk_at dksX0_sign_1 1 rfl rfl)
theorem dX0_sign_26 : decode cX0_sign 26 = .ok (.invokestatic 97, 3) := dk_184 0 97 (dk_at dksX0_sign_1 2 rfl rfl)
theorem dX0_sign_29 : decode cX0_sign 29 = .ok (.ifCond .eq 21, 3) := dk_153 0 21 (dk_at dksX0_sign_1 5 rfl rfl)
theorem dX0_sign_32 : decode cX0_sign 32 = .ok (.aload_n 0, 1) := dk_42 (dk_at dksX0_sign_1 8 rfl rfl)
theorem dX0_sign_33 : decode cX0_sign 33 = .ok (.getfield 34, 3) := dk_180 0 34 (dk_at dksX0_sign_1 9 rfl rfl)
theorem dX0_sign_36 : decode cX0_sign 36 = .ok (.iload_n 1, 1) := dk_27 (dk_at dksX0_sign_1 12 rfl rfl)
theorem dX0_sign_37 : decode cX0_sign 37 = .ok (.invokevirtual 193, 3) := dk_182 0 193 (dk_at dksX0_sign_1 13 rfl rfl)
theorem dX0_sign_40 : decode cX0_sign 40 = .ok (.checkcast 106, 3) := dk_192 0 106 (dk_at dksX0_sign_1 16 rfl rfl)
theorem dX0_sign_43 : decode cX0_sign 43 = .ok (.iload_n 2, 1) := dk_28 (dk_at dksX0_sign_1 19 rfl rfl)
theorem dX0_sign_44 : decode cX0_sign 44 = .ok (.invokevirtual 201, 3) := dk_182 0 201 (dk_at dksX0_sign_1 20 rfl rfl)
theorem dX0_sign_47 : decode cX0_sign 47 = .ok (.goto 5, 3) := dk_167 0 5 (dk_at dksX0_sign_2 0 rfl rfl)
theorem dX0_sign_50 : decode cX0_sign 50 = .ok (.ldc 192, 2) := dk_18 192 (dk_at dksX0_sign_2 3 rfl rfl)
theorem dX0_sign_52 : decode cX0_sign 52 = .ok (.ireturn, 1) := dk_172 (dk_at dksX0_sign_2 5 rfl rfl)
abbrev cX0_table : ByteArray := prog_1_method_17_code
def yX0_table : MethodName := ⟨RX0, "table", "(II)I"⟩
def dkwX0_table_1 : List UInt8 := [27, 182, 0, 193, 192, 0, 106, 180, 0, 163, 28, 182, 0, 204, 167, 0, 5, 18, 115, 172]
abbrev dktX0_table_1 : List UInt8 := dkwX0_table_1 ++ []
def dkwX0_table_0 : List UInt8 := [42, 27, 182, 0, 188, 154, 0, 6, 18, 192, 172, 28, 3, 6, 184, 0, 97, 153, 0, 24, 42, 180, 0, 34]
abbrev dktX0_table_0 : List UInt8 := dkwX0_table_0 ++ dktX0_table_1
theorem dksX0_table_0 : cX0_table.data.toList.drop 0 = dktX0_table_0 := by decide +kernel
theorem dksX0_table_1 : cX0_table.data.toList.drop 24 = dktX0_table_1 := dk_seg dksX0_table_0 24 rfl rfl
theorem dX0_table_0 : decode cX0_table 0 = .ok (.aload_n 0, 1) := dk_42 (dk_at dksX0_table_0 0 rfl rfl)
theorem dX0_table_1 : decode cX0_table 1 = .ok (.iload_n 1, 1) := dk_27 (dk_at dksX0_table_0 1 rfl rfl)
theorem dX0_table_2 : decode cX0_table 2 = .ok (.invokevirtual 188, 3) := dk_182 0 188 (dk_at dksX0_table_0 2 rfl rfl)
theorem dX0_table_5 : decode cX0_table 5 = .ok (.ifCond .ne 6, 3) := dk_154 0 6 (dk_at dksX0_table_0 5 rfl rfl)
theorem dX0_table_8 : decode cX0_table 8 = .ok (.ldc 192, 2) := dk_18 192 (dk_at dksX0_table_0 8 rfl rfl)
theorem dX0_table_10 : decode cX0_table 10 = .ok (.ireturn, 1) := dk_172 (dk_at dksX0_table_0 10 rfl rfl)
theorem dX0_table_11 : decode cX0_table 11 = .ok (.iload_n 2, 1) := dk_28 (dk_at dksX0_table_0 11 rfl rfl)
theorem dX0_table_12 : decode cX0_table 12 = .ok (.iconst 0, 1) := dk_3 (dk_at dksX0_table_0 12 rfl rfl)
theorem dX0_table_13 : decode cX0_table 13 = .ok (.iconst 3, 1) := dk_6 (dk_at dksX0_table_0 13 rfl rfl)
theorem dX0_table_14 : decode cX0_table 14 = .ok (.invokestatic 97, 3) := dk_184 0 97 (dk_at dksX0_table_0 14 rfl rfl)
theorem dX0_table_17 : decode cX0_table 17 = .ok (.ifCond .eq 24, 3) := dk_153 0 24 (dk_at dksX0_table_0 17 rfl rfl)
theorem dX0_table_20 : decode cX0_table 20 = .ok (.aload_n 0, 1) := dk_42 (dk_at dksX0_table_0 20 rfl rfl)
theorem dX0_table_21 : decode cX0_table 21 = .ok (.getfield 34, 3) := dk_180 0 34 (dk_at dksX0_table_0 21 rfl rfl)
theorem dX0_table_24 : decode cX0_table 24 = .ok (.iload_n 1, 1) := dk_27 (dk_at dksX0_table_1 0 rfl rfl)
theorem dX0_table_25 : decode cX0_table 25 = .ok (.invokevirtual 193, 3) := dk_182 0 193 (dk_at dksX0_table_1 1 rfl rfl)
theorem dX0_table_28 : decode cX0_table 28 = .ok (.checkcast 106, 3) := dk_192 0 106 (dk_at dksX0_table_1 4 rfl rfl)
theorem dX0_table_31 : decode cX0_table 31 = .ok (.getfield 163, 3) := dk_180 0 163 (dk_at dksX0_table_1 7 rfl rfl)
theorem dX0_table_34 : decode cX0_table 34 = .ok (.iload_n 2, 1) := dk_28 (dk_at dksX0_table_1 10 rfl rfl)
theorem dX0_table_35 : decode cX0_table 35 = .ok (.invokevirtual 204, 3) := dk_182 0 204 (dk_at dksX0_table_1 11 rfl rfl)
theorem dX0_table_38 : decode cX0_table 38 = .ok (.goto 5, 3) := dk_167 0 5 (dk_at dksX0_table_1 14 rfl rfl)
theorem dX0_table_41 : decode cX0_table 41 = .ok (.ldc 115, 2) := dk_18 115 (dk_at dksX0_table_1 17 rfl rfl)
theorem dX0_table_43 : decode cX0_table 43 = .ok (.ireturn, 1) := dk_172 (dk_at dksX0_table_1 19 rfl rfl)
abbrev cX0_form : ByteArray := prog_1_method_19_code
def yX0_form : MethodName := ⟨RX0, "form", "(II)I"⟩
def dkwX0_form_2 : List UInt8 := [192, 0, 106, 180, 0, 163, 28, 184, 0, 217, 167, 0, 5, 18, 104, 172]
abbrev dktX0_form_2 : List UInt8 := dkwX0_form_2 ++ []
def dkwX0_form_1 : List UInt8 := [180, 0, 34, 27, 182, 0, 193, 192, 0, 106, 182, 0, 169, 153, 0, 24, 42, 180, 0, 34, 27, 182, 0, 193]
abbrev dktX0_form_1 : List UInt8 := dkwX0_form_1 ++ dktX0_form_2
def dkwX0_form_0 : List UInt8 := [42, 27, 182, 0, 188, 154, 0, 6, 18, 192, 172, 28, 3, 7, 184, 0, 97, 154, 0, 6, 18, 115, 172, 42]
abbrev dktX0_form_0 : List UInt8 := dkwX0_form_0 ++ dktX0_form_1
theorem dksX0_form_0 : cX0_form.data.toList.drop 0 = dktX0_form_0 := by decide +kernel
theorem dksX0_form_1 : cX0_form.data.toList.drop 24 = dktX0_form_1 := dk_seg dksX0_form_0 24 rfl rfl
theorem dksX0_form_2 : cX0_form.data.toList.drop 48 = dktX0_form_2 := dk_seg dksX0_form_1 24 rfl rfl
theorem dX0_form_0 : decode cX0_form 0 = .ok (.aload_n 0, 1) := dk_42 (dk_at dksX0_form_0 0 rfl rfl)
theorem dX0_form_1 : decode cX0_form 1 = .ok (.iload_n 1, 1) := dk_27 (dk_at dksX0_form_0 1 rfl rfl)
theorem dX0_form_2 : decode cX0_form 2 = .ok (.invokevirtual 188, 3) := dk_182 0 188 (dk_at dksX0_form_0 2 rfl rfl)
theorem dX0_form_5 : decode cX0_form 5 = .ok (.ifCond .ne 6, 3) := dk_154 0 6 (dk_at dksX0_form_0 5 rfl rfl)
theorem dX0_form_8 : decode cX0_form 8 = .ok (.ldc 192, 2) := dk_18 192 (dk_at dksX0_form_0 8 rfl rfl)
theorem dX0_form_10 : decode cX0_form 10 = .ok (.ireturn, 1) := dk_172 (dk_at dksX0_form_0 10 rfl rfl)
theorem dX0_form_11 : decode cX0_form 11 = .ok (.iload_n 2, 1) := dk_28 (dk_at dksX0_form_0 11 rfl rfl)
theorem dX0_form_12 : decode cX0_form 12 = .ok (.iconst 0, 1) := dk_3 (dk_at dksX0_form_0 12 rfl rfl)
theorem dX0_form_13 : decode cX0_form 13 = .ok (.iconst 4, 1) := dk_7 (dk_at dksX0_form_0 13 rfl rfl)
theorem dX0_form_14 : decode cX0_form 14 = .ok (.invokestatic 97, 3) := dk_184 0 97 (dk_at dksX0_form_0 14 rfl rfl)
theorem dX0_form_17 : decode cX0_form 17 = .ok (.ifCond .ne 6, 3) := dk_154 0 6 (dk_at dksX0_form_0 17 rfl rfl)
theorem dX0_form_20 : decode cX0_form 20 = .ok (.ldc 115, 2) := dk_18 115 (dk_at dksX0_form_0 20 rfl rfl)
theorem dX0_form_22 : decode cX0_form 22 = .ok (.ireturn, 1) := dk_172 (dk_at dksX0_form_0 22 rfl rfl)
theorem dX0_form_23 : decode cX0_form 23 = .ok (.aload_n 0, 1) := dk_42 (dk_at dksX0_form_0 23 rfl rfl)
theorem dX0_form_24 : decode cX0_form 24 = .ok (.getfield 34, 3) := dk_180 0 34 (dk_at dksX0_form_1 0 rfl rfl)
theorem dX0_form_27 : decode cX0_form 27 = .ok (.iload_n 1, 1) := dk_27 (dk_at dksX0_form_1 3 rfl rfl)
theorem dX0_form_28 : decode cX0_form 28 = .ok (.invokevirtual 193, 3) := dk_182 0 193 (dk_at dksX0_form_1 4 rfl rfl)
theorem dX0_form_31 : decode cX0_form 31 = .ok (.checkcast 106, 3) := dk_192 0 106 (dk_at dksX0_form_1 7 rfl rfl)
theorem dX0_form_34 : decode cX0_form 34 = .ok (.invokevirtual 169, 3) := dk_182 0 169 (dk_at dksX0_form_1 10 rfl rfl)
theorem dX0_form_37 : decode cX0_form 37 = .ok (.ifCond .eq 24, 3) := dk_153 0 24 (dk_at dksX0_form_1 13 rfl rfl)
theorem dX0_form_40 : decode cX0_form 40 = .ok (.aload_n 0, 1) := dk_42 (dk_at dksX0_form_1 16 rfl rfl)
theorem dX0_form_41 : decode cX0_form 41 = .ok (.getfield 34, 3) := dk_180 0 34 (dk_at dksX0_form_1 17 rfl rfl)
theorem dX0_form_44 : decode cX0_form 44 = .ok (.iload_n 1, 1) := dk_27 (dk_at dksX0_form_1 20 rfl rfl)
theorem dX0_form_45 : decode cX0_form 45 = .ok (.invokevirtual 193, 3) := dk_182 0 193 (dk_at dksX0_form_1 21 rfl rfl)
theorem dX0_form_48 : decode cX0_form 48 = .ok (.checkcast 106, 3) := dk_192 0 106 (dk_at dksX0_form_2 0 rfl rfl)
theorem dX0_form_51 : decode cX0_form 51 = .ok (.getfield 163, 3) := dk_180 0 163 (dk_at dksX0_form_2 3 rfl rfl)
theorem dX0_form_54 : decode cX0_form 54 = .ok (.iload_n 2, 1) := dk_28 (dk_at dksX0_form_2 6 rfl rfl)
theorem dX0_form_55 : decode cX0_form 55 = .ok (.invokestatic 217, 3) := dk_184 0 217 (dk_at dksX0_form_2 7 rfl rfl)
theorem dX0_form_58 : decode cX0_form 58 = .ok (.goto 5, 3) := dk_167 0 5 (dk_at dksX0_form_2 10 rfl rfl)
theorem dX0_form_61 : decode cX0_form 61 = .ok (.ldc 104, 2) := dk_18 104 (dk_at dksX0_form_2 13 rfl rfl)
theorem dX0_form_63 : decode cX0_form 63 = .ok (.ireturn, 1) := dk_172 (dk_at dksX0_form_2 15 rfl rfl)
abbrev cX0_formTold : ByteArray := prog_1_method_18_code
def yX0_formTold : MethodName := ⟨RX0, "formTold", "(LRiverWords$Table;I)I"⟩
def dkwX0_formTold_3 : List UInt8 := [182, 0, 73, 167, 0, 7, 44, 182, 0, 214, 172]
abbrev dktX0_formTold_3 : List UInt8 := dkwX0_formTold_3 ++ []
def dkwX0_formTold_2 : List UInt8 := [44, 180, 0, 211, 167, 0, 28, 44, 180, 0, 212, 167, 0, 21, 44, 180, 0, 213, 167, 0, 14, 42]
abbrev dktX0_formTold_2 : List UInt8 := dkwX0_formTold_2 ++ dktX0_formTold_3
def dkwX0_formTold_1 : List UInt8 := [170, 0, 0, 0, 0, 58, 0, 0, 0, 0, 0, 0, 0, 3, 0, 0, 0, 30, 0, 0, 0, 37, 0, 0, 0, 44, 0, 0, 0, 51]
abbrev dktX0_formTold_1 : List UInt8 := dkwX0_formTold_1 ++ dktX0_formTold_2
def dkwX0_formTold_0 : List UInt8 := [42, 184, 0, 207, 77, 27]
abbrev dktX0_formTold_0 : List UInt8 := dkwX0_formTold_0 ++ dktX0_formTold_1
theorem dksX0_formTold_0 : cX0_formTold.data.toList.drop 0 = dktX0_formTold_0 := by decide +kernel
theorem dksX0_formTold_1 : cX0_formTold.data.toList.drop 6 = dktX0_formTold_1 := dk_seg dksX0_formTold_0 6 rfl rfl
theorem dksX0_formTold_2 : cX0_formTold.data.toList.drop 36 = dktX0_formTold_2 := dk_seg dksX0_formTold_1 30 rfl rfl
theorem dksX0_formTold_3 : cX0_formTold.data.toList.drop 58 = dktX0_formTold_3 := dk_seg dksX0_formTold_2 22 rfl rfl
theorem dX0_formTold_0 : decode cX0_formTold 0 = .ok (.aload_n 0, 1) := dk_42 (dk_at dksX0_formTold_0 0 rfl rfl)
theorem dX0_formTold_1 : decode cX0_formTold 1 = .ok (.invokestatic 207, 3) := dk_184 0 207 (dk_at dksX0_formTold_0 1 rfl rfl)
theorem dX0_formTold_4 : decode cX0_formTold 4 = .ok (.astore_n 2, 1) := dk_77 (dk_at dksX0_formTold_0 4 rfl rfl)
theorem dX0_formTold_5 : decode cX0_formTold 5 = .ok (.iload_n 1, 1) := dk_27 (dk_at dksX0_formTold_0 5 rfl rfl)
theorem dX0_formTold_6 : decode cX0_formTold 6 = .ok (.tableswitch 58 0 3 #[30, 37, 44, 51], 30) := by decide +kernel
theorem dX0_formTold_36 : decode cX0_formTold 36 = .ok (.aload_n 2, 1) := dk_44 (dk_at dksX0_formTold_2 0 rfl rfl)
theorem dX0_formTold_37 : decode cX0_formTold 37 = .ok (.getfield 211, 3) := dk_180 0 211 (dk_at dksX0_formTold_2 1 rfl rfl)
theorem dX0_formTold_40 : decode cX0_formTold 40 = .ok (.goto 28, 3) := dk_167 0 28 (dk_at dksX0_formTold_2 4 rfl rfl)
theorem dX0_formTold_43 : decode cX0_formTold 43 = .ok (.aload_n 2, 1) := dk_44 (dk_at dksX0_formTold_2 7 rfl rfl)
theorem dX0_formTold_44 : decode cX0_formTold 44 = .ok (.getfield 212, 3) := dk_180 0 212 (dk_at dksX0_formTold_2 8 rfl rfl)
theorem dX0_formTold_47 : decode cX0_formTold 47 = .ok (.goto 21, 3) := dk_167 0 21 (dk_at dksX0_formTold_2 11 rfl rfl)
theorem dX0_formTold_50 : decode cX0_formTold 50 = .ok (.aload_n 2, 1) := dk_44 (dk_at dksX0_formTold_2 14 rfl rfl)
theorem dX0_formTold_51 : decode cX0_formTold 51 = .ok (.getfield 213, 3) := dk_180 0 213 (dk_at dksX0_formTold_2 15 rfl rfl)
theorem dX0_formTold_54 : decode cX0_formTold 54 = .ok (.goto 14, 3) := dk_167 0 14 (dk_at dksX0_formTold_2 18 rfl rfl)
theorem dX0_formTold_57 : decode cX0_formTold 57 = .ok (.aload_n 0, 1) := dk_42 (dk_at dksX0_formTold_2 21 rfl rfl)
theorem dX0_formTold_58 : decode cX0_formTold 58 = .ok (.invokevirtual 73, 3) := dk_182 0 73 (dk_at dksX0_formTold_3 0 rfl rfl)
theorem dX0_formTold_61 : decode cX0_formTold 61 = .ok (.goto 7, 3) := dk_167 0 7 (dk_at dksX0_formTold_3 3 rfl rfl)
theorem dX0_formTold_64 : decode cX0_formTold 64 = .ok (.aload_n 2, 1) := dk_44 (dk_at dksX0_formTold_3 6 rfl rfl)
theorem dX0_formTold_65 : decode cX0_formTold 65 = .ok (.invokevirtual 214, 3) := dk_182 0 214 (dk_at dksX0_formTold_3 7 rfl rfl)
theorem dX0_formTold_68 : decode cX0_formTold 68 = .ok (.ireturn, 1) := dk_172 (dk_at dksX0_formTold_3 10 rfl rfl)
abbrev cX0_formOf : ByteArray := prog_1_method_6_code
def yX0_formOf : MethodName := ⟨RX0, "formOf", "(LRiverWords$Table;)LRiverWords$Form;"⟩
def dkwX0_formOf_1 : List UInt8 := [27, 108, 42, 180, 0, 88, 116, 27, 108, 183, 0, 91, 176]
abbrev dktX0_formOf_1 : List UInt8 := dkwX0_formOf_1 ++ []
def dkwX0_formOf_0 : List UInt8 := [42, 182, 0, 73, 60, 187, 0, 76, 89, 42, 180, 0, 78, 27, 108, 42, 180, 0, 82, 42, 180, 0, 85, 100]
abbrev dktX0_formOf_0 : List UInt8 := dkwX0_formOf_0 ++ dktX0_formOf_1
theorem dksX0_formOf_0 : cX0_formOf.data.toList.drop 0 = dktX0_formOf_0 := by decide +kernel
theorem dksX0_formOf_1 : cX0_formOf.data.toList.drop 24 = dktX0_formOf_1 := dk_seg dksX0_formOf_0 24 rfl rfl
theorem dX0_formOf_0 : decode cX0_formOf 0 = .ok (.aload_n 0, 1) := dk_42 (dk_at dksX0_formOf_0 0 rfl rfl)
theorem dX0_formOf_1 : decode cX0_formOf 1 = .ok (.invokevirtual 73, 3) := dk_182 0 73 (dk_at dksX0_formOf_0 1 rfl rfl)
theorem dX0_formOf_4 : decode cX0_formOf 4 = .ok (.istore_n 1, 1) := dk_60 (dk_at dksX0_formOf_0 4 rfl rfl)
theorem dX0_formOf_5 : decode cX0_formOf 5 = .ok (.new 76, 3) := dk_187 0 76 (dk_at dksX0_formOf_0 5 rfl rfl)
theorem dX0_formOf_8 : decode cX0_formOf 8 = .ok (.dup, 1) := dk_89 (dk_at dksX0_formOf_0 8 rfl rfl)
theorem dX0_formOf_9 : decode cX0_formOf 9 = .ok (.aload_n 0, 1) := dk_42 (dk_at dksX0_formOf_0 9 rfl rfl)
theorem dX0_formOf_10 : decode cX0_formOf 10 = .ok (.getfield 78, 3) := dk_180 0 78 (dk_at dksX0_formOf_0 10 rfl rfl)
theorem dX0_formOf_13 : decode cX0_formOf 13 = .ok (.iload_n 1, 1) := dk_27 (dk_at dksX0_formOf_0 13 rfl rfl)
theorem dX0_formOf_14 : decode cX0_formOf 14 = .ok (.idiv, 1) := dk_108 (dk_at dksX0_formOf_0 14 rfl rfl)
theorem dX0_formOf_15 : decode cX0_formOf 15 = .ok (.aload_n 0, 1) := dk_42 (dk_at dksX0_formOf_0 15 rfl rfl)
theorem dX0_formOf_16 : decode cX0_formOf 16 = .ok (.getfield 82, 3) := dk_180 0 82 (dk_at dksX0_formOf_0 16 rfl rfl)
theorem dX0_formOf_19 : decode cX0_formOf 19 = .ok (.aload_n 0, 1) := dk_42 (dk_at dksX0_formOf_0 19 rfl rfl)
theorem dX0_formOf_20 : decode cX0_formOf 20 = .ok (.getfield 85, 3) := dk_180 0 85 (dk_at dksX0_formOf_0 20 rfl rfl)
theorem dX0_formOf_23 : decode cX0_formOf 23 = .ok (.isub, 1) := dk_100 (dk_at dksX0_formOf_0 23 rfl rfl)
theorem dX0_formOf_24 : decode cX0_formOf 24 = .ok (.iload_n 1, 1) := dk_27 (dk_at dksX0_formOf_1 0 rfl rfl)
theorem dX0_formOf_25 : decode cX0_formOf 25 = .ok (.idiv, 1) := dk_108 (dk_at dksX0_formOf_1 1 rfl rfl)
theorem dX0_formOf_26 : decode cX0_formOf 26 = .ok (.aload_n 0, 1) := dk_42 (dk_at dksX0_formOf_1 2 rfl rfl)
theorem dX0_formOf_27 : decode cX0_formOf 27 = .ok (.getfield 88, 3) := dk_180 0 88 (dk_at dksX0_formOf_1 3 rfl rfl)
theorem dX0_formOf_30 : decode cX0_formOf 30 = .ok (.ineg, 1) := dk_116 (dk_at dksX0_formOf_1 6 rfl rfl)
theorem dX0_formOf_31 : decode cX0_formOf 31 = .ok (.iload_n 1, 1) := dk_27 (dk_at dksX0_formOf_1 7 rfl rfl)
theorem dX0_formOf_32 : decode cX0_formOf 32 = .ok (.idiv, 1) := dk_108 (dk_at dksX0_formOf_1 8 rfl rfl)
theorem dX0_formOf_33 : decode cX0_formOf 33 = .ok (.invokespecial 91, 3) := dk_183 0 91 (dk_at dksX0_formOf_1 9 rfl rfl)
theorem dX0_formOf_36 : decode cX0_formOf 36 = .ok (.areturn, 1) := dk_176 (dk_at dksX0_formOf_1 12 rfl rfl)
abbrev cX0_common : ByteArray := prog_1_method_3_code
def yX0_common : MethodName := ⟨RX0, "common", "(II)I"⟩
def dkwX0_common_1 : List UInt8 := [167, 255, 242, 28, 172]
abbrev dktX0_common_1 : List UInt8 := dkwX0_common_1 ++ []
def dkwX0_common_0 : List UInt8 := [26, 184, 0, 53, 61, 27, 184, 0, 53, 62, 29, 153, 0, 16, 28, 29, 112, 54, 4, 29, 61, 21, 4, 62]
abbrev dktX0_common_0 : List UInt8 := dkwX0_common_0 ++ dktX0_common_1
theorem dksX0_common_0 : cX0_common.data.toList.drop 0 = dktX0_common_0 := by decide +kernel
theorem dksX0_common_1 : cX0_common.data.toList.drop 24 = dktX0_common_1 := dk_seg dksX0_common_0 24 rfl rfl
theorem dX0_common_0 : decode cX0_common 0 = .ok (.iload_n 0, 1) := dk_26 (dk_at dksX0_common_0 0 rfl rfl)
theorem dX0_common_1 : decode cX0_common 1 = .ok (.invokestatic 53, 3) := dk_184 0 53 (dk_at dksX0_common_0 1 rfl rfl)
theorem dX0_common_4 : decode cX0_common 4 = .ok (.istore_n 2, 1) := dk_61 (dk_at dksX0_common_0 4 rfl rfl)
theorem dX0_common_5 : decode cX0_common 5 = .ok (.iload_n 1, 1) := dk_27 (dk_at dksX0_common_0 5 rfl rfl)
theorem dX0_common_6 : decode cX0_common 6 = .ok (.invokestatic 53, 3) := dk_184 0 53 (dk_at dksX0_common_0 6 rfl rfl)
theorem dX0_common_9 : decode cX0_common 9 = .ok (.istore_n 3, 1) := dk_62 (dk_at dksX0_common_0 9 rfl rfl)
theorem dX0_common_10 : decode cX0_common 10 = .ok (.iload_n 3, 1) := dk_29 (dk_at dksX0_common_0 10 rfl rfl)
theorem dX0_common_11 : decode cX0_common 11 = .ok (.ifCond .eq 16, 3) := dk_153 0 16 (dk_at dksX0_common_0 11 rfl rfl)
theorem dX0_common_14 : decode cX0_common 14 = .ok (.iload_n 2, 1) := dk_28 (dk_at dksX0_common_0 14 rfl rfl)
theorem dX0_common_15 : decode cX0_common 15 = .ok (.iload_n 3, 1) := dk_29 (dk_at dksX0_common_0 15 rfl rfl)
theorem dX0_common_16 : decode cX0_common 16 = .ok (.irem, 1) := dk_112 (dk_at dksX0_common_0 16 rfl rfl)
theorem dX0_common_17 : decode cX0_common 17 = .ok (.istore 4, 2) := dk_54 4 (dk_at dksX0_common_0 17 rfl rfl)
theorem dX0_common_19 : decode cX0_common 19 = .ok (.iload_n 3, 1) := dk_29 (dk_at dksX0_common_0 19 rfl rfl)
theorem dX0_common_20 : decode cX0_common 20 = .ok (.istore_n 2, 1) := dk_61 (dk_at dksX0_common_0 20 rfl rfl)
theorem dX0_common_21 : decode cX0_common 21 = .ok (.iload 4, 2) := dk_21 4 (dk_at dksX0_common_0 21 rfl rfl)
theorem dX0_common_23 : decode cX0_common 23 = .ok (.istore_n 3, 1) := dk_62 (dk_at dksX0_common_0 23 rfl rfl)
theorem dX0_common_24 : decode cX0_common 24 = .ok (.goto (-14), 3) := dk_167 255 242 (dk_at dksX0_common_1 0 rfl rfl)
theorem dX0_common_27 : decode cX0_common 27 = .ok (.iload_n 2, 1) := dk_28 (dk_at dksX0_common_1 3 rfl rfl)
theorem dX0_common_28 : decode cX0_common 28 = .ok (.ireturn, 1) := dk_172 (dk_at dksX0_common_1 4 rfl rfl)
abbrev cX0_end : ByteArray := prog_1_method_21_code
def yX0_end : MethodName := ⟨RX0, "end", "(II)I"⟩
def dkwX0_end_1 : List UInt8 := [27, 182, 0, 193, 192, 0, 106, 180, 0, 163, 28, 184, 0, 221, 167, 0, 5, 18, 115, 172]
abbrev dktX0_end_1 : List UInt8 := dkwX0_end_1 ++ []
def dkwX0_end_0 : List UInt8 := [42, 27, 182, 0, 188, 154, 0, 6, 18, 192, 172, 28, 3, 4, 184, 0, 97, 153, 0, 24, 42, 180, 0, 34]
abbrev dktX0_end_0 : List UInt8 := dkwX0_end_0 ++ dktX0_end_1
theorem dksX0_end_0 : cX0_end.data.toList.drop 0 = dktX0_end_0 := by decide +kernel
theorem dksX0_end_1 : cX0_end.data.toList.drop 24 = dktX0_end_1 := dk_seg dksX0_end_0 24 rfl rfl
theorem dX0_end_0 : decode cX0_end 0 = .ok (.aload_n 0, 1) := dk_42 (dk_at dksX0_end_0 0 rfl rfl)
theorem dX0_end_1 : decode cX0_end 1 = .ok (.iload_n 1, 1) := dk_27 (dk_at dksX0_end_0 1 rfl rfl)
theorem dX0_end_2 : decode cX0_end 2 = .ok (.invokevirtual 188, 3) := dk_182 0 188 (dk_at dksX0_end_0 2 rfl rfl)
theorem dX0_end_5 : decode cX0_end 5 = .ok (.ifCond .ne 6, 3) := dk_154 0 6 (dk_at dksX0_end_0 5 rfl rfl)
theorem dX0_end_8 : decode cX0_end 8 = .ok (.ldc 192, 2) := dk_18 192 (dk_at dksX0_end_0 8 rfl rfl)
theorem dX0_end_10 : decode cX0_end 10 = .ok (.ireturn, 1) := dk_172 (dk_at dksX0_end_0 10 rfl rfl)
theorem dX0_end_11 : decode cX0_end 11 = .ok (.iload_n 2, 1) := dk_28 (dk_at dksX0_end_0 11 rfl rfl)
theorem dX0_end_12 : decode cX0_end 12 = .ok (.iconst 0, 1) := dk_3 (dk_at dksX0_end_0 12 rfl rfl)
theorem dX0_end_13 : decode cX0_end 13 = .ok (.iconst 1, 1) := dk_4 (dk_at dksX0_end_0 13 rfl rfl)
theorem dX0_end_14 : decode cX0_end 14 = .ok (.invokestatic 97, 3) := dk_184 0 97 (dk_at dksX0_end_0 14 rfl rfl)
theorem dX0_end_17 : decode cX0_end 17 = .ok (.ifCond .eq 24, 3) := dk_153 0 24 (dk_at dksX0_end_0 17 rfl rfl)
theorem dX0_end_20 : decode cX0_end 20 = .ok (.aload_n 0, 1) := dk_42 (dk_at dksX0_end_0 20 rfl rfl)
theorem dX0_end_21 : decode cX0_end 21 = .ok (.getfield 34, 3) := dk_180 0 34 (dk_at dksX0_end_0 21 rfl rfl)
theorem dX0_end_24 : decode cX0_end 24 = .ok (.iload_n 1, 1) := dk_27 (dk_at dksX0_end_1 0 rfl rfl)
theorem dX0_end_25 : decode cX0_end 25 = .ok (.invokevirtual 193, 3) := dk_182 0 193 (dk_at dksX0_end_1 1 rfl rfl)
theorem dX0_end_28 : decode cX0_end 28 = .ok (.checkcast 106, 3) := dk_192 0 106 (dk_at dksX0_end_1 4 rfl rfl)
theorem dX0_end_31 : decode cX0_end 31 = .ok (.getfield 163, 3) := dk_180 0 163 (dk_at dksX0_end_1 7 rfl rfl)
theorem dX0_end_34 : decode cX0_end 34 = .ok (.iload_n 2, 1) := dk_28 (dk_at dksX0_end_1 10 rfl rfl)
theorem dX0_end_35 : decode cX0_end 35 = .ok (.invokestatic 221, 3) := dk_184 0 221 (dk_at dksX0_end_1 11 rfl rfl)
theorem dX0_end_38 : decode cX0_end 38 = .ok (.goto 5, 3) := dk_167 0 5 (dk_at dksX0_end_1 14 rfl rfl)
theorem dX0_end_41 : decode cX0_end 41 = .ok (.ldc 115, 2) := dk_18 115 (dk_at dksX0_end_1 17 rfl rfl)
theorem dX0_end_43 : decode cX0_end 43 = .ok (.ireturn, 1) := dk_172 (dk_at dksX0_end_1 19 rfl rfl)
abbrev cX0_endTold : ByteArray := prog_1_method_20_code
def yX0_endTold : MethodName := ⟨RX0, "endTold", "(LRiverWords$Table;I)I"⟩
def dkwX0_endTold_1 : List UInt8 := [96, 172]
abbrev dktX0_endTold_1 : List UInt8 := dkwX0_endTold_1 ++ []
def dkwX0_endTold_0 : List UInt8 := [27, 154, 0, 15, 42, 180, 0, 85, 42, 180, 0, 88, 96, 167, 0, 12, 42, 180, 0, 78, 42, 180, 0, 82]
abbrev dktX0_endTold_0 : List UInt8 := dkwX0_endTold_0 ++ dktX0_endTold_1
theorem dksX0_endTold_0 : cX0_endTold.data.toList.drop 0 = dktX0_endTold_0 := by decide +kernel
theorem dksX0_endTold_1 : cX0_endTold.data.toList.drop 24 = dktX0_endTold_1 := dk_seg dksX0_endTold_0 24 rfl rfl
theorem dX0_endTold_0 : decode cX0_endTold 0 = .ok (.iload_n 1, 1) := dk_27 (dk_at dksX0_endTold_0 0 rfl rfl)
theorem dX0_endTold_1 : decode cX0_endTold 1 = .ok (.ifCond .ne 15, 3) := dk_154 0 15 (dk_at dksX0_endTold_0 1 rfl rfl)
theorem dX0_endTold_4 : decode cX0_endTold 4 = .ok (.aload_n 0, 1) := dk_42 (dk_at dksX0_endTold_0 4 rfl rfl)
theorem dX0_endTold_5 : decode cX0_endTold 5 = .ok (.getfield 85, 3) := dk_180 0 85 (dk_at dksX0_endTold_0 5 rfl rfl)
theorem dX0_endTold_8 : decode cX0_endTold 8 = .ok (.aload_n 0, 1) := dk_42 (dk_at dksX0_endTold_0 8 rfl rfl)
theorem dX0_endTold_9 : decode cX0_endTold 9 = .ok (.getfield 88, 3) := dk_180 0 88 (dk_at dksX0_endTold_0 9 rfl rfl)
theorem dX0_endTold_12 : decode cX0_endTold 12 = .ok (.iadd, 1) := dk_96 (dk_at dksX0_endTold_0 12 rfl rfl)
theorem dX0_endTold_13 : decode cX0_endTold 13 = .ok (.goto 12, 3) := dk_167 0 12 (dk_at dksX0_endTold_0 13 rfl rfl)
theorem dX0_endTold_16 : decode cX0_endTold 16 = .ok (.aload_n 0, 1) := dk_42 (dk_at dksX0_endTold_0 16 rfl rfl)
theorem dX0_endTold_17 : decode cX0_endTold 17 = .ok (.getfield 78, 3) := dk_180 0 78 (dk_at dksX0_endTold_0 17 rfl rfl)
theorem dX0_endTold_20 : decode cX0_endTold 20 = .ok (.aload_n 0, 1) := dk_42 (dk_at dksX0_endTold_0 20 rfl rfl)
theorem dX0_endTold_21 : decode cX0_endTold 21 = .ok (.getfield 82, 3) := dk_180 0 82 (dk_at dksX0_endTold_0 21 rfl rfl)
theorem dX0_endTold_24 : decode cX0_endTold 24 = .ok (.iadd, 1) := dk_96 (dk_at dksX0_endTold_1 0 rfl rfl)
theorem dX0_endTold_25 : decode cX0_endTold 25 = .ok (.ireturn, 1) := dk_172 (dk_at dksX0_endTold_1 1 rfl rfl)
abbrev cX0_alike : ByteArray := prog_1_method_23_code
def yX0_alike : MethodName := ⟨RX0, "alike", "(II)I"⟩
def dkwX0_alike_1 : List UInt8 := [192, 0, 106, 42, 180, 0, 34, 28, 182, 0, 193, 192, 0, 106, 184, 0, 225, 167, 0, 5, 18, 192, 172]
abbrev dktX0_alike_1 : List UInt8 := dkwX0_alike_1 ++ []
def dkwX0_alike_0 : List UInt8 := [42, 27, 182, 0, 188, 153, 0, 39, 42, 28, 182, 0, 188, 153, 0, 31, 42, 180, 0, 34, 27, 182, 0, 193]
abbrev dktX0_alike_0 : List UInt8 := dkwX0_alike_0 ++ dktX0_alike_1
theorem dksX0_alike_0 : cX0_alike.data.toList.drop 0 = dktX0_alike_0 := by decide +kernel
theorem dksX0_alike_1 : cX0_alike.data.toList.drop 24 = dktX0_alike_1 := dk_seg dksX0_alike_0 24 rfl rfl
theorem dX0_alike_0 : decode cX0_alike 0 = .ok (.aload_n 0, 1) := dk_42 (dk_at dksX0_alike_0 0 rfl rfl)
theorem dX0_alike_1 : decode cX0_alike 1 = .ok (.iload_n 1, 1) := dk_27 (dk_at dksX0_alike_0 1 rfl rfl)
theorem dX0_alike_2 : decode cX0_alike 2 = .ok (.invokevirtual 188, 3) := dk_182 0 188 (dk_at dksX0_alike_0 2 rfl rfl)
theorem dX0_alike_5 : decode cX0_alike 5 = .ok (.ifCond .eq 39, 3) := dk_153 0 39 (dk_at dksX0_alike_0 5 rfl rfl)
theorem dX0_alike_8 : decode cX0_alike 8 = .ok (.aload_n 0, 1) := dk_42 (dk_at dksX0_alike_0 8 rfl rfl)
theorem dX0_alike_9 : decode cX0_alike 9 = .ok (.iload_n 2, 1) := dk_28 (dk_at dksX0_alike_0 9 rfl rfl)
theorem dX0_alike_10 : decode cX0_alike 10 = .ok (.invokevirtual 188, 3) := dk_182 0 188 (dk_at dksX0_alike_0 10 rfl rfl)
theorem dX0_alike_13 : decode cX0_alike 13 = .ok (.ifCond .eq 31, 3) := dk_153 0 31 (dk_at dksX0_alike_0 13 rfl rfl)
theorem dX0_alike_16 : decode cX0_alike 16 = .ok (.aload_n 0, 1) := dk_42 (dk_at dksX0_alike_0 16 rfl rfl)
theorem dX0_alike_17 : decode cX0_alike 17 = .ok (.getfield 34, 3) := dk_180 0 34 (dk_at dksX0_alike_0 17 rfl rfl)
theorem dX0_alike_20 : decode cX0_alike 20 = .ok (.iload_n 1, 1) := dk_27 (dk_at dksX0_alike_0 20 rfl rfl)
theorem dX0_alike_21 : decode cX0_alike 21 = .ok (.invokevirtual 193, 3) := dk_182 0 193 (dk_at dksX0_alike_0 21 rfl rfl)
theorem dX0_alike_24 : decode cX0_alike 24 = .ok (.checkcast 106, 3) := dk_192 0 106 (dk_at dksX0_alike_1 0 rfl rfl)
theorem dX0_alike_27 : decode cX0_alike 27 = .ok (.aload_n 0, 1) := dk_42 (dk_at dksX0_alike_1 3 rfl rfl)
theorem dX0_alike_28 : decode cX0_alike 28 = .ok (.getfield 34, 3) := dk_180 0 34 (dk_at dksX0_alike_1 4 rfl rfl)
theorem dX0_alike_31 : decode cX0_alike 31 = .ok (.iload_n 2, 1) := dk_28 (dk_at dksX0_alike_1 7 rfl rfl)
theorem dX0_alike_32 : decode cX0_alike 32 = .ok (.invokevirtual 193, 3) := dk_182 0 193 (dk_at dksX0_alike_1 8 rfl rfl)
theorem dX0_alike_35 : decode cX0_alike 35 = .ok (.checkcast 106, 3) := dk_192 0 106 (dk_at dksX0_alike_1 11 rfl rfl)
theorem dX0_alike_38 : decode cX0_alike 38 = .ok (.invokestatic 225, 3) := dk_184 0 225 (dk_at dksX0_alike_1 14 rfl rfl)
theorem dX0_alike_41 : decode cX0_alike 41 = .ok (.goto 5, 3) := dk_167 0 5 (dk_at dksX0_alike_1 17 rfl rfl)
theorem dX0_alike_44 : decode cX0_alike 44 = .ok (.ldc 192, 2) := dk_18 192 (dk_at dksX0_alike_1 20 rfl rfl)
theorem dX0_alike_46 : decode cX0_alike 46 = .ok (.ireturn, 1) := dk_172 (dk_at dksX0_alike_1 22 rfl rfl)
abbrev cX0_alikeTold : ByteArray := prog_1_method_22_code
def yX0_alikeTold : MethodName := ⟨RX0, "alikeTold", "(LRiverWords$Road;LRiverWords$Road;)I"⟩
def dkwX0_alikeTold_4 : List UInt8 := [132, 3, 255, 167, 255, 172, 28, 172]
abbrev dktX0_alikeTold_4 : List UInt8 := dkwX0_alikeTold_4 ++ []
def dkwX0_alikeTold_3 : List UInt8 := [167, 0, 4, 3, 54, 4, 132, 5, 1, 167, 255, 210, 21, 4, 153, 0, 7, 29, 167, 0, 4, 28, 61]
abbrev dktX0_alikeTold_3 : List UInt8 := dkwX0_alikeTold_3 ++ dktX0_alikeTold_4
def dkwX0_alikeTold_2 : List UInt8 := [29, 21, 5, 96, 42, 182, 0, 146, 112, 182, 0, 201, 43, 21, 5, 182, 0, 201, 160, 0, 7, 4]
abbrev dktX0_alikeTold_2 : List UInt8 := dkwX0_alikeTold_2 ++ dktX0_alikeTold_3
def dkwX0_alikeTold_1 : List UInt8 := [160, 0, 75, 4, 54, 4, 3, 54, 5, 21, 5, 42, 182, 0, 146, 162, 0, 43, 21, 4, 153, 0, 38, 42]
abbrev dktX0_alikeTold_1 : List UInt8 := dkwX0_alikeTold_1 ++ dktX0_alikeTold_2
def dkwX0_alikeTold_0 : List UInt8 := [18, 224, 61, 42, 182, 0, 146, 4, 100, 62, 29, 155, 0, 86, 42, 182, 0, 146, 43, 182, 0, 146]
abbrev dktX0_alikeTold_0 : List UInt8 := dkwX0_alikeTold_0 ++ dktX0_alikeTold_1
theorem dksX0_alikeTold_0 : cX0_alikeTold.data.toList.drop 0 = dktX0_alikeTold_0 := by decide +kernel
theorem dksX0_alikeTold_1 : cX0_alikeTold.data.toList.drop 22 = dktX0_alikeTold_1 := dk_seg dksX0_alikeTold_0 22 rfl rfl
theorem dksX0_alikeTold_2 : cX0_alikeTold.data.toList.drop 46 = dktX0_alikeTold_2 := dk_seg dksX0_alikeTold_1 24 rfl rfl
theorem dksX0_alikeTold_3 : cX0_alikeTold.data.toList.drop 68 = dktX0_alikeTold_3 := dk_seg dksX0_alikeTold_2 22 rfl rfl
theorem dksX0_alikeTold_4 : cX0_alikeTold.data.toList.drop 91 = dktX0_alikeTold_4 := dk_seg dksX0_alikeTold_3 23 rfl rfl
theorem dX0_alikeTold_0 : decode cX0_alikeTold 0 = .ok (.ldc 224, 2) := dk_18 224 (dk_at dksX0_alikeTold_0 0 rfl rfl)
theorem dX0_alikeTold_2 : decode cX0_alikeTold 2 = .ok (.istore_n 2, 1) := dk_61 (dk_at dksX0_alikeTold_0 2 rfl rfl)
theorem dX0_alikeTold_3 : decode cX0_alikeTold 3 = .ok (.aload_n 0, 1) := dk_42 (dk_at dksX0_alikeTold_0 3 rfl rfl)
theorem dX0_alikeTold_4 : decode cX0_alikeTold 4 = .ok (.invokevirtual 146, 3) := dk_182 0 146 (dk_at dksX0_alikeTold_0 4 rfl rfl)
theorem dX0_alikeTold_7 : decode cX0_alikeTold 7 = .ok (.iconst 1, 1) := dk_4 (dk_at dksX0_alikeTold_0 7 rfl rfl)
theorem dX0_alikeTold_8 : decode cX0_alikeTold 8 = .ok (.isub, 1) := dk_100 (dk_at dksX0_alikeTold_0 8 rfl rfl)
theorem dX0_alikeTold_9 : decode cX0_alikeTold 9 = .ok (.istore_n 3, 1) := dk_62 (dk_at dksX0_alikeTold_0 9 rfl rfl)
theorem dX0_alikeTold_10 : decode cX0_alikeTold 10 = .ok (.iload_n 3, 1) := dk_29 (dk_at dksX0_alikeTold_0 10 rfl rfl)
theorem dX0_alikeTold_11 : decode cX0_alikeTold 11 = .ok (.ifCond .lt 86, 3) := dk_155 0 86 (dk_at dksX0_alikeTold_0 11 rfl rfl)
theorem dX0_alikeTold_14 : decode cX0_alikeTold 14 = .ok (.aload_n 0, 1) := dk_42 (dk_at dksX0_alikeTold_0 14 rfl rfl)
theorem dX0_alikeTold_15 : decode cX0_alikeTold 15 = .ok (.invokevirtual 146, 3) := dk_182 0 146 (dk_at dksX0_alikeTold_0 15 rfl rfl)
theorem dX0_alikeTold_18 : decode cX0_alikeTold 18 = .ok (.aload_n 1, 1) := dk_43 (dk_at dksX0_alikeTold_0 18 rfl rfl)
theorem dX0_alikeTold_19 : decode cX0_alikeTold 19 = .ok (.invokevirtual 146, 3) := dk_182 0 146 (dk_at dksX0_alikeTold_0 19 rfl rfl)
theorem dX0_alikeTold_22 : decode cX0_alikeTold 22 = .ok (.if_icmp .ne 75, 3) := dk_160 0 75 (dk_at dksX0_alikeTold_1 0 rfl rfl)
theorem dX0_alikeTold_25 : decode cX0_alikeTold 25 = .ok (.iconst 1, 1) := dk_4 (dk_at dksX0_alikeTold_1 3 rfl rfl)
theorem dX0_alikeTold_26 : decode cX0_alikeTold 26 = .ok (.istore 4, 2) := dk_54 4 (dk_at dksX0_alikeTold_1 4 rfl rfl)
theorem dX0_alikeTold_28 : decode cX0_alikeTold 28 = .ok (.iconst 0, 1) := dk_3 (dk_at dksX0_alikeTold_1 6 rfl rfl)
theorem dX0_alikeTold_29 : decode cX0_alikeTold 29 = .ok (.istore 5, 2) := dk_54 5 (dk_at dksX0_alikeTold_1 7 rfl rfl)
theorem dX0_alikeTold_31 : decode cX0_alikeTold 31 = .ok (.iload 5, 2) := dk_21 5 (dk_at dksX0_alikeTold_1 9 rfl rfl)
theorem dX0_alikeTold_33 : decode cX0_alikeTold 33 = .ok (.aload_n 0, 1) := dk_42 (dk_at dksX0_alikeTold_1 11 rfl rfl)
theorem dX0_alikeTold_34 : decode cX0_alikeTold 34 = .ok (.invokevirtual 146, 3) := dk_182 0 146 (dk_at dksX0_alikeTold_1 12 rfl rfl)
theorem dX0_alikeTold_37 : decode cX0_alikeTold 37 = .ok (.if_icmp .ge 43, 3) := dk_162 0 43 (dk_at dksX0_alikeTold_1 15 rfl rfl)
theorem dX0_alikeTold_40 : decode cX0_alikeTold 40 = .ok (.iload 4, 2) := dk_21 4 (dk_at dksX0_alikeTold_1 18 rfl rfl)
theorem dX0_alikeTold_42 : decode cX0_alikeTold 42 = .ok (.ifCond .eq 38, 3) := dk_153 0 38 (dk_at dksX0_alikeTold_1 20 rfl rfl)
theorem dX0_alikeTold_45 : decode cX0_alikeTold 45 = .ok (.aload_n 0, 1) := dk_42 (dk_at dksX0_alikeTold_1 23 rfl rfl)
theorem dX0_alikeTold_46 : decode cX0_alikeTold 46 = .ok (.iload_n 3, 1) := dk_29 (dk_at dksX0_alikeTold_2 0 rfl rfl)
theorem dX0_alikeTold_47 : decode cX0_alikeTold 47 = .ok (.iload 5, 2) := dk_21 5 (dk_at dksX0_alikeTold_2 1 rfl rfl)
theorem dX0_alikeTold_49 : decode cX0_alikeTold 49 = .ok (.iadd, 1) := dk_96 (dk_at dksX0_alikeTold_2 3 rfl rfl)
theorem dX0_alikeTold_50 : decode cX0_alikeTold 50 = .ok (.aload_n 0, 1) := dk_42 (dk_at dksX0_alikeTold_2 4 rfl rfl)
theorem dX0_alikeTold_51 : decode cX0_alikeTold 51 = .ok (.invokevirtual 146, 3) := dk_182 0 146 (dk_at dksX0_alikeTold_2 5 rfl rfl)
theorem dX0_alikeTold_54 : decode cX0_alikeTold 54 = .ok (.irem, 1) := dk_112 (dk_at dksX0_alikeTold_2 8 rfl rfl)
theorem dX0_alikeTold_55 : decode cX0_alikeTold 55 = .ok (.invokevirtual 201, 3) := dk_182 0 201 (dk_at dksX0_alikeTold_2 9 rfl rfl)
theorem dX0_alikeTold_58 : decode cX0_alikeTold 58 = .ok (.aload_n 1, 1) := dk_43 (dk_at dksX0_alikeTold_2 12 rfl rfl)
theorem dX0_alikeTold_59 : decode cX0_alikeTold 59 = .ok (.iload 5, 2) := dk_21 5 (dk_at dksX0_alikeTold_2 13 rfl rfl)
theorem dX0_alikeTold_61 : decode cX0_alikeTold 61 = .ok (.invokevirtual 201, 3) := dk_182 0 201 (dk_at dksX0_alikeTold_2 15 rfl rfl)
theorem dX0_alikeTold_64 : decode cX0_alikeTold 64 = .ok (.if_icmp .ne 7, 3) := dk_160 0 7 (dk_at dksX0_alikeTold_2 18 rfl rfl)
theorem dX0_alikeTold_67 : decode cX0_alikeTold 67 = .ok (.iconst 1, 1) := dk_4 (dk_at dksX0_alikeTold_2 21 rfl rfl)
theorem dX0_alikeTold_68 : decode cX0_alikeTold 68 = .ok (.goto 4, 3) := dk_167 0 4 (dk_at dksX0_alikeTold_3 0 rfl rfl)
theorem dX0_alikeTold_71 : decode cX0_alikeTold 71 = .ok (.iconst 0, 1) := dk_3 (dk_at dksX0_alikeTold_3 3 rfl rfl)
theorem dX0_alikeTold_72 : decode cX0_alikeTold 72 = .ok (.istore 4, 2) := dk_54 4 (dk_at dksX0_alikeTold_3 4 rfl rfl)
theorem dX0_alikeTold_74 : decode cX0_alikeTold 74 = .ok (.iinc 5 1, 3) := dk_132 5 1 (dk_at dksX0_alikeTold_3 6 rfl rfl)
theorem dX0_alikeTold_77 : decode cX0_alikeTold 77 = .ok (.goto (-46), 3) := dk_167 255 210 (dk_at dksX0_alikeTold_3 9 rfl rfl)
theorem dX0_alikeTold_80 : decode cX0_alikeTold 80 = .ok (.iload 4, 2) := dk_21 4 (dk_at dksX0_alikeTold_3 12 rfl rfl)
theorem dX0_alikeTold_82 : decode cX0_alikeTold 82 = .ok (.ifCond .eq 7, 3) := dk_153 0 7 (dk_at dksX0_alikeTold_3 14 rfl rfl)
theorem dX0_alikeTold_85 : decode cX0_alikeTold 85 = .ok (.iload_n 3, 1) := dk_29 (dk_at dksX0_alikeTold_3 17 rfl rfl)
theorem dX0_alikeTold_86 : decode cX0_alikeTold 86 = .ok (.goto 4, 3) := dk_167 0 4 (dk_at dksX0_alikeTold_3 18 rfl rfl)
theorem dX0_alikeTold_89 : decode cX0_alikeTold 89 = .ok (.iload_n 2, 1) := dk_28 (dk_at dksX0_alikeTold_3 21 rfl rfl)
theorem dX0_alikeTold_90 : decode cX0_alikeTold 90 = .ok (.istore_n 2, 1) := dk_61 (dk_at dksX0_alikeTold_3 22 rfl rfl)
theorem dX0_alikeTold_91 : decode cX0_alikeTold 91 = .ok (.iinc 3 (-1), 3) := dk_132 3 255 (dk_at dksX0_alikeTold_4 0 rfl rfl)
theorem dX0_alikeTold_94 : decode cX0_alikeTold 94 = .ok (.goto (-84), 3) := dk_167 255 172 (dk_at dksX0_alikeTold_4 3 rfl rfl)
theorem dX0_alikeTold_97 : decode cX0_alikeTold 97 = .ok (.iload_n 2, 1) := dk_28 (dk_at dksX0_alikeTold_4 6 rfl rfl)
theorem dX0_alikeTold_98 : decode cX0_alikeTold 98 = .ok (.ireturn, 1) := dk_172 (dk_at dksX0_alikeTold_4 7 rfl rfl)
abbrev cX0_cross : ByteArray := prog_1_method_27_code
def yX0_cross : MethodName := ⟨RX0, "cross", "(II)I"⟩
def dkwX0_cross_3 : List UInt8 := [167, 0, 5, 18, 104, 172]
abbrev dktX0_cross_3 : List UInt8 := dkwX0_cross_3 ++ []
def dkwX0_cross_2 : List UInt8 := [153, 0, 26, 25, 4, 182, 0, 169, 153, 0, 18, 45, 180, 0, 154, 25, 4, 180, 0, 154, 184, 0, 241]
abbrev dktX0_cross_2 : List UInt8 := dkwX0_cross_2 ++ dktX0_cross_3
def dkwX0_cross_1 : List UInt8 := [182, 0, 193, 192, 0, 106, 78, 42, 180, 0, 34, 28, 182, 0, 193, 192, 0, 106, 58, 4, 45, 182, 0, 169]
abbrev dktX0_cross_1 : List UInt8 := dkwX0_cross_1 ++ dktX0_cross_2
def dkwX0_cross_0 : List UInt8 := [42, 27, 182, 0, 188, 153, 0, 11, 42, 28, 182, 0, 188, 154, 0, 6, 18, 192, 172, 42, 180, 0, 34, 27]
abbrev dktX0_cross_0 : List UInt8 := dkwX0_cross_0 ++ dktX0_cross_1
theorem dksX0_cross_0 : cX0_cross.data.toList.drop 0 = dktX0_cross_0 := by decide +kernel
theorem dksX0_cross_1 : cX0_cross.data.toList.drop 24 = dktX0_cross_1 := dk_seg dksX0_cross_0 24 rfl rfl
theorem dksX0_cross_2 : cX0_cross.data.toList.drop 48 = dktX0_cross_2 := dk_seg dksX0_cross_1 24 rfl rfl
theorem dksX0_cross_3 : cX0_cross.data.toList.drop 71 = dktX0_cross_3 := dk_seg dksX0_cross_2 23 rfl rfl
theorem dX0_cross_0 : decode cX0_cross 0 = .ok (.aload_n 0, 1) := dk_42 (dk_at dksX0_cross_0 0 rfl rfl)
theorem dX0_cross_1 : decode cX0_cross 1 = .ok (.iload_n 1, 1) := dk_27 (dk_at dksX0_cross_0 1 rfl rfl)
theorem dX0_cross_2 : decode cX0_cross 2 = .ok (.invokevirtual 188, 3) := dk_182 0 188 (dk_at dksX0_cross_0 2 rfl rfl)
theorem dX0_cross_5 : decode cX0_cross 5 = .ok (.ifCond .eq 11, 3) := dk_153 0 11 (dk_at dksX0_cross_0 5 rfl rfl)
theorem dX0_cross_8 : decode cX0_cross 8 = .ok (.aload_n 0, 1) := dk_42 (dk_at dksX0_cross_0 8 rfl rfl)
theorem dX0_cross_9 : decode cX0_cross 9 = .ok (.iload_n 2, 1) := dk_28 (dk_at dksX0_cross_0 9 rfl rfl)
theorem dX0_cross_10 : decode cX0_cross 10 = .ok (.invokevirtual 188, 3) := dk_182 0 188 (dk_at dksX0_cross_0 10 rfl rfl)
theorem dX0_cross_13 : decode cX0_cross 13 = .ok (.ifCond .ne 6, 3) := dk_154 0 6 (dk_at dksX0_cross_0 13 rfl rfl)
theorem dX0_cross_16 : decode cX0_cross 16 = .ok (.ldc 192, 2) := dk_18 192 (dk_at dksX0_cross_0 16 rfl rfl)
theorem dX0_cross_18 : decode cX0_cross 18 = .ok (.ireturn, 1) := dk_172 (dk_at dksX0_cross_0 18 rfl rfl)
theorem dX0_cross_19 : decode cX0_cross 19 = .ok (.aload_n 0, 1) := dk_42 (dk_at dksX0_cross_0 19 rfl rfl)
theorem dX0_cross_20 : decode cX0_cross 20 = .ok (.getfield 34, 3) := dk_180 0 34 (dk_at dksX0_cross_0 20 rfl rfl)
theorem dX0_cross_23 : decode cX0_cross 23 = .ok (.iload_n 1, 1) := dk_27 (dk_at dksX0_cross_0 23 rfl rfl)
theorem dX0_cross_24 : decode cX0_cross 24 = .ok (.invokevirtual 193, 3) := dk_182 0 193 (dk_at dksX0_cross_1 0 rfl rfl)
theorem dX0_cross_27 : decode cX0_cross 27 = .ok (.checkcast 106, 3) := dk_192 0 106 (dk_at dksX0_cross_1 3 rfl rfl)
theorem dX0_cross_30 : decode cX0_cross 30 = .ok (.astore_n 3, 1) := dk_78 (dk_at dksX0_cross_1 6 rfl rfl)
theorem dX0_cross_31 : decode cX0_cross 31 = .ok (.aload_n 0, 1) := dk_42 (dk_at dksX0_cross_1 7 rfl rfl)
theorem dX0_cross_32 : decode cX0_cross 32 = .ok (.getfield 34, 3) := dk_180 0 34 (dk_at dksX0_cross_1 8 rfl rfl)
theorem dX0_cross_35 : decode cX0_cross 35 = .ok (.iload_n 2, 1) := dk_28 (dk_at dksX0_cross_1 11 rfl rfl)
theorem dX0_cross_36 : decode cX0_cross 36 = .ok (.invokevirtual 193, 3) := dk_182 0 193 (dk_at dksX0_cross_1 12 rfl rfl)
theorem dX0_cross_39 : decode cX0_cross 39 = .ok (.checkcast 106, 3) := dk_192 0 106 (dk_at dksX0_cross_1 15 rfl rfl)
theorem dX0_cross_42 : decode cX0_cross 42 = .ok (.astore 4, 2) := dk_58 4 (dk_at dksX0_cross_1 18 rfl rfl)
theorem dX0_cross_44 : decode cX0_cross 44 = .ok (.aload_n 3, 1) := dk_45 (dk_at dksX0_cross_1 20 rfl rfl)
theorem dX0_cross_45 : decode cX0_cross 45 = .ok (.invokevirtual 169, 3) := dk_182 0 169 (dk_at dksX0_cross_1 21 rfl rfl)
theorem dX0_cross_48 : decode cX0_cross 48 = .ok (.ifCond .eq 26, 3) := dk_153 0 26 (dk_at dksX0_cross_2 0 rfl rfl)
theorem dX0_cross_51 : decode cX0_cross 51 = .ok (.aload 4, 2) := dk_25 4 (dk_at dksX0_cross_2 3 rfl rfl)
theorem dX0_cross_53 : decode cX0_cross 53 = .ok (.invokevirtual 169, 3) := dk_182 0 169 (dk_at dksX0_cross_2 5 rfl rfl)
theorem dX0_cross_56 : decode cX0_cross 56 = .ok (.ifCond .eq 18, 3) := dk_153 0 18 (dk_at dksX0_cross_2 8 rfl rfl)
theorem dX0_cross_59 : decode cX0_cross 59 = .ok (.aload_n 3, 1) := dk_45 (dk_at dksX0_cross_2 11 rfl rfl)
theorem dX0_cross_60 : decode cX0_cross 60 = .ok (.getfield 154, 3) := dk_180 0 154 (dk_at dksX0_cross_2 12 rfl rfl)
theorem dX0_cross_63 : decode cX0_cross 63 = .ok (.aload 4, 2) := dk_25 4 (dk_at dksX0_cross_2 15 rfl rfl)
theorem dX0_cross_65 : decode cX0_cross 65 = .ok (.getfield 154, 3) := dk_180 0 154 (dk_at dksX0_cross_2 17 rfl rfl)
theorem dX0_cross_68 : decode cX0_cross 68 = .ok (.invokestatic 241, 3) := dk_184 0 241 (dk_at dksX0_cross_2 20 rfl rfl)
theorem dX0_cross_71 : decode cX0_cross 71 = .ok (.goto 5, 3) := dk_167 0 5 (dk_at dksX0_cross_3 0 rfl rfl)
theorem dX0_cross_74 : decode cX0_cross 74 = .ok (.ldc 104, 2) := dk_18 104 (dk_at dksX0_cross_3 3 rfl rfl)
theorem dX0_cross_76 : decode cX0_cross 76 = .ok (.ireturn, 1) := dk_172 (dk_at dksX0_cross_3 5 rfl rfl)
abbrev cX0_crossings : ByteArray := prog_1_method_26_code
def yX0_crossings : MethodName := ⟨RX0, "crossings", "(Ljava/lang/CharSequence;Ljava/lang/CharSequence;)I"⟩
def dkwX0_crossings_2 : List UInt8 := [3, 96, 61, 132, 4, 1, 167, 255, 223, 132, 3, 1, 167, 255, 204, 28, 172]
abbrev dktX0_crossings_2 : List UInt8 := dkwX0_crossings_2 ++ []
def dkwX0_crossings_1 : List UInt8 := [185, 0, 59, 1, 0, 162, 0, 28, 28, 42, 29, 43, 21, 4, 184, 0, 237, 153, 0, 7, 4, 167, 0, 4]
abbrev dktX0_crossings_1 : List UInt8 := dkwX0_crossings_1 ++ dktX0_crossings_2
def dkwX0_crossings_0 : List UInt8 := [3, 61, 3, 62, 29, 42, 185, 0, 59, 1, 0, 162, 0, 48, 3, 54, 4, 21, 4, 43]
abbrev dktX0_crossings_0 : List UInt8 := dkwX0_crossings_0 ++ dktX0_crossings_1
theorem dksX0_crossings_0 : cX0_crossings.data.toList.drop 0 = dktX0_crossings_0 := by decide +kernel
theorem dksX0_crossings_1 : cX0_crossings.data.toList.drop 20 = dktX0_crossings_1 := dk_seg dksX0_crossings_0 20 rfl rfl
theorem dksX0_crossings_2 : cX0_crossings.data.toList.drop 44 = dktX0_crossings_2 := dk_seg dksX0_crossings_1 24 rfl rfl
theorem dX0_crossings_0 : decode cX0_crossings 0 = .ok (.iconst 0, 1) := dk_3 (dk_at dksX0_crossings_0 0 rfl rfl)
theorem dX0_crossings_1 : decode cX0_crossings 1 = .ok (.istore_n 2, 1) := dk_61 (dk_at dksX0_crossings_0 1 rfl rfl)
theorem dX0_crossings_2 : decode cX0_crossings 2 = .ok (.iconst 0, 1) := dk_3 (dk_at dksX0_crossings_0 2 rfl rfl)
theorem dX0_crossings_3 : decode cX0_crossings 3 = .ok (.istore_n 3, 1) := dk_62 (dk_at dksX0_crossings_0 3 rfl rfl)
theorem dX0_crossings_4 : decode cX0_crossings 4 = .ok (.iload_n 3, 1) := dk_29 (dk_at dksX0_crossings_0 4 rfl rfl)
theorem dX0_crossings_5 : decode cX0_crossings 5 = .ok (.aload_n 0, 1) := dk_42 (dk_at dksX0_crossings_0 5 rfl rfl)
theorem dX0_crossings_6 : decode cX0_crossings 6 = .ok (.invokeinterface 59 1, 5) := by decide +kernel
theorem dX0_crossings_11 : decode cX0_crossings 11 = .ok (.if_icmp .ge 48, 3) := dk_162 0 48 (dk_at dksX0_crossings_0 11 rfl rfl)
theorem dX0_crossings_14 : decode cX0_crossings 14 = .ok (.iconst 0, 1) := dk_3 (dk_at dksX0_crossings_0 14 rfl rfl)
theorem dX0_crossings_15 : decode cX0_crossings 15 = .ok (.istore 4, 2) := dk_54 4 (dk_at dksX0_crossings_0 15 rfl rfl)
theorem dX0_crossings_17 : decode cX0_crossings 17 = .ok (.iload 4, 2) := dk_21 4 (dk_at dksX0_crossings_0 17 rfl rfl)
theorem dX0_crossings_19 : decode cX0_crossings 19 = .ok (.aload_n 1, 1) := dk_43 (dk_at dksX0_crossings_0 19 rfl rfl)
theorem dX0_crossings_20 : decode cX0_crossings 20 = .ok (.invokeinterface 59 1, 5) := by decide +kernel
theorem dX0_crossings_25 : decode cX0_crossings 25 = .ok (.if_icmp .ge 28, 3) := dk_162 0 28 (dk_at dksX0_crossings_1 5 rfl rfl)
theorem dX0_crossings_28 : decode cX0_crossings 28 = .ok (.iload_n 2, 1) := dk_28 (dk_at dksX0_crossings_1 8 rfl rfl)
theorem dX0_crossings_29 : decode cX0_crossings 29 = .ok (.aload_n 0, 1) := dk_42 (dk_at dksX0_crossings_1 9 rfl rfl)
theorem dX0_crossings_30 : decode cX0_crossings 30 = .ok (.iload_n 3, 1) := dk_29 (dk_at dksX0_crossings_1 10 rfl rfl)
theorem dX0_crossings_31 : decode cX0_crossings 31 = .ok (.aload_n 1, 1) := dk_43 (dk_at dksX0_crossings_1 11 rfl rfl)
theorem dX0_crossings_32 : decode cX0_crossings 32 = .ok (.iload 4, 2) := dk_21 4 (dk_at dksX0_crossings_1 12 rfl rfl)
theorem dX0_crossings_34 : decode cX0_crossings 34 = .ok (.invokestatic 237, 3) := dk_184 0 237 (dk_at dksX0_crossings_1 14 rfl rfl)
theorem dX0_crossings_37 : decode cX0_crossings 37 = .ok (.ifCond .eq 7, 3) := dk_153 0 7 (dk_at dksX0_crossings_1 17 rfl rfl)
theorem dX0_crossings_40 : decode cX0_crossings 40 = .ok (.iconst 1, 1) := dk_4 (dk_at dksX0_crossings_1 20 rfl rfl)
theorem dX0_crossings_41 : decode cX0_crossings 41 = .ok (.goto 4, 3) := dk_167 0 4 (dk_at dksX0_crossings_1 21 rfl rfl)
theorem dX0_crossings_44 : decode cX0_crossings 44 = .ok (.iconst 0, 1) := dk_3 (dk_at dksX0_crossings_2 0 rfl rfl)
theorem dX0_crossings_45 : decode cX0_crossings 45 = .ok (.iadd, 1) := dk_96 (dk_at dksX0_crossings_2 1 rfl rfl)
theorem dX0_crossings_46 : decode cX0_crossings 46 = .ok (.istore_n 2, 1) := dk_61 (dk_at dksX0_crossings_2 2 rfl rfl)
theorem dX0_crossings_47 : decode cX0_crossings 47 = .ok (.iinc 4 1, 3) := dk_132 4 1 (dk_at dksX0_crossings_2 3 rfl rfl)
theorem dX0_crossings_50 : decode cX0_crossings 50 = .ok (.goto (-33), 3) := dk_167 255 223 (dk_at dksX0_crossings_2 6 rfl rfl)
theorem dX0_crossings_53 : decode cX0_crossings 53 = .ok (.iinc 3 1, 3) := dk_132 3 1 (dk_at dksX0_crossings_2 9 rfl rfl)
theorem dX0_crossings_56 : decode cX0_crossings 56 = .ok (.goto (-52), 3) := dk_167 255 204 (dk_at dksX0_crossings_2 12 rfl rfl)
theorem dX0_crossings_59 : decode cX0_crossings 59 = .ok (.iload_n 2, 1) := dk_28 (dk_at dksX0_crossings_2 15 rfl rfl)
theorem dX0_crossings_60 : decode cX0_crossings 60 = .ok (.ireturn, 1) := dk_172 (dk_at dksX0_crossings_2 16 rfl rfl)
abbrev cX0_isCrossing : ByteArray := prog_1_method_25_code
def yX0_isCrossing : MethodName := ⟨RX0, "isCrossing", "(Ljava/lang/CharSequence;ILjava/lang/CharSequence;I)Z"⟩
def dkwX0_isCrossing_2 : List UInt8 := [167, 255, 234, 42, 27, 21, 5, 100, 184, 0, 233, 21, 4, 159, 0, 7, 4, 167, 0, 4, 3, 172]
abbrev dktX0_isCrossing_2 : List UInt8 := dkwX0_isCrossing_2 ++ []
def dkwX0_isCrossing_1 : List UInt8 := [54, 5, 42, 27, 21, 5, 100, 184, 0, 233, 44, 29, 21, 5, 100, 184, 0, 233, 160, 0, 9, 132, 5, 1]
abbrev dktX0_isCrossing_1 : List UInt8 := dkwX0_isCrossing_1 ++ dktX0_isCrossing_2
def dkwX0_isCrossing_0 : List UInt8 := [42, 27, 185, 0, 65, 2, 0, 54, 4, 21, 4, 44, 29, 185, 0, 65, 2, 0, 160, 0, 5, 3, 172, 4]
abbrev dktX0_isCrossing_0 : List UInt8 := dkwX0_isCrossing_0 ++ dktX0_isCrossing_1
theorem dksX0_isCrossing_0 : cX0_isCrossing.data.toList.drop 0 = dktX0_isCrossing_0 := by decide +kernel
theorem dksX0_isCrossing_1 : cX0_isCrossing.data.toList.drop 24 = dktX0_isCrossing_1 := dk_seg dksX0_isCrossing_0 24 rfl rfl
theorem dksX0_isCrossing_2 : cX0_isCrossing.data.toList.drop 48 = dktX0_isCrossing_2 := dk_seg dksX0_isCrossing_1 24 rfl rfl
theorem dX0_isCrossing_0 : decode cX0_isCrossing 0 = .ok (.aload_n 0, 1) := dk_42 (dk_at dksX0_isCrossing_0 0 rfl rfl)
theorem dX0_isCrossing_1 : decode cX0_isCrossing 1 = .ok (.iload_n 1, 1) := dk_27 (dk_at dksX0_isCrossing_0 1 rfl rfl)
theorem dX0_isCrossing_2 : decode cX0_isCrossing 2 = .ok (.invokeinterface 65 2, 5) := by decide +kernel
theorem dX0_isCrossing_7 : decode cX0_isCrossing 7 = .ok (.istore 4, 2) := dk_54 4 (dk_at dksX0_isCrossing_0 7 rfl rfl)
theorem dX0_isCrossing_9 : decode cX0_isCrossing 9 = .ok (.iload 4, 2) := dk_21 4 (dk_at dksX0_isCrossing_0 9 rfl rfl)
theorem dX0_isCrossing_11 : decode cX0_isCrossing 11 = .ok (.aload_n 2, 1) := dk_44 (dk_at dksX0_isCrossing_0 11 rfl rfl)
theorem dX0_isCrossing_12 : decode cX0_isCrossing 12 = .ok (.iload_n 3, 1) := dk_29 (dk_at dksX0_isCrossing_0 12 rfl rfl)
theorem dX0_isCrossing_13 : decode cX0_isCrossing 13 = .ok (.invokeinterface 65 2, 5) := by decide +kernel
theorem dX0_isCrossing_18 : decode cX0_isCrossing 18 = .ok (.if_icmp .ne 5, 3) := dk_160 0 5 (dk_at dksX0_isCrossing_0 18 rfl rfl)
theorem dX0_isCrossing_21 : decode cX0_isCrossing 21 = .ok (.iconst 0, 1) := dk_3 (dk_at dksX0_isCrossing_0 21 rfl rfl)
theorem dX0_isCrossing_22 : decode cX0_isCrossing 22 = .ok (.ireturn, 1) := dk_172 (dk_at dksX0_isCrossing_0 22 rfl rfl)
theorem dX0_isCrossing_23 : decode cX0_isCrossing 23 = .ok (.iconst 1, 1) := dk_4 (dk_at dksX0_isCrossing_0 23 rfl rfl)
theorem dX0_isCrossing_24 : decode cX0_isCrossing 24 = .ok (.istore 5, 2) := dk_54 5 (dk_at dksX0_isCrossing_1 0 rfl rfl)
theorem dX0_isCrossing_26 : decode cX0_isCrossing 26 = .ok (.aload_n 0, 1) := dk_42 (dk_at dksX0_isCrossing_1 2 rfl rfl)
theorem dX0_isCrossing_27 : decode cX0_isCrossing 27 = .ok (.iload_n 1, 1) := dk_27 (dk_at dksX0_isCrossing_1 3 rfl rfl)
theorem dX0_isCrossing_28 : decode cX0_isCrossing 28 = .ok (.iload 5, 2) := dk_21 5 (dk_at dksX0_isCrossing_1 4 rfl rfl)
theorem dX0_isCrossing_30 : decode cX0_isCrossing 30 = .ok (.isub, 1) := dk_100 (dk_at dksX0_isCrossing_1 6 rfl rfl)
theorem dX0_isCrossing_31 : decode cX0_isCrossing 31 = .ok (.invokestatic 233, 3) := dk_184 0 233 (dk_at dksX0_isCrossing_1 7 rfl rfl)
theorem dX0_isCrossing_34 : decode cX0_isCrossing 34 = .ok (.aload_n 2, 1) := dk_44 (dk_at dksX0_isCrossing_1 10 rfl rfl)
theorem dX0_isCrossing_35 : decode cX0_isCrossing 35 = .ok (.iload_n 3, 1) := dk_29 (dk_at dksX0_isCrossing_1 11 rfl rfl)
theorem dX0_isCrossing_36 : decode cX0_isCrossing 36 = .ok (.iload 5, 2) := dk_21 5 (dk_at dksX0_isCrossing_1 12 rfl rfl)
theorem dX0_isCrossing_38 : decode cX0_isCrossing 38 = .ok (.isub, 1) := dk_100 (dk_at dksX0_isCrossing_1 14 rfl rfl)
theorem dX0_isCrossing_39 : decode cX0_isCrossing 39 = .ok (.invokestatic 233, 3) := dk_184 0 233 (dk_at dksX0_isCrossing_1 15 rfl rfl)
theorem dX0_isCrossing_42 : decode cX0_isCrossing 42 = .ok (.if_icmp .ne 9, 3) := dk_160 0 9 (dk_at dksX0_isCrossing_1 18 rfl rfl)
theorem dX0_isCrossing_45 : decode cX0_isCrossing 45 = .ok (.iinc 5 1, 3) := dk_132 5 1 (dk_at dksX0_isCrossing_1 21 rfl rfl)
theorem dX0_isCrossing_48 : decode cX0_isCrossing 48 = .ok (.goto (-22), 3) := dk_167 255 234 (dk_at dksX0_isCrossing_2 0 rfl rfl)
theorem dX0_isCrossing_51 : decode cX0_isCrossing 51 = .ok (.aload_n 0, 1) := dk_42 (dk_at dksX0_isCrossing_2 3 rfl rfl)
theorem dX0_isCrossing_52 : decode cX0_isCrossing 52 = .ok (.iload_n 1, 1) := dk_27 (dk_at dksX0_isCrossing_2 4 rfl rfl)
theorem dX0_isCrossing_53 : decode cX0_isCrossing 53 = .ok (.iload 5, 2) := dk_21 5 (dk_at dksX0_isCrossing_2 5 rfl rfl)
theorem dX0_isCrossing_55 : decode cX0_isCrossing 55 = .ok (.isub, 1) := dk_100 (dk_at dksX0_isCrossing_2 7 rfl rfl)
theorem dX0_isCrossing_56 : decode cX0_isCrossing 56 = .ok (.invokestatic 233, 3) := dk_184 0 233 (dk_at dksX0_isCrossing_2 8 rfl rfl)
theorem dX0_isCrossing_59 : decode cX0_isCrossing 59 = .ok (.iload 4, 2) := dk_21 4 (dk_at dksX0_isCrossing_2 11 rfl rfl)
theorem dX0_isCrossing_61 : decode cX0_isCrossing 61 = .ok (.if_icmp .eq 7, 3) := dk_159 0 7 (dk_at dksX0_isCrossing_2 13 rfl rfl)
theorem dX0_isCrossing_64 : decode cX0_isCrossing 64 = .ok (.iconst 1, 1) := dk_4 (dk_at dksX0_isCrossing_2 16 rfl rfl)
theorem dX0_isCrossing_65 : decode cX0_isCrossing 65 = .ok (.goto 4, 3) := dk_167 0 4 (dk_at dksX0_isCrossing_2 17 rfl rfl)
theorem dX0_isCrossing_68 : decode cX0_isCrossing 68 = .ok (.iconst 0, 1) := dk_3 (dk_at dksX0_isCrossing_2 20 rfl rfl)
theorem dX0_isCrossing_69 : decode cX0_isCrossing 69 = .ok (.ireturn, 1) := dk_172 (dk_at dksX0_isCrossing_2 21 rfl rfl)
abbrev cX0_around : ByteArray := prog_1_method_24_code
def yX0_around : MethodName := ⟨RX0, "around", "(Ljava/lang/CharSequence;I)C"⟩
def dkwX0_around_0 : List UInt8 := [42, 27, 42, 185, 0, 59, 1, 0, 184, 0, 229, 185, 0, 65, 2, 0, 172]
abbrev dktX0_around_0 : List UInt8 := dkwX0_around_0 ++ []
theorem dksX0_around_0 : cX0_around.data.toList.drop 0 = dktX0_around_0 := by decide +kernel
theorem dX0_around_0 : decode cX0_around 0 = .ok (.aload_n 0, 1) := dk_42 (dk_at dksX0_around_0 0 rfl rfl)
theorem dX0_around_1 : decode cX0_around 1 = .ok (.iload_n 1, 1) := dk_27 (dk_at dksX0_around_0 1 rfl rfl)
theorem dX0_around_2 : decode cX0_around 2 = .ok (.aload_n 0, 1) := dk_42 (dk_at dksX0_around_0 2 rfl rfl)
theorem dX0_around_3 : decode cX0_around 3 = .ok (.invokeinterface 59 1, 5) := by decide +kernel
theorem dX0_around_8 : decode cX0_around 8 = .ok (.invokestatic 229, 3) := dk_184 0 229 (dk_at dksX0_around_0 8 rfl rfl)
theorem dX0_around_11 : decode cX0_around 11 = .ok (.invokeinterface 65 2, 5) := by decide +kernel
theorem dX0_around_16 : decode cX0_around 16 = .ok (.ireturn, 1) := dk_172 (dk_at dksX0_around_0 16 rfl rfl)
abbrev cX0_turn : ByteArray := prog_1_method_28_code
def yX0_turn : MethodName := ⟨RX0, "turn", "(II)I"⟩
def dkwX0_turn_2 : List UInt8 := [184, 0, 245, 182, 0, 249, 45, 182, 0, 151, 172]
abbrev dktX0_turn_2 : List UInt8 := dkwX0_turn_2 ++ []
def dkwX0_turn_1 : List UInt8 := [3, 45, 182, 0, 146, 4, 100, 184, 0, 97, 154, 0, 6, 18, 115, 172, 45, 45, 180, 0, 154, 28]
abbrev dktX0_turn_1 : List UInt8 := dkwX0_turn_1 ++ dktX0_turn_2
def dkwX0_turn_0 : List UInt8 := [42, 27, 182, 0, 188, 154, 0, 6, 18, 192, 172, 42, 180, 0, 34, 27, 182, 0, 193, 192, 0, 106, 78, 28]
abbrev dktX0_turn_0 : List UInt8 := dkwX0_turn_0 ++ dktX0_turn_1
theorem dksX0_turn_0 : cX0_turn.data.toList.drop 0 = dktX0_turn_0 := by decide +kernel
theorem dksX0_turn_1 : cX0_turn.data.toList.drop 24 = dktX0_turn_1 := dk_seg dksX0_turn_0 24 rfl rfl
theorem dksX0_turn_2 : cX0_turn.data.toList.drop 46 = dktX0_turn_2 := dk_seg dksX0_turn_1 22 rfl rfl
theorem dX0_turn_0 : decode cX0_turn 0 = .ok (.aload_n 0, 1) := dk_42 (dk_at dksX0_turn_0 0 rfl rfl)
theorem dX0_turn_1 : decode cX0_turn 1 = .ok (.iload_n 1, 1) := dk_27 (dk_at dksX0_turn_0 1 rfl rfl)
theorem dX0_turn_2 : decode cX0_turn 2 = .ok (.invokevirtual 188, 3) := dk_182 0 188 (dk_at dksX0_turn_0 2 rfl rfl)
theorem dX0_turn_5 : decode cX0_turn 5 = .ok (.ifCond .ne 6, 3) := dk_154 0 6 (dk_at dksX0_turn_0 5 rfl rfl)
theorem dX0_turn_8 : decode cX0_turn 8 = .ok (.ldc 192, 2) := dk_18 192 (dk_at dksX0_turn_0 8 rfl rfl)
theorem dX0_turn_10 : decode cX0_turn 10 = .ok (.ireturn, 1) := dk_172 (dk_at dksX0_turn_0 10 rfl rfl)
theorem dX0_turn_11 : decode cX0_turn 11 = .ok (.aload_n 0, 1) := dk_42 (dk_at dksX0_turn_0 11 rfl rfl)
theorem dX0_turn_12 : decode cX0_turn 12 = .ok (.getfield 34, 3) := dk_180 0 34 (dk_at dksX0_turn_0 12 rfl rfl)
theorem dX0_turn_15 : decode cX0_turn 15 = .ok (.iload_n 1, 1) := dk_27 (dk_at dksX0_turn_0 15 rfl rfl)
theorem dX0_turn_16 : decode cX0_turn 16 = .ok (.invokevirtual 193, 3) := dk_182 0 193 (dk_at dksX0_turn_0 16 rfl rfl)
theorem dX0_turn_19 : decode cX0_turn 19 = .ok (.checkcast 106, 3) := dk_192 0 106 (dk_at dksX0_turn_0 19 rfl rfl)
theorem dX0_turn_22 : decode cX0_turn 22 = .ok (.astore_n 3, 1) := dk_78 (dk_at dksX0_turn_0 22 rfl rfl)
theorem dX0_turn_23 : decode cX0_turn 23 = .ok (.iload_n 2, 1) := dk_28 (dk_at dksX0_turn_0 23 rfl rfl)
theorem dX0_turn_24 : decode cX0_turn 24 = .ok (.iconst 0, 1) := dk_3 (dk_at dksX0_turn_1 0 rfl rfl)
theorem dX0_turn_25 : decode cX0_turn 25 = .ok (.aload_n 3, 1) := dk_45 (dk_at dksX0_turn_1 1 rfl rfl)
theorem dX0_turn_26 : decode cX0_turn 26 = .ok (.invokevirtual 146, 3) := dk_182 0 146 (dk_at dksX0_turn_1 2 rfl rfl)
theorem dX0_turn_29 : decode cX0_turn 29 = .ok (.iconst 1, 1) := dk_4 (dk_at dksX0_turn_1 5 rfl rfl)
theorem dX0_turn_30 : decode cX0_turn 30 = .ok (.isub, 1) := dk_100 (dk_at dksX0_turn_1 6 rfl rfl)
theorem dX0_turn_31 : decode cX0_turn 31 = .ok (.invokestatic 97, 3) := dk_184 0 97 (dk_at dksX0_turn_1 7 rfl rfl)
theorem dX0_turn_34 : decode cX0_turn 34 = .ok (.ifCond .ne 6, 3) := dk_154 0 6 (dk_at dksX0_turn_1 10 rfl rfl)
theorem dX0_turn_37 : decode cX0_turn 37 = .ok (.ldc 115, 2) := dk_18 115 (dk_at dksX0_turn_1 13 rfl rfl)
theorem dX0_turn_39 : decode cX0_turn 39 = .ok (.ireturn, 1) := dk_172 (dk_at dksX0_turn_1 15 rfl rfl)
theorem dX0_turn_40 : decode cX0_turn 40 = .ok (.aload_n 3, 1) := dk_45 (dk_at dksX0_turn_1 16 rfl rfl)
theorem dX0_turn_41 : decode cX0_turn 41 = .ok (.aload_n 3, 1) := dk_45 (dk_at dksX0_turn_1 17 rfl rfl)
theorem dX0_turn_42 : decode cX0_turn 42 = .ok (.getfield 154, 3) := dk_180 0 154 (dk_at dksX0_turn_1 18 rfl rfl)
theorem dX0_turn_45 : decode cX0_turn 45 = .ok (.iload_n 2, 1) := dk_28 (dk_at dksX0_turn_1 21 rfl rfl)
theorem dX0_turn_46 : decode cX0_turn 46 = .ok (.invokestatic 245, 3) := dk_184 0 245 (dk_at dksX0_turn_2 0 rfl rfl)
theorem dX0_turn_49 : decode cX0_turn 49 = .ok (.invokevirtual 249, 3) := dk_182 0 249 (dk_at dksX0_turn_2 3 rfl rfl)
theorem dX0_turn_52 : decode cX0_turn 52 = .ok (.aload_n 3, 1) := dk_45 (dk_at dksX0_turn_2 6 rfl rfl)
theorem dX0_turn_53 : decode cX0_turn 53 = .ok (.invokevirtual 151, 3) := dk_182 0 151 (dk_at dksX0_turn_2 7 rfl rfl)
theorem dX0_turn_56 : decode cX0_turn 56 = .ok (.ireturn, 1) := dk_172 (dk_at dksX0_turn_2 10 rfl rfl)
abbrev cX0_change : ByteArray := prog_1_method_30_code
def yX0_change : MethodName := ⟨RX0, "change", "(II)I"⟩
def dkwX0_change_2 : List UInt8 := [180, 0, 163, 182, 0, 166, 172]
abbrev dktX0_change_2 : List UInt8 := dkwX0_change_2 ++ []
def dkwX0_change_1 : List UInt8 := [180, 0, 34, 27, 182, 0, 193, 192, 0, 106, 78, 45, 45, 180, 0, 154, 28, 184, 1, 0, 182, 0, 249, 45]
abbrev dktX0_change_1 : List UInt8 := dkwX0_change_1 ++ dktX0_change_2
def dkwX0_change_0 : List UInt8 := [42, 27, 182, 0, 188, 154, 0, 6, 18, 192, 172, 28, 3, 5, 184, 0, 97, 154, 0, 6, 18, 115, 172, 42]
abbrev dktX0_change_0 : List UInt8 := dkwX0_change_0 ++ dktX0_change_1
theorem dksX0_change_0 : cX0_change.data.toList.drop 0 = dktX0_change_0 := by decide +kernel
theorem dksX0_change_1 : cX0_change.data.toList.drop 24 = dktX0_change_1 := dk_seg dksX0_change_0 24 rfl rfl
theorem dksX0_change_2 : cX0_change.data.toList.drop 48 = dktX0_change_2 := dk_seg dksX0_change_1 24 rfl rfl
theorem dX0_change_0 : decode cX0_change 0 = .ok (.aload_n 0, 1) := dk_42 (dk_at dksX0_change_0 0 rfl rfl)
theorem dX0_change_1 : decode cX0_change 1 = .ok (.iload_n 1, 1) := dk_27 (dk_at dksX0_change_0 1 rfl rfl)
theorem dX0_change_2 : decode cX0_change 2 = .ok (.invokevirtual 188, 3) := dk_182 0 188 (dk_at dksX0_change_0 2 rfl rfl)
theorem dX0_change_5 : decode cX0_change 5 = .ok (.ifCond .ne 6, 3) := dk_154 0 6 (dk_at dksX0_change_0 5 rfl rfl)
theorem dX0_change_8 : decode cX0_change 8 = .ok (.ldc 192, 2) := dk_18 192 (dk_at dksX0_change_0 8 rfl rfl)
theorem dX0_change_10 : decode cX0_change 10 = .ok (.ireturn, 1) := dk_172 (dk_at dksX0_change_0 10 rfl rfl)
theorem dX0_change_11 : decode cX0_change 11 = .ok (.iload_n 2, 1) := dk_28 (dk_at dksX0_change_0 11 rfl rfl)
theorem dX0_change_12 : decode cX0_change 12 = .ok (.iconst 0, 1) := dk_3 (dk_at dksX0_change_0 12 rfl rfl)
theorem dX0_change_13 : decode cX0_change 13 = .ok (.iconst 2, 1) := dk_5 (dk_at dksX0_change_0 13 rfl rfl)
theorem dX0_change_14 : decode cX0_change 14 = .ok (.invokestatic 97, 3) := dk_184 0 97 (dk_at dksX0_change_0 14 rfl rfl)
theorem dX0_change_17 : decode cX0_change 17 = .ok (.ifCond .ne 6, 3) := dk_154 0 6 (dk_at dksX0_change_0 17 rfl rfl)
theorem dX0_change_20 : decode cX0_change 20 = .ok (.ldc 115, 2) := dk_18 115 (dk_at dksX0_change_0 20 rfl rfl)
theorem dX0_change_22 : decode cX0_change 22 = .ok (.ireturn, 1) := dk_172 (dk_at dksX0_change_0 22 rfl rfl)
theorem dX0_change_23 : decode cX0_change 23 = .ok (.aload_n 0, 1) := dk_42 (dk_at dksX0_change_0 23 rfl rfl)
theorem dX0_change_24 : decode cX0_change 24 = .ok (.getfield 34, 3) := dk_180 0 34 (dk_at dksX0_change_1 0 rfl rfl)
theorem dX0_change_27 : decode cX0_change 27 = .ok (.iload_n 1, 1) := dk_27 (dk_at dksX0_change_1 3 rfl rfl)
theorem dX0_change_28 : decode cX0_change 28 = .ok (.invokevirtual 193, 3) := dk_182 0 193 (dk_at dksX0_change_1 4 rfl rfl)
theorem dX0_change_31 : decode cX0_change 31 = .ok (.checkcast 106, 3) := dk_192 0 106 (dk_at dksX0_change_1 7 rfl rfl)
theorem dX0_change_34 : decode cX0_change 34 = .ok (.astore_n 3, 1) := dk_78 (dk_at dksX0_change_1 10 rfl rfl)
theorem dX0_change_35 : decode cX0_change 35 = .ok (.aload_n 3, 1) := dk_45 (dk_at dksX0_change_1 11 rfl rfl)
theorem dX0_change_36 : decode cX0_change 36 = .ok (.aload_n 3, 1) := dk_45 (dk_at dksX0_change_1 12 rfl rfl)
theorem dX0_change_37 : decode cX0_change 37 = .ok (.getfield 154, 3) := dk_180 0 154 (dk_at dksX0_change_1 13 rfl rfl)
theorem dX0_change_40 : decode cX0_change 40 = .ok (.iload_n 2, 1) := dk_28 (dk_at dksX0_change_1 16 rfl rfl)
theorem dX0_change_41 : decode cX0_change 41 = .ok (.invokestatic 256, 3) := dk_184 1 0 (dk_at dksX0_change_1 17 rfl rfl)
theorem dX0_change_44 : decode cX0_change 44 = .ok (.invokevirtual 249, 3) := dk_182 0 249 (dk_at dksX0_change_1 20 rfl rfl)
theorem dX0_change_47 : decode cX0_change 47 = .ok (.aload_n 3, 1) := dk_45 (dk_at dksX0_change_1 23 rfl rfl)
theorem dX0_change_48 : decode cX0_change 48 = .ok (.getfield 163, 3) := dk_180 0 163 (dk_at dksX0_change_2 0 rfl rfl)
theorem dX0_change_51 : decode cX0_change 51 = .ok (.invokevirtual 166, 3) := dk_182 0 166 (dk_at dksX0_change_2 3 rfl rfl)
theorem dX0_change_54 : decode cX0_change 54 = .ok (.ireturn, 1) := dk_172 (dk_at dksX0_change_2 6 rfl rfl)
abbrev cX0_changed : ByteArray := prog_1_method_29_code
def yX0_changed : MethodName := ⟨RX0, "changed", "(Ljava/lang/String;I)Ljava/lang/String;"⟩
def dkwX0_changed_2 : List UInt8 := [42, 184, 0, 177, 167, 0, 14, 42, 184, 0, 185, 167, 0, 7, 42, 184, 0, 253, 176]
abbrev dktX0_changed_2 : List UInt8 := dkwX0_changed_2 ++ []
def dkwX0_changed_1 : List UInt8 := [171, 0, 0, 0, 0, 0, 41, 0, 0, 0, 2, 0, 0, 0, 0, 0, 0, 0, 27, 0, 0, 0, 1, 0, 0, 0, 34]
abbrev dktX0_changed_1 : List UInt8 := dkwX0_changed_1 ++ dktX0_changed_2
def dkwX0_changed_0 : List UInt8 := [27]
abbrev dktX0_changed_0 : List UInt8 := dkwX0_changed_0 ++ dktX0_changed_1
theorem dksX0_changed_0 : cX0_changed.data.toList.drop 0 = dktX0_changed_0 := by decide +kernel
theorem dksX0_changed_1 : cX0_changed.data.toList.drop 1 = dktX0_changed_1 := dk_seg dksX0_changed_0 1 rfl rfl
theorem dksX0_changed_2 : cX0_changed.data.toList.drop 28 = dktX0_changed_2 := dk_seg dksX0_changed_1 27 rfl rfl
theorem dX0_changed_0 : decode cX0_changed 0 = .ok (.iload_n 1, 1) := dk_27 (dk_at dksX0_changed_0 0 rfl rfl)
theorem dX0_changed_1 : decode cX0_changed 1 = .ok (.lookupswitch 41 #[(0, 27), (1, 34)], 27) := by decide +kernel
theorem dX0_changed_28 : decode cX0_changed 28 = .ok (.aload_n 0, 1) := dk_42 (dk_at dksX0_changed_2 0 rfl rfl)
theorem dX0_changed_29 : decode cX0_changed 29 = .ok (.invokestatic 177, 3) := dk_184 0 177 (dk_at dksX0_changed_2 1 rfl rfl)
theorem dX0_changed_32 : decode cX0_changed 32 = .ok (.goto 14, 3) := dk_167 0 14 (dk_at dksX0_changed_2 4 rfl rfl)
theorem dX0_changed_35 : decode cX0_changed 35 = .ok (.aload_n 0, 1) := dk_42 (dk_at dksX0_changed_2 7 rfl rfl)
theorem dX0_changed_36 : decode cX0_changed 36 = .ok (.invokestatic 185, 3) := dk_184 0 185 (dk_at dksX0_changed_2 8 rfl rfl)
theorem dX0_changed_39 : decode cX0_changed 39 = .ok (.goto 7, 3) := dk_167 0 7 (dk_at dksX0_changed_2 11 rfl rfl)
theorem dX0_changed_42 : decode cX0_changed 42 = .ok (.aload_n 0, 1) := dk_42 (dk_at dksX0_changed_2 14 rfl rfl)
theorem dX0_changed_43 : decode cX0_changed 43 = .ok (.invokestatic 253, 3) := dk_184 0 253 (dk_at dksX0_changed_2 15 rfl rfl)
theorem dX0_changed_46 : decode cX0_changed 46 = .ok (.areturn, 1) := dk_176 (dk_at dksX0_changed_2 18 rfl rfl)
abbrev cX0_join : ByteArray := prog_1_method_31_code
def yX0_join : MethodName := ⟨RX0, "join", "(II)I"⟩
def dkwX0_join_2 : List UInt8 := [182, 0, 193, 192, 0, 106, 180, 0, 154, 182, 1, 5, 182, 0, 135, 182, 0, 139, 167, 0, 5, 18, 192, 172]
abbrev dktX0_join_2 : List UInt8 := dkwX0_join_2 ++ []
def dkwX0_join_1 : List UInt8 := [42, 180, 0, 34, 27, 182, 0, 193, 192, 0, 106, 180, 0, 154, 182, 1, 5, 42, 180, 0, 34, 28]
abbrev dktX0_join_1 : List UInt8 := dkwX0_join_1 ++ dktX0_join_2
def dkwX0_join_0 : List UInt8 := [42, 27, 182, 0, 188, 153, 0, 62, 42, 28, 182, 0, 188, 153, 0, 54, 42, 187, 0, 38, 89, 183, 1, 4]
abbrev dktX0_join_0 : List UInt8 := dkwX0_join_0 ++ dktX0_join_1
theorem dksX0_join_0 : cX0_join.data.toList.drop 0 = dktX0_join_0 := by decide +kernel
theorem dksX0_join_1 : cX0_join.data.toList.drop 24 = dktX0_join_1 := dk_seg dksX0_join_0 24 rfl rfl
theorem dksX0_join_2 : cX0_join.data.toList.drop 46 = dktX0_join_2 := dk_seg dksX0_join_1 22 rfl rfl
theorem dX0_join_0 : decode cX0_join 0 = .ok (.aload_n 0, 1) := dk_42 (dk_at dksX0_join_0 0 rfl rfl)
theorem dX0_join_1 : decode cX0_join 1 = .ok (.iload_n 1, 1) := dk_27 (dk_at dksX0_join_0 1 rfl rfl)
theorem dX0_join_2 : decode cX0_join 2 = .ok (.invokevirtual 188, 3) := dk_182 0 188 (dk_at dksX0_join_0 2 rfl rfl)
theorem dX0_join_5 : decode cX0_join 5 = .ok (.ifCond .eq 62, 3) := dk_153 0 62 (dk_at dksX0_join_0 5 rfl rfl)
theorem dX0_join_8 : decode cX0_join 8 = .ok (.aload_n 0, 1) := dk_42 (dk_at dksX0_join_0 8 rfl rfl)
theorem dX0_join_9 : decode cX0_join 9 = .ok (.iload_n 2, 1) := dk_28 (dk_at dksX0_join_0 9 rfl rfl)
theorem dX0_join_10 : decode cX0_join 10 = .ok (.invokevirtual 188, 3) := dk_182 0 188 (dk_at dksX0_join_0 10 rfl rfl)
theorem dX0_join_13 : decode cX0_join 13 = .ok (.ifCond .eq 54, 3) := dk_153 0 54 (dk_at dksX0_join_0 13 rfl rfl)
theorem dX0_join_16 : decode cX0_join 16 = .ok (.aload_n 0, 1) := dk_42 (dk_at dksX0_join_0 16 rfl rfl)
theorem dX0_join_17 : decode cX0_join 17 = .ok (.new 38, 3) := dk_187 0 38 (dk_at dksX0_join_0 17 rfl rfl)
theorem dX0_join_20 : decode cX0_join 20 = .ok (.dup, 1) := dk_89 (dk_at dksX0_join_0 20 rfl rfl)
theorem dX0_join_21 : decode cX0_join 21 = .ok (.invokespecial 260, 3) := dk_183 1 4 (dk_at dksX0_join_0 21 rfl rfl)
theorem dX0_join_24 : decode cX0_join 24 = .ok (.aload_n 0, 1) := dk_42 (dk_at dksX0_join_1 0 rfl rfl)
theorem dX0_join_25 : decode cX0_join 25 = .ok (.getfield 34, 3) := dk_180 0 34 (dk_at dksX0_join_1 1 rfl rfl)
theorem dX0_join_28 : decode cX0_join 28 = .ok (.iload_n 1, 1) := dk_27 (dk_at dksX0_join_1 4 rfl rfl)
theorem dX0_join_29 : decode cX0_join 29 = .ok (.invokevirtual 193, 3) := dk_182 0 193 (dk_at dksX0_join_1 5 rfl rfl)
theorem dX0_join_32 : decode cX0_join 32 = .ok (.checkcast 106, 3) := dk_192 0 106 (dk_at dksX0_join_1 8 rfl rfl)
theorem dX0_join_35 : decode cX0_join 35 = .ok (.getfield 154, 3) := dk_180 0 154 (dk_at dksX0_join_1 11 rfl rfl)
theorem dX0_join_38 : decode cX0_join 38 = .ok (.invokevirtual 261, 3) := dk_182 1 5 (dk_at dksX0_join_1 14 rfl rfl)
theorem dX0_join_41 : decode cX0_join 41 = .ok (.aload_n 0, 1) := dk_42 (dk_at dksX0_join_1 17 rfl rfl)
theorem dX0_join_42 : decode cX0_join 42 = .ok (.getfield 34, 3) := dk_180 0 34 (dk_at dksX0_join_1 18 rfl rfl)
theorem dX0_join_45 : decode cX0_join 45 = .ok (.iload_n 2, 1) := dk_28 (dk_at dksX0_join_1 21 rfl rfl)
theorem dX0_join_46 : decode cX0_join 46 = .ok (.invokevirtual 193, 3) := dk_182 0 193 (dk_at dksX0_join_2 0 rfl rfl)
theorem dX0_join_49 : decode cX0_join 49 = .ok (.checkcast 106, 3) := dk_192 0 106 (dk_at dksX0_join_2 3 rfl rfl)
theorem dX0_join_52 : decode cX0_join 52 = .ok (.getfield 154, 3) := dk_180 0 154 (dk_at dksX0_join_2 6 rfl rfl)
theorem dX0_join_55 : decode cX0_join 55 = .ok (.invokevirtual 261, 3) := dk_182 1 5 (dk_at dksX0_join_2 9 rfl rfl)
theorem dX0_join_58 : decode cX0_join 58 = .ok (.invokevirtual 135, 3) := dk_182 0 135 (dk_at dksX0_join_2 12 rfl rfl)
theorem dX0_join_61 : decode cX0_join 61 = .ok (.invokevirtual 139, 3) := dk_182 0 139 (dk_at dksX0_join_2 15 rfl rfl)
theorem dX0_join_64 : decode cX0_join 64 = .ok (.goto 5, 3) := dk_167 0 5 (dk_at dksX0_join_2 18 rfl rfl)
theorem dX0_join_67 : decode cX0_join 67 = .ok (.ldc 192, 2) := dk_18 192 (dk_at dksX0_join_2 21 rfl rfl)
theorem dX0_join_69 : decode cX0_join 69 = .ok (.ireturn, 1) := dk_172 (dk_at dksX0_join_2 23 rfl rfl)
abbrev cX0_times : ByteArray := prog_1_method_32_code
def yX0_times : MethodName := ⟨RX0, "times", "(II)I"⟩
def dkwX0_times_2 : List UInt8 := [18, 115, 172]
abbrev dktX0_times_2 : List UInt8 := dkwX0_times_2 ++ []
def dkwX0_times_1 : List UInt8 := [180, 0, 34, 27, 182, 0, 193, 192, 0, 106, 180, 0, 154, 28, 182, 1, 8, 182, 0, 139, 167, 0, 5]
abbrev dktX0_times_1 : List UInt8 := dkwX0_times_1 ++ dktX0_times_2
def dkwX0_times_0 : List UInt8 := [42, 27, 182, 0, 188, 154, 0, 6, 18, 192, 172, 28, 5, 8, 184, 0, 97, 153, 0, 28, 42, 42]
abbrev dktX0_times_0 : List UInt8 := dkwX0_times_0 ++ dktX0_times_1
theorem dksX0_times_0 : cX0_times.data.toList.drop 0 = dktX0_times_0 := by decide +kernel
theorem dksX0_times_1 : cX0_times.data.toList.drop 22 = dktX0_times_1 := dk_seg dksX0_times_0 22 rfl rfl
theorem dksX0_times_2 : cX0_times.data.toList.drop 45 = dktX0_times_2 := dk_seg dksX0_times_1 23 rfl rfl
theorem dX0_times_0 : decode cX0_times 0 = .ok (.aload_n 0, 1) := dk_42 (dk_at dksX0_times_0 0 rfl rfl)
theorem dX0_times_1 : decode cX0_times 1 = .ok (.iload_n 1, 1) := dk_27 (dk_at dksX0_times_0 1 rfl rfl)
theorem dX0_times_2 : decode cX0_times 2 = .ok (.invokevirtual 188, 3) := dk_182 0 188 (dk_at dksX0_times_0 2 rfl rfl)
theorem dX0_times_5 : decode cX0_times 5 = .ok (.ifCond .ne 6, 3) := dk_154 0 6 (dk_at dksX0_times_0 5 rfl rfl)
theorem dX0_times_8 : decode cX0_times 8 = .ok (.ldc 192, 2) := dk_18 192 (dk_at dksX0_times_0 8 rfl rfl)
theorem dX0_times_10 : decode cX0_times 10 = .ok (.ireturn, 1) := dk_172 (dk_at dksX0_times_0 10 rfl rfl)
theorem dX0_times_11 : decode cX0_times 11 = .ok (.iload_n 2, 1) := dk_28 (dk_at dksX0_times_0 11 rfl rfl)
theorem dX0_times_12 : decode cX0_times 12 = .ok (.iconst 2, 1) := dk_5 (dk_at dksX0_times_0 12 rfl rfl)
theorem dX0_times_13 : decode cX0_times 13 = .ok (.iconst 5, 1) := dk_8 (dk_at dksX0_times_0 13 rfl rfl)
theorem dX0_times_14 : decode cX0_times 14 = .ok (.invokestatic 97, 3) := dk_184 0 97 (dk_at dksX0_times_0 14 rfl rfl)
theorem dX0_times_17 : decode cX0_times 17 = .ok (.ifCond .eq 28, 3) := dk_153 0 28 (dk_at dksX0_times_0 17 rfl rfl)
theorem dX0_times_20 : decode cX0_times 20 = .ok (.aload_n 0, 1) := dk_42 (dk_at dksX0_times_0 20 rfl rfl)
theorem dX0_times_21 : decode cX0_times 21 = .ok (.aload_n 0, 1) := dk_42 (dk_at dksX0_times_0 21 rfl rfl)
theorem dX0_times_22 : decode cX0_times 22 = .ok (.getfield 34, 3) := dk_180 0 34 (dk_at dksX0_times_1 0 rfl rfl)
theorem dX0_times_25 : decode cX0_times 25 = .ok (.iload_n 1, 1) := dk_27 (dk_at dksX0_times_1 3 rfl rfl)
theorem dX0_times_26 : decode cX0_times 26 = .ok (.invokevirtual 193, 3) := dk_182 0 193 (dk_at dksX0_times_1 4 rfl rfl)
theorem dX0_times_29 : decode cX0_times 29 = .ok (.checkcast 106, 3) := dk_192 0 106 (dk_at dksX0_times_1 7 rfl rfl)
theorem dX0_times_32 : decode cX0_times 32 = .ok (.getfield 154, 3) := dk_180 0 154 (dk_at dksX0_times_1 10 rfl rfl)
theorem dX0_times_35 : decode cX0_times 35 = .ok (.iload_n 2, 1) := dk_28 (dk_at dksX0_times_1 13 rfl rfl)
theorem dX0_times_36 : decode cX0_times 36 = .ok (.invokevirtual 264, 3) := dk_182 1 8 (dk_at dksX0_times_1 14 rfl rfl)
theorem dX0_times_39 : decode cX0_times 39 = .ok (.invokevirtual 139, 3) := dk_182 0 139 (dk_at dksX0_times_1 17 rfl rfl)
theorem dX0_times_42 : decode cX0_times 42 = .ok (.goto 5, 3) := dk_167 0 5 (dk_at dksX0_times_1 20 rfl rfl)
theorem dX0_times_45 : decode cX0_times 45 = .ok (.ldc 115, 2) := dk_18 115 (dk_at dksX0_times_2 0 rfl rfl)
theorem dX0_times_47 : decode cX0_times 47 = .ok (.ireturn, 1) := dk_172 (dk_at dksX0_times_2 2 rfl rfl)
abbrev cX0_cut : ByteArray := prog_1_method_34_code
def yX0_cut : MethodName := ⟨RX0, "cut", "(II)I"⟩
def dkwX0_cut_2 : List UInt8 := [172]
abbrev dktX0_cut_2 : List UInt8 := dkwX0_cut_2 ++ []
def dkwX0_cut_1 : List UInt8 := [184, 1, 12, 4, 163, 0, 8, 27, 28, 160, 0, 6, 18, 115, 172, 42, 27, 28, 184, 1, 15, 182, 0, 139]
abbrev dktX0_cut_1 : List UInt8 := dkwX0_cut_1 ++ dktX0_cut_2
def dkwX0_cut_0 : List UInt8 := [27, 4, 16, 99, 184, 0, 97, 153, 0, 27, 28, 4, 16, 99, 184, 0, 97, 153, 0, 17, 27, 28]
abbrev dktX0_cut_0 : List UInt8 := dkwX0_cut_0 ++ dktX0_cut_1
theorem dksX0_cut_0 : cX0_cut.data.toList.drop 0 = dktX0_cut_0 := by decide +kernel
theorem dksX0_cut_1 : cX0_cut.data.toList.drop 22 = dktX0_cut_1 := dk_seg dksX0_cut_0 22 rfl rfl
theorem dksX0_cut_2 : cX0_cut.data.toList.drop 46 = dktX0_cut_2 := dk_seg dksX0_cut_1 24 rfl rfl
theorem dX0_cut_0 : decode cX0_cut 0 = .ok (.iload_n 1, 1) := dk_27 (dk_at dksX0_cut_0 0 rfl rfl)
theorem dX0_cut_1 : decode cX0_cut 1 = .ok (.iconst 1, 1) := dk_4 (dk_at dksX0_cut_0 1 rfl rfl)
theorem dX0_cut_2 : decode cX0_cut 2 = .ok (.bipush 99, 2) := dk_16 99 (dk_at dksX0_cut_0 2 rfl rfl)
theorem dX0_cut_4 : decode cX0_cut 4 = .ok (.invokestatic 97, 3) := dk_184 0 97 (dk_at dksX0_cut_0 4 rfl rfl)
theorem dX0_cut_7 : decode cX0_cut 7 = .ok (.ifCond .eq 27, 3) := dk_153 0 27 (dk_at dksX0_cut_0 7 rfl rfl)
theorem dX0_cut_10 : decode cX0_cut 10 = .ok (.iload_n 2, 1) := dk_28 (dk_at dksX0_cut_0 10 rfl rfl)
theorem dX0_cut_11 : decode cX0_cut 11 = .ok (.iconst 1, 1) := dk_4 (dk_at dksX0_cut_0 11 rfl rfl)
theorem dX0_cut_12 : decode cX0_cut 12 = .ok (.bipush 99, 2) := dk_16 99 (dk_at dksX0_cut_0 12 rfl rfl)
theorem dX0_cut_14 : decode cX0_cut 14 = .ok (.invokestatic 97, 3) := dk_184 0 97 (dk_at dksX0_cut_0 14 rfl rfl)
theorem dX0_cut_17 : decode cX0_cut 17 = .ok (.ifCond .eq 17, 3) := dk_153 0 17 (dk_at dksX0_cut_0 17 rfl rfl)
theorem dX0_cut_20 : decode cX0_cut 20 = .ok (.iload_n 1, 1) := dk_27 (dk_at dksX0_cut_0 20 rfl rfl)
theorem dX0_cut_21 : decode cX0_cut 21 = .ok (.iload_n 2, 1) := dk_28 (dk_at dksX0_cut_0 21 rfl rfl)
theorem dX0_cut_22 : decode cX0_cut 22 = .ok (.invokestatic 268, 3) := dk_184 1 12 (dk_at dksX0_cut_1 0 rfl rfl)
theorem dX0_cut_25 : decode cX0_cut 25 = .ok (.iconst 1, 1) := dk_4 (dk_at dksX0_cut_1 3 rfl rfl)
theorem dX0_cut_26 : decode cX0_cut 26 = .ok (.if_icmp .gt 8, 3) := dk_163 0 8 (dk_at dksX0_cut_1 4 rfl rfl)
theorem dX0_cut_29 : decode cX0_cut 29 = .ok (.iload_n 1, 1) := dk_27 (dk_at dksX0_cut_1 7 rfl rfl)
theorem dX0_cut_30 : decode cX0_cut 30 = .ok (.iload_n 2, 1) := dk_28 (dk_at dksX0_cut_1 8 rfl rfl)
theorem dX0_cut_31 : decode cX0_cut 31 = .ok (.if_icmp .ne 6, 3) := dk_160 0 6 (dk_at dksX0_cut_1 9 rfl rfl)
theorem dX0_cut_34 : decode cX0_cut 34 = .ok (.ldc 115, 2) := dk_18 115 (dk_at dksX0_cut_1 12 rfl rfl)
theorem dX0_cut_36 : decode cX0_cut 36 = .ok (.ireturn, 1) := dk_172 (dk_at dksX0_cut_1 14 rfl rfl)
theorem dX0_cut_37 : decode cX0_cut 37 = .ok (.aload_n 0, 1) := dk_42 (dk_at dksX0_cut_1 15 rfl rfl)
theorem dX0_cut_38 : decode cX0_cut 38 = .ok (.iload_n 1, 1) := dk_27 (dk_at dksX0_cut_1 16 rfl rfl)
theorem dX0_cut_39 : decode cX0_cut 39 = .ok (.iload_n 2, 1) := dk_28 (dk_at dksX0_cut_1 17 rfl rfl)
theorem dX0_cut_40 : decode cX0_cut 40 = .ok (.invokestatic 271, 3) := dk_184 1 15 (dk_at dksX0_cut_1 18 rfl rfl)
theorem dX0_cut_43 : decode cX0_cut 43 = .ok (.invokevirtual 139, 3) := dk_182 0 139 (dk_at dksX0_cut_1 21 rfl rfl)
theorem dX0_cut_46 : decode cX0_cut 46 = .ok (.ireturn, 1) := dk_172 (dk_at dksX0_cut_2 0 rfl rfl)
abbrev cX0_cutTo : ByteArray := prog_1_method_33_code
def yX0_cutTo : MethodName := ⟨RX0, "cutTo", "(II)Ljava/lang/String;"⟩
def dkwX0_cutTo_3 : List UInt8 := [153, 0, 7, 3, 167, 0, 4, 29, 100, 54, 4, 167, 255, 191, 44, 182, 0, 135, 176]
abbrev dktX0_cutTo_3 : List UInt8 := dkwX0_cutTo_3 ++ []
def dkwX0_cutTo_2 : List UInt8 := [182, 0, 117, 87, 29, 21, 5, 153, 0, 8, 21, 4, 167, 0, 4, 3, 100, 62, 21, 4, 21, 5]
abbrev dktX0_cutTo_2 : List UInt8 := dkwX0_cutTo_2 ++ dktX0_cutTo_3
def dkwX0_cutTo_1 : List UInt8 := [164, 0, 7, 4, 167, 0, 4, 3, 54, 5, 44, 21, 5, 153, 0, 8, 16, 82, 167, 0, 5, 16, 76]
abbrev dktX0_cutTo_1 : List UInt8 := dkwX0_cutTo_1 ++ dktX0_cutTo_2
def dkwX0_cutTo_0 : List UInt8 := [187, 0, 38, 89, 16, 20, 183, 0, 40, 77, 26, 62, 27, 54, 4, 29, 21, 4, 159, 0, 65, 29, 21, 4]
abbrev dktX0_cutTo_0 : List UInt8 := dkwX0_cutTo_0 ++ dktX0_cutTo_1
theorem dksX0_cutTo_0 : cX0_cutTo.data.toList.drop 0 = dktX0_cutTo_0 := by decide +kernel
theorem dksX0_cutTo_1 : cX0_cutTo.data.toList.drop 24 = dktX0_cutTo_1 := dk_seg dksX0_cutTo_0 24 rfl rfl
theorem dksX0_cutTo_2 : cX0_cutTo.data.toList.drop 47 = dktX0_cutTo_2 := dk_seg dksX0_cutTo_1 23 rfl rfl
theorem dksX0_cutTo_3 : cX0_cutTo.data.toList.drop 69 = dktX0_cutTo_3 := dk_seg dksX0_cutTo_2 22 rfl rfl
theorem dX0_cutTo_0 : decode cX0_cutTo 0 = .ok (.new 38, 3) := dk_187 0 38 (dk_at dksX0_cutTo_0 0 rfl rfl)
theorem dX0_cutTo_3 : decode cX0_cutTo 3 = .ok (.dup, 1) := dk_89 (dk_at dksX0_cutTo_0 3 rfl rfl)
theorem dX0_cutTo_4 : decode cX0_cutTo 4 = .ok (.bipush 20, 2) := dk_16 20 (dk_at dksX0_cutTo_0 4 rfl rfl)
theorem dX0_cutTo_6 : decode cX0_cutTo 6 = .ok (.invokespecial 40, 3) := dk_183 0 40 (dk_at dksX0_cutTo_0 6 rfl rfl)
theorem dX0_cutTo_9 : decode cX0_cutTo 9 = .ok (.astore_n 2, 1) := dk_77 (dk_at dksX0_cutTo_0 9 rfl rfl)
theorem dX0_cutTo_10 : decode cX0_cutTo 10 = .ok (.iload_n 0, 1) := dk_26 (dk_at dksX0_cutTo_0 10 rfl rfl)
theorem dX0_cutTo_11 : decode cX0_cutTo 11 = .ok (.istore_n 3, 1) := dk_62 (dk_at dksX0_cutTo_0 11 rfl rfl)
theorem dX0_cutTo_12 : decode cX0_cutTo 12 = .ok (.iload_n 1, 1) := dk_27 (dk_at dksX0_cutTo_0 12 rfl rfl)
theorem dX0_cutTo_13 : decode cX0_cutTo 13 = .ok (.istore 4, 2) := dk_54 4 (dk_at dksX0_cutTo_0 13 rfl rfl)
theorem dX0_cutTo_15 : decode cX0_cutTo 15 = .ok (.iload_n 3, 1) := dk_29 (dk_at dksX0_cutTo_0 15 rfl rfl)
theorem dX0_cutTo_16 : decode cX0_cutTo 16 = .ok (.iload 4, 2) := dk_21 4 (dk_at dksX0_cutTo_0 16 rfl rfl)
theorem dX0_cutTo_18 : decode cX0_cutTo 18 = .ok (.if_icmp .eq 65, 3) := dk_159 0 65 (dk_at dksX0_cutTo_0 18 rfl rfl)
theorem dX0_cutTo_21 : decode cX0_cutTo 21 = .ok (.iload_n 3, 1) := dk_29 (dk_at dksX0_cutTo_0 21 rfl rfl)
theorem dX0_cutTo_22 : decode cX0_cutTo 22 = .ok (.iload 4, 2) := dk_21 4 (dk_at dksX0_cutTo_0 22 rfl rfl)
theorem dX0_cutTo_24 : decode cX0_cutTo 24 = .ok (.if_icmp .le 7, 3) := dk_164 0 7 (dk_at dksX0_cutTo_1 0 rfl rfl)
theorem dX0_cutTo_27 : decode cX0_cutTo 27 = .ok (.iconst 1, 1) := dk_4 (dk_at dksX0_cutTo_1 3 rfl rfl)
theorem dX0_cutTo_28 : decode cX0_cutTo 28 = .ok (.goto 4, 3) := dk_167 0 4 (dk_at dksX0_cutTo_1 4 rfl rfl)
theorem dX0_cutTo_31 : decode cX0_cutTo 31 = .ok (.iconst 0, 1) := dk_3 (dk_at dksX0_cutTo_1 7 rfl rfl)
theorem dX0_cutTo_32 : decode cX0_cutTo 32 = .ok (.istore 5, 2) := dk_54 5 (dk_at dksX0_cutTo_1 8 rfl rfl)
theorem dX0_cutTo_34 : decode cX0_cutTo 34 = .ok (.aload_n 2, 1) := dk_44 (dk_at dksX0_cutTo_1 10 rfl rfl)
theorem dX0_cutTo_35 : decode cX0_cutTo 35 = .ok (.iload 5, 2) := dk_21 5 (dk_at dksX0_cutTo_1 11 rfl rfl)
theorem dX0_cutTo_37 : decode cX0_cutTo 37 = .ok (.ifCond .eq 8, 3) := dk_153 0 8 (dk_at dksX0_cutTo_1 13 rfl rfl)
theorem dX0_cutTo_40 : decode cX0_cutTo 40 = .ok (.bipush 82, 2) := dk_16 82 (dk_at dksX0_cutTo_1 16 rfl rfl)
theorem dX0_cutTo_42 : decode cX0_cutTo 42 = .ok (.goto 5, 3) := dk_167 0 5 (dk_at dksX0_cutTo_1 18 rfl rfl)
theorem dX0_cutTo_45 : decode cX0_cutTo 45 = .ok (.bipush 76, 2) := dk_16 76 (dk_at dksX0_cutTo_1 21 rfl rfl)
theorem dX0_cutTo_47 : decode cX0_cutTo 47 = .ok (.invokevirtual 117, 3) := dk_182 0 117 (dk_at dksX0_cutTo_2 0 rfl rfl)
theorem dX0_cutTo_50 : decode cX0_cutTo 50 = .ok (.pop, 1) := dk_87 (dk_at dksX0_cutTo_2 3 rfl rfl)
theorem dX0_cutTo_51 : decode cX0_cutTo 51 = .ok (.iload_n 3, 1) := dk_29 (dk_at dksX0_cutTo_2 4 rfl rfl)
theorem dX0_cutTo_52 : decode cX0_cutTo 52 = .ok (.iload 5, 2) := dk_21 5 (dk_at dksX0_cutTo_2 5 rfl rfl)
theorem dX0_cutTo_54 : decode cX0_cutTo 54 = .ok (.ifCond .eq 8, 3) := dk_153 0 8 (dk_at dksX0_cutTo_2 7 rfl rfl)
theorem dX0_cutTo_57 : decode cX0_cutTo 57 = .ok (.iload 4, 2) := dk_21 4 (dk_at dksX0_cutTo_2 10 rfl rfl)
theorem dX0_cutTo_59 : decode cX0_cutTo 59 = .ok (.goto 4, 3) := dk_167 0 4 (dk_at dksX0_cutTo_2 12 rfl rfl)
theorem dX0_cutTo_62 : decode cX0_cutTo 62 = .ok (.iconst 0, 1) := dk_3 (dk_at dksX0_cutTo_2 15 rfl rfl)
theorem dX0_cutTo_63 : decode cX0_cutTo 63 = .ok (.isub, 1) := dk_100 (dk_at dksX0_cutTo_2 16 rfl rfl)
theorem dX0_cutTo_64 : decode cX0_cutTo 64 = .ok (.istore_n 3, 1) := dk_62 (dk_at dksX0_cutTo_2 17 rfl rfl)
theorem dX0_cutTo_65 : decode cX0_cutTo 65 = .ok (.iload 4, 2) := dk_21 4 (dk_at dksX0_cutTo_2 18 rfl rfl)
theorem dX0_cutTo_67 : decode cX0_cutTo 67 = .ok (.iload 5, 2) := dk_21 5 (dk_at dksX0_cutTo_2 20 rfl rfl)
theorem dX0_cutTo_69 : decode cX0_cutTo 69 = .ok (.ifCond .eq 7, 3) := dk_153 0 7 (dk_at dksX0_cutTo_3 0 rfl rfl)
theorem dX0_cutTo_72 : decode cX0_cutTo 72 = .ok (.iconst 0, 1) := dk_3 (dk_at dksX0_cutTo_3 3 rfl rfl)
theorem dX0_cutTo_73 : decode cX0_cutTo 73 = .ok (.goto 4, 3) := dk_167 0 4 (dk_at dksX0_cutTo_3 4 rfl rfl)
theorem dX0_cutTo_76 : decode cX0_cutTo 76 = .ok (.iload_n 3, 1) := dk_29 (dk_at dksX0_cutTo_3 7 rfl rfl)
theorem dX0_cutTo_77 : decode cX0_cutTo 77 = .ok (.isub, 1) := dk_100 (dk_at dksX0_cutTo_3 8 rfl rfl)
theorem dX0_cutTo_78 : decode cX0_cutTo 78 = .ok (.istore 4, 2) := dk_54 4 (dk_at dksX0_cutTo_3 9 rfl rfl)
theorem dX0_cutTo_80 : decode cX0_cutTo 80 = .ok (.goto (-65), 3) := dk_167 255 191 (dk_at dksX0_cutTo_3 11 rfl rfl)
theorem dX0_cutTo_83 : decode cX0_cutTo 83 = .ok (.aload_n 2, 1) := dk_44 (dk_at dksX0_cutTo_3 14 rfl rfl)
theorem dX0_cutTo_84 : decode cX0_cutTo 84 = .ok (.invokevirtual 135, 3) := dk_182 0 135 (dk_at dksX0_cutTo_3 15 rfl rfl)
theorem dX0_cutTo_87 : decode cX0_cutTo 87 = .ok (.areturn, 1) := dk_176 (dk_at dksX0_cutTo_3 18 rfl rfl)
abbrev cX0_drop : ByteArray := prog_1_method_35_code
def yX0_drop : MethodName := ⟨RX0, "drop", "()I"⟩
def dkwX0_drop_1 : List UInt8 := [4, 100, 182, 1, 22, 87, 42, 180, 0, 34, 182, 0, 94, 172]
abbrev dktX0_drop_1 : List UInt8 := dkwX0_drop_1 ++ []
def dkwX0_drop_0 : List UInt8 := [42, 180, 0, 34, 182, 1, 19, 153, 0, 6, 18, 104, 172, 42, 180, 0, 34, 42, 180, 0, 34, 182, 0, 94]
abbrev dktX0_drop_0 : List UInt8 := dkwX0_drop_0 ++ dktX0_drop_1
theorem dksX0_drop_0 : cX0_drop.data.toList.drop 0 = dktX0_drop_0 := by decide +kernel
theorem dksX0_drop_1 : cX0_drop.data.toList.drop 24 = dktX0_drop_1 := dk_seg dksX0_drop_0 24 rfl rfl
theorem dX0_drop_0 : decode cX0_drop 0 = .ok (.aload_n 0, 1) := dk_42 (dk_at dksX0_drop_0 0 rfl rfl)
theorem dX0_drop_1 : decode cX0_drop 1 = .ok (.getfield 34, 3) := dk_180 0 34 (dk_at dksX0_drop_0 1 rfl rfl)
theorem dX0_drop_4 : decode cX0_drop 4 = .ok (.invokevirtual 275, 3) := dk_182 1 19 (dk_at dksX0_drop_0 4 rfl rfl)
theorem dX0_drop_7 : decode cX0_drop 7 = .ok (.ifCond .eq 6, 3) := dk_153 0 6 (dk_at dksX0_drop_0 7 rfl rfl)
theorem dX0_drop_10 : decode cX0_drop 10 = .ok (.ldc 104, 2) := dk_18 104 (dk_at dksX0_drop_0 10 rfl rfl)
theorem dX0_drop_12 : decode cX0_drop 12 = .ok (.ireturn, 1) := dk_172 (dk_at dksX0_drop_0 12 rfl rfl)
theorem dX0_drop_13 : decode cX0_drop 13 = .ok (.aload_n 0, 1) := dk_42 (dk_at dksX0_drop_0 13 rfl rfl)
theorem dX0_drop_14 : decode cX0_drop 14 = .ok (.getfield 34, 3) := dk_180 0 34 (dk_at dksX0_drop_0 14 rfl rfl)
theorem dX0_drop_17 : decode cX0_drop 17 = .ok (.aload_n 0, 1) := dk_42 (dk_at dksX0_drop_0 17 rfl rfl)
theorem dX0_drop_18 : decode cX0_drop 18 = .ok (.getfield 34, 3) := dk_180 0 34 (dk_at dksX0_drop_0 18 rfl rfl)
theorem dX0_drop_21 : decode cX0_drop 21 = .ok (.invokevirtual 94, 3) := dk_182 0 94 (dk_at dksX0_drop_0 21 rfl rfl)
theorem dX0_drop_24 : decode cX0_drop 24 = .ok (.iconst 1, 1) := dk_4 (dk_at dksX0_drop_1 0 rfl rfl)
theorem dX0_drop_25 : decode cX0_drop 25 = .ok (.isub, 1) := dk_100 (dk_at dksX0_drop_1 1 rfl rfl)
theorem dX0_drop_26 : decode cX0_drop 26 = .ok (.invokevirtual 278, 3) := dk_182 1 22 (dk_at dksX0_drop_1 2 rfl rfl)
theorem dX0_drop_29 : decode cX0_drop 29 = .ok (.pop, 1) := dk_87 (dk_at dksX0_drop_1 5 rfl rfl)
theorem dX0_drop_30 : decode cX0_drop 30 = .ok (.aload_n 0, 1) := dk_42 (dk_at dksX0_drop_1 6 rfl rfl)
theorem dX0_drop_31 : decode cX0_drop 31 = .ok (.getfield 34, 3) := dk_180 0 34 (dk_at dksX0_drop_1 7 rfl rfl)
theorem dX0_drop_34 : decode cX0_drop 34 = .ok (.invokevirtual 94, 3) := dk_182 0 94 (dk_at dksX0_drop_1 10 rfl rfl)
theorem dX0_drop_37 : decode cX0_drop 37 = .ok (.ireturn, 1) := dk_172 (dk_at dksX0_drop_1 13 rfl rfl)
abbrev cX0_river : ByteArray := prog_1_method_40_code
def yX0_river : MethodName := ⟨RX0, "river", "(I)I"⟩
def dkwX0_river_2 : List UInt8 := [182, 1, 57, 42, 182, 1, 60, 42, 182, 1, 63, 42, 180, 0, 47, 182, 0, 94, 172]
abbrev dktX0_river_2 : List UInt8 := dkwX0_river_2 ++ []
def dkwX0_river_1 : List UInt8 := [153, 0, 6, 18, 115, 172, 42, 27, 181, 1, 28, 42, 180, 0, 47, 182, 1, 57, 42, 180, 0, 50]
abbrev dktX0_river_1 : List UInt8 := dkwX0_river_1 ++ dktX0_river_2
def dkwX0_river_0 : List UInt8 := [27, 8, 17, 3, 132, 184, 0, 97, 153, 0, 17, 27, 7, 112, 4, 163, 0, 10, 27, 184, 1, 54]
abbrev dktX0_river_0 : List UInt8 := dkwX0_river_0 ++ dktX0_river_1
theorem dksX0_river_0 : cX0_river.data.toList.drop 0 = dktX0_river_0 := by decide +kernel
theorem dksX0_river_1 : cX0_river.data.toList.drop 22 = dktX0_river_1 := dk_seg dksX0_river_0 22 rfl rfl
theorem dksX0_river_2 : cX0_river.data.toList.drop 44 = dktX0_river_2 := dk_seg dksX0_river_1 22 rfl rfl
theorem dX0_river_0 : decode cX0_river 0 = .ok (.iload_n 1, 1) := dk_27 (dk_at dksX0_river_0 0 rfl rfl)
theorem dX0_river_1 : decode cX0_river 1 = .ok (.iconst 5, 1) := dk_8 (dk_at dksX0_river_0 1 rfl rfl)
theorem dX0_river_2 : decode cX0_river 2 = .ok (.sipush 900, 3) := dk_17 3 132 (dk_at dksX0_river_0 2 rfl rfl)
theorem dX0_river_5 : decode cX0_river 5 = .ok (.invokestatic 97, 3) := dk_184 0 97 (dk_at dksX0_river_0 5 rfl rfl)
theorem dX0_river_8 : decode cX0_river 8 = .ok (.ifCond .eq 17, 3) := dk_153 0 17 (dk_at dksX0_river_0 8 rfl rfl)
theorem dX0_river_11 : decode cX0_river 11 = .ok (.iload_n 1, 1) := dk_27 (dk_at dksX0_river_0 11 rfl rfl)
theorem dX0_river_12 : decode cX0_river 12 = .ok (.iconst 4, 1) := dk_7 (dk_at dksX0_river_0 12 rfl rfl)
theorem dX0_river_13 : decode cX0_river 13 = .ok (.irem, 1) := dk_112 (dk_at dksX0_river_0 13 rfl rfl)
theorem dX0_river_14 : decode cX0_river 14 = .ok (.iconst 1, 1) := dk_4 (dk_at dksX0_river_0 14 rfl rfl)
theorem dX0_river_15 : decode cX0_river 15 = .ok (.if_icmp .gt 10, 3) := dk_163 0 10 (dk_at dksX0_river_0 15 rfl rfl)
theorem dX0_river_18 : decode cX0_river 18 = .ok (.iload_n 1, 1) := dk_27 (dk_at dksX0_river_0 18 rfl rfl)
theorem dX0_river_19 : decode cX0_river 19 = .ok (.invokestatic 310, 3) := dk_184 1 54 (dk_at dksX0_river_0 19 rfl rfl)
theorem dX0_river_22 : decode cX0_river 22 = .ok (.ifCond .eq 6, 3) := dk_153 0 6 (dk_at dksX0_river_1 0 rfl rfl)
theorem dX0_river_25 : decode cX0_river 25 = .ok (.ldc 115, 2) := dk_18 115 (dk_at dksX0_river_1 3 rfl rfl)
theorem dX0_river_27 : decode cX0_river 27 = .ok (.ireturn, 1) := dk_172 (dk_at dksX0_river_1 5 rfl rfl)
theorem dX0_river_28 : decode cX0_river 28 = .ok (.aload_n 0, 1) := dk_42 (dk_at dksX0_river_1 6 rfl rfl)
theorem dX0_river_29 : decode cX0_river 29 = .ok (.iload_n 1, 1) := dk_27 (dk_at dksX0_river_1 7 rfl rfl)
theorem dX0_river_30 : decode cX0_river 30 = .ok (.putfield 284, 3) := dk_181 1 28 (dk_at dksX0_river_1 8 rfl rfl)
theorem dX0_river_33 : decode cX0_river 33 = .ok (.aload_n 0, 1) := dk_42 (dk_at dksX0_river_1 11 rfl rfl)
theorem dX0_river_34 : decode cX0_river 34 = .ok (.getfield 47, 3) := dk_180 0 47 (dk_at dksX0_river_1 12 rfl rfl)
theorem dX0_river_37 : decode cX0_river 37 = .ok (.invokevirtual 313, 3) := dk_182 1 57 (dk_at dksX0_river_1 15 rfl rfl)
theorem dX0_river_40 : decode cX0_river 40 = .ok (.aload_n 0, 1) := dk_42 (dk_at dksX0_river_1 18 rfl rfl)
theorem dX0_river_41 : decode cX0_river 41 = .ok (.getfield 50, 3) := dk_180 0 50 (dk_at dksX0_river_1 19 rfl rfl)
theorem dX0_river_44 : decode cX0_river 44 = .ok (.invokevirtual 313, 3) := dk_182 1 57 (dk_at dksX0_river_2 0 rfl rfl)
theorem dX0_river_47 : decode cX0_river 47 = .ok (.aload_n 0, 1) := dk_42 (dk_at dksX0_river_2 3 rfl rfl)
theorem dX0_river_48 : decode cX0_river 48 = .ok (.invokevirtual 316, 3) := dk_182 1 60 (dk_at dksX0_river_2 4 rfl rfl)
theorem dX0_river_51 : decode cX0_river 51 = .ok (.aload_n 0, 1) := dk_42 (dk_at dksX0_river_2 7 rfl rfl)
theorem dX0_river_52 : decode cX0_river 52 = .ok (.invokevirtual 319, 3) := dk_182 1 63 (dk_at dksX0_river_2 8 rfl rfl)
theorem dX0_river_55 : decode cX0_river 55 = .ok (.aload_n 0, 1) := dk_42 (dk_at dksX0_river_2 11 rfl rfl)
theorem dX0_river_56 : decode cX0_river 56 = .ok (.getfield 47, 3) := dk_180 0 47 (dk_at dksX0_river_2 12 rfl rfl)
theorem dX0_river_59 : decode cX0_river 59 = .ok (.invokevirtual 94, 3) := dk_182 0 94 (dk_at dksX0_river_2 15 rfl rfl)
theorem dX0_river_62 : decode cX0_river 62 = .ok (.ireturn, 1) := dk_172 (dk_at dksX0_river_2 18 rfl rfl)
abbrev cX0_isSquare : ByteArray := prog_1_method_36_code
def yX0_isSquare : MethodName := ⟨RX0, "isSquare", "(I)Z"⟩
def dkwX0_isSquare_1 : List UInt8 := [167, 0, 4, 3, 172]
abbrev dktX0_isSquare_1 : List UInt8 := dkwX0_isSquare_1 ++ []
def dkwX0_isSquare_0 : List UInt8 := [3, 60, 27, 27, 104, 26, 162, 0, 9, 132, 1, 1, 167, 255, 246, 27, 27, 104, 26, 160, 0, 7, 4]
abbrev dktX0_isSquare_0 : List UInt8 := dkwX0_isSquare_0 ++ dktX0_isSquare_1
theorem dksX0_isSquare_0 : cX0_isSquare.data.toList.drop 0 = dktX0_isSquare_0 := by decide +kernel
theorem dksX0_isSquare_1 : cX0_isSquare.data.toList.drop 23 = dktX0_isSquare_1 := dk_seg dksX0_isSquare_0 23 rfl rfl
theorem dX0_isSquare_0 : decode cX0_isSquare 0 = .ok (.iconst 0, 1) := dk_3 (dk_at dksX0_isSquare_0 0 rfl rfl)
theorem dX0_isSquare_1 : decode cX0_isSquare 1 = .ok (.istore_n 1, 1) := dk_60 (dk_at dksX0_isSquare_0 1 rfl rfl)
theorem dX0_isSquare_2 : decode cX0_isSquare 2 = .ok (.iload_n 1, 1) := dk_27 (dk_at dksX0_isSquare_0 2 rfl rfl)
theorem dX0_isSquare_3 : decode cX0_isSquare 3 = .ok (.iload_n 1, 1) := dk_27 (dk_at dksX0_isSquare_0 3 rfl rfl)
theorem dX0_isSquare_4 : decode cX0_isSquare 4 = .ok (.imul, 1) := dk_104 (dk_at dksX0_isSquare_0 4 rfl rfl)
theorem dX0_isSquare_5 : decode cX0_isSquare 5 = .ok (.iload_n 0, 1) := dk_26 (dk_at dksX0_isSquare_0 5 rfl rfl)
theorem dX0_isSquare_6 : decode cX0_isSquare 6 = .ok (.if_icmp .ge 9, 3) := dk_162 0 9 (dk_at dksX0_isSquare_0 6 rfl rfl)
theorem dX0_isSquare_9 : decode cX0_isSquare 9 = .ok (.iinc 1 1, 3) := dk_132 1 1 (dk_at dksX0_isSquare_0 9 rfl rfl)
theorem dX0_isSquare_12 : decode cX0_isSquare 12 = .ok (.goto (-10), 3) := dk_167 255 246 (dk_at dksX0_isSquare_0 12 rfl rfl)
theorem dX0_isSquare_15 : decode cX0_isSquare 15 = .ok (.iload_n 1, 1) := dk_27 (dk_at dksX0_isSquare_0 15 rfl rfl)
theorem dX0_isSquare_16 : decode cX0_isSquare 16 = .ok (.iload_n 1, 1) := dk_27 (dk_at dksX0_isSquare_0 16 rfl rfl)
theorem dX0_isSquare_17 : decode cX0_isSquare 17 = .ok (.imul, 1) := dk_104 (dk_at dksX0_isSquare_0 17 rfl rfl)
theorem dX0_isSquare_18 : decode cX0_isSquare 18 = .ok (.iload_n 0, 1) := dk_26 (dk_at dksX0_isSquare_0 18 rfl rfl)
theorem dX0_isSquare_19 : decode cX0_isSquare 19 = .ok (.if_icmp .ne 7, 3) := dk_160 0 7 (dk_at dksX0_isSquare_0 19 rfl rfl)
theorem dX0_isSquare_22 : decode cX0_isSquare 22 = .ok (.iconst 1, 1) := dk_4 (dk_at dksX0_isSquare_0 22 rfl rfl)
theorem dX0_isSquare_23 : decode cX0_isSquare 23 = .ok (.goto 4, 3) := dk_167 0 4 (dk_at dksX0_isSquare_1 0 rfl rfl)
theorem dX0_isSquare_26 : decode cX0_isSquare 26 = .ok (.iconst 0, 1) := dk_3 (dk_at dksX0_isSquare_1 3 rfl rfl)
theorem dX0_isSquare_27 : decode cX0_isSquare 27 = .ok (.ireturn, 1) := dk_172 (dk_at dksX0_isSquare_1 4 rfl rfl)
abbrev cX0_layForms : ByteArray := prog_1_method_38_code
def yX0_layForms : MethodName := ⟨RX0, "layForms", "()V"⟩
def dkwX0_layForms_5 : List UInt8 := [167, 255, 141, 177]
abbrev dktX0_layForms_5 : List UInt8 := dkwX0_layForms_5 ++ []
def dkwX0_layForms_4 : List UInt8 := [27, 28, 116, 21, 4, 108, 183, 0, 91, 182, 0, 111, 87, 132, 4, 1, 167, 255, 196, 132, 1, 1]
abbrev dktX0_layForms_4 : List UInt8 := dkwX0_layForms_4 ++ dktX0_layForms_5
def dkwX0_layForms_3 : List UInt8 := [184, 1, 12, 28, 21, 4, 108, 184, 1, 12, 4, 160, 0, 26, 42, 180, 0, 47, 187, 0, 76, 89, 21, 4]
abbrev dktX0_layForms_3 : List UInt8 := dkwX0_layForms_3 ++ dktX0_layForms_4
def dkwX0_layForms_2 : List UInt8 := [62, 4, 54, 4, 29, 153, 0, 62, 21, 4, 28, 163, 0, 56, 28, 21, 4, 112, 154, 0, 43, 21, 4, 27]
abbrev dktX0_layForms_2 : List UInt8 := dkwX0_layForms_2 ++ dktX0_layForms_3
def dkwX0_layForms_1 : List UInt8 := [180, 1, 28, 162, 0, 20, 42, 180, 1, 28, 27, 27, 104, 100, 7, 112, 154, 0, 7, 4, 167, 0, 4, 3]
abbrev dktX0_layForms_1 : List UInt8 := dkwX0_layForms_1 ++ dktX0_layForms_2
def dkwX0_layForms_0 : List UInt8 := [16, 226, 60, 27, 16, 30, 163, 0, 115, 42, 180, 1, 28, 27, 27, 104, 100, 7, 108, 61, 27, 27, 104, 42]
abbrev dktX0_layForms_0 : List UInt8 := dkwX0_layForms_0 ++ dktX0_layForms_1
theorem dksX0_layForms_0 : cX0_layForms.data.toList.drop 0 = dktX0_layForms_0 := by decide +kernel
theorem dksX0_layForms_1 : cX0_layForms.data.toList.drop 24 = dktX0_layForms_1 := dk_seg dksX0_layForms_0 24 rfl rfl
theorem dksX0_layForms_2 : cX0_layForms.data.toList.drop 48 = dktX0_layForms_2 := dk_seg dksX0_layForms_1 24 rfl rfl
theorem dksX0_layForms_3 : cX0_layForms.data.toList.drop 72 = dktX0_layForms_3 := dk_seg dksX0_layForms_2 24 rfl rfl
theorem dksX0_layForms_4 : cX0_layForms.data.toList.drop 96 = dktX0_layForms_4 := dk_seg dksX0_layForms_3 24 rfl rfl
theorem dksX0_layForms_5 : cX0_layForms.data.toList.drop 118 = dktX0_layForms_5 := dk_seg dksX0_layForms_4 22 rfl rfl
theorem dX0_layForms_0 : decode cX0_layForms 0 = .ok (.bipush (-30), 2) := dk_16 226 (dk_at dksX0_layForms_0 0 rfl rfl)
theorem dX0_layForms_2 : decode cX0_layForms 2 = .ok (.istore_n 1, 1) := dk_60 (dk_at dksX0_layForms_0 2 rfl rfl)
theorem dX0_layForms_3 : decode cX0_layForms 3 = .ok (.iload_n 1, 1) := dk_27 (dk_at dksX0_layForms_0 3 rfl rfl)
theorem dX0_layForms_4 : decode cX0_layForms 4 = .ok (.bipush 30, 2) := dk_16 30 (dk_at dksX0_layForms_0 4 rfl rfl)
theorem dX0_layForms_6 : decode cX0_layForms 6 = .ok (.if_icmp .gt 115, 3) := dk_163 0 115 (dk_at dksX0_layForms_0 6 rfl rfl)
theorem dX0_layForms_9 : decode cX0_layForms 9 = .ok (.aload_n 0, 1) := dk_42 (dk_at dksX0_layForms_0 9 rfl rfl)
theorem dX0_layForms_10 : decode cX0_layForms 10 = .ok (.getfield 284, 3) := dk_180 1 28 (dk_at dksX0_layForms_0 10 rfl rfl)
theorem dX0_layForms_13 : decode cX0_layForms 13 = .ok (.iload_n 1, 1) := dk_27 (dk_at dksX0_layForms_0 13 rfl rfl)
theorem dX0_layForms_14 : decode cX0_layForms 14 = .ok (.iload_n 1, 1) := dk_27 (dk_at dksX0_layForms_0 14 rfl rfl)
theorem dX0_layForms_15 : decode cX0_layForms 15 = .ok (.imul, 1) := dk_104 (dk_at dksX0_layForms_0 15 rfl rfl)
theorem dX0_layForms_16 : decode cX0_layForms 16 = .ok (.isub, 1) := dk_100 (dk_at dksX0_layForms_0 16 rfl rfl)
theorem dX0_layForms_17 : decode cX0_layForms 17 = .ok (.iconst 4, 1) := dk_7 (dk_at dksX0_layForms_0 17 rfl rfl)
theorem dX0_layForms_18 : decode cX0_layForms 18 = .ok (.idiv, 1) := dk_108 (dk_at dksX0_layForms_0 18 rfl rfl)
theorem dX0_layForms_19 : decode cX0_layForms 19 = .ok (.istore_n 2, 1) := dk_61 (dk_at dksX0_layForms_0 19 rfl rfl)
theorem dX0_layForms_20 : decode cX0_layForms 20 = .ok (.iload_n 1, 1) := dk_27 (dk_at dksX0_layForms_0 20 rfl rfl)
theorem dX0_layForms_21 : decode cX0_layForms 21 = .ok (.iload_n 1, 1) := dk_27 (dk_at dksX0_layForms_0 21 rfl rfl)
theorem dX0_layForms_22 : decode cX0_layForms 22 = .ok (.imul, 1) := dk_104 (dk_at dksX0_layForms_0 22 rfl rfl)
theorem dX0_layForms_23 : decode cX0_layForms 23 = .ok (.aload_n 0, 1) := dk_42 (dk_at dksX0_layForms_0 23 rfl rfl)
theorem dX0_layForms_24 : decode cX0_layForms 24 = .ok (.getfield 284, 3) := dk_180 1 28 (dk_at dksX0_layForms_1 0 rfl rfl)
theorem dX0_layForms_27 : decode cX0_layForms 27 = .ok (.if_icmp .ge 20, 3) := dk_162 0 20 (dk_at dksX0_layForms_1 3 rfl rfl)
theorem dX0_layForms_30 : decode cX0_layForms 30 = .ok (.aload_n 0, 1) := dk_42 (dk_at dksX0_layForms_1 6 rfl rfl)
theorem dX0_layForms_31 : decode cX0_layForms 31 = .ok (.getfield 284, 3) := dk_180 1 28 (dk_at dksX0_layForms_1 7 rfl rfl)
theorem dX0_layForms_34 : decode cX0_layForms 34 = .ok (.iload_n 1, 1) := dk_27 (dk_at dksX0_layForms_1 10 rfl rfl)
theorem dX0_layForms_35 : decode cX0_layForms 35 = .ok (.iload_n 1, 1) := dk_27 (dk_at dksX0_layForms_1 11 rfl rfl)
theorem dX0_layForms_36 : decode cX0_layForms 36 = .ok (.imul, 1) := dk_104 (dk_at dksX0_layForms_1 12 rfl rfl)
theorem dX0_layForms_37 : decode cX0_layForms 37 = .ok (.isub, 1) := dk_100 (dk_at dksX0_layForms_1 13 rfl rfl)
theorem dX0_layForms_38 : decode cX0_layForms 38 = .ok (.iconst 4, 1) := dk_7 (dk_at dksX0_layForms_1 14 rfl rfl)
theorem dX0_layForms_39 : decode cX0_layForms 39 = .ok (.irem, 1) := dk_112 (dk_at dksX0_layForms_1 15 rfl rfl)
theorem dX0_layForms_40 : decode cX0_layForms 40 = .ok (.ifCond .ne 7, 3) := dk_154 0 7 (dk_at dksX0_layForms_1 16 rfl rfl)
theorem dX0_layForms_43 : decode cX0_layForms 43 = .ok (.iconst 1, 1) := dk_4 (dk_at dksX0_layForms_1 19 rfl rfl)
theorem dX0_layForms_44 : decode cX0_layForms 44 = .ok (.goto 4, 3) := dk_167 0 4 (dk_at dksX0_layForms_1 20 rfl rfl)
theorem dX0_layForms_47 : decode cX0_layForms 47 = .ok (.iconst 0, 1) := dk_3 (dk_at dksX0_layForms_1 23 rfl rfl)
theorem dX0_layForms_48 : decode cX0_layForms 48 = .ok (.istore_n 3, 1) := dk_62 (dk_at dksX0_layForms_2 0 rfl rfl)
theorem dX0_layForms_49 : decode cX0_layForms 49 = .ok (.iconst 1, 1) := dk_4 (dk_at dksX0_layForms_2 1 rfl rfl)
theorem dX0_layForms_50 : decode cX0_layForms 50 = .ok (.istore 4, 2) := dk_54 4 (dk_at dksX0_layForms_2 2 rfl rfl)
theorem dX0_layForms_52 : decode cX0_layForms 52 = .ok (.iload_n 3, 1) := dk_29 (dk_at dksX0_layForms_2 4 rfl rfl)
theorem dX0_layForms_53 : decode cX0_layForms 53 = .ok (.ifCond .eq 62, 3) := dk_153 0 62 (dk_at dksX0_layForms_2 5 rfl rfl)
theorem dX0_layForms_56 : decode cX0_layForms 56 = .ok (.iload 4, 2) := dk_21 4 (dk_at dksX0_layForms_2 8 rfl rfl)
theorem dX0_layForms_58 : decode cX0_layForms 58 = .ok (.iload_n 2, 1) := dk_28 (dk_at dksX0_layForms_2 10 rfl rfl)
theorem dX0_layForms_59 : decode cX0_layForms 59 = .ok (.if_icmp .gt 56, 3) := dk_163 0 56 (dk_at dksX0_layForms_2 11 rfl rfl)
theorem dX0_layForms_62 : decode cX0_layForms 62 = .ok (.iload_n 2, 1) := dk_28 (dk_at dksX0_layForms_2 14 rfl rfl)
theorem dX0_layForms_63 : decode cX0_layForms 63 = .ok (.iload 4, 2) := dk_21 4 (dk_at dksX0_layForms_2 15 rfl rfl)
theorem dX0_layForms_65 : decode cX0_layForms 65 = .ok (.irem, 1) := dk_112 (dk_at dksX0_layForms_2 17 rfl rfl)
theorem dX0_layForms_66 : decode cX0_layForms 66 = .ok (.ifCond .ne 43, 3) := dk_154 0 43 (dk_at dksX0_layForms_2 18 rfl rfl)
theorem dX0_layForms_69 : decode cX0_layForms 69 = .ok (.iload 4, 2) := dk_21 4 (dk_at dksX0_layForms_2 21 rfl rfl)
theorem dX0_layForms_71 : decode cX0_layForms 71 = .ok (.iload_n 1, 1) := dk_27 (dk_at dksX0_layForms_2 23 rfl rfl)
theorem dX0_layForms_72 : decode cX0_layForms 72 = .ok (.invokestatic 268, 3) := dk_184 1 12 (dk_at dksX0_layForms_3 0 rfl rfl)
theorem dX0_layForms_75 : decode cX0_layForms 75 = .ok (.iload_n 2, 1) := dk_28 (dk_at dksX0_layForms_3 3 rfl rfl)
theorem dX0_layForms_76 : decode cX0_layForms 76 = .ok (.iload 4, 2) := dk_21 4 (dk_at dksX0_layForms_3 4 rfl rfl)
theorem dX0_layForms_78 : decode cX0_layForms 78 = .ok (.idiv, 1) := dk_108 (dk_at dksX0_layForms_3 6 rfl rfl)
theorem dX0_layForms_79 : decode cX0_layForms 79 = .ok (.invokestatic 268, 3) := dk_184 1 12 (dk_at dksX0_layForms_3 7 rfl rfl)
theorem dX0_layForms_82 : decode cX0_layForms 82 = .ok (.iconst 1, 1) := dk_4 (dk_at dksX0_layForms_3 10 rfl rfl)
theorem dX0_layForms_83 : decode cX0_layForms 83 = .ok (.if_icmp .ne 26, 3) := dk_160 0 26 (dk_at dksX0_layForms_3 11 rfl rfl)
theorem dX0_layForms_86 : decode cX0_layForms 86 = .ok (.aload_n 0, 1) := dk_42 (dk_at dksX0_layForms_3 14 rfl rfl)
theorem dX0_layForms_87 : decode cX0_layForms 87 = .ok (.getfield 47, 3) := dk_180 0 47 (dk_at dksX0_layForms_3 15 rfl rfl)
theorem dX0_layForms_90 : decode cX0_layForms 90 = .ok (.new 76, 3) := dk_187 0 76 (dk_at dksX0_layForms_3 18 rfl rfl)
theorem dX0_layForms_93 : decode cX0_layForms 93 = .ok (.dup, 1) := dk_89 (dk_at dksX0_layForms_3 21 rfl rfl)
theorem dX0_layForms_94 : decode cX0_layForms 94 = .ok (.iload 4, 2) := dk_21 4 (dk_at dksX0_layForms_3 22 rfl rfl)
theorem dX0_layForms_96 : decode cX0_layForms 96 = .ok (.iload_n 1, 1) := dk_27 (dk_at dksX0_layForms_4 0 rfl rfl)
theorem dX0_layForms_97 : decode cX0_layForms 97 = .ok (.iload_n 2, 1) := dk_28 (dk_at dksX0_layForms_4 1 rfl rfl)
theorem dX0_layForms_98 : decode cX0_layForms 98 = .ok (.ineg, 1) := dk_116 (dk_at dksX0_layForms_4 2 rfl rfl)
theorem dX0_layForms_99 : decode cX0_layForms 99 = .ok (.iload 4, 2) := dk_21 4 (dk_at dksX0_layForms_4 3 rfl rfl)
theorem dX0_layForms_101 : decode cX0_layForms 101 = .ok (.idiv, 1) := dk_108 (dk_at dksX0_layForms_4 5 rfl rfl)
theorem dX0_layForms_102 : decode cX0_layForms 102 = .ok (.invokespecial 91, 3) := dk_183 0 91 (dk_at dksX0_layForms_4 6 rfl rfl)
theorem dX0_layForms_105 : decode cX0_layForms 105 = .ok (.invokevirtual 111, 3) := dk_182 0 111 (dk_at dksX0_layForms_4 9 rfl rfl)
theorem dX0_layForms_108 : decode cX0_layForms 108 = .ok (.pop, 1) := dk_87 (dk_at dksX0_layForms_4 12 rfl rfl)
theorem dX0_layForms_109 : decode cX0_layForms 109 = .ok (.iinc 4 1, 3) := dk_132 4 1 (dk_at dksX0_layForms_4 13 rfl rfl)
theorem dX0_layForms_112 : decode cX0_layForms 112 = .ok (.goto (-60), 3) := dk_167 255 196 (dk_at dksX0_layForms_4 16 rfl rfl)
theorem dX0_layForms_115 : decode cX0_layForms 115 = .ok (.iinc 1 1, 3) := dk_132 1 1 (dk_at dksX0_layForms_4 19 rfl rfl)
theorem dX0_layForms_118 : decode cX0_layForms 118 = .ok (.goto (-115), 3) := dk_167 255 141 (dk_at dksX0_layForms_5 0 rfl rfl)
theorem dX0_layForms_121 : decode cX0_layForms 121 = .ok (.return_, 1) := dk_177 (dk_at dksX0_layForms_5 3 rfl rfl)
abbrev cX0_layCycles : ByteArray := prog_1_method_39_code
def yX0_layCycles : MethodName := ⟨RX0, "layCycles", "()V"⟩
def dkwX0_layCycles_8 : List UInt8 := [42, 180, 0, 50, 182, 0, 94, 183, 1, 51, 182, 0, 111, 87, 132, 1, 1, 167, 255, 199, 177]
abbrev dktX0_layCycles_8 : List UInt8 := dkwX0_layCycles_8 ++ []
def dkwX0_layCycles_7 : List UInt8 := [182, 0, 193, 192, 0, 76, 180, 1, 46, 18, 224, 160, 0, 27, 42, 180, 0, 50, 187, 1, 49, 89, 42, 27]
abbrev dktX0_layCycles_7 : List UInt8 := dkwX0_layCycles_7 ++ dktX0_layCycles_8
def dkwX0_layCycles_6 : List UInt8 := [132, 1, 1, 167, 255, 115, 3, 60, 27, 42, 180, 0, 47, 182, 0, 94, 162, 0, 52, 42, 180, 0, 47, 27]
abbrev dktX0_layCycles_6 : List UInt8 := dkwX0_layCycles_6 ++ dktX0_layCycles_7
def dkwX0_layCycles_5 : List UInt8 := [44, 42, 44, 180, 0, 213, 116, 44, 180, 0, 212, 116, 44, 180, 0, 211, 116, 182, 1, 35, 181, 1, 44]
abbrev dktX0_layCycles_5 : List UInt8 := dkwX0_layCycles_5 ++ dktX0_layCycles_6
def dkwX0_layCycles_4 : List UInt8 := [181, 1, 39, 44, 42, 44, 180, 0, 211, 44, 180, 0, 212, 116, 44, 180, 0, 213, 182, 1, 35, 181, 1, 42]
abbrev dktX0_layCycles_4 : List UInt8 := dkwX0_layCycles_4 ++ dktX0_layCycles_5
def dkwX0_layCycles_3 : List UInt8 := [167, 0, 23, 42, 44, 180, 0, 211, 44, 180, 0, 212, 5, 44, 180, 0, 211, 104, 96, 29, 182, 1, 35]
abbrev dktX0_layCycles_3 : List UInt8 := dkwX0_layCycles_3 ++ dktX0_layCycles_4
def dkwX0_layCycles_2 : List UInt8 := [160, 0, 26, 42, 29, 44, 180, 0, 212, 5, 44, 180, 0, 213, 104, 96, 44, 180, 0, 213, 182, 1, 35]
abbrev dktX0_layCycles_2 : List UInt8 := dkwX0_layCycles_2 ++ dktX0_layCycles_3
def dkwX0_layCycles_1 : List UInt8 := [77, 44, 180, 0, 211, 44, 180, 0, 212, 96, 44, 180, 0, 213, 96, 62, 44, 44, 182, 1, 31, 16, 76]
abbrev dktX0_layCycles_1 : List UInt8 := dkwX0_layCycles_1 ++ dktX0_layCycles_2
def dkwX0_layCycles_0 : List UInt8 := [3, 60, 27, 42, 180, 0, 47, 182, 0, 94, 162, 0, 136, 42, 180, 0, 47, 27, 182, 0, 193, 192, 0, 76]
abbrev dktX0_layCycles_0 : List UInt8 := dkwX0_layCycles_0 ++ dktX0_layCycles_1
theorem dksX0_layCycles_0 : cX0_layCycles.data.toList.drop 0 = dktX0_layCycles_0 := by decide +kernel
theorem dksX0_layCycles_1 : cX0_layCycles.data.toList.drop 24 = dktX0_layCycles_1 := dk_seg dksX0_layCycles_0 24 rfl rfl
theorem dksX0_layCycles_2 : cX0_layCycles.data.toList.drop 47 = dktX0_layCycles_2 := dk_seg dksX0_layCycles_1 23 rfl rfl
theorem dksX0_layCycles_3 : cX0_layCycles.data.toList.drop 70 = dktX0_layCycles_3 := dk_seg dksX0_layCycles_2 23 rfl rfl
theorem dksX0_layCycles_4 : cX0_layCycles.data.toList.drop 93 = dktX0_layCycles_4 := dk_seg dksX0_layCycles_3 23 rfl rfl
theorem dksX0_layCycles_5 : cX0_layCycles.data.toList.drop 117 = dktX0_layCycles_5 := dk_seg dksX0_layCycles_4 24 rfl rfl
theorem dksX0_layCycles_6 : cX0_layCycles.data.toList.drop 140 = dktX0_layCycles_6 := dk_seg dksX0_layCycles_5 23 rfl rfl
theorem dksX0_layCycles_7 : cX0_layCycles.data.toList.drop 164 = dktX0_layCycles_7 := dk_seg dksX0_layCycles_6 24 rfl rfl
theorem dksX0_layCycles_8 : cX0_layCycles.data.toList.drop 188 = dktX0_layCycles_8 := dk_seg dksX0_layCycles_7 24 rfl rfl
theorem dX0_layCycles_0 : decode cX0_layCycles 0 = .ok (.iconst 0, 1) := dk_3 (dk_at dksX0_layCycles_0 0 rfl rfl)
theorem dX0_layCycles_1 : decode cX0_layCycles 1 = .ok (.istore_n 1, 1) := dk_60 (dk_at dksX0_layCycles_0 1 rfl rfl)
theorem dX0_layCycles_2 : decode cX0_layCycles 2 = .ok (.iload_n 1, 1) := dk_27 (dk_at dksX0_layCycles_0 2 rfl rfl)
theorem dX0_layCycles_3 : decode cX0_layCycles 3 = .ok (.aload_n 0, 1) := dk_42 (dk_at dksX0_layCycles_0 3 rfl rfl)
theorem dX0_layCycles_4 : decode cX0_layCycles 4 = .ok (.getfield 47, 3) := dk_180 0 47 (dk_at dksX0_layCycles_0 4 rfl rfl)
theorem dX0_layCycles_7 : decode cX0_layCycles 7 = .ok (.invokevirtual 94, 3) := dk_182 0 94 (dk_at dksX0_layCycles_0 7 rfl rfl)
theorem dX0_layCycles_10 : decode cX0_layCycles 10 = .ok (.if_icmp .ge 136, 3) := dk_162 0 136 (dk_at dksX0_layCycles_0 10 rfl rfl)
theorem dX0_layCycles_13 : decode cX0_layCycles 13 = .ok (.aload_n 0, 1) := dk_42 (dk_at dksX0_layCycles_0 13 rfl rfl)
theorem dX0_layCycles_14 : decode cX0_layCycles 14 = .ok (.getfield 47, 3) := dk_180 0 47 (dk_at dksX0_layCycles_0 14 rfl rfl)
theorem dX0_layCycles_17 : decode cX0_layCycles 17 = .ok (.iload_n 1, 1) := dk_27 (dk_at dksX0_layCycles_0 17 rfl rfl)
theorem dX0_layCycles_18 : decode cX0_layCycles 18 = .ok (.invokevirtual 193, 3) := dk_182 0 193 (dk_at dksX0_layCycles_0 18 rfl rfl)
theorem dX0_layCycles_21 : decode cX0_layCycles 21 = .ok (.checkcast 76, 3) := dk_192 0 76 (dk_at dksX0_layCycles_0 21 rfl rfl)
theorem dX0_layCycles_24 : decode cX0_layCycles 24 = .ok (.astore_n 2, 1) := dk_77 (dk_at dksX0_layCycles_1 0 rfl rfl)
theorem dX0_layCycles_25 : decode cX0_layCycles 25 = .ok (.aload_n 2, 1) := dk_44 (dk_at dksX0_layCycles_1 1 rfl rfl)
theorem dX0_layCycles_26 : decode cX0_layCycles 26 = .ok (.getfield 211, 3) := dk_180 0 211 (dk_at dksX0_layCycles_1 2 rfl rfl)
theorem dX0_layCycles_29 : decode cX0_layCycles 29 = .ok (.aload_n 2, 1) := dk_44 (dk_at dksX0_layCycles_1 5 rfl rfl)
theorem dX0_layCycles_30 : decode cX0_layCycles 30 = .ok (.getfield 212, 3) := dk_180 0 212 (dk_at dksX0_layCycles_1 6 rfl rfl)
theorem dX0_layCycles_33 : decode cX0_layCycles 33 = .ok (.iadd, 1) := dk_96 (dk_at dksX0_layCycles_1 9 rfl rfl)
theorem dX0_layCycles_34 : decode cX0_layCycles 34 = .ok (.aload_n 2, 1) := dk_44 (dk_at dksX0_layCycles_1 10 rfl rfl)
theorem dX0_layCycles_35 : decode cX0_layCycles 35 = .ok (.getfield 213, 3) := dk_180 0 213 (dk_at dksX0_layCycles_1 11 rfl rfl)
theorem dX0_layCycles_38 : decode cX0_layCycles 38 = .ok (.iadd, 1) := dk_96 (dk_at dksX0_layCycles_1 14 rfl rfl)
theorem dX0_layCycles_39 : decode cX0_layCycles 39 = .ok (.istore_n 3, 1) := dk_62 (dk_at dksX0_layCycles_1 15 rfl rfl)
theorem dX0_layCycles_40 : decode cX0_layCycles 40 = .ok (.aload_n 2, 1) := dk_44 (dk_at dksX0_layCycles_1 16 rfl rfl)
theorem dX0_layCycles_41 : decode cX0_layCycles 41 = .ok (.aload_n 2, 1) := dk_44 (dk_at dksX0_layCycles_1 17 rfl rfl)
theorem dX0_layCycles_42 : decode cX0_layCycles 42 = .ok (.invokevirtual 287, 3) := dk_182 1 31 (dk_at dksX0_layCycles_1 18 rfl rfl)
theorem dX0_layCycles_45 : decode cX0_layCycles 45 = .ok (.bipush 76, 2) := dk_16 76 (dk_at dksX0_layCycles_1 21 rfl rfl)
theorem dX0_layCycles_47 : decode cX0_layCycles 47 = .ok (.if_icmp .ne 26, 3) := dk_160 0 26 (dk_at dksX0_layCycles_2 0 rfl rfl)
theorem dX0_layCycles_50 : decode cX0_layCycles 50 = .ok (.aload_n 0, 1) := dk_42 (dk_at dksX0_layCycles_2 3 rfl rfl)
theorem dX0_layCycles_51 : decode cX0_layCycles 51 = .ok (.iload_n 3, 1) := dk_29 (dk_at dksX0_layCycles_2 4 rfl rfl)
theorem dX0_layCycles_52 : decode cX0_layCycles 52 = .ok (.aload_n 2, 1) := dk_44 (dk_at dksX0_layCycles_2 5 rfl rfl)
theorem dX0_layCycles_53 : decode cX0_layCycles 53 = .ok (.getfield 212, 3) := dk_180 0 212 (dk_at dksX0_layCycles_2 6 rfl rfl)
theorem dX0_layCycles_56 : decode cX0_layCycles 56 = .ok (.iconst 2, 1) := dk_5 (dk_at dksX0_layCycles_2 9 rfl rfl)
theorem dX0_layCycles_57 : decode cX0_layCycles 57 = .ok (.aload_n 2, 1) := dk_44 (dk_at dksX0_layCycles_2 10 rfl rfl)
theorem dX0_layCycles_58 : decode cX0_layCycles 58 = .ok (.getfield 213, 3) := dk_180 0 213 (dk_at dksX0_layCycles_2 11 rfl rfl)
theorem dX0_layCycles_61 : decode cX0_layCycles 61 = .ok (.imul, 1) := dk_104 (dk_at dksX0_layCycles_2 14 rfl rfl)
theorem dX0_layCycles_62 : decode cX0_layCycles 62 = .ok (.iadd, 1) := dk_96 (dk_at dksX0_layCycles_2 15 rfl rfl)
theorem dX0_layCycles_63 : decode cX0_layCycles 63 = .ok (.aload_n 2, 1) := dk_44 (dk_at dksX0_layCycles_2 16 rfl rfl)
theorem dX0_layCycles_64 : decode cX0_layCycles 64 = .ok (.getfield 213, 3) := dk_180 0 213 (dk_at dksX0_layCycles_2 17 rfl rfl)
theorem dX0_layCycles_67 : decode cX0_layCycles 67 = .ok (.invokevirtual 291, 3) := dk_182 1 35 (dk_at dksX0_layCycles_2 20 rfl rfl)
theorem dX0_layCycles_70 : decode cX0_layCycles 70 = .ok (.goto 23, 3) := dk_167 0 23 (dk_at dksX0_layCycles_3 0 rfl rfl)
theorem dX0_layCycles_73 : decode cX0_layCycles 73 = .ok (.aload_n 0, 1) := dk_42 (dk_at dksX0_layCycles_3 3 rfl rfl)
theorem dX0_layCycles_74 : decode cX0_layCycles 74 = .ok (.aload_n 2, 1) := dk_44 (dk_at dksX0_layCycles_3 4 rfl rfl)
theorem dX0_layCycles_75 : decode cX0_layCycles 75 = .ok (.getfield 211, 3) := dk_180 0 211 (dk_at dksX0_layCycles_3 5 rfl rfl)
theorem dX0_layCycles_78 : decode cX0_layCycles 78 = .ok (.aload_n 2, 1) := dk_44 (dk_at dksX0_layCycles_3 8 rfl rfl)
theorem dX0_layCycles_79 : decode cX0_layCycles 79 = .ok (.getfield 212, 3) := dk_180 0 212 (dk_at dksX0_layCycles_3 9 rfl rfl)
theorem dX0_layCycles_82 : decode cX0_layCycles 82 = .ok (.iconst 2, 1) := dk_5 (dk_at dksX0_layCycles_3 12 rfl rfl)
theorem dX0_layCycles_83 : decode cX0_layCycles 83 = .ok (.aload_n 2, 1) := dk_44 (dk_at dksX0_layCycles_3 13 rfl rfl)
theorem dX0_layCycles_84 : decode cX0_layCycles 84 = .ok (.getfield 211, 3) := dk_180 0 211 (dk_at dksX0_layCycles_3 14 rfl rfl)
theorem dX0_layCycles_87 : decode cX0_layCycles 87 = .ok (.imul, 1) := dk_104 (dk_at dksX0_layCycles_3 17 rfl rfl)
theorem dX0_layCycles_88 : decode cX0_layCycles 88 = .ok (.iadd, 1) := dk_96 (dk_at dksX0_layCycles_3 18 rfl rfl)
theorem dX0_layCycles_89 : decode cX0_layCycles 89 = .ok (.iload_n 3, 1) := dk_29 (dk_at dksX0_layCycles_3 19 rfl rfl)
theorem dX0_layCycles_90 : decode cX0_layCycles 90 = .ok (.invokevirtual 291, 3) := dk_182 1 35 (dk_at dksX0_layCycles_3 20 rfl rfl)
theorem dX0_layCycles_93 : decode cX0_layCycles 93 = .ok (.putfield 295, 3) := dk_181 1 39 (dk_at dksX0_layCycles_4 0 rfl rfl)
theorem dX0_layCycles_96 : decode cX0_layCycles 96 = .ok (.aload_n 2, 1) := dk_44 (dk_at dksX0_layCycles_4 3 rfl rfl)
theorem dX0_layCycles_97 : decode cX0_layCycles 97 = .ok (.aload_n 0, 1) := dk_42 (dk_at dksX0_layCycles_4 4 rfl rfl)
theorem dX0_layCycles_98 : decode cX0_layCycles 98 = .ok (.aload_n 2, 1) := dk_44 (dk_at dksX0_layCycles_4 5 rfl rfl)
theorem dX0_layCycles_99 : decode cX0_layCycles 99 = .ok (.getfield 211, 3) := dk_180 0 211 (dk_at dksX0_layCycles_4 6 rfl rfl)
theorem dX0_layCycles_102 : decode cX0_layCycles 102 = .ok (.aload_n 2, 1) := dk_44 (dk_at dksX0_layCycles_4 9 rfl rfl)
theorem dX0_layCycles_103 : decode cX0_layCycles 103 = .ok (.getfield 212, 3) := dk_180 0 212 (dk_at dksX0_layCycles_4 10 rfl rfl)
theorem dX0_layCycles_106 : decode cX0_layCycles 106 = .ok (.ineg, 1) := dk_116 (dk_at dksX0_layCycles_4 13 rfl rfl)
theorem dX0_layCycles_107 : decode cX0_layCycles 107 = .ok (.aload_n 2, 1) := dk_44 (dk_at dksX0_layCycles_4 14 rfl rfl)
theorem dX0_layCycles_108 : decode cX0_layCycles 108 = .ok (.getfield 213, 3) := dk_180 0 213 (dk_at dksX0_layCycles_4 15 rfl rfl)
theorem dX0_layCycles_111 : decode cX0_layCycles 111 = .ok (.invokevirtual 291, 3) := dk_182 1 35 (dk_at dksX0_layCycles_4 18 rfl rfl)
theorem dX0_layCycles_114 : decode cX0_layCycles 114 = .ok (.putfield 298, 3) := dk_181 1 42 (dk_at dksX0_layCycles_4 21 rfl rfl)
theorem dX0_layCycles_117 : decode cX0_layCycles 117 = .ok (.aload_n 2, 1) := dk_44 (dk_at dksX0_layCycles_5 0 rfl rfl)
theorem dX0_layCycles_118 : decode cX0_layCycles 118 = .ok (.aload_n 0, 1) := dk_42 (dk_at dksX0_layCycles_5 1 rfl rfl)
theorem dX0_layCycles_119 : decode cX0_layCycles 119 = .ok (.aload_n 2, 1) := dk_44 (dk_at dksX0_layCycles_5 2 rfl rfl)
theorem dX0_layCycles_120 : decode cX0_layCycles 120 = .ok (.getfield 213, 3) := dk_180 0 213 (dk_at dksX0_layCycles_5 3 rfl rfl)
theorem dX0_layCycles_123 : decode cX0_layCycles 123 = .ok (.ineg, 1) := dk_116 (dk_at dksX0_layCycles_5 6 rfl rfl)
theorem dX0_layCycles_124 : decode cX0_layCycles 124 = .ok (.aload_n 2, 1) := dk_44 (dk_at dksX0_layCycles_5 7 rfl rfl)
theorem dX0_layCycles_125 : decode cX0_layCycles 125 = .ok (.getfield 212, 3) := dk_180 0 212 (dk_at dksX0_layCycles_5 8 rfl rfl)
theorem dX0_layCycles_128 : decode cX0_layCycles 128 = .ok (.ineg, 1) := dk_116 (dk_at dksX0_layCycles_5 11 rfl rfl)
theorem dX0_layCycles_129 : decode cX0_layCycles 129 = .ok (.aload_n 2, 1) := dk_44 (dk_at dksX0_layCycles_5 12 rfl rfl)
theorem dX0_layCycles_130 : decode cX0_layCycles 130 = .ok (.getfield 211, 3) := dk_180 0 211 (dk_at dksX0_layCycles_5 13 rfl rfl)
theorem dX0_layCycles_133 : decode cX0_layCycles 133 = .ok (.ineg, 1) := dk_116 (dk_at dksX0_layCycles_5 16 rfl rfl)
theorem dX0_layCycles_134 : decode cX0_layCycles 134 = .ok (.invokevirtual 291, 3) := dk_182 1 35 (dk_at dksX0_layCycles_5 17 rfl rfl)
theorem dX0_layCycles_137 : decode cX0_layCycles 137 = .ok (.putfield 300, 3) := dk_181 1 44 (dk_at dksX0_layCycles_5 20 rfl rfl)
theorem dX0_layCycles_140 : decode cX0_layCycles 140 = .ok (.iinc 1 1, 3) := dk_132 1 1 (dk_at dksX0_layCycles_6 0 rfl rfl)
theorem dX0_layCycles_143 : decode cX0_layCycles 143 = .ok (.goto (-141), 3) := dk_167 255 115 (dk_at dksX0_layCycles_6 3 rfl rfl)
theorem dX0_layCycles_146 : decode cX0_layCycles 146 = .ok (.iconst 0, 1) := dk_3 (dk_at dksX0_layCycles_6 6 rfl rfl)
theorem dX0_layCycles_147 : decode cX0_layCycles 147 = .ok (.istore_n 1, 1) := dk_60 (dk_at dksX0_layCycles_6 7 rfl rfl)
theorem dX0_layCycles_148 : decode cX0_layCycles 148 = .ok (.iload_n 1, 1) := dk_27 (dk_at dksX0_layCycles_6 8 rfl rfl)
theorem dX0_layCycles_149 : decode cX0_layCycles 149 = .ok (.aload_n 0, 1) := dk_42 (dk_at dksX0_layCycles_6 9 rfl rfl)
theorem dX0_layCycles_150 : decode cX0_layCycles 150 = .ok (.getfield 47, 3) := dk_180 0 47 (dk_at dksX0_layCycles_6 10 rfl rfl)
theorem dX0_layCycles_153 : decode cX0_layCycles 153 = .ok (.invokevirtual 94, 3) := dk_182 0 94 (dk_at dksX0_layCycles_6 13 rfl rfl)
theorem dX0_layCycles_156 : decode cX0_layCycles 156 = .ok (.if_icmp .ge 52, 3) := dk_162 0 52 (dk_at dksX0_layCycles_6 16 rfl rfl)
theorem dX0_layCycles_159 : decode cX0_layCycles 159 = .ok (.aload_n 0, 1) := dk_42 (dk_at dksX0_layCycles_6 19 rfl rfl)
theorem dX0_layCycles_160 : decode cX0_layCycles 160 = .ok (.getfield 47, 3) := dk_180 0 47 (dk_at dksX0_layCycles_6 20 rfl rfl)
theorem dX0_layCycles_163 : decode cX0_layCycles 163 = .ok (.iload_n 1, 1) := dk_27 (dk_at dksX0_layCycles_6 23 rfl rfl)
theorem dX0_layCycles_164 : decode cX0_layCycles 164 = .ok (.invokevirtual 193, 3) := dk_182 0 193 (dk_at dksX0_layCycles_7 0 rfl rfl)
theorem dX0_layCycles_167 : decode cX0_layCycles 167 = .ok (.checkcast 76, 3) := dk_192 0 76 (dk_at dksX0_layCycles_7 3 rfl rfl)
theorem dX0_layCycles_170 : decode cX0_layCycles 170 = .ok (.getfield 302, 3) := dk_180 1 46 (dk_at dksX0_layCycles_7 6 rfl rfl)
theorem dX0_layCycles_173 : decode cX0_layCycles 173 = .ok (.ldc 224, 2) := dk_18 224 (dk_at dksX0_layCycles_7 9 rfl rfl)
theorem dX0_layCycles_175 : decode cX0_layCycles 175 = .ok (.if_icmp .ne 27, 3) := dk_160 0 27 (dk_at dksX0_layCycles_7 11 rfl rfl)
theorem dX0_layCycles_178 : decode cX0_layCycles 178 = .ok (.aload_n 0, 1) := dk_42 (dk_at dksX0_layCycles_7 14 rfl rfl)
theorem dX0_layCycles_179 : decode cX0_layCycles 179 = .ok (.getfield 50, 3) := dk_180 0 50 (dk_at dksX0_layCycles_7 15 rfl rfl)
theorem dX0_layCycles_182 : decode cX0_layCycles 182 = .ok (.new 305, 3) := dk_187 1 49 (dk_at dksX0_layCycles_7 18 rfl rfl)
theorem dX0_layCycles_185 : decode cX0_layCycles 185 = .ok (.dup, 1) := dk_89 (dk_at dksX0_layCycles_7 21 rfl rfl)
theorem dX0_layCycles_186 : decode cX0_layCycles 186 = .ok (.aload_n 0, 1) := dk_42 (dk_at dksX0_layCycles_7 22 rfl rfl)
theorem dX0_layCycles_187 : decode cX0_layCycles 187 = .ok (.iload_n 1, 1) := dk_27 (dk_at dksX0_layCycles_7 23 rfl rfl)
theorem dX0_layCycles_188 : decode cX0_layCycles 188 = .ok (.aload_n 0, 1) := dk_42 (dk_at dksX0_layCycles_8 0 rfl rfl)
theorem dX0_layCycles_189 : decode cX0_layCycles 189 = .ok (.getfield 50, 3) := dk_180 0 50 (dk_at dksX0_layCycles_8 1 rfl rfl)
theorem dX0_layCycles_192 : decode cX0_layCycles 192 = .ok (.invokevirtual 94, 3) := dk_182 0 94 (dk_at dksX0_layCycles_8 4 rfl rfl)
theorem dX0_layCycles_195 : decode cX0_layCycles 195 = .ok (.invokespecial 307, 3) := dk_183 1 51 (dk_at dksX0_layCycles_8 7 rfl rfl)
theorem dX0_layCycles_198 : decode cX0_layCycles 198 = .ok (.invokevirtual 111, 3) := dk_182 0 111 (dk_at dksX0_layCycles_8 10 rfl rfl)
theorem dX0_layCycles_201 : decode cX0_layCycles 201 = .ok (.pop, 1) := dk_87 (dk_at dksX0_layCycles_8 13 rfl rfl)
theorem dX0_layCycles_202 : decode cX0_layCycles 202 = .ok (.iinc 1 1, 3) := dk_132 1 1 (dk_at dksX0_layCycles_8 14 rfl rfl)
theorem dX0_layCycles_205 : decode cX0_layCycles 205 = .ok (.goto (-57), 3) := dk_167 255 199 (dk_at dksX0_layCycles_8 17 rfl rfl)
theorem dX0_layCycles_208 : decode cX0_layCycles 208 = .ok (.return_, 1) := dk_177 (dk_at dksX0_layCycles_8 20 rfl rfl)
abbrev cX0_numberOf : ByteArray := prog_1_method_37_code
def yX0_numberOf : MethodName := ⟨RX0, "numberOf", "(III)I"⟩
def dkwX0_numberOf_1 : List UInt8 := [192, 0, 76, 27, 28, 29, 182, 1, 25, 153, 0, 6, 21, 4, 172, 132, 4, 1, 167, 255, 217, 18, 224, 172]
abbrev dktX0_numberOf_1 : List UInt8 := dkwX0_numberOf_1 ++ []
def dkwX0_numberOf_0 : List UInt8 := [3, 54, 4, 21, 4, 42, 180, 0, 47, 182, 0, 94, 162, 0, 33, 42, 180, 0, 47, 21, 4, 182, 0, 193]
abbrev dktX0_numberOf_0 : List UInt8 := dkwX0_numberOf_0 ++ dktX0_numberOf_1
theorem dksX0_numberOf_0 : cX0_numberOf.data.toList.drop 0 = dktX0_numberOf_0 := by decide +kernel
theorem dksX0_numberOf_1 : cX0_numberOf.data.toList.drop 24 = dktX0_numberOf_1 := dk_seg dksX0_numberOf_0 24 rfl rfl
theorem dX0_numberOf_0 : decode cX0_numberOf 0 = .ok (.iconst 0, 1) := dk_3 (dk_at dksX0_numberOf_0 0 rfl rfl)
theorem dX0_numberOf_1 : decode cX0_numberOf 1 = .ok (.istore 4, 2) := dk_54 4 (dk_at dksX0_numberOf_0 1 rfl rfl)
theorem dX0_numberOf_3 : decode cX0_numberOf 3 = .ok (.iload 4, 2) := dk_21 4 (dk_at dksX0_numberOf_0 3 rfl rfl)
theorem dX0_numberOf_5 : decode cX0_numberOf 5 = .ok (.aload_n 0, 1) := dk_42 (dk_at dksX0_numberOf_0 5 rfl rfl)
theorem dX0_numberOf_6 : decode cX0_numberOf 6 = .ok (.getfield 47, 3) := dk_180 0 47 (dk_at dksX0_numberOf_0 6 rfl rfl)
theorem dX0_numberOf_9 : decode cX0_numberOf 9 = .ok (.invokevirtual 94, 3) := dk_182 0 94 (dk_at dksX0_numberOf_0 9 rfl rfl)
theorem dX0_numberOf_12 : decode cX0_numberOf 12 = .ok (.if_icmp .ge 33, 3) := dk_162 0 33 (dk_at dksX0_numberOf_0 12 rfl rfl)
theorem dX0_numberOf_15 : decode cX0_numberOf 15 = .ok (.aload_n 0, 1) := dk_42 (dk_at dksX0_numberOf_0 15 rfl rfl)
theorem dX0_numberOf_16 : decode cX0_numberOf 16 = .ok (.getfield 47, 3) := dk_180 0 47 (dk_at dksX0_numberOf_0 16 rfl rfl)
theorem dX0_numberOf_19 : decode cX0_numberOf 19 = .ok (.iload 4, 2) := dk_21 4 (dk_at dksX0_numberOf_0 19 rfl rfl)
theorem dX0_numberOf_21 : decode cX0_numberOf 21 = .ok (.invokevirtual 193, 3) := dk_182 0 193 (dk_at dksX0_numberOf_0 21 rfl rfl)
theorem dX0_numberOf_24 : decode cX0_numberOf 24 = .ok (.checkcast 76, 3) := dk_192 0 76 (dk_at dksX0_numberOf_1 0 rfl rfl)
theorem dX0_numberOf_27 : decode cX0_numberOf 27 = .ok (.iload_n 1, 1) := dk_27 (dk_at dksX0_numberOf_1 3 rfl rfl)
theorem dX0_numberOf_28 : decode cX0_numberOf 28 = .ok (.iload_n 2, 1) := dk_28 (dk_at dksX0_numberOf_1 4 rfl rfl)
theorem dX0_numberOf_29 : decode cX0_numberOf 29 = .ok (.iload_n 3, 1) := dk_29 (dk_at dksX0_numberOf_1 5 rfl rfl)
theorem dX0_numberOf_30 : decode cX0_numberOf 30 = .ok (.invokevirtual 281, 3) := dk_182 1 25 (dk_at dksX0_numberOf_1 6 rfl rfl)
theorem dX0_numberOf_33 : decode cX0_numberOf 33 = .ok (.ifCond .eq 6, 3) := dk_153 0 6 (dk_at dksX0_numberOf_1 9 rfl rfl)
theorem dX0_numberOf_36 : decode cX0_numberOf 36 = .ok (.iload 4, 2) := dk_21 4 (dk_at dksX0_numberOf_1 12 rfl rfl)
theorem dX0_numberOf_38 : decode cX0_numberOf 38 = .ok (.ireturn, 1) := dk_172 (dk_at dksX0_numberOf_1 14 rfl rfl)
theorem dX0_numberOf_39 : decode cX0_numberOf 39 = .ok (.iinc 4 1, 3) := dk_132 4 1 (dk_at dksX0_numberOf_1 15 rfl rfl)
theorem dX0_numberOf_42 : decode cX0_numberOf 42 = .ok (.goto (-39), 3) := dk_167 255 217 (dk_at dksX0_numberOf_1 18 rfl rfl)
theorem dX0_numberOf_45 : decode cX0_numberOf 45 = .ok (.ldc 224, 2) := dk_18 224 (dk_at dksX0_numberOf_1 21 rfl rfl)
theorem dX0_numberOf_47 : decode cX0_numberOf 47 = .ok (.ireturn, 1) := dk_172 (dk_at dksX0_numberOf_1 23 rfl rfl)
abbrev cX0_simple : ByteArray := prog_1_method_44_code
def yX0_simple : MethodName := ⟨RX0, "simple", "(II)I"⟩
def dkwX0_simple_1 : List UInt8 := [180, 0, 47, 27, 182, 0, 193, 192, 0, 76, 28, 182, 1, 69, 167, 0, 5, 18, 115, 172]
abbrev dktX0_simple_1 : List UInt8 := dkwX0_simple_1 ++ []
def dkwX0_simple_0 : List UInt8 := [42, 27, 182, 1, 66, 154, 0, 6, 18, 192, 172, 28, 3, 16, 7, 184, 0, 97, 153, 0, 22, 42, 42]
abbrev dktX0_simple_0 : List UInt8 := dkwX0_simple_0 ++ dktX0_simple_1
theorem dksX0_simple_0 : cX0_simple.data.toList.drop 0 = dktX0_simple_0 := by decide +kernel
theorem dksX0_simple_1 : cX0_simple.data.toList.drop 23 = dktX0_simple_1 := dk_seg dksX0_simple_0 23 rfl rfl
theorem dX0_simple_0 : decode cX0_simple 0 = .ok (.aload_n 0, 1) := dk_42 (dk_at dksX0_simple_0 0 rfl rfl)
theorem dX0_simple_1 : decode cX0_simple 1 = .ok (.iload_n 1, 1) := dk_27 (dk_at dksX0_simple_0 1 rfl rfl)
theorem dX0_simple_2 : decode cX0_simple 2 = .ok (.invokevirtual 322, 3) := dk_182 1 66 (dk_at dksX0_simple_0 2 rfl rfl)
theorem dX0_simple_5 : decode cX0_simple 5 = .ok (.ifCond .ne 6, 3) := dk_154 0 6 (dk_at dksX0_simple_0 5 rfl rfl)
theorem dX0_simple_8 : decode cX0_simple 8 = .ok (.ldc 192, 2) := dk_18 192 (dk_at dksX0_simple_0 8 rfl rfl)
theorem dX0_simple_10 : decode cX0_simple 10 = .ok (.ireturn, 1) := dk_172 (dk_at dksX0_simple_0 10 rfl rfl)
theorem dX0_simple_11 : decode cX0_simple 11 = .ok (.iload_n 2, 1) := dk_28 (dk_at dksX0_simple_0 11 rfl rfl)
theorem dX0_simple_12 : decode cX0_simple 12 = .ok (.iconst 0, 1) := dk_3 (dk_at dksX0_simple_0 12 rfl rfl)
theorem dX0_simple_13 : decode cX0_simple 13 = .ok (.bipush 7, 2) := dk_16 7 (dk_at dksX0_simple_0 13 rfl rfl)
theorem dX0_simple_15 : decode cX0_simple 15 = .ok (.invokestatic 97, 3) := dk_184 0 97 (dk_at dksX0_simple_0 15 rfl rfl)
theorem dX0_simple_18 : decode cX0_simple 18 = .ok (.ifCond .eq 22, 3) := dk_153 0 22 (dk_at dksX0_simple_0 18 rfl rfl)
theorem dX0_simple_21 : decode cX0_simple 21 = .ok (.aload_n 0, 1) := dk_42 (dk_at dksX0_simple_0 21 rfl rfl)
theorem dX0_simple_22 : decode cX0_simple 22 = .ok (.aload_n 0, 1) := dk_42 (dk_at dksX0_simple_0 22 rfl rfl)
theorem dX0_simple_23 : decode cX0_simple 23 = .ok (.getfield 47, 3) := dk_180 0 47 (dk_at dksX0_simple_1 0 rfl rfl)
theorem dX0_simple_26 : decode cX0_simple 26 = .ok (.iload_n 1, 1) := dk_27 (dk_at dksX0_simple_1 3 rfl rfl)
theorem dX0_simple_27 : decode cX0_simple 27 = .ok (.invokevirtual 193, 3) := dk_182 0 193 (dk_at dksX0_simple_1 4 rfl rfl)
theorem dX0_simple_30 : decode cX0_simple 30 = .ok (.checkcast 76, 3) := dk_192 0 76 (dk_at dksX0_simple_1 7 rfl rfl)
theorem dX0_simple_33 : decode cX0_simple 33 = .ok (.iload_n 2, 1) := dk_28 (dk_at dksX0_simple_1 10 rfl rfl)
theorem dX0_simple_34 : decode cX0_simple 34 = .ok (.invokevirtual 325, 3) := dk_182 1 69 (dk_at dksX0_simple_1 11 rfl rfl)
theorem dX0_simple_37 : decode cX0_simple 37 = .ok (.goto 5, 3) := dk_167 0 5 (dk_at dksX0_simple_1 14 rfl rfl)
theorem dX0_simple_40 : decode cX0_simple 40 = .ok (.ldc 115, 2) := dk_18 115 (dk_at dksX0_simple_1 17 rfl rfl)
theorem dX0_simple_42 : decode cX0_simple 42 = .ok (.ireturn, 1) := dk_172 (dk_at dksX0_simple_1 19 rfl rfl)
abbrev cX0_isForm : ByteArray := prog_1_method_41_code
def yX0_isForm : MethodName := ⟨RX0, "isForm", "(I)Z"⟩
def dkwX0_isForm_0 : List UInt8 := [27, 3, 42, 180, 0, 47, 182, 0, 94, 4, 100, 184, 0, 97, 172]
abbrev dktX0_isForm_0 : List UInt8 := dkwX0_isForm_0 ++ []
theorem dksX0_isForm_0 : cX0_isForm.data.toList.drop 0 = dktX0_isForm_0 := by decide +kernel
theorem dX0_isForm_0 : decode cX0_isForm 0 = .ok (.iload_n 1, 1) := dk_27 (dk_at dksX0_isForm_0 0 rfl rfl)
theorem dX0_isForm_1 : decode cX0_isForm 1 = .ok (.iconst 0, 1) := dk_3 (dk_at dksX0_isForm_0 1 rfl rfl)
theorem dX0_isForm_2 : decode cX0_isForm 2 = .ok (.aload_n 0, 1) := dk_42 (dk_at dksX0_isForm_0 2 rfl rfl)
theorem dX0_isForm_3 : decode cX0_isForm 3 = .ok (.getfield 47, 3) := dk_180 0 47 (dk_at dksX0_isForm_0 3 rfl rfl)
theorem dX0_isForm_6 : decode cX0_isForm 6 = .ok (.invokevirtual 94, 3) := dk_182 0 94 (dk_at dksX0_isForm_0 6 rfl rfl)
theorem dX0_isForm_9 : decode cX0_isForm 9 = .ok (.iconst 1, 1) := dk_4 (dk_at dksX0_isForm_0 9 rfl rfl)
theorem dX0_isForm_10 : decode cX0_isForm 10 = .ok (.isub, 1) := dk_100 (dk_at dksX0_isForm_0 10 rfl rfl)
theorem dX0_isForm_11 : decode cX0_isForm 11 = .ok (.invokestatic 97, 3) := dk_184 0 97 (dk_at dksX0_isForm_0 11 rfl rfl)
theorem dX0_isForm_14 : decode cX0_isForm 14 = .ok (.ireturn, 1) := dk_172 (dk_at dksX0_isForm_0 14 rfl rfl)
abbrev cX0_simpleTold : ByteArray := prog_1_method_43_code
def yX0_simpleTold : MethodName := ⟨RX0, "simpleTold", "(LRiverWords$Form;I)I"⟩
def dkwX0_simpleTold_4 : List UInt8 := [167, 0, 7, 43, 180, 1, 44, 172]
abbrev dktX0_simpleTold_4 : List UInt8 := dkwX0_simpleTold_4 ++ []
def dkwX0_simpleTold_3 : List UInt8 := [180, 1, 46, 167, 0, 28, 43, 180, 1, 39, 167, 0, 21, 43, 182, 1, 31, 167, 0, 14, 43, 180, 1, 42]
abbrev dktX0_simpleTold_3 : List UInt8 := dkwX0_simpleTold_3 ++ dktX0_simpleTold_4
def dkwX0_simpleTold_2 : List UInt8 := [43, 180, 0, 211, 167, 0, 49, 43, 180, 0, 212, 167, 0, 42, 43, 180, 0, 213, 167, 0, 35, 43]
abbrev dktX0_simpleTold_2 : List UInt8 := dkwX0_simpleTold_2 ++ dktX0_simpleTold_3
def dkwX0_simpleTold_1 : List UInt8 := [170, 0, 0, 0, 0, 0, 92, 0, 0, 0, 0, 0, 0, 0, 6, 0, 0, 0, 43, 0, 0, 0, 50, 0, 0, 0, 57, 0, 0, 0, 64, 0, 0, 0, 71, 0, 0, 0, 78, 0, 0, 0, 85]
abbrev dktX0_simpleTold_1 : List UInt8 := dkwX0_simpleTold_1 ++ dktX0_simpleTold_2
def dkwX0_simpleTold_0 : List UInt8 := [28]
abbrev dktX0_simpleTold_0 : List UInt8 := dkwX0_simpleTold_0 ++ dktX0_simpleTold_1
theorem dksX0_simpleTold_0 : cX0_simpleTold.data.toList.drop 0 = dktX0_simpleTold_0 := by decide +kernel
theorem dksX0_simpleTold_1 : cX0_simpleTold.data.toList.drop 1 = dktX0_simpleTold_1 := dk_seg dksX0_simpleTold_0 1 rfl rfl
theorem dksX0_simpleTold_2 : cX0_simpleTold.data.toList.drop 44 = dktX0_simpleTold_2 := dk_seg dksX0_simpleTold_1 43 rfl rfl
theorem dksX0_simpleTold_3 : cX0_simpleTold.data.toList.drop 66 = dktX0_simpleTold_3 := dk_seg dksX0_simpleTold_2 22 rfl rfl
theorem dksX0_simpleTold_4 : cX0_simpleTold.data.toList.drop 90 = dktX0_simpleTold_4 := dk_seg dksX0_simpleTold_3 24 rfl rfl
theorem dX0_simpleTold_0 : decode cX0_simpleTold 0 = .ok (.iload_n 2, 1) := dk_28 (dk_at dksX0_simpleTold_0 0 rfl rfl)
theorem dX0_simpleTold_1 : decode cX0_simpleTold 1 = .ok (.tableswitch 92 0 6 #[43, 50, 57, 64, 71, 78, 85], 43) := by decide +kernel
theorem dX0_simpleTold_44 : decode cX0_simpleTold 44 = .ok (.aload_n 1, 1) := dk_43 (dk_at dksX0_simpleTold_2 0 rfl rfl)
theorem dX0_simpleTold_45 : decode cX0_simpleTold 45 = .ok (.getfield 211, 3) := dk_180 0 211 (dk_at dksX0_simpleTold_2 1 rfl rfl)
theorem dX0_simpleTold_48 : decode cX0_simpleTold 48 = .ok (.goto 49, 3) := dk_167 0 49 (dk_at dksX0_simpleTold_2 4 rfl rfl)
theorem dX0_simpleTold_51 : decode cX0_simpleTold 51 = .ok (.aload_n 1, 1) := dk_43 (dk_at dksX0_simpleTold_2 7 rfl rfl)
theorem dX0_simpleTold_52 : decode cX0_simpleTold 52 = .ok (.getfield 212, 3) := dk_180 0 212 (dk_at dksX0_simpleTold_2 8 rfl rfl)
theorem dX0_simpleTold_55 : decode cX0_simpleTold 55 = .ok (.goto 42, 3) := dk_167 0 42 (dk_at dksX0_simpleTold_2 11 rfl rfl)
theorem dX0_simpleTold_58 : decode cX0_simpleTold 58 = .ok (.aload_n 1, 1) := dk_43 (dk_at dksX0_simpleTold_2 14 rfl rfl)
theorem dX0_simpleTold_59 : decode cX0_simpleTold 59 = .ok (.getfield 213, 3) := dk_180 0 213 (dk_at dksX0_simpleTold_2 15 rfl rfl)
theorem dX0_simpleTold_62 : decode cX0_simpleTold 62 = .ok (.goto 35, 3) := dk_167 0 35 (dk_at dksX0_simpleTold_2 18 rfl rfl)
theorem dX0_simpleTold_65 : decode cX0_simpleTold 65 = .ok (.aload_n 1, 1) := dk_43 (dk_at dksX0_simpleTold_2 21 rfl rfl)
theorem dX0_simpleTold_66 : decode cX0_simpleTold 66 = .ok (.getfield 302, 3) := dk_180 1 46 (dk_at dksX0_simpleTold_3 0 rfl rfl)
theorem dX0_simpleTold_69 : decode cX0_simpleTold 69 = .ok (.goto 28, 3) := dk_167 0 28 (dk_at dksX0_simpleTold_3 3 rfl rfl)
theorem dX0_simpleTold_72 : decode cX0_simpleTold 72 = .ok (.aload_n 1, 1) := dk_43 (dk_at dksX0_simpleTold_3 6 rfl rfl)
theorem dX0_simpleTold_73 : decode cX0_simpleTold 73 = .ok (.getfield 295, 3) := dk_180 1 39 (dk_at dksX0_simpleTold_3 7 rfl rfl)
theorem dX0_simpleTold_76 : decode cX0_simpleTold 76 = .ok (.goto 21, 3) := dk_167 0 21 (dk_at dksX0_simpleTold_3 10 rfl rfl)
theorem dX0_simpleTold_79 : decode cX0_simpleTold 79 = .ok (.aload_n 1, 1) := dk_43 (dk_at dksX0_simpleTold_3 13 rfl rfl)
theorem dX0_simpleTold_80 : decode cX0_simpleTold 80 = .ok (.invokevirtual 287, 3) := dk_182 1 31 (dk_at dksX0_simpleTold_3 14 rfl rfl)
theorem dX0_simpleTold_83 : decode cX0_simpleTold 83 = .ok (.goto 14, 3) := dk_167 0 14 (dk_at dksX0_simpleTold_3 17 rfl rfl)
theorem dX0_simpleTold_86 : decode cX0_simpleTold 86 = .ok (.aload_n 1, 1) := dk_43 (dk_at dksX0_simpleTold_3 20 rfl rfl)
theorem dX0_simpleTold_87 : decode cX0_simpleTold 87 = .ok (.getfield 298, 3) := dk_180 1 42 (dk_at dksX0_simpleTold_3 21 rfl rfl)
theorem dX0_simpleTold_90 : decode cX0_simpleTold 90 = .ok (.goto 7, 3) := dk_167 0 7 (dk_at dksX0_simpleTold_4 0 rfl rfl)
theorem dX0_simpleTold_93 : decode cX0_simpleTold 93 = .ok (.aload_n 1, 1) := dk_43 (dk_at dksX0_simpleTold_4 3 rfl rfl)
theorem dX0_simpleTold_94 : decode cX0_simpleTold 94 = .ok (.getfield 300, 3) := dk_180 1 44 (dk_at dksX0_simpleTold_4 4 rfl rfl)
theorem dX0_simpleTold_97 : decode cX0_simpleTold 97 = .ok (.ireturn, 1) := dk_172 (dk_at dksX0_simpleTold_4 7 rfl rfl)
abbrev cX0_cycle : ByteArray := prog_1_method_46_code
def yX0_cycle : MethodName := ⟨RX0, "cycle", "(II)I"⟩
def dkwX0_cycle_1 : List UInt8 := [180, 0, 50, 27, 182, 0, 193, 192, 1, 49, 28, 182, 1, 80, 167, 0, 5, 18, 115, 172]
abbrev dktX0_cycle_1 : List UInt8 := dkwX0_cycle_1 ++ []
def dkwX0_cycle_0 : List UInt8 := [42, 27, 182, 1, 77, 154, 0, 6, 18, 192, 172, 28, 3, 7, 184, 0, 97, 153, 0, 22, 42, 42]
abbrev dktX0_cycle_0 : List UInt8 := dkwX0_cycle_0 ++ dktX0_cycle_1
theorem dksX0_cycle_0 : cX0_cycle.data.toList.drop 0 = dktX0_cycle_0 := by decide +kernel
theorem dksX0_cycle_1 : cX0_cycle.data.toList.drop 22 = dktX0_cycle_1 := dk_seg dksX0_cycle_0 22 rfl rfl
theorem dX0_cycle_0 : decode cX0_cycle 0 = .ok (.aload_n 0, 1) := dk_42 (dk_at dksX0_cycle_0 0 rfl rfl)
theorem dX0_cycle_1 : decode cX0_cycle 1 = .ok (.iload_n 1, 1) := dk_27 (dk_at dksX0_cycle_0 1 rfl rfl)
theorem dX0_cycle_2 : decode cX0_cycle 2 = .ok (.invokevirtual 333, 3) := dk_182 1 77 (dk_at dksX0_cycle_0 2 rfl rfl)
theorem dX0_cycle_5 : decode cX0_cycle 5 = .ok (.ifCond .ne 6, 3) := dk_154 0 6 (dk_at dksX0_cycle_0 5 rfl rfl)
theorem dX0_cycle_8 : decode cX0_cycle 8 = .ok (.ldc 192, 2) := dk_18 192 (dk_at dksX0_cycle_0 8 rfl rfl)
theorem dX0_cycle_10 : decode cX0_cycle 10 = .ok (.ireturn, 1) := dk_172 (dk_at dksX0_cycle_0 10 rfl rfl)
theorem dX0_cycle_11 : decode cX0_cycle 11 = .ok (.iload_n 2, 1) := dk_28 (dk_at dksX0_cycle_0 11 rfl rfl)
theorem dX0_cycle_12 : decode cX0_cycle 12 = .ok (.iconst 0, 1) := dk_3 (dk_at dksX0_cycle_0 12 rfl rfl)
theorem dX0_cycle_13 : decode cX0_cycle 13 = .ok (.iconst 4, 1) := dk_7 (dk_at dksX0_cycle_0 13 rfl rfl)
theorem dX0_cycle_14 : decode cX0_cycle 14 = .ok (.invokestatic 97, 3) := dk_184 0 97 (dk_at dksX0_cycle_0 14 rfl rfl)
theorem dX0_cycle_17 : decode cX0_cycle 17 = .ok (.ifCond .eq 22, 3) := dk_153 0 22 (dk_at dksX0_cycle_0 17 rfl rfl)
theorem dX0_cycle_20 : decode cX0_cycle 20 = .ok (.aload_n 0, 1) := dk_42 (dk_at dksX0_cycle_0 20 rfl rfl)
theorem dX0_cycle_21 : decode cX0_cycle 21 = .ok (.aload_n 0, 1) := dk_42 (dk_at dksX0_cycle_0 21 rfl rfl)
theorem dX0_cycle_22 : decode cX0_cycle 22 = .ok (.getfield 50, 3) := dk_180 0 50 (dk_at dksX0_cycle_1 0 rfl rfl)
theorem dX0_cycle_25 : decode cX0_cycle 25 = .ok (.iload_n 1, 1) := dk_27 (dk_at dksX0_cycle_1 3 rfl rfl)
theorem dX0_cycle_26 : decode cX0_cycle 26 = .ok (.invokevirtual 193, 3) := dk_182 0 193 (dk_at dksX0_cycle_1 4 rfl rfl)
theorem dX0_cycle_29 : decode cX0_cycle 29 = .ok (.checkcast 305, 3) := dk_192 1 49 (dk_at dksX0_cycle_1 7 rfl rfl)
theorem dX0_cycle_32 : decode cX0_cycle 32 = .ok (.iload_n 2, 1) := dk_28 (dk_at dksX0_cycle_1 10 rfl rfl)
theorem dX0_cycle_33 : decode cX0_cycle 33 = .ok (.invokevirtual 336, 3) := dk_182 1 80 (dk_at dksX0_cycle_1 11 rfl rfl)
theorem dX0_cycle_36 : decode cX0_cycle 36 = .ok (.goto 5, 3) := dk_167 0 5 (dk_at dksX0_cycle_1 14 rfl rfl)
theorem dX0_cycle_39 : decode cX0_cycle 39 = .ok (.ldc 115, 2) := dk_18 115 (dk_at dksX0_cycle_1 17 rfl rfl)
theorem dX0_cycle_41 : decode cX0_cycle 41 = .ok (.ireturn, 1) := dk_172 (dk_at dksX0_cycle_1 19 rfl rfl)
abbrev cX0_isCycle : ByteArray := prog_1_method_42_code
def yX0_isCycle : MethodName := ⟨RX0, "isCycle", "(I)Z"⟩
def dkwX0_isCycle_0 : List UInt8 := [27, 3, 42, 180, 0, 50, 182, 0, 94, 4, 100, 184, 0, 97, 172]
abbrev dktX0_isCycle_0 : List UInt8 := dkwX0_isCycle_0 ++ []
theorem dksX0_isCycle_0 : cX0_isCycle.data.toList.drop 0 = dktX0_isCycle_0 := by decide +kernel
theorem dX0_isCycle_0 : decode cX0_isCycle 0 = .ok (.iload_n 1, 1) := dk_27 (dk_at dksX0_isCycle_0 0 rfl rfl)
theorem dX0_isCycle_1 : decode cX0_isCycle 1 = .ok (.iconst 0, 1) := dk_3 (dk_at dksX0_isCycle_0 1 rfl rfl)
theorem dX0_isCycle_2 : decode cX0_isCycle 2 = .ok (.aload_n 0, 1) := dk_42 (dk_at dksX0_isCycle_0 2 rfl rfl)
theorem dX0_isCycle_3 : decode cX0_isCycle 3 = .ok (.getfield 50, 3) := dk_180 0 50 (dk_at dksX0_isCycle_0 3 rfl rfl)
theorem dX0_isCycle_6 : decode cX0_isCycle 6 = .ok (.invokevirtual 94, 3) := dk_182 0 94 (dk_at dksX0_isCycle_0 6 rfl rfl)
theorem dX0_isCycle_9 : decode cX0_isCycle 9 = .ok (.iconst 1, 1) := dk_4 (dk_at dksX0_isCycle_0 9 rfl rfl)
theorem dX0_isCycle_10 : decode cX0_isCycle 10 = .ok (.isub, 1) := dk_100 (dk_at dksX0_isCycle_0 10 rfl rfl)
theorem dX0_isCycle_11 : decode cX0_isCycle 11 = .ok (.invokestatic 97, 3) := dk_184 0 97 (dk_at dksX0_isCycle_0 11 rfl rfl)
theorem dX0_isCycle_14 : decode cX0_isCycle 14 = .ok (.ireturn, 1) := dk_172 (dk_at dksX0_isCycle_0 14 rfl rfl)
abbrev cX0_cycleTold : ByteArray := prog_1_method_45_code
def yX0_cycleTold : MethodName := ⟨RX0, "cycleTold", "(LRiverWords$Cycle;I)I"⟩
def dkwX0_cycleTold_5 : List UInt8 := [192, 0, 76, 180, 1, 44, 182, 0, 193, 192, 0, 76, 180, 1, 46, 172]
abbrev dktX0_cycleTold_5 : List UInt8 := dkwX0_cycleTold_5 ++ []
def dkwX0_cycleTold_4 : List UInt8 := [192, 0, 76, 180, 1, 46, 167, 0, 33, 42, 180, 0, 47, 42, 180, 0, 47, 43, 180, 1, 73, 182, 0, 193]
abbrev dktX0_cycleTold_4 : List UInt8 := dkwX0_cycleTold_4 ++ dktX0_cycleTold_5
def dkwX0_cycleTold_3 : List UInt8 := [180, 0, 47, 42, 180, 0, 47, 43, 180, 1, 73, 182, 0, 193, 192, 0, 76, 180, 1, 42, 182, 0, 193]
abbrev dktX0_cycleTold_3 : List UInt8 := dkwX0_cycleTold_3 ++ dktX0_cycleTold_4
def dkwX0_cycleTold_2 : List UInt8 := [43, 180, 1, 73, 167, 0, 82, 43, 182, 1, 75, 167, 0, 75, 43, 16, 76, 182, 1, 76, 167, 0, 66, 42]
abbrev dktX0_cycleTold_2 : List UInt8 := dkwX0_cycleTold_2 ++ dktX0_cycleTold_3
def dkwX0_cycleTold_1 : List UInt8 := [170, 0, 0, 0, 0, 0, 87, 0, 0, 0, 0, 0, 0, 0, 3, 0, 0, 0, 31, 0, 0, 0, 38, 0, 0, 0, 45, 0, 0, 0, 54]
abbrev dktX0_cycleTold_1 : List UInt8 := dkwX0_cycleTold_1 ++ dktX0_cycleTold_2
def dkwX0_cycleTold_0 : List UInt8 := [28]
abbrev dktX0_cycleTold_0 : List UInt8 := dkwX0_cycleTold_0 ++ dktX0_cycleTold_1
theorem dksX0_cycleTold_0 : cX0_cycleTold.data.toList.drop 0 = dktX0_cycleTold_0 := by decide +kernel
theorem dksX0_cycleTold_1 : cX0_cycleTold.data.toList.drop 1 = dktX0_cycleTold_1 := dk_seg dksX0_cycleTold_0 1 rfl rfl
theorem dksX0_cycleTold_2 : cX0_cycleTold.data.toList.drop 32 = dktX0_cycleTold_2 := dk_seg dksX0_cycleTold_1 31 rfl rfl
theorem dksX0_cycleTold_3 : cX0_cycleTold.data.toList.drop 56 = dktX0_cycleTold_3 := dk_seg dksX0_cycleTold_2 24 rfl rfl
theorem dksX0_cycleTold_4 : cX0_cycleTold.data.toList.drop 79 = dktX0_cycleTold_4 := dk_seg dksX0_cycleTold_3 23 rfl rfl
theorem dksX0_cycleTold_5 : cX0_cycleTold.data.toList.drop 103 = dktX0_cycleTold_5 := dk_seg dksX0_cycleTold_4 24 rfl rfl
theorem dX0_cycleTold_0 : decode cX0_cycleTold 0 = .ok (.iload_n 2, 1) := dk_28 (dk_at dksX0_cycleTold_0 0 rfl rfl)
theorem dX0_cycleTold_1 : decode cX0_cycleTold 1 = .ok (.tableswitch 87 0 3 #[31, 38, 45, 54], 31) := by decide +kernel
theorem dX0_cycleTold_32 : decode cX0_cycleTold 32 = .ok (.aload_n 1, 1) := dk_43 (dk_at dksX0_cycleTold_2 0 rfl rfl)
theorem dX0_cycleTold_33 : decode cX0_cycleTold 33 = .ok (.getfield 329, 3) := dk_180 1 73 (dk_at dksX0_cycleTold_2 1 rfl rfl)
theorem dX0_cycleTold_36 : decode cX0_cycleTold 36 = .ok (.goto 82, 3) := dk_167 0 82 (dk_at dksX0_cycleTold_2 4 rfl rfl)
theorem dX0_cycleTold_39 : decode cX0_cycleTold 39 = .ok (.aload_n 1, 1) := dk_43 (dk_at dksX0_cycleTold_2 7 rfl rfl)
theorem dX0_cycleTold_40 : decode cX0_cycleTold 40 = .ok (.invokevirtual 331, 3) := dk_182 1 75 (dk_at dksX0_cycleTold_2 8 rfl rfl)
theorem dX0_cycleTold_43 : decode cX0_cycleTold 43 = .ok (.goto 75, 3) := dk_167 0 75 (dk_at dksX0_cycleTold_2 11 rfl rfl)
theorem dX0_cycleTold_46 : decode cX0_cycleTold 46 = .ok (.aload_n 1, 1) := dk_43 (dk_at dksX0_cycleTold_2 14 rfl rfl)
theorem dX0_cycleTold_47 : decode cX0_cycleTold 47 = .ok (.bipush 76, 2) := dk_16 76 (dk_at dksX0_cycleTold_2 15 rfl rfl)
theorem dX0_cycleTold_49 : decode cX0_cycleTold 49 = .ok (.invokevirtual 332, 3) := dk_182 1 76 (dk_at dksX0_cycleTold_2 17 rfl rfl)
theorem dX0_cycleTold_52 : decode cX0_cycleTold 52 = .ok (.goto 66, 3) := dk_167 0 66 (dk_at dksX0_cycleTold_2 20 rfl rfl)
theorem dX0_cycleTold_55 : decode cX0_cycleTold 55 = .ok (.aload_n 0, 1) := dk_42 (dk_at dksX0_cycleTold_2 23 rfl rfl)
theorem dX0_cycleTold_56 : decode cX0_cycleTold 56 = .ok (.getfield 47, 3) := dk_180 0 47 (dk_at dksX0_cycleTold_3 0 rfl rfl)
theorem dX0_cycleTold_59 : decode cX0_cycleTold 59 = .ok (.aload_n 0, 1) := dk_42 (dk_at dksX0_cycleTold_3 3 rfl rfl)
theorem dX0_cycleTold_60 : decode cX0_cycleTold 60 = .ok (.getfield 47, 3) := dk_180 0 47 (dk_at dksX0_cycleTold_3 4 rfl rfl)
theorem dX0_cycleTold_63 : decode cX0_cycleTold 63 = .ok (.aload_n 1, 1) := dk_43 (dk_at dksX0_cycleTold_3 7 rfl rfl)
theorem dX0_cycleTold_64 : decode cX0_cycleTold 64 = .ok (.getfield 329, 3) := dk_180 1 73 (dk_at dksX0_cycleTold_3 8 rfl rfl)
theorem dX0_cycleTold_67 : decode cX0_cycleTold 67 = .ok (.invokevirtual 193, 3) := dk_182 0 193 (dk_at dksX0_cycleTold_3 11 rfl rfl)
theorem dX0_cycleTold_70 : decode cX0_cycleTold 70 = .ok (.checkcast 76, 3) := dk_192 0 76 (dk_at dksX0_cycleTold_3 14 rfl rfl)
theorem dX0_cycleTold_73 : decode cX0_cycleTold 73 = .ok (.getfield 298, 3) := dk_180 1 42 (dk_at dksX0_cycleTold_3 17 rfl rfl)
theorem dX0_cycleTold_76 : decode cX0_cycleTold 76 = .ok (.invokevirtual 193, 3) := dk_182 0 193 (dk_at dksX0_cycleTold_3 20 rfl rfl)
theorem dX0_cycleTold_79 : decode cX0_cycleTold 79 = .ok (.checkcast 76, 3) := dk_192 0 76 (dk_at dksX0_cycleTold_4 0 rfl rfl)
theorem dX0_cycleTold_82 : decode cX0_cycleTold 82 = .ok (.getfield 302, 3) := dk_180 1 46 (dk_at dksX0_cycleTold_4 3 rfl rfl)
theorem dX0_cycleTold_85 : decode cX0_cycleTold 85 = .ok (.goto 33, 3) := dk_167 0 33 (dk_at dksX0_cycleTold_4 6 rfl rfl)
theorem dX0_cycleTold_88 : decode cX0_cycleTold 88 = .ok (.aload_n 0, 1) := dk_42 (dk_at dksX0_cycleTold_4 9 rfl rfl)
theorem dX0_cycleTold_89 : decode cX0_cycleTold 89 = .ok (.getfield 47, 3) := dk_180 0 47 (dk_at dksX0_cycleTold_4 10 rfl rfl)
theorem dX0_cycleTold_92 : decode cX0_cycleTold 92 = .ok (.aload_n 0, 1) := dk_42 (dk_at dksX0_cycleTold_4 13 rfl rfl)
theorem dX0_cycleTold_93 : decode cX0_cycleTold 93 = .ok (.getfield 47, 3) := dk_180 0 47 (dk_at dksX0_cycleTold_4 14 rfl rfl)
theorem dX0_cycleTold_96 : decode cX0_cycleTold 96 = .ok (.aload_n 1, 1) := dk_43 (dk_at dksX0_cycleTold_4 17 rfl rfl)
theorem dX0_cycleTold_97 : decode cX0_cycleTold 97 = .ok (.getfield 329, 3) := dk_180 1 73 (dk_at dksX0_cycleTold_4 18 rfl rfl)
theorem dX0_cycleTold_100 : decode cX0_cycleTold 100 = .ok (.invokevirtual 193, 3) := dk_182 0 193 (dk_at dksX0_cycleTold_4 21 rfl rfl)
theorem dX0_cycleTold_103 : decode cX0_cycleTold 103 = .ok (.checkcast 76, 3) := dk_192 0 76 (dk_at dksX0_cycleTold_5 0 rfl rfl)
theorem dX0_cycleTold_106 : decode cX0_cycleTold 106 = .ok (.getfield 300, 3) := dk_180 1 44 (dk_at dksX0_cycleTold_5 3 rfl rfl)
theorem dX0_cycleTold_109 : decode cX0_cycleTold 109 = .ok (.invokevirtual 193, 3) := dk_182 0 193 (dk_at dksX0_cycleTold_5 6 rfl rfl)
theorem dX0_cycleTold_112 : decode cX0_cycleTold 112 = .ok (.checkcast 76, 3) := dk_192 0 76 (dk_at dksX0_cycleTold_5 9 rfl rfl)
theorem dX0_cycleTold_115 : decode cX0_cycleTold 115 = .ok (.getfield 302, 3) := dk_180 1 46 (dk_at dksX0_cycleTold_5 12 rfl rfl)
theorem dX0_cycleTold_118 : decode cX0_cycleTold 118 = .ok (.ireturn, 1) := dk_172 (dk_at dksX0_cycleTold_5 15 rfl rfl)
abbrev cX0_step : ByteArray := prog_1_method_47_code
def yX0_step : MethodName := ⟨RX0, "step", "(II)I"⟩
def dkwX0_step_2 : List UInt8 := [167, 0, 5, 18, 192, 172]
abbrev dktX0_step_2 : List UInt8 := dkwX0_step_2 ++ []
def dkwX0_step_1 : List UInt8 := [4, 100, 184, 0, 97, 153, 0, 21, 42, 180, 0, 50, 27, 182, 0, 193, 192, 1, 49, 28, 182, 1, 84]
abbrev dktX0_step_1 : List UInt8 := dkwX0_step_1 ++ dktX0_step_2
def dkwX0_step_0 : List UInt8 := [42, 27, 182, 1, 77, 153, 0, 45, 28, 3, 42, 180, 0, 50, 27, 182, 0, 193, 192, 1, 49, 182, 1, 75]
abbrev dktX0_step_0 : List UInt8 := dkwX0_step_0 ++ dktX0_step_1
theorem dksX0_step_0 : cX0_step.data.toList.drop 0 = dktX0_step_0 := by decide +kernel
theorem dksX0_step_1 : cX0_step.data.toList.drop 24 = dktX0_step_1 := dk_seg dksX0_step_0 24 rfl rfl
theorem dksX0_step_2 : cX0_step.data.toList.drop 47 = dktX0_step_2 := dk_seg dksX0_step_1 23 rfl rfl
theorem dX0_step_0 : decode cX0_step 0 = .ok (.aload_n 0, 1) := dk_42 (dk_at dksX0_step_0 0 rfl rfl)
theorem dX0_step_1 : decode cX0_step 1 = .ok (.iload_n 1, 1) := dk_27 (dk_at dksX0_step_0 1 rfl rfl)
theorem dX0_step_2 : decode cX0_step 2 = .ok (.invokevirtual 333, 3) := dk_182 1 77 (dk_at dksX0_step_0 2 rfl rfl)
theorem dX0_step_5 : decode cX0_step 5 = .ok (.ifCond .eq 45, 3) := dk_153 0 45 (dk_at dksX0_step_0 5 rfl rfl)
theorem dX0_step_8 : decode cX0_step 8 = .ok (.iload_n 2, 1) := dk_28 (dk_at dksX0_step_0 8 rfl rfl)
theorem dX0_step_9 : decode cX0_step 9 = .ok (.iconst 0, 1) := dk_3 (dk_at dksX0_step_0 9 rfl rfl)
theorem dX0_step_10 : decode cX0_step 10 = .ok (.aload_n 0, 1) := dk_42 (dk_at dksX0_step_0 10 rfl rfl)
theorem dX0_step_11 : decode cX0_step 11 = .ok (.getfield 50, 3) := dk_180 0 50 (dk_at dksX0_step_0 11 rfl rfl)
theorem dX0_step_14 : decode cX0_step 14 = .ok (.iload_n 1, 1) := dk_27 (dk_at dksX0_step_0 14 rfl rfl)
theorem dX0_step_15 : decode cX0_step 15 = .ok (.invokevirtual 193, 3) := dk_182 0 193 (dk_at dksX0_step_0 15 rfl rfl)
theorem dX0_step_18 : decode cX0_step 18 = .ok (.checkcast 305, 3) := dk_192 1 49 (dk_at dksX0_step_0 18 rfl rfl)
theorem dX0_step_21 : decode cX0_step 21 = .ok (.invokevirtual 331, 3) := dk_182 1 75 (dk_at dksX0_step_0 21 rfl rfl)
theorem dX0_step_24 : decode cX0_step 24 = .ok (.iconst 1, 1) := dk_4 (dk_at dksX0_step_1 0 rfl rfl)
theorem dX0_step_25 : decode cX0_step 25 = .ok (.isub, 1) := dk_100 (dk_at dksX0_step_1 1 rfl rfl)
theorem dX0_step_26 : decode cX0_step 26 = .ok (.invokestatic 97, 3) := dk_184 0 97 (dk_at dksX0_step_1 2 rfl rfl)
theorem dX0_step_29 : decode cX0_step 29 = .ok (.ifCond .eq 21, 3) := dk_153 0 21 (dk_at dksX0_step_1 5 rfl rfl)
theorem dX0_step_32 : decode cX0_step 32 = .ok (.aload_n 0, 1) := dk_42 (dk_at dksX0_step_1 8 rfl rfl)
theorem dX0_step_33 : decode cX0_step 33 = .ok (.getfield 50, 3) := dk_180 0 50 (dk_at dksX0_step_1 9 rfl rfl)
theorem dX0_step_36 : decode cX0_step 36 = .ok (.iload_n 1, 1) := dk_27 (dk_at dksX0_step_1 12 rfl rfl)
theorem dX0_step_37 : decode cX0_step 37 = .ok (.invokevirtual 193, 3) := dk_182 0 193 (dk_at dksX0_step_1 13 rfl rfl)
theorem dX0_step_40 : decode cX0_step 40 = .ok (.checkcast 305, 3) := dk_192 1 49 (dk_at dksX0_step_1 16 rfl rfl)
theorem dX0_step_43 : decode cX0_step 43 = .ok (.iload_n 2, 1) := dk_28 (dk_at dksX0_step_1 19 rfl rfl)
theorem dX0_step_44 : decode cX0_step 44 = .ok (.invokevirtual 340, 3) := dk_182 1 84 (dk_at dksX0_step_1 20 rfl rfl)
theorem dX0_step_47 : decode cX0_step 47 = .ok (.goto 5, 3) := dk_167 0 5 (dk_at dksX0_step_2 0 rfl rfl)
theorem dX0_step_50 : decode cX0_step 50 = .ok (.ldc 192, 2) := dk_18 192 (dk_at dksX0_step_2 3 rfl rfl)
theorem dX0_step_52 : decode cX0_step 52 = .ok (.ireturn, 1) := dk_172 (dk_at dksX0_step_2 5 rfl rfl)
abbrev cX0_trace : ByteArray := prog_1_method_48_code
def yX0_trace : MethodName := ⟨RX0, "trace", "(II)I"⟩
def dkwX0_trace_1 : List UInt8 := [180, 0, 50, 27, 182, 0, 193, 192, 1, 49, 180, 1, 85, 28, 184, 1, 86, 167, 0, 5, 18, 115, 172]
abbrev dktX0_trace_1 : List UInt8 := dkwX0_trace_1 ++ []
def dkwX0_trace_0 : List UInt8 := [42, 27, 182, 1, 77, 154, 0, 6, 18, 192, 172, 28, 5, 17, 3, 232, 184, 0, 97, 153, 0, 24, 42]
abbrev dktX0_trace_0 : List UInt8 := dkwX0_trace_0 ++ dktX0_trace_1
theorem dksX0_trace_0 : cX0_trace.data.toList.drop 0 = dktX0_trace_0 := by decide +kernel
theorem dksX0_trace_1 : cX0_trace.data.toList.drop 23 = dktX0_trace_1 := dk_seg dksX0_trace_0 23 rfl rfl
theorem dX0_trace_0 : decode cX0_trace 0 = .ok (.aload_n 0, 1) := dk_42 (dk_at dksX0_trace_0 0 rfl rfl)
theorem dX0_trace_1 : decode cX0_trace 1 = .ok (.iload_n 1, 1) := dk_27 (dk_at dksX0_trace_0 1 rfl rfl)
theorem dX0_trace_2 : decode cX0_trace 2 = .ok (.invokevirtual 333, 3) := dk_182 1 77 (dk_at dksX0_trace_0 2 rfl rfl)
theorem dX0_trace_5 : decode cX0_trace 5 = .ok (.ifCond .ne 6, 3) := dk_154 0 6 (dk_at dksX0_trace_0 5 rfl rfl)
theorem dX0_trace_8 : decode cX0_trace 8 = .ok (.ldc 192, 2) := dk_18 192 (dk_at dksX0_trace_0 8 rfl rfl)
theorem dX0_trace_10 : decode cX0_trace 10 = .ok (.ireturn, 1) := dk_172 (dk_at dksX0_trace_0 10 rfl rfl)
theorem dX0_trace_11 : decode cX0_trace 11 = .ok (.iload_n 2, 1) := dk_28 (dk_at dksX0_trace_0 11 rfl rfl)
theorem dX0_trace_12 : decode cX0_trace 12 = .ok (.iconst 2, 1) := dk_5 (dk_at dksX0_trace_0 12 rfl rfl)
theorem dX0_trace_13 : decode cX0_trace 13 = .ok (.sipush 1000, 3) := dk_17 3 232 (dk_at dksX0_trace_0 13 rfl rfl)
theorem dX0_trace_16 : decode cX0_trace 16 = .ok (.invokestatic 97, 3) := dk_184 0 97 (dk_at dksX0_trace_0 16 rfl rfl)
theorem dX0_trace_19 : decode cX0_trace 19 = .ok (.ifCond .eq 24, 3) := dk_153 0 24 (dk_at dksX0_trace_0 19 rfl rfl)
theorem dX0_trace_22 : decode cX0_trace 22 = .ok (.aload_n 0, 1) := dk_42 (dk_at dksX0_trace_0 22 rfl rfl)
theorem dX0_trace_23 : decode cX0_trace 23 = .ok (.getfield 50, 3) := dk_180 0 50 (dk_at dksX0_trace_1 0 rfl rfl)
theorem dX0_trace_26 : decode cX0_trace 26 = .ok (.iload_n 1, 1) := dk_27 (dk_at dksX0_trace_1 3 rfl rfl)
theorem dX0_trace_27 : decode cX0_trace 27 = .ok (.invokevirtual 193, 3) := dk_182 0 193 (dk_at dksX0_trace_1 4 rfl rfl)
theorem dX0_trace_30 : decode cX0_trace 30 = .ok (.checkcast 305, 3) := dk_192 1 49 (dk_at dksX0_trace_1 7 rfl rfl)
theorem dX0_trace_33 : decode cX0_trace 33 = .ok (.getfield 341, 3) := dk_180 1 85 (dk_at dksX0_trace_1 10 rfl rfl)
theorem dX0_trace_36 : decode cX0_trace 36 = .ok (.iload_n 2, 1) := dk_28 (dk_at dksX0_trace_1 13 rfl rfl)
theorem dX0_trace_37 : decode cX0_trace 37 = .ok (.invokestatic 342, 3) := dk_184 1 86 (dk_at dksX0_trace_1 14 rfl rfl)
theorem dX0_trace_40 : decode cX0_trace 40 = .ok (.goto 5, 3) := dk_167 0 5 (dk_at dksX0_trace_1 17 rfl rfl)
theorem dX0_trace_43 : decode cX0_trace 43 = .ok (.ldc 115, 2) := dk_18 115 (dk_at dksX0_trace_1 20 rfl rfl)
theorem dX0_trace_45 : decode cX0_trace 45 = .ok (.ireturn, 1) := dk_172 (dk_at dksX0_trace_1 22 rfl rfl)
abbrev cX0_traceBy : ByteArray := prog_1_method_5_code
def yX0_traceBy : MethodName := ⟨RX0, "traceBy", "(Ljava/lang/CharSequence;I)I"⟩
def dkwX0_traceBy_5 : List UInt8 := [167, 255, 154, 28, 21, 5, 96, 27, 112, 172]
abbrev dktX0_traceBy_5 : List UInt8 := dkwX0_traceBy_5 ++ []
def dkwX0_traceBy_4 : List UInt8 := [21, 7, 153, 0, 8, 21, 5, 167, 0, 10, 21, 4, 21, 5, 96, 27, 112, 54, 5, 132, 6, 1]
abbrev dktX0_traceBy_4 : List UInt8 := dkwX0_traceBy_4 ++ dktX0_traceBy_5
def dkwX0_traceBy_3 : List UInt8 := [112, 167, 0, 5, 21, 4, 54, 4, 21, 7, 153, 0, 7, 29, 167, 0, 8, 28, 29, 96, 27, 112, 62]
abbrev dktX0_traceBy_3 : List UInt8 := dkwX0_traceBy_3 ++ dktX0_traceBy_4
def dkwX0_traceBy_2 : List UInt8 := [153, 0, 11, 28, 29, 96, 27, 112, 167, 0, 4, 28, 61, 21, 7, 153, 0, 13, 21, 4, 21, 5, 96, 27]
abbrev dktX0_traceBy_2 : List UInt8 := dkwX0_traceBy_2 ++ dktX0_traceBy_3
def dkwX0_traceBy_1 : List UInt8 := [42, 21, 6, 185, 0, 65, 2, 0, 16, 76, 160, 0, 7, 4, 167, 0, 4, 3, 54, 7, 21, 7]
abbrev dktX0_traceBy_1 : List UInt8 := dkwX0_traceBy_1 ++ dktX0_traceBy_2
def dkwX0_traceBy_0 : List UInt8 := [4, 61, 3, 62, 3, 54, 4, 4, 54, 5, 3, 54, 6, 21, 6, 42, 185, 0, 59, 1, 0, 162, 0, 97]
abbrev dktX0_traceBy_0 : List UInt8 := dkwX0_traceBy_0 ++ dktX0_traceBy_1
theorem dksX0_traceBy_0 : cX0_traceBy.data.toList.drop 0 = dktX0_traceBy_0 := by decide +kernel
theorem dksX0_traceBy_1 : cX0_traceBy.data.toList.drop 24 = dktX0_traceBy_1 := dk_seg dksX0_traceBy_0 24 rfl rfl
theorem dksX0_traceBy_2 : cX0_traceBy.data.toList.drop 46 = dktX0_traceBy_2 := dk_seg dksX0_traceBy_1 22 rfl rfl
theorem dksX0_traceBy_3 : cX0_traceBy.data.toList.drop 70 = dktX0_traceBy_3 := dk_seg dksX0_traceBy_2 24 rfl rfl
theorem dksX0_traceBy_4 : cX0_traceBy.data.toList.drop 93 = dktX0_traceBy_4 := dk_seg dksX0_traceBy_3 23 rfl rfl
theorem dksX0_traceBy_5 : cX0_traceBy.data.toList.drop 115 = dktX0_traceBy_5 := dk_seg dksX0_traceBy_4 22 rfl rfl
theorem dX0_traceBy_0 : decode cX0_traceBy 0 = .ok (.iconst 1, 1) := dk_4 (dk_at dksX0_traceBy_0 0 rfl rfl)
theorem dX0_traceBy_1 : decode cX0_traceBy 1 = .ok (.istore_n 2, 1) := dk_61 (dk_at dksX0_traceBy_0 1 rfl rfl)
theorem dX0_traceBy_2 : decode cX0_traceBy 2 = .ok (.iconst 0, 1) := dk_3 (dk_at dksX0_traceBy_0 2 rfl rfl)
theorem dX0_traceBy_3 : decode cX0_traceBy 3 = .ok (.istore_n 3, 1) := dk_62 (dk_at dksX0_traceBy_0 3 rfl rfl)
theorem dX0_traceBy_4 : decode cX0_traceBy 4 = .ok (.iconst 0, 1) := dk_3 (dk_at dksX0_traceBy_0 4 rfl rfl)
theorem dX0_traceBy_5 : decode cX0_traceBy 5 = .ok (.istore 4, 2) := dk_54 4 (dk_at dksX0_traceBy_0 5 rfl rfl)
theorem dX0_traceBy_7 : decode cX0_traceBy 7 = .ok (.iconst 1, 1) := dk_4 (dk_at dksX0_traceBy_0 7 rfl rfl)
theorem dX0_traceBy_8 : decode cX0_traceBy 8 = .ok (.istore 5, 2) := dk_54 5 (dk_at dksX0_traceBy_0 8 rfl rfl)
theorem dX0_traceBy_10 : decode cX0_traceBy 10 = .ok (.iconst 0, 1) := dk_3 (dk_at dksX0_traceBy_0 10 rfl rfl)
theorem dX0_traceBy_11 : decode cX0_traceBy 11 = .ok (.istore 6, 2) := dk_54 6 (dk_at dksX0_traceBy_0 11 rfl rfl)
theorem dX0_traceBy_13 : decode cX0_traceBy 13 = .ok (.iload 6, 2) := dk_21 6 (dk_at dksX0_traceBy_0 13 rfl rfl)
theorem dX0_traceBy_15 : decode cX0_traceBy 15 = .ok (.aload_n 0, 1) := dk_42 (dk_at dksX0_traceBy_0 15 rfl rfl)
theorem dX0_traceBy_16 : decode cX0_traceBy 16 = .ok (.invokeinterface 59 1, 5) := by decide +kernel
theorem dX0_traceBy_21 : decode cX0_traceBy 21 = .ok (.if_icmp .ge 97, 3) := dk_162 0 97 (dk_at dksX0_traceBy_0 21 rfl rfl)
theorem dX0_traceBy_24 : decode cX0_traceBy 24 = .ok (.aload_n 0, 1) := dk_42 (dk_at dksX0_traceBy_1 0 rfl rfl)
theorem dX0_traceBy_25 : decode cX0_traceBy 25 = .ok (.iload 6, 2) := dk_21 6 (dk_at dksX0_traceBy_1 1 rfl rfl)
theorem dX0_traceBy_27 : decode cX0_traceBy 27 = .ok (.invokeinterface 65 2, 5) := by decide +kernel
theorem dX0_traceBy_32 : decode cX0_traceBy 32 = .ok (.bipush 76, 2) := dk_16 76 (dk_at dksX0_traceBy_1 8 rfl rfl)
theorem dX0_traceBy_34 : decode cX0_traceBy 34 = .ok (.if_icmp .ne 7, 3) := dk_160 0 7 (dk_at dksX0_traceBy_1 10 rfl rfl)
theorem dX0_traceBy_37 : decode cX0_traceBy 37 = .ok (.iconst 1, 1) := dk_4 (dk_at dksX0_traceBy_1 13 rfl rfl)
theorem dX0_traceBy_38 : decode cX0_traceBy 38 = .ok (.goto 4, 3) := dk_167 0 4 (dk_at dksX0_traceBy_1 14 rfl rfl)
theorem dX0_traceBy_41 : decode cX0_traceBy 41 = .ok (.iconst 0, 1) := dk_3 (dk_at dksX0_traceBy_1 17 rfl rfl)
theorem dX0_traceBy_42 : decode cX0_traceBy 42 = .ok (.istore 7, 2) := dk_54 7 (dk_at dksX0_traceBy_1 18 rfl rfl)
theorem dX0_traceBy_44 : decode cX0_traceBy 44 = .ok (.iload 7, 2) := dk_21 7 (dk_at dksX0_traceBy_1 20 rfl rfl)
theorem dX0_traceBy_46 : decode cX0_traceBy 46 = .ok (.ifCond .eq 11, 3) := dk_153 0 11 (dk_at dksX0_traceBy_2 0 rfl rfl)
theorem dX0_traceBy_49 : decode cX0_traceBy 49 = .ok (.iload_n 2, 1) := dk_28 (dk_at dksX0_traceBy_2 3 rfl rfl)
theorem dX0_traceBy_50 : decode cX0_traceBy 50 = .ok (.iload_n 3, 1) := dk_29 (dk_at dksX0_traceBy_2 4 rfl rfl)
theorem dX0_traceBy_51 : decode cX0_traceBy 51 = .ok (.iadd, 1) := dk_96 (dk_at dksX0_traceBy_2 5 rfl rfl)
theorem dX0_traceBy_52 : decode cX0_traceBy 52 = .ok (.iload_n 1, 1) := dk_27 (dk_at dksX0_traceBy_2 6 rfl rfl)
theorem dX0_traceBy_53 : decode cX0_traceBy 53 = .ok (.irem, 1) := dk_112 (dk_at dksX0_traceBy_2 7 rfl rfl)
theorem dX0_traceBy_54 : decode cX0_traceBy 54 = .ok (.goto 4, 3) := dk_167 0 4 (dk_at dksX0_traceBy_2 8 rfl rfl)
theorem dX0_traceBy_57 : decode cX0_traceBy 57 = .ok (.iload_n 2, 1) := dk_28 (dk_at dksX0_traceBy_2 11 rfl rfl)
theorem dX0_traceBy_58 : decode cX0_traceBy 58 = .ok (.istore_n 2, 1) := dk_61 (dk_at dksX0_traceBy_2 12 rfl rfl)
theorem dX0_traceBy_59 : decode cX0_traceBy 59 = .ok (.iload 7, 2) := dk_21 7 (dk_at dksX0_traceBy_2 13 rfl rfl)
theorem dX0_traceBy_61 : decode cX0_traceBy 61 = .ok (.ifCond .eq 13, 3) := dk_153 0 13 (dk_at dksX0_traceBy_2 15 rfl rfl)
theorem dX0_traceBy_64 : decode cX0_traceBy 64 = .ok (.iload 4, 2) := dk_21 4 (dk_at dksX0_traceBy_2 18 rfl rfl)
theorem dX0_traceBy_66 : decode cX0_traceBy 66 = .ok (.iload 5, 2) := dk_21 5 (dk_at dksX0_traceBy_2 20 rfl rfl)
theorem dX0_traceBy_68 : decode cX0_traceBy 68 = .ok (.iadd, 1) := dk_96 (dk_at dksX0_traceBy_2 22 rfl rfl)
theorem dX0_traceBy_69 : decode cX0_traceBy 69 = .ok (.iload_n 1, 1) := dk_27 (dk_at dksX0_traceBy_2 23 rfl rfl)
theorem dX0_traceBy_70 : decode cX0_traceBy 70 = .ok (.irem, 1) := dk_112 (dk_at dksX0_traceBy_3 0 rfl rfl)
theorem dX0_traceBy_71 : decode cX0_traceBy 71 = .ok (.goto 5, 3) := dk_167 0 5 (dk_at dksX0_traceBy_3 1 rfl rfl)
theorem dX0_traceBy_74 : decode cX0_traceBy 74 = .ok (.iload 4, 2) := dk_21 4 (dk_at dksX0_traceBy_3 4 rfl rfl)
theorem dX0_traceBy_76 : decode cX0_traceBy 76 = .ok (.istore 4, 2) := dk_54 4 (dk_at dksX0_traceBy_3 6 rfl rfl)
theorem dX0_traceBy_78 : decode cX0_traceBy 78 = .ok (.iload 7, 2) := dk_21 7 (dk_at dksX0_traceBy_3 8 rfl rfl)
theorem dX0_traceBy_80 : decode cX0_traceBy 80 = .ok (.ifCond .eq 7, 3) := dk_153 0 7 (dk_at dksX0_traceBy_3 10 rfl rfl)
theorem dX0_traceBy_83 : decode cX0_traceBy 83 = .ok (.iload_n 3, 1) := dk_29 (dk_at dksX0_traceBy_3 13 rfl rfl)
theorem dX0_traceBy_84 : decode cX0_traceBy 84 = .ok (.goto 8, 3) := dk_167 0 8 (dk_at dksX0_traceBy_3 14 rfl rfl)
theorem dX0_traceBy_87 : decode cX0_traceBy 87 = .ok (.iload_n 2, 1) := dk_28 (dk_at dksX0_traceBy_3 17 rfl rfl)
theorem dX0_traceBy_88 : decode cX0_traceBy 88 = .ok (.iload_n 3, 1) := dk_29 (dk_at dksX0_traceBy_3 18 rfl rfl)
theorem dX0_traceBy_89 : decode cX0_traceBy 89 = .ok (.iadd, 1) := dk_96 (dk_at dksX0_traceBy_3 19 rfl rfl)
theorem dX0_traceBy_90 : decode cX0_traceBy 90 = .ok (.iload_n 1, 1) := dk_27 (dk_at dksX0_traceBy_3 20 rfl rfl)
theorem dX0_traceBy_91 : decode cX0_traceBy 91 = .ok (.irem, 1) := dk_112 (dk_at dksX0_traceBy_3 21 rfl rfl)
theorem dX0_traceBy_92 : decode cX0_traceBy 92 = .ok (.istore_n 3, 1) := dk_62 (dk_at dksX0_traceBy_3 22 rfl rfl)
theorem dX0_traceBy_93 : decode cX0_traceBy 93 = .ok (.iload 7, 2) := dk_21 7 (dk_at dksX0_traceBy_4 0 rfl rfl)
theorem dX0_traceBy_95 : decode cX0_traceBy 95 = .ok (.ifCond .eq 8, 3) := dk_153 0 8 (dk_at dksX0_traceBy_4 2 rfl rfl)
theorem dX0_traceBy_98 : decode cX0_traceBy 98 = .ok (.iload 5, 2) := dk_21 5 (dk_at dksX0_traceBy_4 5 rfl rfl)
theorem dX0_traceBy_100 : decode cX0_traceBy 100 = .ok (.goto 10, 3) := dk_167 0 10 (dk_at dksX0_traceBy_4 7 rfl rfl)
theorem dX0_traceBy_103 : decode cX0_traceBy 103 = .ok (.iload 4, 2) := dk_21 4 (dk_at dksX0_traceBy_4 10 rfl rfl)
theorem dX0_traceBy_105 : decode cX0_traceBy 105 = .ok (.iload 5, 2) := dk_21 5 (dk_at dksX0_traceBy_4 12 rfl rfl)
theorem dX0_traceBy_107 : decode cX0_traceBy 107 = .ok (.iadd, 1) := dk_96 (dk_at dksX0_traceBy_4 14 rfl rfl)
theorem dX0_traceBy_108 : decode cX0_traceBy 108 = .ok (.iload_n 1, 1) := dk_27 (dk_at dksX0_traceBy_4 15 rfl rfl)
theorem dX0_traceBy_109 : decode cX0_traceBy 109 = .ok (.irem, 1) := dk_112 (dk_at dksX0_traceBy_4 16 rfl rfl)
theorem dX0_traceBy_110 : decode cX0_traceBy 110 = .ok (.istore 5, 2) := dk_54 5 (dk_at dksX0_traceBy_4 17 rfl rfl)
theorem dX0_traceBy_112 : decode cX0_traceBy 112 = .ok (.iinc 6 1, 3) := dk_132 6 1 (dk_at dksX0_traceBy_4 19 rfl rfl)
theorem dX0_traceBy_115 : decode cX0_traceBy 115 = .ok (.goto (-102), 3) := dk_167 255 154 (dk_at dksX0_traceBy_5 0 rfl rfl)
theorem dX0_traceBy_118 : decode cX0_traceBy 118 = .ok (.iload_n 2, 1) := dk_28 (dk_at dksX0_traceBy_5 3 rfl rfl)
theorem dX0_traceBy_119 : decode cX0_traceBy 119 = .ok (.iload 5, 2) := dk_21 5 (dk_at dksX0_traceBy_5 4 rfl rfl)
theorem dX0_traceBy_121 : decode cX0_traceBy 121 = .ok (.iadd, 1) := dk_96 (dk_at dksX0_traceBy_5 6 rfl rfl)
theorem dX0_traceBy_122 : decode cX0_traceBy 122 = .ok (.iload_n 1, 1) := dk_27 (dk_at dksX0_traceBy_5 7 rfl rfl)
theorem dX0_traceBy_123 : decode cX0_traceBy 123 = .ok (.irem, 1) := dk_112 (dk_at dksX0_traceBy_5 8 rfl rfl)
theorem dX0_traceBy_124 : decode cX0_traceBy 124 = .ok (.ireturn, 1) := dk_172 (dk_at dksX0_traceBy_5 9 rfl rfl)
abbrev cX0_flow : ByteArray := prog_1_method_50_code
def yX0_flow : MethodName := ⟨RX0, "flow", "(IIIZ)I"⟩
def dkwX0_flow_4 : List UInt8 := [167, 0, 5, 18, 115, 172]
abbrev dktX0_flow_4 : List UInt8 := dkwX0_flow_4 ++ []
def dkwX0_flow_3 : List UInt8 := [180, 1, 28, 160, 0, 22, 25, 5, 182, 1, 100, 153, 0, 14, 42, 25, 5, 21, 4, 182, 1, 103]
abbrev dktX0_flow_3 : List UInt8 := dkwX0_flow_3 ++ dktX0_flow_4
def dkwX0_flow_2 : List UInt8 := [154, 0, 6, 18, 115, 172, 187, 0, 76, 89, 27, 28, 29, 183, 0, 91, 58, 5, 25, 5, 182, 0, 214, 42]
abbrev dktX0_flow_2 : List UInt8 := dkwX0_flow_2 ++ dktX0_flow_3
def dkwX0_flow_1 : List UInt8 := [17, 252, 25, 17, 3, 231, 184, 0, 97, 153, 0, 16, 29, 17, 252, 25, 17, 3, 231, 184, 0, 97]
abbrev dktX0_flow_1 : List UInt8 := dkwX0_flow_1 ++ dktX0_flow_2
def dkwX0_flow_0 : List UInt8 := [42, 180, 1, 28, 154, 0, 6, 18, 104, 172, 27, 17, 252, 25, 17, 3, 231, 184, 0, 97, 153, 0, 29, 28]
abbrev dktX0_flow_0 : List UInt8 := dkwX0_flow_0 ++ dktX0_flow_1
theorem dksX0_flow_0 : cX0_flow.data.toList.drop 0 = dktX0_flow_0 := by decide +kernel
theorem dksX0_flow_1 : cX0_flow.data.toList.drop 24 = dktX0_flow_1 := dk_seg dksX0_flow_0 24 rfl rfl
theorem dksX0_flow_2 : cX0_flow.data.toList.drop 46 = dktX0_flow_2 := dk_seg dksX0_flow_1 22 rfl rfl
theorem dksX0_flow_3 : cX0_flow.data.toList.drop 70 = dktX0_flow_3 := dk_seg dksX0_flow_2 24 rfl rfl
theorem dksX0_flow_4 : cX0_flow.data.toList.drop 92 = dktX0_flow_4 := dk_seg dksX0_flow_3 22 rfl rfl
theorem dX0_flow_0 : decode cX0_flow 0 = .ok (.aload_n 0, 1) := dk_42 (dk_at dksX0_flow_0 0 rfl rfl)
theorem dX0_flow_1 : decode cX0_flow 1 = .ok (.getfield 284, 3) := dk_180 1 28 (dk_at dksX0_flow_0 1 rfl rfl)
theorem dX0_flow_4 : decode cX0_flow 4 = .ok (.ifCond .ne 6, 3) := dk_154 0 6 (dk_at dksX0_flow_0 4 rfl rfl)
theorem dX0_flow_7 : decode cX0_flow 7 = .ok (.ldc 104, 2) := dk_18 104 (dk_at dksX0_flow_0 7 rfl rfl)
theorem dX0_flow_9 : decode cX0_flow 9 = .ok (.ireturn, 1) := dk_172 (dk_at dksX0_flow_0 9 rfl rfl)
theorem dX0_flow_10 : decode cX0_flow 10 = .ok (.iload_n 1, 1) := dk_27 (dk_at dksX0_flow_0 10 rfl rfl)
theorem dX0_flow_11 : decode cX0_flow 11 = .ok (.sipush (-999), 3) := dk_17 252 25 (dk_at dksX0_flow_0 11 rfl rfl)
theorem dX0_flow_14 : decode cX0_flow 14 = .ok (.sipush 999, 3) := dk_17 3 231 (dk_at dksX0_flow_0 14 rfl rfl)
theorem dX0_flow_17 : decode cX0_flow 17 = .ok (.invokestatic 97, 3) := dk_184 0 97 (dk_at dksX0_flow_0 17 rfl rfl)
theorem dX0_flow_20 : decode cX0_flow 20 = .ok (.ifCond .eq 29, 3) := dk_153 0 29 (dk_at dksX0_flow_0 20 rfl rfl)
theorem dX0_flow_23 : decode cX0_flow 23 = .ok (.iload_n 2, 1) := dk_28 (dk_at dksX0_flow_0 23 rfl rfl)
theorem dX0_flow_24 : decode cX0_flow 24 = .ok (.sipush (-999), 3) := dk_17 252 25 (dk_at dksX0_flow_1 0 rfl rfl)
theorem dX0_flow_27 : decode cX0_flow 27 = .ok (.sipush 999, 3) := dk_17 3 231 (dk_at dksX0_flow_1 3 rfl rfl)
theorem dX0_flow_30 : decode cX0_flow 30 = .ok (.invokestatic 97, 3) := dk_184 0 97 (dk_at dksX0_flow_1 6 rfl rfl)
theorem dX0_flow_33 : decode cX0_flow 33 = .ok (.ifCond .eq 16, 3) := dk_153 0 16 (dk_at dksX0_flow_1 9 rfl rfl)
theorem dX0_flow_36 : decode cX0_flow 36 = .ok (.iload_n 3, 1) := dk_29 (dk_at dksX0_flow_1 12 rfl rfl)
theorem dX0_flow_37 : decode cX0_flow 37 = .ok (.sipush (-999), 3) := dk_17 252 25 (dk_at dksX0_flow_1 13 rfl rfl)
theorem dX0_flow_40 : decode cX0_flow 40 = .ok (.sipush 999, 3) := dk_17 3 231 (dk_at dksX0_flow_1 16 rfl rfl)
theorem dX0_flow_43 : decode cX0_flow 43 = .ok (.invokestatic 97, 3) := dk_184 0 97 (dk_at dksX0_flow_1 19 rfl rfl)
theorem dX0_flow_46 : decode cX0_flow 46 = .ok (.ifCond .ne 6, 3) := dk_154 0 6 (dk_at dksX0_flow_2 0 rfl rfl)
theorem dX0_flow_49 : decode cX0_flow 49 = .ok (.ldc 115, 2) := dk_18 115 (dk_at dksX0_flow_2 3 rfl rfl)
theorem dX0_flow_51 : decode cX0_flow 51 = .ok (.ireturn, 1) := dk_172 (dk_at dksX0_flow_2 5 rfl rfl)
theorem dX0_flow_52 : decode cX0_flow 52 = .ok (.new 76, 3) := dk_187 0 76 (dk_at dksX0_flow_2 6 rfl rfl)
theorem dX0_flow_55 : decode cX0_flow 55 = .ok (.dup, 1) := dk_89 (dk_at dksX0_flow_2 9 rfl rfl)
theorem dX0_flow_56 : decode cX0_flow 56 = .ok (.iload_n 1, 1) := dk_27 (dk_at dksX0_flow_2 10 rfl rfl)
theorem dX0_flow_57 : decode cX0_flow 57 = .ok (.iload_n 2, 1) := dk_28 (dk_at dksX0_flow_2 11 rfl rfl)
theorem dX0_flow_58 : decode cX0_flow 58 = .ok (.iload_n 3, 1) := dk_29 (dk_at dksX0_flow_2 12 rfl rfl)
theorem dX0_flow_59 : decode cX0_flow 59 = .ok (.invokespecial 91, 3) := dk_183 0 91 (dk_at dksX0_flow_2 13 rfl rfl)
theorem dX0_flow_62 : decode cX0_flow 62 = .ok (.astore 5, 2) := dk_58 5 (dk_at dksX0_flow_2 16 rfl rfl)
theorem dX0_flow_64 : decode cX0_flow 64 = .ok (.aload 5, 2) := dk_25 5 (dk_at dksX0_flow_2 18 rfl rfl)
theorem dX0_flow_66 : decode cX0_flow 66 = .ok (.invokevirtual 214, 3) := dk_182 0 214 (dk_at dksX0_flow_2 20 rfl rfl)
theorem dX0_flow_69 : decode cX0_flow 69 = .ok (.aload_n 0, 1) := dk_42 (dk_at dksX0_flow_2 23 rfl rfl)
theorem dX0_flow_70 : decode cX0_flow 70 = .ok (.getfield 284, 3) := dk_180 1 28 (dk_at dksX0_flow_3 0 rfl rfl)
theorem dX0_flow_73 : decode cX0_flow 73 = .ok (.if_icmp .ne 22, 3) := dk_160 0 22 (dk_at dksX0_flow_3 3 rfl rfl)
theorem dX0_flow_76 : decode cX0_flow 76 = .ok (.aload 5, 2) := dk_25 5 (dk_at dksX0_flow_3 6 rfl rfl)
theorem dX0_flow_78 : decode cX0_flow 78 = .ok (.invokevirtual 356, 3) := dk_182 1 100 (dk_at dksX0_flow_3 8 rfl rfl)
theorem dX0_flow_81 : decode cX0_flow 81 = .ok (.ifCond .eq 14, 3) := dk_153 0 14 (dk_at dksX0_flow_3 11 rfl rfl)
theorem dX0_flow_84 : decode cX0_flow 84 = .ok (.aload_n 0, 1) := dk_42 (dk_at dksX0_flow_3 14 rfl rfl)
theorem dX0_flow_85 : decode cX0_flow 85 = .ok (.aload 5, 2) := dk_25 5 (dk_at dksX0_flow_3 15 rfl rfl)
theorem dX0_flow_87 : decode cX0_flow 87 = .ok (.iload 4, 2) := dk_21 4 (dk_at dksX0_flow_3 17 rfl rfl)
theorem dX0_flow_89 : decode cX0_flow 89 = .ok (.invokevirtual 359, 3) := dk_182 1 103 (dk_at dksX0_flow_3 19 rfl rfl)
theorem dX0_flow_92 : decode cX0_flow 92 = .ok (.goto 5, 3) := dk_167 0 5 (dk_at dksX0_flow_4 0 rfl rfl)
theorem dX0_flow_95 : decode cX0_flow 95 = .ok (.ldc 115, 2) := dk_18 115 (dk_at dksX0_flow_4 3 rfl rfl)
theorem dX0_flow_97 : decode cX0_flow 97 = .ok (.ireturn, 1) := dk_172 (dk_at dksX0_flow_4 5 rfl rfl)
abbrev cX0_flowTold : ByteArray := prog_1_method_49_code
def yX0_flowTold : MethodName := ⟨RX0, "flowTold", "(LRiverWords$Form;Z)I"⟩
def dkwX0_flowTold_2 : List UInt8 := [180, 0, 213, 182, 1, 35, 172]
abbrev dktX0_flowTold_2 : List UInt8 := dkwX0_flowTold_2 ++ []
def dkwX0_flowTold_1 : List UInt8 := [182, 1, 97, 78, 28, 153, 0, 8, 21, 4, 167, 0, 19, 42, 45, 180, 0, 211, 45, 180, 0, 212, 45]
abbrev dktX0_flowTold_1 : List UInt8 := dkwX0_flowTold_1 ++ dktX0_flowTold_2
def dkwX0_flowTold_0 : List UInt8 := [43, 78, 3, 54, 4, 45, 182, 1, 90, 153, 0, 14, 45, 182, 1, 93, 78, 132, 4, 1, 167, 255, 241, 45]
abbrev dktX0_flowTold_0 : List UInt8 := dkwX0_flowTold_0 ++ dktX0_flowTold_1
theorem dksX0_flowTold_0 : cX0_flowTold.data.toList.drop 0 = dktX0_flowTold_0 := by decide +kernel
theorem dksX0_flowTold_1 : cX0_flowTold.data.toList.drop 24 = dktX0_flowTold_1 := dk_seg dksX0_flowTold_0 24 rfl rfl
theorem dksX0_flowTold_2 : cX0_flowTold.data.toList.drop 47 = dktX0_flowTold_2 := dk_seg dksX0_flowTold_1 23 rfl rfl
theorem dX0_flowTold_0 : decode cX0_flowTold 0 = .ok (.aload_n 1, 1) := dk_43 (dk_at dksX0_flowTold_0 0 rfl rfl)
theorem dX0_flowTold_1 : decode cX0_flowTold 1 = .ok (.astore_n 3, 1) := dk_78 (dk_at dksX0_flowTold_0 1 rfl rfl)
theorem dX0_flowTold_2 : decode cX0_flowTold 2 = .ok (.iconst 0, 1) := dk_3 (dk_at dksX0_flowTold_0 2 rfl rfl)
theorem dX0_flowTold_3 : decode cX0_flowTold 3 = .ok (.istore 4, 2) := dk_54 4 (dk_at dksX0_flowTold_0 3 rfl rfl)
theorem dX0_flowTold_5 : decode cX0_flowTold 5 = .ok (.aload_n 3, 1) := dk_45 (dk_at dksX0_flowTold_0 5 rfl rfl)
theorem dX0_flowTold_6 : decode cX0_flowTold 6 = .ok (.invokevirtual 346, 3) := dk_182 1 90 (dk_at dksX0_flowTold_0 6 rfl rfl)
theorem dX0_flowTold_9 : decode cX0_flowTold 9 = .ok (.ifCond .eq 14, 3) := dk_153 0 14 (dk_at dksX0_flowTold_0 9 rfl rfl)
theorem dX0_flowTold_12 : decode cX0_flowTold 12 = .ok (.aload_n 3, 1) := dk_45 (dk_at dksX0_flowTold_0 12 rfl rfl)
theorem dX0_flowTold_13 : decode cX0_flowTold 13 = .ok (.invokevirtual 349, 3) := dk_182 1 93 (dk_at dksX0_flowTold_0 13 rfl rfl)
theorem dX0_flowTold_16 : decode cX0_flowTold 16 = .ok (.astore_n 3, 1) := dk_78 (dk_at dksX0_flowTold_0 16 rfl rfl)
theorem dX0_flowTold_17 : decode cX0_flowTold 17 = .ok (.iinc 4 1, 3) := dk_132 4 1 (dk_at dksX0_flowTold_0 17 rfl rfl)
theorem dX0_flowTold_20 : decode cX0_flowTold 20 = .ok (.goto (-15), 3) := dk_167 255 241 (dk_at dksX0_flowTold_0 20 rfl rfl)
theorem dX0_flowTold_23 : decode cX0_flowTold 23 = .ok (.aload_n 3, 1) := dk_45 (dk_at dksX0_flowTold_0 23 rfl rfl)
theorem dX0_flowTold_24 : decode cX0_flowTold 24 = .ok (.invokevirtual 353, 3) := dk_182 1 97 (dk_at dksX0_flowTold_1 0 rfl rfl)
theorem dX0_flowTold_27 : decode cX0_flowTold 27 = .ok (.astore_n 3, 1) := dk_78 (dk_at dksX0_flowTold_1 3 rfl rfl)
theorem dX0_flowTold_28 : decode cX0_flowTold 28 = .ok (.iload_n 2, 1) := dk_28 (dk_at dksX0_flowTold_1 4 rfl rfl)
theorem dX0_flowTold_29 : decode cX0_flowTold 29 = .ok (.ifCond .eq 8, 3) := dk_153 0 8 (dk_at dksX0_flowTold_1 5 rfl rfl)
theorem dX0_flowTold_32 : decode cX0_flowTold 32 = .ok (.iload 4, 2) := dk_21 4 (dk_at dksX0_flowTold_1 8 rfl rfl)
theorem dX0_flowTold_34 : decode cX0_flowTold 34 = .ok (.goto 19, 3) := dk_167 0 19 (dk_at dksX0_flowTold_1 10 rfl rfl)
theorem dX0_flowTold_37 : decode cX0_flowTold 37 = .ok (.aload_n 0, 1) := dk_42 (dk_at dksX0_flowTold_1 13 rfl rfl)
theorem dX0_flowTold_38 : decode cX0_flowTold 38 = .ok (.aload_n 3, 1) := dk_45 (dk_at dksX0_flowTold_1 14 rfl rfl)
theorem dX0_flowTold_39 : decode cX0_flowTold 39 = .ok (.getfield 211, 3) := dk_180 0 211 (dk_at dksX0_flowTold_1 15 rfl rfl)
theorem dX0_flowTold_42 : decode cX0_flowTold 42 = .ok (.aload_n 3, 1) := dk_45 (dk_at dksX0_flowTold_1 18 rfl rfl)
theorem dX0_flowTold_43 : decode cX0_flowTold 43 = .ok (.getfield 212, 3) := dk_180 0 212 (dk_at dksX0_flowTold_1 19 rfl rfl)
theorem dX0_flowTold_46 : decode cX0_flowTold 46 = .ok (.aload_n 3, 1) := dk_45 (dk_at dksX0_flowTold_1 22 rfl rfl)
theorem dX0_flowTold_47 : decode cX0_flowTold 47 = .ok (.getfield 213, 3) := dk_180 0 213 (dk_at dksX0_flowTold_2 0 rfl rfl)
theorem dX0_flowTold_50 : decode cX0_flowTold 50 = .ok (.invokevirtual 291, 3) := dk_182 1 35 (dk_at dksX0_flowTold_2 3 rfl rfl)
theorem dX0_flowTold_53 : decode cX0_flowTold 53 = .ok (.ireturn, 1) := dk_172 (dk_at dksX0_flowTold_2 6 rfl rfl)
abbrev cX0_lay : ByteArray := prog_1_method_51_code
def yX0_lay : MethodName := ⟨RX0, "lay", "(I)I"⟩
def dkwX0_lay_1 : List UInt8 := [182, 0, 135, 182, 0, 139, 167, 0, 5, 18, 192, 172]
abbrev dktX0_lay_1 : List UInt8 := dkwX0_lay_1 ++ []
def dkwX0_lay_0 : List UInt8 := [42, 27, 182, 1, 77, 153, 0, 27, 42, 42, 180, 0, 50, 27, 182, 0, 193, 192, 1, 49, 180, 1, 85]
abbrev dktX0_lay_0 : List UInt8 := dkwX0_lay_0 ++ dktX0_lay_1
theorem dksX0_lay_0 : cX0_lay.data.toList.drop 0 = dktX0_lay_0 := by decide +kernel
theorem dksX0_lay_1 : cX0_lay.data.toList.drop 23 = dktX0_lay_1 := dk_seg dksX0_lay_0 23 rfl rfl
theorem dX0_lay_0 : decode cX0_lay 0 = .ok (.aload_n 0, 1) := dk_42 (dk_at dksX0_lay_0 0 rfl rfl)
theorem dX0_lay_1 : decode cX0_lay 1 = .ok (.iload_n 1, 1) := dk_27 (dk_at dksX0_lay_0 1 rfl rfl)
theorem dX0_lay_2 : decode cX0_lay 2 = .ok (.invokevirtual 333, 3) := dk_182 1 77 (dk_at dksX0_lay_0 2 rfl rfl)
theorem dX0_lay_5 : decode cX0_lay 5 = .ok (.ifCond .eq 27, 3) := dk_153 0 27 (dk_at dksX0_lay_0 5 rfl rfl)
theorem dX0_lay_8 : decode cX0_lay 8 = .ok (.aload_n 0, 1) := dk_42 (dk_at dksX0_lay_0 8 rfl rfl)
theorem dX0_lay_9 : decode cX0_lay 9 = .ok (.aload_n 0, 1) := dk_42 (dk_at dksX0_lay_0 9 rfl rfl)
theorem dX0_lay_10 : decode cX0_lay 10 = .ok (.getfield 50, 3) := dk_180 0 50 (dk_at dksX0_lay_0 10 rfl rfl)
theorem dX0_lay_13 : decode cX0_lay 13 = .ok (.iload_n 1, 1) := dk_27 (dk_at dksX0_lay_0 13 rfl rfl)
theorem dX0_lay_14 : decode cX0_lay 14 = .ok (.invokevirtual 193, 3) := dk_182 0 193 (dk_at dksX0_lay_0 14 rfl rfl)
theorem dX0_lay_17 : decode cX0_lay 17 = .ok (.checkcast 305, 3) := dk_192 1 49 (dk_at dksX0_lay_0 17 rfl rfl)
theorem dX0_lay_20 : decode cX0_lay 20 = .ok (.getfield 341, 3) := dk_180 1 85 (dk_at dksX0_lay_0 20 rfl rfl)
theorem dX0_lay_23 : decode cX0_lay 23 = .ok (.invokevirtual 135, 3) := dk_182 0 135 (dk_at dksX0_lay_1 0 rfl rfl)
theorem dX0_lay_26 : decode cX0_lay 26 = .ok (.invokevirtual 139, 3) := dk_182 0 139 (dk_at dksX0_lay_1 3 rfl rfl)
theorem dX0_lay_29 : decode cX0_lay 29 = .ok (.goto 5, 3) := dk_167 0 5 (dk_at dksX0_lay_1 6 rfl rfl)
theorem dX0_lay_32 : decode cX0_lay 32 = .ok (.ldc 192, 2) := dk_18 192 (dk_at dksX0_lay_1 9 rfl rfl)
theorem dX0_lay_34 : decode cX0_lay 34 = .ok (.ireturn, 1) := dk_172 (dk_at dksX0_lay_1 11 rfl rfl)
abbrev cX0_where : ByteArray := prog_1_method_52_code
def yX0_where : MethodName := ⟨RX0, "where", "(I)I"⟩
def dkwX0_where_3 : List UInt8 := [182, 1, 35, 172]
abbrev dktX0_where_3 : List UInt8 := dkwX0_where_3 ++ []
def dkwX0_where_2 : List UInt8 := [192, 0, 106, 180, 0, 163, 184, 0, 207, 77, 42, 44, 180, 0, 211, 44, 180, 0, 212, 44, 180, 0, 213]
abbrev dktX0_where_2 : List UInt8 := dkwX0_where_2 ++ dktX0_where_3
def dkwX0_where_1 : List UInt8 := [182, 0, 193, 192, 0, 106, 182, 0, 169, 154, 0, 6, 18, 104, 172, 42, 180, 0, 34, 27, 182, 0, 193]
abbrev dktX0_where_1 : List UInt8 := dkwX0_where_1 ++ dktX0_where_2
def dkwX0_where_0 : List UInt8 := [42, 27, 182, 0, 188, 154, 0, 6, 18, 192, 172, 42, 180, 1, 28, 153, 0, 20, 42, 180, 0, 34, 27]
abbrev dktX0_where_0 : List UInt8 := dkwX0_where_0 ++ dktX0_where_1
theorem dksX0_where_0 : cX0_where.data.toList.drop 0 = dktX0_where_0 := by decide +kernel
theorem dksX0_where_1 : cX0_where.data.toList.drop 23 = dktX0_where_1 := dk_seg dksX0_where_0 23 rfl rfl
theorem dksX0_where_2 : cX0_where.data.toList.drop 46 = dktX0_where_2 := dk_seg dksX0_where_1 23 rfl rfl
theorem dksX0_where_3 : cX0_where.data.toList.drop 69 = dktX0_where_3 := dk_seg dksX0_where_2 23 rfl rfl
theorem dX0_where_0 : decode cX0_where 0 = .ok (.aload_n 0, 1) := dk_42 (dk_at dksX0_where_0 0 rfl rfl)
theorem dX0_where_1 : decode cX0_where 1 = .ok (.iload_n 1, 1) := dk_27 (dk_at dksX0_where_0 1 rfl rfl)
theorem dX0_where_2 : decode cX0_where 2 = .ok (.invokevirtual 188, 3) := dk_182 0 188 (dk_at dksX0_where_0 2 rfl rfl)
theorem dX0_where_5 : decode cX0_where 5 = .ok (.ifCond .ne 6, 3) := dk_154 0 6 (dk_at dksX0_where_0 5 rfl rfl)
theorem dX0_where_8 : decode cX0_where 8 = .ok (.ldc 192, 2) := dk_18 192 (dk_at dksX0_where_0 8 rfl rfl)
theorem dX0_where_10 : decode cX0_where 10 = .ok (.ireturn, 1) := dk_172 (dk_at dksX0_where_0 10 rfl rfl)
theorem dX0_where_11 : decode cX0_where 11 = .ok (.aload_n 0, 1) := dk_42 (dk_at dksX0_where_0 11 rfl rfl)
theorem dX0_where_12 : decode cX0_where 12 = .ok (.getfield 284, 3) := dk_180 1 28 (dk_at dksX0_where_0 12 rfl rfl)
theorem dX0_where_15 : decode cX0_where 15 = .ok (.ifCond .eq 20, 3) := dk_153 0 20 (dk_at dksX0_where_0 15 rfl rfl)
theorem dX0_where_18 : decode cX0_where 18 = .ok (.aload_n 0, 1) := dk_42 (dk_at dksX0_where_0 18 rfl rfl)
theorem dX0_where_19 : decode cX0_where 19 = .ok (.getfield 34, 3) := dk_180 0 34 (dk_at dksX0_where_0 19 rfl rfl)
theorem dX0_where_22 : decode cX0_where 22 = .ok (.iload_n 1, 1) := dk_27 (dk_at dksX0_where_0 22 rfl rfl)
theorem dX0_where_23 : decode cX0_where 23 = .ok (.invokevirtual 193, 3) := dk_182 0 193 (dk_at dksX0_where_1 0 rfl rfl)
theorem dX0_where_26 : decode cX0_where 26 = .ok (.checkcast 106, 3) := dk_192 0 106 (dk_at dksX0_where_1 3 rfl rfl)
theorem dX0_where_29 : decode cX0_where 29 = .ok (.invokevirtual 169, 3) := dk_182 0 169 (dk_at dksX0_where_1 6 rfl rfl)
theorem dX0_where_32 : decode cX0_where 32 = .ok (.ifCond .ne 6, 3) := dk_154 0 6 (dk_at dksX0_where_1 9 rfl rfl)
theorem dX0_where_35 : decode cX0_where 35 = .ok (.ldc 104, 2) := dk_18 104 (dk_at dksX0_where_1 12 rfl rfl)
theorem dX0_where_37 : decode cX0_where 37 = .ok (.ireturn, 1) := dk_172 (dk_at dksX0_where_1 14 rfl rfl)
theorem dX0_where_38 : decode cX0_where 38 = .ok (.aload_n 0, 1) := dk_42 (dk_at dksX0_where_1 15 rfl rfl)
theorem dX0_where_39 : decode cX0_where 39 = .ok (.getfield 34, 3) := dk_180 0 34 (dk_at dksX0_where_1 16 rfl rfl)
theorem dX0_where_42 : decode cX0_where 42 = .ok (.iload_n 1, 1) := dk_27 (dk_at dksX0_where_1 19 rfl rfl)
theorem dX0_where_43 : decode cX0_where 43 = .ok (.invokevirtual 193, 3) := dk_182 0 193 (dk_at dksX0_where_1 20 rfl rfl)
theorem dX0_where_46 : decode cX0_where 46 = .ok (.checkcast 106, 3) := dk_192 0 106 (dk_at dksX0_where_2 0 rfl rfl)
theorem dX0_where_49 : decode cX0_where 49 = .ok (.getfield 163, 3) := dk_180 0 163 (dk_at dksX0_where_2 3 rfl rfl)
theorem dX0_where_52 : decode cX0_where 52 = .ok (.invokestatic 207, 3) := dk_184 0 207 (dk_at dksX0_where_2 6 rfl rfl)
theorem dX0_where_55 : decode cX0_where 55 = .ok (.astore_n 2, 1) := dk_77 (dk_at dksX0_where_2 9 rfl rfl)
theorem dX0_where_56 : decode cX0_where 56 = .ok (.aload_n 0, 1) := dk_42 (dk_at dksX0_where_2 10 rfl rfl)
theorem dX0_where_57 : decode cX0_where 57 = .ok (.aload_n 2, 1) := dk_44 (dk_at dksX0_where_2 11 rfl rfl)
theorem dX0_where_58 : decode cX0_where 58 = .ok (.getfield 211, 3) := dk_180 0 211 (dk_at dksX0_where_2 12 rfl rfl)
theorem dX0_where_61 : decode cX0_where 61 = .ok (.aload_n 2, 1) := dk_44 (dk_at dksX0_where_2 15 rfl rfl)
theorem dX0_where_62 : decode cX0_where 62 = .ok (.getfield 212, 3) := dk_180 0 212 (dk_at dksX0_where_2 16 rfl rfl)
theorem dX0_where_65 : decode cX0_where 65 = .ok (.aload_n 2, 1) := dk_44 (dk_at dksX0_where_2 19 rfl rfl)
theorem dX0_where_66 : decode cX0_where 66 = .ok (.getfield 213, 3) := dk_180 0 213 (dk_at dksX0_where_2 20 rfl rfl)
theorem dX0_where_69 : decode cX0_where 69 = .ok (.invokevirtual 291, 3) := dk_182 1 35 (dk_at dksX0_where_3 0 rfl rfl)
theorem dX0_where_72 : decode cX0_where 72 = .ok (.ireturn, 1) := dk_172 (dk_at dksX0_where_3 3 rfl rfl)
abbrev cX0_drawn : ByteArray := prog_1_method_55_code
def yX0_drawn : MethodName := ⟨RX0, "drawn", "(III)I"⟩
def dkwX0_drawn_1 : List UInt8 := [27, 28, 29, 182, 1, 124, 167, 0, 5, 18, 115, 172]
abbrev dktX0_drawn_1 : List UInt8 := dkwX0_drawn_1 ++ []
def dkwX0_drawn_0 : List UInt8 := [27, 4, 16, 40, 184, 0, 97, 153, 0, 26, 28, 155, 0, 22, 29, 3, 6, 184, 0, 97, 153, 0, 13, 42]
abbrev dktX0_drawn_0 : List UInt8 := dkwX0_drawn_0 ++ dktX0_drawn_1
theorem dksX0_drawn_0 : cX0_drawn.data.toList.drop 0 = dktX0_drawn_0 := by decide +kernel
theorem dksX0_drawn_1 : cX0_drawn.data.toList.drop 24 = dktX0_drawn_1 := dk_seg dksX0_drawn_0 24 rfl rfl
theorem dX0_drawn_0 : decode cX0_drawn 0 = .ok (.iload_n 1, 1) := dk_27 (dk_at dksX0_drawn_0 0 rfl rfl)
theorem dX0_drawn_1 : decode cX0_drawn 1 = .ok (.iconst 1, 1) := dk_4 (dk_at dksX0_drawn_0 1 rfl rfl)
theorem dX0_drawn_2 : decode cX0_drawn 2 = .ok (.bipush 40, 2) := dk_16 40 (dk_at dksX0_drawn_0 2 rfl rfl)
theorem dX0_drawn_4 : decode cX0_drawn 4 = .ok (.invokestatic 97, 3) := dk_184 0 97 (dk_at dksX0_drawn_0 4 rfl rfl)
theorem dX0_drawn_7 : decode cX0_drawn 7 = .ok (.ifCond .eq 26, 3) := dk_153 0 26 (dk_at dksX0_drawn_0 7 rfl rfl)
theorem dX0_drawn_10 : decode cX0_drawn 10 = .ok (.iload_n 2, 1) := dk_28 (dk_at dksX0_drawn_0 10 rfl rfl)
theorem dX0_drawn_11 : decode cX0_drawn 11 = .ok (.ifCond .lt 22, 3) := dk_155 0 22 (dk_at dksX0_drawn_0 11 rfl rfl)
theorem dX0_drawn_14 : decode cX0_drawn 14 = .ok (.iload_n 3, 1) := dk_29 (dk_at dksX0_drawn_0 14 rfl rfl)
theorem dX0_drawn_15 : decode cX0_drawn 15 = .ok (.iconst 0, 1) := dk_3 (dk_at dksX0_drawn_0 15 rfl rfl)
theorem dX0_drawn_16 : decode cX0_drawn 16 = .ok (.iconst 3, 1) := dk_6 (dk_at dksX0_drawn_0 16 rfl rfl)
theorem dX0_drawn_17 : decode cX0_drawn 17 = .ok (.invokestatic 97, 3) := dk_184 0 97 (dk_at dksX0_drawn_0 17 rfl rfl)
theorem dX0_drawn_20 : decode cX0_drawn 20 = .ok (.ifCond .eq 13, 3) := dk_153 0 13 (dk_at dksX0_drawn_0 20 rfl rfl)
theorem dX0_drawn_23 : decode cX0_drawn 23 = .ok (.aload_n 0, 1) := dk_42 (dk_at dksX0_drawn_0 23 rfl rfl)
theorem dX0_drawn_24 : decode cX0_drawn 24 = .ok (.iload_n 1, 1) := dk_27 (dk_at dksX0_drawn_1 0 rfl rfl)
theorem dX0_drawn_25 : decode cX0_drawn 25 = .ok (.iload_n 2, 1) := dk_28 (dk_at dksX0_drawn_1 1 rfl rfl)
theorem dX0_drawn_26 : decode cX0_drawn 26 = .ok (.iload_n 3, 1) := dk_29 (dk_at dksX0_drawn_1 2 rfl rfl)
theorem dX0_drawn_27 : decode cX0_drawn 27 = .ok (.invokevirtual 380, 3) := dk_182 1 124 (dk_at dksX0_drawn_1 3 rfl rfl)
theorem dX0_drawn_30 : decode cX0_drawn 30 = .ok (.goto 5, 3) := dk_167 0 5 (dk_at dksX0_drawn_1 6 rfl rfl)
theorem dX0_drawn_33 : decode cX0_drawn 33 = .ok (.ldc 115, 2) := dk_18 115 (dk_at dksX0_drawn_1 9 rfl rfl)
theorem dX0_drawn_35 : decode cX0_drawn 35 = .ok (.ireturn, 1) := dk_172 (dk_at dksX0_drawn_1 11 rfl rfl)
abbrev cX0_drawnTold : ByteArray := prog_1_method_54_code
def yX0_drawnTold : MethodName := ⟨RX0, "drawnTold", "(III)I"⟩
def dkwX0_drawnTold_7 : List UInt8 := [21, 4, 167, 0, 18, 21, 5, 167, 0, 13, 21, 6, 167, 0, 8, 42, 180, 1, 109, 136, 172]
abbrev dktX0_drawnTold_7 : List UInt8 := dkwX0_drawnTold_7 ++ []
def dkwX0_drawnTold_6 : List UInt8 := [170, 0, 0, 0, 0, 0, 42, 0, 0, 0, 0, 0, 0, 0, 2, 0, 0, 0, 27, 0, 0, 0, 32, 0, 0, 0, 37]
abbrev dktX0_drawnTold_6 : List UInt8 := dkwX0_drawnTold_6 ++ dktX0_drawnTold_7
def dkwX0_drawnTold_5 : List UInt8 := [180, 0, 154, 184, 0, 241, 167, 0, 4, 3, 96, 54, 6, 25, 9, 58, 7, 132, 8, 1, 167, 255, 153, 29]
abbrev dktX0_drawnTold_5 : List UInt8 := dkwX0_drawnTold_5 ++ dktX0_drawnTold_6
def dkwX0_drawnTold_4 : List UInt8 := [25, 9, 182, 0, 169, 153, 0, 27, 25, 7, 182, 0, 169, 153, 0, 19, 25, 7, 180, 0, 154, 25, 9]
abbrev dktX0_drawnTold_4 : List UInt8 := dkwX0_drawnTold_4 ++ dktX0_drawnTold_5
def dkwX0_drawnTold_3 : List UInt8 := [182, 0, 169, 153, 0, 14, 25, 9, 180, 0, 163, 182, 0, 166, 167, 0, 4, 3, 96, 54, 5, 21, 6]
abbrev dktX0_drawnTold_3 : List UInt8 := dkwX0_drawnTold_3 ++ dktX0_drawnTold_4
def dkwX0_drawnTold_2 : List UInt8 := [183, 0, 108, 58, 9, 21, 4, 25, 9, 182, 0, 169, 184, 0, 173, 96, 54, 4, 21, 5, 25, 9]
abbrev dktX0_drawnTold_2 : List UInt8 := dkwX0_drawnTold_2 ++ dktX0_drawnTold_3
def dkwX0_drawnTold_1 : List UInt8 := [183, 0, 108, 58, 7, 3, 54, 8, 21, 8, 27, 162, 0, 103, 187, 0, 106, 89, 42, 42, 182, 1, 121]
abbrev dktX0_drawnTold_1 : List UInt8 := dkwX0_drawnTold_1 ++ dktX0_drawnTold_2
def dkwX0_drawnTold_0 : List UInt8 := [42, 28, 133, 181, 1, 109, 3, 54, 4, 3, 54, 5, 3, 54, 6, 187, 0, 106, 89, 42, 18, 21]
abbrev dktX0_drawnTold_0 : List UInt8 := dkwX0_drawnTold_0 ++ dktX0_drawnTold_1
theorem dksX0_drawnTold_0 : cX0_drawnTold.data.toList.drop 0 = dktX0_drawnTold_0 := by decide +kernel
theorem dksX0_drawnTold_1 : cX0_drawnTold.data.toList.drop 22 = dktX0_drawnTold_1 := dk_seg dksX0_drawnTold_0 22 rfl rfl
theorem dksX0_drawnTold_2 : cX0_drawnTold.data.toList.drop 45 = dktX0_drawnTold_2 := dk_seg dksX0_drawnTold_1 23 rfl rfl
theorem dksX0_drawnTold_3 : cX0_drawnTold.data.toList.drop 67 = dktX0_drawnTold_3 := dk_seg dksX0_drawnTold_2 22 rfl rfl
theorem dksX0_drawnTold_4 : cX0_drawnTold.data.toList.drop 90 = dktX0_drawnTold_4 := dk_seg dksX0_drawnTold_3 23 rfl rfl
theorem dksX0_drawnTold_5 : cX0_drawnTold.data.toList.drop 113 = dktX0_drawnTold_5 := dk_seg dksX0_drawnTold_4 23 rfl rfl
theorem dksX0_drawnTold_6 : cX0_drawnTold.data.toList.drop 137 = dktX0_drawnTold_6 := dk_seg dksX0_drawnTold_5 24 rfl rfl
theorem dksX0_drawnTold_7 : cX0_drawnTold.data.toList.drop 164 = dktX0_drawnTold_7 := dk_seg dksX0_drawnTold_6 27 rfl rfl
theorem dX0_drawnTold_0 : decode cX0_drawnTold 0 = .ok (.aload_n 0, 1) := dk_42 (dk_at dksX0_drawnTold_0 0 rfl rfl)
theorem dX0_drawnTold_1 : decode cX0_drawnTold 1 = .ok (.iload_n 2, 1) := dk_28 (dk_at dksX0_drawnTold_0 1 rfl rfl)
theorem dX0_drawnTold_2 : decode cX0_drawnTold 2 = .ok (.i2l, 1) := dk_133 (dk_at dksX0_drawnTold_0 2 rfl rfl)
theorem dX0_drawnTold_3 : decode cX0_drawnTold 3 = .ok (.putfield 365, 3) := dk_181 1 109 (dk_at dksX0_drawnTold_0 3 rfl rfl)
theorem dX0_drawnTold_6 : decode cX0_drawnTold 6 = .ok (.iconst 0, 1) := dk_3 (dk_at dksX0_drawnTold_0 6 rfl rfl)
theorem dX0_drawnTold_7 : decode cX0_drawnTold 7 = .ok (.istore 4, 2) := dk_54 4 (dk_at dksX0_drawnTold_0 7 rfl rfl)
theorem dX0_drawnTold_9 : decode cX0_drawnTold 9 = .ok (.iconst 0, 1) := dk_3 (dk_at dksX0_drawnTold_0 9 rfl rfl)
theorem dX0_drawnTold_10 : decode cX0_drawnTold 10 = .ok (.istore 5, 2) := dk_54 5 (dk_at dksX0_drawnTold_0 10 rfl rfl)
theorem dX0_drawnTold_12 : decode cX0_drawnTold 12 = .ok (.iconst 0, 1) := dk_3 (dk_at dksX0_drawnTold_0 12 rfl rfl)
theorem dX0_drawnTold_13 : decode cX0_drawnTold 13 = .ok (.istore 6, 2) := dk_54 6 (dk_at dksX0_drawnTold_0 13 rfl rfl)
theorem dX0_drawnTold_15 : decode cX0_drawnTold 15 = .ok (.new 106, 3) := dk_187 0 106 (dk_at dksX0_drawnTold_0 15 rfl rfl)
theorem dX0_drawnTold_18 : decode cX0_drawnTold 18 = .ok (.dup, 1) := dk_89 (dk_at dksX0_drawnTold_0 18 rfl rfl)
theorem dX0_drawnTold_19 : decode cX0_drawnTold 19 = .ok (.aload_n 0, 1) := dk_42 (dk_at dksX0_drawnTold_0 19 rfl rfl)
theorem dX0_drawnTold_20 : decode cX0_drawnTold 20 = .ok (.ldc 21, 2) := dk_18 21 (dk_at dksX0_drawnTold_0 20 rfl rfl)
theorem dX0_drawnTold_22 : decode cX0_drawnTold 22 = .ok (.invokespecial 108, 3) := dk_183 0 108 (dk_at dksX0_drawnTold_1 0 rfl rfl)
theorem dX0_drawnTold_25 : decode cX0_drawnTold 25 = .ok (.astore 7, 2) := dk_58 7 (dk_at dksX0_drawnTold_1 3 rfl rfl)
theorem dX0_drawnTold_27 : decode cX0_drawnTold 27 = .ok (.iconst 0, 1) := dk_3 (dk_at dksX0_drawnTold_1 5 rfl rfl)
theorem dX0_drawnTold_28 : decode cX0_drawnTold 28 = .ok (.istore 8, 2) := dk_54 8 (dk_at dksX0_drawnTold_1 6 rfl rfl)
theorem dX0_drawnTold_30 : decode cX0_drawnTold 30 = .ok (.iload 8, 2) := dk_21 8 (dk_at dksX0_drawnTold_1 8 rfl rfl)
theorem dX0_drawnTold_32 : decode cX0_drawnTold 32 = .ok (.iload_n 1, 1) := dk_27 (dk_at dksX0_drawnTold_1 10 rfl rfl)
theorem dX0_drawnTold_33 : decode cX0_drawnTold 33 = .ok (.if_icmp .ge 103, 3) := dk_162 0 103 (dk_at dksX0_drawnTold_1 11 rfl rfl)
theorem dX0_drawnTold_36 : decode cX0_drawnTold 36 = .ok (.new 106, 3) := dk_187 0 106 (dk_at dksX0_drawnTold_1 14 rfl rfl)
theorem dX0_drawnTold_39 : decode cX0_drawnTold 39 = .ok (.dup, 1) := dk_89 (dk_at dksX0_drawnTold_1 17 rfl rfl)
theorem dX0_drawnTold_40 : decode cX0_drawnTold 40 = .ok (.aload_n 0, 1) := dk_42 (dk_at dksX0_drawnTold_1 18 rfl rfl)
theorem dX0_drawnTold_41 : decode cX0_drawnTold 41 = .ok (.aload_n 0, 1) := dk_42 (dk_at dksX0_drawnTold_1 19 rfl rfl)
theorem dX0_drawnTold_42 : decode cX0_drawnTold 42 = .ok (.invokevirtual 377, 3) := dk_182 1 121 (dk_at dksX0_drawnTold_1 20 rfl rfl)
theorem dX0_drawnTold_45 : decode cX0_drawnTold 45 = .ok (.invokespecial 108, 3) := dk_183 0 108 (dk_at dksX0_drawnTold_2 0 rfl rfl)
theorem dX0_drawnTold_48 : decode cX0_drawnTold 48 = .ok (.astore 9, 2) := dk_58 9 (dk_at dksX0_drawnTold_2 3 rfl rfl)
theorem dX0_drawnTold_50 : decode cX0_drawnTold 50 = .ok (.iload 4, 2) := dk_21 4 (dk_at dksX0_drawnTold_2 5 rfl rfl)
theorem dX0_drawnTold_52 : decode cX0_drawnTold 52 = .ok (.aload 9, 2) := dk_25 9 (dk_at dksX0_drawnTold_2 7 rfl rfl)
theorem dX0_drawnTold_54 : decode cX0_drawnTold 54 = .ok (.invokevirtual 169, 3) := dk_182 0 169 (dk_at dksX0_drawnTold_2 9 rfl rfl)
theorem dX0_drawnTold_57 : decode cX0_drawnTold 57 = .ok (.invokestatic 173, 3) := dk_184 0 173 (dk_at dksX0_drawnTold_2 12 rfl rfl)
theorem dX0_drawnTold_60 : decode cX0_drawnTold 60 = .ok (.iadd, 1) := dk_96 (dk_at dksX0_drawnTold_2 15 rfl rfl)
theorem dX0_drawnTold_61 : decode cX0_drawnTold 61 = .ok (.istore 4, 2) := dk_54 4 (dk_at dksX0_drawnTold_2 16 rfl rfl)
theorem dX0_drawnTold_63 : decode cX0_drawnTold 63 = .ok (.iload 5, 2) := dk_21 5 (dk_at dksX0_drawnTold_2 18 rfl rfl)
theorem dX0_drawnTold_65 : decode cX0_drawnTold 65 = .ok (.aload 9, 2) := dk_25 9 (dk_at dksX0_drawnTold_2 20 rfl rfl)
theorem dX0_drawnTold_67 : decode cX0_drawnTold 67 = .ok (.invokevirtual 169, 3) := dk_182 0 169 (dk_at dksX0_drawnTold_3 0 rfl rfl)
theorem dX0_drawnTold_70 : decode cX0_drawnTold 70 = .ok (.ifCond .eq 14, 3) := dk_153 0 14 (dk_at dksX0_drawnTold_3 3 rfl rfl)
theorem dX0_drawnTold_73 : decode cX0_drawnTold 73 = .ok (.aload 9, 2) := dk_25 9 (dk_at dksX0_drawnTold_3 6 rfl rfl)
theorem dX0_drawnTold_75 : decode cX0_drawnTold 75 = .ok (.getfield 163, 3) := dk_180 0 163 (dk_at dksX0_drawnTold_3 8 rfl rfl)
theorem dX0_drawnTold_78 : decode cX0_drawnTold 78 = .ok (.invokevirtual 166, 3) := dk_182 0 166 (dk_at dksX0_drawnTold_3 11 rfl rfl)
theorem dX0_drawnTold_81 : decode cX0_drawnTold 81 = .ok (.goto 4, 3) := dk_167 0 4 (dk_at dksX0_drawnTold_3 14 rfl rfl)
theorem dX0_drawnTold_84 : decode cX0_drawnTold 84 = .ok (.iconst 0, 1) := dk_3 (dk_at dksX0_drawnTold_3 17 rfl rfl)
theorem dX0_drawnTold_85 : decode cX0_drawnTold 85 = .ok (.iadd, 1) := dk_96 (dk_at dksX0_drawnTold_3 18 rfl rfl)
theorem dX0_drawnTold_86 : decode cX0_drawnTold 86 = .ok (.istore 5, 2) := dk_54 5 (dk_at dksX0_drawnTold_3 19 rfl rfl)
theorem dX0_drawnTold_88 : decode cX0_drawnTold 88 = .ok (.iload 6, 2) := dk_21 6 (dk_at dksX0_drawnTold_3 21 rfl rfl)
theorem dX0_drawnTold_90 : decode cX0_drawnTold 90 = .ok (.aload 9, 2) := dk_25 9 (dk_at dksX0_drawnTold_4 0 rfl rfl)
theorem dX0_drawnTold_92 : decode cX0_drawnTold 92 = .ok (.invokevirtual 169, 3) := dk_182 0 169 (dk_at dksX0_drawnTold_4 2 rfl rfl)
theorem dX0_drawnTold_95 : decode cX0_drawnTold 95 = .ok (.ifCond .eq 27, 3) := dk_153 0 27 (dk_at dksX0_drawnTold_4 5 rfl rfl)
theorem dX0_drawnTold_98 : decode cX0_drawnTold 98 = .ok (.aload 7, 2) := dk_25 7 (dk_at dksX0_drawnTold_4 8 rfl rfl)
theorem dX0_drawnTold_100 : decode cX0_drawnTold 100 = .ok (.invokevirtual 169, 3) := dk_182 0 169 (dk_at dksX0_drawnTold_4 10 rfl rfl)
theorem dX0_drawnTold_103 : decode cX0_drawnTold 103 = .ok (.ifCond .eq 19, 3) := dk_153 0 19 (dk_at dksX0_drawnTold_4 13 rfl rfl)
theorem dX0_drawnTold_106 : decode cX0_drawnTold 106 = .ok (.aload 7, 2) := dk_25 7 (dk_at dksX0_drawnTold_4 16 rfl rfl)
theorem dX0_drawnTold_108 : decode cX0_drawnTold 108 = .ok (.getfield 154, 3) := dk_180 0 154 (dk_at dksX0_drawnTold_4 18 rfl rfl)
theorem dX0_drawnTold_111 : decode cX0_drawnTold 111 = .ok (.aload 9, 2) := dk_25 9 (dk_at dksX0_drawnTold_4 21 rfl rfl)
theorem dX0_drawnTold_113 : decode cX0_drawnTold 113 = .ok (.getfield 154, 3) := dk_180 0 154 (dk_at dksX0_drawnTold_5 0 rfl rfl)
theorem dX0_drawnTold_116 : decode cX0_drawnTold 116 = .ok (.invokestatic 241, 3) := dk_184 0 241 (dk_at dksX0_drawnTold_5 3 rfl rfl)
theorem dX0_drawnTold_119 : decode cX0_drawnTold 119 = .ok (.goto 4, 3) := dk_167 0 4 (dk_at dksX0_drawnTold_5 6 rfl rfl)
theorem dX0_drawnTold_122 : decode cX0_drawnTold 122 = .ok (.iconst 0, 1) := dk_3 (dk_at dksX0_drawnTold_5 9 rfl rfl)
theorem dX0_drawnTold_123 : decode cX0_drawnTold 123 = .ok (.iadd, 1) := dk_96 (dk_at dksX0_drawnTold_5 10 rfl rfl)
theorem dX0_drawnTold_124 : decode cX0_drawnTold 124 = .ok (.istore 6, 2) := dk_54 6 (dk_at dksX0_drawnTold_5 11 rfl rfl)
theorem dX0_drawnTold_126 : decode cX0_drawnTold 126 = .ok (.aload 9, 2) := dk_25 9 (dk_at dksX0_drawnTold_5 13 rfl rfl)
theorem dX0_drawnTold_128 : decode cX0_drawnTold 128 = .ok (.astore 7, 2) := dk_58 7 (dk_at dksX0_drawnTold_5 15 rfl rfl)
theorem dX0_drawnTold_130 : decode cX0_drawnTold 130 = .ok (.iinc 8 1, 3) := dk_132 8 1 (dk_at dksX0_drawnTold_5 17 rfl rfl)
theorem dX0_drawnTold_133 : decode cX0_drawnTold 133 = .ok (.goto (-103), 3) := dk_167 255 153 (dk_at dksX0_drawnTold_5 20 rfl rfl)
theorem dX0_drawnTold_136 : decode cX0_drawnTold 136 = .ok (.iload_n 3, 1) := dk_29 (dk_at dksX0_drawnTold_5 23 rfl rfl)
theorem dX0_drawnTold_137 : decode cX0_drawnTold 137 = .ok (.tableswitch 42 0 2 #[27, 32, 37], 27) := by decide +kernel
theorem dX0_drawnTold_164 : decode cX0_drawnTold 164 = .ok (.iload 4, 2) := dk_21 4 (dk_at dksX0_drawnTold_7 0 rfl rfl)
theorem dX0_drawnTold_166 : decode cX0_drawnTold 166 = .ok (.goto 18, 3) := dk_167 0 18 (dk_at dksX0_drawnTold_7 2 rfl rfl)
theorem dX0_drawnTold_169 : decode cX0_drawnTold 169 = .ok (.iload 5, 2) := dk_21 5 (dk_at dksX0_drawnTold_7 5 rfl rfl)
theorem dX0_drawnTold_171 : decode cX0_drawnTold 171 = .ok (.goto 13, 3) := dk_167 0 13 (dk_at dksX0_drawnTold_7 7 rfl rfl)
theorem dX0_drawnTold_174 : decode cX0_drawnTold 174 = .ok (.iload 6, 2) := dk_21 6 (dk_at dksX0_drawnTold_7 10 rfl rfl)
theorem dX0_drawnTold_176 : decode cX0_drawnTold 176 = .ok (.goto 8, 3) := dk_167 0 8 (dk_at dksX0_drawnTold_7 12 rfl rfl)
theorem dX0_drawnTold_179 : decode cX0_drawnTold 179 = .ok (.aload_n 0, 1) := dk_42 (dk_at dksX0_drawnTold_7 15 rfl rfl)
theorem dX0_drawnTold_180 : decode cX0_drawnTold 180 = .ok (.getfield 365, 3) := dk_180 1 109 (dk_at dksX0_drawnTold_7 16 rfl rfl)
theorem dX0_drawnTold_183 : decode cX0_drawnTold 183 = .ok (.l2i, 1) := dk_136 (dk_at dksX0_drawnTold_7 19 rfl rfl)
theorem dX0_drawnTold_184 : decode cX0_drawnTold 184 = .ok (.ireturn, 1) := dk_172 (dk_at dksX0_drawnTold_7 20 rfl rfl)
abbrev cX0_draw : ByteArray := prog_1_method_53_code
def yX0_draw : MethodName := ⟨RX0, "draw", "()Ljava/lang/String;"⟩
def dkwX0_draw_3 : List UInt8 := [167, 255, 198, 43, 182, 0, 135, 176]
abbrev dktX0_draw_3 : List UInt8 := dkwX0_draw_3 ++ []
def dkwX0_draw_2 : List UInt8 := [20, 1, 119, 113, 10, 148, 154, 0, 8, 16, 82, 167, 0, 5, 16, 76, 182, 0, 117, 87, 132, 2, 1]
abbrev dktX0_draw_2 : List UInt8 := dkwX0_draw_2 ++ dktX0_draw_3
def dkwX0_draw_1 : List UInt8 := [180, 1, 109, 105, 20, 1, 113, 97, 20, 1, 115, 127, 181, 1, 109, 43, 42, 180, 1, 109, 20, 1, 117, 109]
abbrev dktX0_draw_1 : List UInt8 := dkwX0_draw_1 ++ dktX0_draw_2
def dkwX0_draw_0 : List UInt8 := [187, 0, 38, 89, 16, 8, 183, 0, 40, 76, 3, 61, 28, 16, 8, 162, 0, 58, 42, 20, 1, 107, 42]
abbrev dktX0_draw_0 : List UInt8 := dkwX0_draw_0 ++ dktX0_draw_1
theorem dksX0_draw_0 : cX0_draw.data.toList.drop 0 = dktX0_draw_0 := by decide +kernel
theorem dksX0_draw_1 : cX0_draw.data.toList.drop 23 = dktX0_draw_1 := dk_seg dksX0_draw_0 23 rfl rfl
theorem dksX0_draw_2 : cX0_draw.data.toList.drop 47 = dktX0_draw_2 := dk_seg dksX0_draw_1 24 rfl rfl
theorem dksX0_draw_3 : cX0_draw.data.toList.drop 70 = dktX0_draw_3 := dk_seg dksX0_draw_2 23 rfl rfl
theorem dX0_draw_0 : decode cX0_draw 0 = .ok (.new 38, 3) := dk_187 0 38 (dk_at dksX0_draw_0 0 rfl rfl)
theorem dX0_draw_3 : decode cX0_draw 3 = .ok (.dup, 1) := dk_89 (dk_at dksX0_draw_0 3 rfl rfl)
theorem dX0_draw_4 : decode cX0_draw 4 = .ok (.bipush 8, 2) := dk_16 8 (dk_at dksX0_draw_0 4 rfl rfl)
theorem dX0_draw_6 : decode cX0_draw 6 = .ok (.invokespecial 40, 3) := dk_183 0 40 (dk_at dksX0_draw_0 6 rfl rfl)
theorem dX0_draw_9 : decode cX0_draw 9 = .ok (.astore_n 1, 1) := dk_76 (dk_at dksX0_draw_0 9 rfl rfl)
theorem dX0_draw_10 : decode cX0_draw 10 = .ok (.iconst 0, 1) := dk_3 (dk_at dksX0_draw_0 10 rfl rfl)
theorem dX0_draw_11 : decode cX0_draw 11 = .ok (.istore_n 2, 1) := dk_61 (dk_at dksX0_draw_0 11 rfl rfl)
theorem dX0_draw_12 : decode cX0_draw 12 = .ok (.iload_n 2, 1) := dk_28 (dk_at dksX0_draw_0 12 rfl rfl)
theorem dX0_draw_13 : decode cX0_draw 13 = .ok (.bipush 8, 2) := dk_16 8 (dk_at dksX0_draw_0 13 rfl rfl)
theorem dX0_draw_15 : decode cX0_draw 15 = .ok (.if_icmp .ge 58, 3) := dk_162 0 58 (dk_at dksX0_draw_0 15 rfl rfl)
theorem dX0_draw_18 : decode cX0_draw 18 = .ok (.aload_n 0, 1) := dk_42 (dk_at dksX0_draw_0 18 rfl rfl)
theorem dX0_draw_19 : decode cX0_draw 19 = .ok (.ldc2_w 363, 3) := dk_20 1 107 (dk_at dksX0_draw_0 19 rfl rfl)
theorem dX0_draw_22 : decode cX0_draw 22 = .ok (.aload_n 0, 1) := dk_42 (dk_at dksX0_draw_0 22 rfl rfl)
theorem dX0_draw_23 : decode cX0_draw 23 = .ok (.getfield 365, 3) := dk_180 1 109 (dk_at dksX0_draw_1 0 rfl rfl)
theorem dX0_draw_26 : decode cX0_draw 26 = .ok (.lmul, 1) := dk_105 (dk_at dksX0_draw_1 3 rfl rfl)
theorem dX0_draw_27 : decode cX0_draw 27 = .ok (.ldc2_w 369, 3) := dk_20 1 113 (dk_at dksX0_draw_1 4 rfl rfl)
theorem dX0_draw_30 : decode cX0_draw 30 = .ok (.ladd, 1) := dk_97 (dk_at dksX0_draw_1 7 rfl rfl)
theorem dX0_draw_31 : decode cX0_draw 31 = .ok (.ldc2_w 371, 3) := dk_20 1 115 (dk_at dksX0_draw_1 8 rfl rfl)
theorem dX0_draw_34 : decode cX0_draw 34 = .ok (.land, 1) := dk_127 (dk_at dksX0_draw_1 11 rfl rfl)
theorem dX0_draw_35 : decode cX0_draw 35 = .ok (.putfield 365, 3) := dk_181 1 109 (dk_at dksX0_draw_1 12 rfl rfl)
theorem dX0_draw_38 : decode cX0_draw 38 = .ok (.aload_n 1, 1) := dk_43 (dk_at dksX0_draw_1 15 rfl rfl)
theorem dX0_draw_39 : decode cX0_draw 39 = .ok (.aload_n 0, 1) := dk_42 (dk_at dksX0_draw_1 16 rfl rfl)
theorem dX0_draw_40 : decode cX0_draw 40 = .ok (.getfield 365, 3) := dk_180 1 109 (dk_at dksX0_draw_1 17 rfl rfl)
theorem dX0_draw_43 : decode cX0_draw 43 = .ok (.ldc2_w 373, 3) := dk_20 1 117 (dk_at dksX0_draw_1 20 rfl rfl)
theorem dX0_draw_46 : decode cX0_draw 46 = .ok (.ldiv, 1) := dk_109 (dk_at dksX0_draw_1 23 rfl rfl)
theorem dX0_draw_47 : decode cX0_draw 47 = .ok (.ldc2_w 375, 3) := dk_20 1 119 (dk_at dksX0_draw_2 0 rfl rfl)
theorem dX0_draw_50 : decode cX0_draw 50 = .ok (.lrem, 1) := dk_113 (dk_at dksX0_draw_2 3 rfl rfl)
theorem dX0_draw_51 : decode cX0_draw 51 = .ok (.lconst 1, 1) := dk_10 (dk_at dksX0_draw_2 4 rfl rfl)
theorem dX0_draw_52 : decode cX0_draw 52 = .ok (.lcmp, 1) := dk_148 (dk_at dksX0_draw_2 5 rfl rfl)
theorem dX0_draw_53 : decode cX0_draw 53 = .ok (.ifCond .ne 8, 3) := dk_154 0 8 (dk_at dksX0_draw_2 6 rfl rfl)
theorem dX0_draw_56 : decode cX0_draw 56 = .ok (.bipush 82, 2) := dk_16 82 (dk_at dksX0_draw_2 9 rfl rfl)
theorem dX0_draw_58 : decode cX0_draw 58 = .ok (.goto 5, 3) := dk_167 0 5 (dk_at dksX0_draw_2 11 rfl rfl)
theorem dX0_draw_61 : decode cX0_draw 61 = .ok (.bipush 76, 2) := dk_16 76 (dk_at dksX0_draw_2 14 rfl rfl)
theorem dX0_draw_63 : decode cX0_draw 63 = .ok (.invokevirtual 117, 3) := dk_182 0 117 (dk_at dksX0_draw_2 16 rfl rfl)
theorem dX0_draw_66 : decode cX0_draw 66 = .ok (.pop, 1) := dk_87 (dk_at dksX0_draw_2 19 rfl rfl)
theorem dX0_draw_67 : decode cX0_draw 67 = .ok (.iinc 2 1, 3) := dk_132 2 1 (dk_at dksX0_draw_2 20 rfl rfl)
theorem dX0_draw_70 : decode cX0_draw 70 = .ok (.goto (-58), 3) := dk_167 255 198 (dk_at dksX0_draw_3 0 rfl rfl)
theorem dX0_draw_73 : decode cX0_draw 73 = .ok (.aload_n 1, 1) := dk_43 (dk_at dksX0_draw_3 3 rfl rfl)
theorem dX0_draw_74 : decode cX0_draw 74 = .ok (.invokevirtual 135, 3) := dk_182 0 135 (dk_at dksX0_draw_3 4 rfl rfl)
theorem dX0_draw_77 : decode cX0_draw 77 = .ok (.areturn, 1) := dk_176 (dk_at dksX0_draw_3 7 rfl rfl)
abbrev cX0_count : ByteArray := prog_1_method_59_code
def yX0_count : MethodName := ⟨RX0, "count", "(I)I"⟩
def dkwX0_count_0 : List UInt8 := [42, 27, 182, 1, 133, 172]
abbrev dktX0_count_0 : List UInt8 := dkwX0_count_0 ++ []
theorem dksX0_count_0 : cX0_count.data.toList.drop 0 = dktX0_count_0 := by decide +kernel
theorem dX0_count_0 : decode cX0_count 0 = .ok (.aload_n 0, 1) := dk_42 (dk_at dksX0_count_0 0 rfl rfl)
theorem dX0_count_1 : decode cX0_count 1 = .ok (.iload_n 1, 1) := dk_27 (dk_at dksX0_count_0 1 rfl rfl)
theorem dX0_count_2 : decode cX0_count 2 = .ok (.invokevirtual 389, 3) := dk_182 1 133 (dk_at dksX0_count_0 2 rfl rfl)
theorem dX0_count_5 : decode cX0_count 5 = .ok (.ireturn, 1) := dk_172 (dk_at dksX0_count_0 5 rfl rfl)
abbrev cX0_countOf : ByteArray := prog_1_method_58_code
def yX0_countOf : MethodName := ⟨RX0, "countOf", "(I)I"⟩
def dkwX0_countOf_4 : List UInt8 := [167, 0, 15, 42, 180, 0, 50, 182, 0, 94, 167, 0, 5, 18, 115, 172]
abbrev dktX0_countOf_4 : List UInt8 := dkwX0_countOf_4 ++ []
def dkwX0_countOf_3 : List UInt8 := [42, 180, 0, 43, 182, 0, 116, 167, 0, 32, 42, 180, 0, 143, 167, 0, 25, 42, 180, 0, 47, 182, 0, 94]
abbrev dktX0_countOf_3 : List UInt8 := dkwX0_countOf_3 ++ dktX0_countOf_4
def dkwX0_countOf_2 : List UInt8 := [42, 180, 0, 34, 182, 0, 94, 167, 0, 56, 42, 182, 1, 127, 167, 0, 49, 42, 182, 1, 130, 167, 0, 42]
abbrev dktX0_countOf_2 : List UInt8 := dkwX0_countOf_2 ++ dktX0_countOf_3
def dkwX0_countOf_1 : List UInt8 := [170, 0, 0, 0, 0, 0, 104, 0, 0, 0, 0, 0, 0, 0, 6, 0, 0, 0, 43, 0, 0, 0, 53, 0, 0, 0, 60, 0, 0, 0, 67, 0, 0, 0, 77, 0, 0, 0, 84, 0, 0, 0, 94]
abbrev dktX0_countOf_1 : List UInt8 := dkwX0_countOf_1 ++ dktX0_countOf_2
def dkwX0_countOf_0 : List UInt8 := [27]
abbrev dktX0_countOf_0 : List UInt8 := dkwX0_countOf_0 ++ dktX0_countOf_1
theorem dksX0_countOf_0 : cX0_countOf.data.toList.drop 0 = dktX0_countOf_0 := by decide +kernel
theorem dksX0_countOf_1 : cX0_countOf.data.toList.drop 1 = dktX0_countOf_1 := dk_seg dksX0_countOf_0 1 rfl rfl
theorem dksX0_countOf_2 : cX0_countOf.data.toList.drop 44 = dktX0_countOf_2 := dk_seg dksX0_countOf_1 43 rfl rfl
theorem dksX0_countOf_3 : cX0_countOf.data.toList.drop 68 = dktX0_countOf_3 := dk_seg dksX0_countOf_2 24 rfl rfl
theorem dksX0_countOf_4 : cX0_countOf.data.toList.drop 92 = dktX0_countOf_4 := dk_seg dksX0_countOf_3 24 rfl rfl
theorem dX0_countOf_0 : decode cX0_countOf 0 = .ok (.iload_n 1, 1) := dk_27 (dk_at dksX0_countOf_0 0 rfl rfl)
theorem dX0_countOf_1 : decode cX0_countOf 1 = .ok (.tableswitch 104 0 6 #[43, 53, 60, 67, 77, 84, 94], 43) := by decide +kernel
theorem dX0_countOf_44 : decode cX0_countOf 44 = .ok (.aload_n 0, 1) := dk_42 (dk_at dksX0_countOf_2 0 rfl rfl)
theorem dX0_countOf_45 : decode cX0_countOf 45 = .ok (.getfield 34, 3) := dk_180 0 34 (dk_at dksX0_countOf_2 1 rfl rfl)
theorem dX0_countOf_48 : decode cX0_countOf 48 = .ok (.invokevirtual 94, 3) := dk_182 0 94 (dk_at dksX0_countOf_2 4 rfl rfl)
theorem dX0_countOf_51 : decode cX0_countOf 51 = .ok (.goto 56, 3) := dk_167 0 56 (dk_at dksX0_countOf_2 7 rfl rfl)
theorem dX0_countOf_54 : decode cX0_countOf 54 = .ok (.aload_n 0, 1) := dk_42 (dk_at dksX0_countOf_2 10 rfl rfl)
theorem dX0_countOf_55 : decode cX0_countOf 55 = .ok (.invokevirtual 383, 3) := dk_182 1 127 (dk_at dksX0_countOf_2 11 rfl rfl)
theorem dX0_countOf_58 : decode cX0_countOf 58 = .ok (.goto 49, 3) := dk_167 0 49 (dk_at dksX0_countOf_2 14 rfl rfl)
theorem dX0_countOf_61 : decode cX0_countOf 61 = .ok (.aload_n 0, 1) := dk_42 (dk_at dksX0_countOf_2 17 rfl rfl)
theorem dX0_countOf_62 : decode cX0_countOf 62 = .ok (.invokevirtual 386, 3) := dk_182 1 130 (dk_at dksX0_countOf_2 18 rfl rfl)
theorem dX0_countOf_65 : decode cX0_countOf 65 = .ok (.goto 42, 3) := dk_167 0 42 (dk_at dksX0_countOf_2 21 rfl rfl)
theorem dX0_countOf_68 : decode cX0_countOf 68 = .ok (.aload_n 0, 1) := dk_42 (dk_at dksX0_countOf_3 0 rfl rfl)
theorem dX0_countOf_69 : decode cX0_countOf 69 = .ok (.getfield 43, 3) := dk_180 0 43 (dk_at dksX0_countOf_3 1 rfl rfl)
theorem dX0_countOf_72 : decode cX0_countOf 72 = .ok (.invokevirtual 116, 3) := dk_182 0 116 (dk_at dksX0_countOf_3 4 rfl rfl)
theorem dX0_countOf_75 : decode cX0_countOf 75 = .ok (.goto 32, 3) := dk_167 0 32 (dk_at dksX0_countOf_3 7 rfl rfl)
theorem dX0_countOf_78 : decode cX0_countOf 78 = .ok (.aload_n 0, 1) := dk_42 (dk_at dksX0_countOf_3 10 rfl rfl)
theorem dX0_countOf_79 : decode cX0_countOf 79 = .ok (.getfield 143, 3) := dk_180 0 143 (dk_at dksX0_countOf_3 11 rfl rfl)
theorem dX0_countOf_82 : decode cX0_countOf 82 = .ok (.goto 25, 3) := dk_167 0 25 (dk_at dksX0_countOf_3 14 rfl rfl)
theorem dX0_countOf_85 : decode cX0_countOf 85 = .ok (.aload_n 0, 1) := dk_42 (dk_at dksX0_countOf_3 17 rfl rfl)
theorem dX0_countOf_86 : decode cX0_countOf 86 = .ok (.getfield 47, 3) := dk_180 0 47 (dk_at dksX0_countOf_3 18 rfl rfl)
theorem dX0_countOf_89 : decode cX0_countOf 89 = .ok (.invokevirtual 94, 3) := dk_182 0 94 (dk_at dksX0_countOf_3 21 rfl rfl)
theorem dX0_countOf_92 : decode cX0_countOf 92 = .ok (.goto 15, 3) := dk_167 0 15 (dk_at dksX0_countOf_4 0 rfl rfl)
theorem dX0_countOf_95 : decode cX0_countOf 95 = .ok (.aload_n 0, 1) := dk_42 (dk_at dksX0_countOf_4 3 rfl rfl)
theorem dX0_countOf_96 : decode cX0_countOf 96 = .ok (.getfield 50, 3) := dk_180 0 50 (dk_at dksX0_countOf_4 4 rfl rfl)
theorem dX0_countOf_99 : decode cX0_countOf 99 = .ok (.invokevirtual 94, 3) := dk_182 0 94 (dk_at dksX0_countOf_4 7 rfl rfl)
theorem dX0_countOf_102 : decode cX0_countOf 102 = .ok (.goto 5, 3) := dk_167 0 5 (dk_at dksX0_countOf_4 10 rfl rfl)
theorem dX0_countOf_105 : decode cX0_countOf 105 = .ok (.ldc 115, 2) := dk_18 115 (dk_at dksX0_countOf_4 13 rfl rfl)
theorem dX0_countOf_107 : decode cX0_countOf 107 = .ok (.ireturn, 1) := dk_172 (dk_at dksX0_countOf_4 15 rfl rfl)
abbrev cX0_closedMany : ByteArray := prog_1_method_56_code
def yX0_closedMany : MethodName := ⟨RX0, "closedMany", "()I"⟩
def dkwX0_closedMany_1 : List UInt8 := [192, 0, 106, 182, 0, 169, 184, 0, 173, 96, 60, 132, 2, 1, 167, 255, 222, 27, 172]
abbrev dktX0_closedMany_1 : List UInt8 := dkwX0_closedMany_1 ++ []
def dkwX0_closedMany_0 : List UInt8 := [3, 60, 3, 61, 28, 42, 180, 0, 34, 182, 0, 94, 162, 0, 29, 27, 42, 180, 0, 34, 28, 182, 0, 193]
abbrev dktX0_closedMany_0 : List UInt8 := dkwX0_closedMany_0 ++ dktX0_closedMany_1
theorem dksX0_closedMany_0 : cX0_closedMany.data.toList.drop 0 = dktX0_closedMany_0 := by decide +kernel
theorem dksX0_closedMany_1 : cX0_closedMany.data.toList.drop 24 = dktX0_closedMany_1 := dk_seg dksX0_closedMany_0 24 rfl rfl
theorem dX0_closedMany_0 : decode cX0_closedMany 0 = .ok (.iconst 0, 1) := dk_3 (dk_at dksX0_closedMany_0 0 rfl rfl)
theorem dX0_closedMany_1 : decode cX0_closedMany 1 = .ok (.istore_n 1, 1) := dk_60 (dk_at dksX0_closedMany_0 1 rfl rfl)
theorem dX0_closedMany_2 : decode cX0_closedMany 2 = .ok (.iconst 0, 1) := dk_3 (dk_at dksX0_closedMany_0 2 rfl rfl)
theorem dX0_closedMany_3 : decode cX0_closedMany 3 = .ok (.istore_n 2, 1) := dk_61 (dk_at dksX0_closedMany_0 3 rfl rfl)
theorem dX0_closedMany_4 : decode cX0_closedMany 4 = .ok (.iload_n 2, 1) := dk_28 (dk_at dksX0_closedMany_0 4 rfl rfl)
theorem dX0_closedMany_5 : decode cX0_closedMany 5 = .ok (.aload_n 0, 1) := dk_42 (dk_at dksX0_closedMany_0 5 rfl rfl)
theorem dX0_closedMany_6 : decode cX0_closedMany 6 = .ok (.getfield 34, 3) := dk_180 0 34 (dk_at dksX0_closedMany_0 6 rfl rfl)
theorem dX0_closedMany_9 : decode cX0_closedMany 9 = .ok (.invokevirtual 94, 3) := dk_182 0 94 (dk_at dksX0_closedMany_0 9 rfl rfl)
theorem dX0_closedMany_12 : decode cX0_closedMany 12 = .ok (.if_icmp .ge 29, 3) := dk_162 0 29 (dk_at dksX0_closedMany_0 12 rfl rfl)
theorem dX0_closedMany_15 : decode cX0_closedMany 15 = .ok (.iload_n 1, 1) := dk_27 (dk_at dksX0_closedMany_0 15 rfl rfl)
theorem dX0_closedMany_16 : decode cX0_closedMany 16 = .ok (.aload_n 0, 1) := dk_42 (dk_at dksX0_closedMany_0 16 rfl rfl)
theorem dX0_closedMany_17 : decode cX0_closedMany 17 = .ok (.getfield 34, 3) := dk_180 0 34 (dk_at dksX0_closedMany_0 17 rfl rfl)
theorem dX0_closedMany_20 : decode cX0_closedMany 20 = .ok (.iload_n 2, 1) := dk_28 (dk_at dksX0_closedMany_0 20 rfl rfl)
theorem dX0_closedMany_21 : decode cX0_closedMany 21 = .ok (.invokevirtual 193, 3) := dk_182 0 193 (dk_at dksX0_closedMany_0 21 rfl rfl)
theorem dX0_closedMany_24 : decode cX0_closedMany 24 = .ok (.checkcast 106, 3) := dk_192 0 106 (dk_at dksX0_closedMany_1 0 rfl rfl)
theorem dX0_closedMany_27 : decode cX0_closedMany 27 = .ok (.invokevirtual 169, 3) := dk_182 0 169 (dk_at dksX0_closedMany_1 3 rfl rfl)
theorem dX0_closedMany_30 : decode cX0_closedMany 30 = .ok (.invokestatic 173, 3) := dk_184 0 173 (dk_at dksX0_closedMany_1 6 rfl rfl)
theorem dX0_closedMany_33 : decode cX0_closedMany 33 = .ok (.iadd, 1) := dk_96 (dk_at dksX0_closedMany_1 9 rfl rfl)
theorem dX0_closedMany_34 : decode cX0_closedMany 34 = .ok (.istore_n 1, 1) := dk_60 (dk_at dksX0_closedMany_1 10 rfl rfl)
theorem dX0_closedMany_35 : decode cX0_closedMany 35 = .ok (.iinc 2 1, 3) := dk_132 2 1 (dk_at dksX0_closedMany_1 11 rfl rfl)
theorem dX0_closedMany_38 : decode cX0_closedMany 38 = .ok (.goto (-34), 3) := dk_167 255 222 (dk_at dksX0_closedMany_1 14 rfl rfl)
theorem dX0_closedMany_41 : decode cX0_closedMany 41 = .ok (.iload_n 1, 1) := dk_27 (dk_at dksX0_closedMany_1 17 rfl rfl)
theorem dX0_closedMany_42 : decode cX0_closedMany 42 = .ok (.ireturn, 1) := dk_172 (dk_at dksX0_closedMany_1 18 rfl rfl)
abbrev cX0_unlikeMany : ByteArray := prog_1_method_57_code
def yX0_unlikeMany : MethodName := ⟨RX0, "unlikeMany", "()I"⟩
def dkwX0_unlikeMany_3 : List UInt8 := [132, 4, 1, 167, 255, 204, 27, 29, 184, 0, 173, 96, 60, 132, 2, 1, 167, 255, 175, 27, 172]
abbrev dktX0_unlikeMany_3 : List UInt8 := dkwX0_unlikeMany_3 ++ []
def dkwX0_unlikeMany_2 : List UInt8 := [182, 0, 193, 192, 0, 106, 180, 0, 154, 184, 0, 181, 154, 0, 7, 4, 167, 0, 4, 3, 126, 62]
abbrev dktX0_unlikeMany_2 : List UInt8 := dkwX0_unlikeMany_2 ++ dktX0_unlikeMany_3
def dkwX0_unlikeMany_1 : List UInt8 := [162, 0, 52, 29, 42, 180, 0, 34, 28, 182, 0, 193, 192, 0, 106, 180, 0, 154, 42, 180, 0, 34, 21, 4]
abbrev dktX0_unlikeMany_1 : List UInt8 := dkwX0_unlikeMany_1 ++ dktX0_unlikeMany_2
def dkwX0_unlikeMany_0 : List UInt8 := [3, 60, 3, 61, 28, 42, 180, 0, 34, 182, 0, 94, 162, 0, 76, 4, 62, 3, 54, 4, 21, 4, 28]
abbrev dktX0_unlikeMany_0 : List UInt8 := dkwX0_unlikeMany_0 ++ dktX0_unlikeMany_1
theorem dksX0_unlikeMany_0 : cX0_unlikeMany.data.toList.drop 0 = dktX0_unlikeMany_0 := by decide +kernel
theorem dksX0_unlikeMany_1 : cX0_unlikeMany.data.toList.drop 23 = dktX0_unlikeMany_1 := dk_seg dksX0_unlikeMany_0 23 rfl rfl
theorem dksX0_unlikeMany_2 : cX0_unlikeMany.data.toList.drop 47 = dktX0_unlikeMany_2 := dk_seg dksX0_unlikeMany_1 24 rfl rfl
theorem dksX0_unlikeMany_3 : cX0_unlikeMany.data.toList.drop 69 = dktX0_unlikeMany_3 := dk_seg dksX0_unlikeMany_2 22 rfl rfl
theorem dX0_unlikeMany_0 : decode cX0_unlikeMany 0 = .ok (.iconst 0, 1) := dk_3 (dk_at dksX0_unlikeMany_0 0 rfl rfl)
theorem dX0_unlikeMany_1 : decode cX0_unlikeMany 1 = .ok (.istore_n 1, 1) := dk_60 (dk_at dksX0_unlikeMany_0 1 rfl rfl)
theorem dX0_unlikeMany_2 : decode cX0_unlikeMany 2 = .ok (.iconst 0, 1) := dk_3 (dk_at dksX0_unlikeMany_0 2 rfl rfl)
theorem dX0_unlikeMany_3 : decode cX0_unlikeMany 3 = .ok (.istore_n 2, 1) := dk_61 (dk_at dksX0_unlikeMany_0 3 rfl rfl)
theorem dX0_unlikeMany_4 : decode cX0_unlikeMany 4 = .ok (.iload_n 2, 1) := dk_28 (dk_at dksX0_unlikeMany_0 4 rfl rfl)
theorem dX0_unlikeMany_5 : decode cX0_unlikeMany 5 = .ok (.aload_n 0, 1) := dk_42 (dk_at dksX0_unlikeMany_0 5 rfl rfl)
theorem dX0_unlikeMany_6 : decode cX0_unlikeMany 6 = .ok (.getfield 34, 3) := dk_180 0 34 (dk_at dksX0_unlikeMany_0 6 rfl rfl)
theorem dX0_unlikeMany_9 : decode cX0_unlikeMany 9 = .ok (.invokevirtual 94, 3) := dk_182 0 94 (dk_at dksX0_unlikeMany_0 9 rfl rfl)
theorem dX0_unlikeMany_12 : decode cX0_unlikeMany 12 = .ok (.if_icmp .ge 76, 3) := dk_162 0 76 (dk_at dksX0_unlikeMany_0 12 rfl rfl)
theorem dX0_unlikeMany_15 : decode cX0_unlikeMany 15 = .ok (.iconst 1, 1) := dk_4 (dk_at dksX0_unlikeMany_0 15 rfl rfl)
theorem dX0_unlikeMany_16 : decode cX0_unlikeMany 16 = .ok (.istore_n 3, 1) := dk_62 (dk_at dksX0_unlikeMany_0 16 rfl rfl)
theorem dX0_unlikeMany_17 : decode cX0_unlikeMany 17 = .ok (.iconst 0, 1) := dk_3 (dk_at dksX0_unlikeMany_0 17 rfl rfl)
theorem dX0_unlikeMany_18 : decode cX0_unlikeMany 18 = .ok (.istore 4, 2) := dk_54 4 (dk_at dksX0_unlikeMany_0 18 rfl rfl)
theorem dX0_unlikeMany_20 : decode cX0_unlikeMany 20 = .ok (.iload 4, 2) := dk_21 4 (dk_at dksX0_unlikeMany_0 20 rfl rfl)
theorem dX0_unlikeMany_22 : decode cX0_unlikeMany 22 = .ok (.iload_n 2, 1) := dk_28 (dk_at dksX0_unlikeMany_0 22 rfl rfl)
theorem dX0_unlikeMany_23 : decode cX0_unlikeMany 23 = .ok (.if_icmp .ge 52, 3) := dk_162 0 52 (dk_at dksX0_unlikeMany_1 0 rfl rfl)
theorem dX0_unlikeMany_26 : decode cX0_unlikeMany 26 = .ok (.iload_n 3, 1) := dk_29 (dk_at dksX0_unlikeMany_1 3 rfl rfl)
theorem dX0_unlikeMany_27 : decode cX0_unlikeMany 27 = .ok (.aload_n 0, 1) := dk_42 (dk_at dksX0_unlikeMany_1 4 rfl rfl)
theorem dX0_unlikeMany_28 : decode cX0_unlikeMany 28 = .ok (.getfield 34, 3) := dk_180 0 34 (dk_at dksX0_unlikeMany_1 5 rfl rfl)
theorem dX0_unlikeMany_31 : decode cX0_unlikeMany 31 = .ok (.iload_n 2, 1) := dk_28 (dk_at dksX0_unlikeMany_1 8 rfl rfl)
theorem dX0_unlikeMany_32 : decode cX0_unlikeMany 32 = .ok (.invokevirtual 193, 3) := dk_182 0 193 (dk_at dksX0_unlikeMany_1 9 rfl rfl)
theorem dX0_unlikeMany_35 : decode cX0_unlikeMany 35 = .ok (.checkcast 106, 3) := dk_192 0 106 (dk_at dksX0_unlikeMany_1 12 rfl rfl)
theorem dX0_unlikeMany_38 : decode cX0_unlikeMany 38 = .ok (.getfield 154, 3) := dk_180 0 154 (dk_at dksX0_unlikeMany_1 15 rfl rfl)
theorem dX0_unlikeMany_41 : decode cX0_unlikeMany 41 = .ok (.aload_n 0, 1) := dk_42 (dk_at dksX0_unlikeMany_1 18 rfl rfl)
theorem dX0_unlikeMany_42 : decode cX0_unlikeMany 42 = .ok (.getfield 34, 3) := dk_180 0 34 (dk_at dksX0_unlikeMany_1 19 rfl rfl)
theorem dX0_unlikeMany_45 : decode cX0_unlikeMany 45 = .ok (.iload 4, 2) := dk_21 4 (dk_at dksX0_unlikeMany_1 22 rfl rfl)
theorem dX0_unlikeMany_47 : decode cX0_unlikeMany 47 = .ok (.invokevirtual 193, 3) := dk_182 0 193 (dk_at dksX0_unlikeMany_2 0 rfl rfl)
theorem dX0_unlikeMany_50 : decode cX0_unlikeMany 50 = .ok (.checkcast 106, 3) := dk_192 0 106 (dk_at dksX0_unlikeMany_2 3 rfl rfl)
theorem dX0_unlikeMany_53 : decode cX0_unlikeMany 53 = .ok (.getfield 154, 3) := dk_180 0 154 (dk_at dksX0_unlikeMany_2 6 rfl rfl)
theorem dX0_unlikeMany_56 : decode cX0_unlikeMany 56 = .ok (.invokestatic 181, 3) := dk_184 0 181 (dk_at dksX0_unlikeMany_2 9 rfl rfl)
theorem dX0_unlikeMany_59 : decode cX0_unlikeMany 59 = .ok (.ifCond .ne 7, 3) := dk_154 0 7 (dk_at dksX0_unlikeMany_2 12 rfl rfl)
theorem dX0_unlikeMany_62 : decode cX0_unlikeMany 62 = .ok (.iconst 1, 1) := dk_4 (dk_at dksX0_unlikeMany_2 15 rfl rfl)
theorem dX0_unlikeMany_63 : decode cX0_unlikeMany 63 = .ok (.goto 4, 3) := dk_167 0 4 (dk_at dksX0_unlikeMany_2 16 rfl rfl)
theorem dX0_unlikeMany_66 : decode cX0_unlikeMany 66 = .ok (.iconst 0, 1) := dk_3 (dk_at dksX0_unlikeMany_2 19 rfl rfl)
theorem dX0_unlikeMany_67 : decode cX0_unlikeMany 67 = .ok (.iand, 1) := dk_126 (dk_at dksX0_unlikeMany_2 20 rfl rfl)
theorem dX0_unlikeMany_68 : decode cX0_unlikeMany 68 = .ok (.istore_n 3, 1) := dk_62 (dk_at dksX0_unlikeMany_2 21 rfl rfl)
theorem dX0_unlikeMany_69 : decode cX0_unlikeMany 69 = .ok (.iinc 4 1, 3) := dk_132 4 1 (dk_at dksX0_unlikeMany_3 0 rfl rfl)
theorem dX0_unlikeMany_72 : decode cX0_unlikeMany 72 = .ok (.goto (-52), 3) := dk_167 255 204 (dk_at dksX0_unlikeMany_3 3 rfl rfl)
theorem dX0_unlikeMany_75 : decode cX0_unlikeMany 75 = .ok (.iload_n 1, 1) := dk_27 (dk_at dksX0_unlikeMany_3 6 rfl rfl)
theorem dX0_unlikeMany_76 : decode cX0_unlikeMany 76 = .ok (.iload_n 3, 1) := dk_29 (dk_at dksX0_unlikeMany_3 7 rfl rfl)
theorem dX0_unlikeMany_77 : decode cX0_unlikeMany 77 = .ok (.invokestatic 173, 3) := dk_184 0 173 (dk_at dksX0_unlikeMany_3 8 rfl rfl)
theorem dX0_unlikeMany_80 : decode cX0_unlikeMany 80 = .ok (.iadd, 1) := dk_96 (dk_at dksX0_unlikeMany_3 11 rfl rfl)
theorem dX0_unlikeMany_81 : decode cX0_unlikeMany 81 = .ok (.istore_n 1, 1) := dk_60 (dk_at dksX0_unlikeMany_3 12 rfl rfl)
theorem dX0_unlikeMany_82 : decode cX0_unlikeMany 82 = .ok (.iinc 2 1, 3) := dk_132 2 1 (dk_at dksX0_unlikeMany_3 13 rfl rfl)
theorem dX0_unlikeMany_85 : decode cX0_unlikeMany 85 = .ok (.goto (-81), 3) := dk_167 255 175 (dk_at dksX0_unlikeMany_3 16 rfl rfl)
theorem dX0_unlikeMany_88 : decode cX0_unlikeMany 88 = .ok (.iload_n 1, 1) := dk_27 (dk_at dksX0_unlikeMany_3 19 rfl rfl)
theorem dX0_unlikeMany_89 : decode cX0_unlikeMany 89 = .ok (.ireturn, 1) := dk_172 (dk_at dksX0_unlikeMany_3 20 rfl rfl)
abbrev cX0_digest : ByteArray := prog_1_method_64_code
def yX0_digest : MethodName := ⟨RX0, "digest", "()J"⟩
def dkwX0_digest_4 : List UInt8 := [29, 182, 1, 133, 133, 184, 1, 138, 64, 132, 3, 1, 167, 255, 236, 31, 173]
abbrev dktX0_digest_4 : List UInt8 := dkwX0_digest_4 ++ []
def dkwX0_digest_3 : List UInt8 := [182, 1, 157, 133, 184, 1, 138, 64, 132, 3, 1, 167, 255, 228, 3, 62, 29, 16, 7, 162, 0, 20, 31, 42]
abbrev dktX0_digest_3 : List UInt8 := dkwX0_digest_3 ++ dktX0_digest_4
def dkwX0_digest_2 : List UInt8 := [182, 1, 154, 64, 3, 62, 29, 42, 180, 0, 43, 182, 0, 116, 162, 0, 23, 31, 42, 180, 0, 43, 29]
abbrev dktX0_digest_2 : List UInt8 := dkwX0_digest_2 ++ dktX0_digest_3
def dkwX0_digest_1 : List UInt8 := [182, 0, 193, 192, 0, 106, 182, 1, 146, 64, 132, 3, 1, 167, 255, 225, 42, 42, 31, 182, 1, 150]
abbrev dktX0_digest_1 : List UInt8 := dkwX0_digest_1 ++ dktX0_digest_2
def dkwX0_digest_0 : List UInt8 := [20, 1, 144, 64, 3, 62, 29, 42, 180, 0, 34, 182, 0, 94, 162, 0, 26, 42, 31, 42, 180, 0, 34, 29]
abbrev dktX0_digest_0 : List UInt8 := dkwX0_digest_0 ++ dktX0_digest_1
theorem dksX0_digest_0 : cX0_digest.data.toList.drop 0 = dktX0_digest_0 := by decide +kernel
theorem dksX0_digest_1 : cX0_digest.data.toList.drop 24 = dktX0_digest_1 := dk_seg dksX0_digest_0 24 rfl rfl
theorem dksX0_digest_2 : cX0_digest.data.toList.drop 46 = dktX0_digest_2 := dk_seg dksX0_digest_1 22 rfl rfl
theorem dksX0_digest_3 : cX0_digest.data.toList.drop 69 = dktX0_digest_3 := dk_seg dksX0_digest_2 23 rfl rfl
theorem dksX0_digest_4 : cX0_digest.data.toList.drop 93 = dktX0_digest_4 := dk_seg dksX0_digest_3 24 rfl rfl
theorem dX0_digest_0 : decode cX0_digest 0 = .ok (.ldc2_w 400, 3) := dk_20 1 144 (dk_at dksX0_digest_0 0 rfl rfl)
theorem dX0_digest_3 : decode cX0_digest 3 = .ok (.lstore_n 1, 1) := dk_64 (dk_at dksX0_digest_0 3 rfl rfl)
theorem dX0_digest_4 : decode cX0_digest 4 = .ok (.iconst 0, 1) := dk_3 (dk_at dksX0_digest_0 4 rfl rfl)
theorem dX0_digest_5 : decode cX0_digest 5 = .ok (.istore_n 3, 1) := dk_62 (dk_at dksX0_digest_0 5 rfl rfl)
theorem dX0_digest_6 : decode cX0_digest 6 = .ok (.iload_n 3, 1) := dk_29 (dk_at dksX0_digest_0 6 rfl rfl)
theorem dX0_digest_7 : decode cX0_digest 7 = .ok (.aload_n 0, 1) := dk_42 (dk_at dksX0_digest_0 7 rfl rfl)
theorem dX0_digest_8 : decode cX0_digest 8 = .ok (.getfield 34, 3) := dk_180 0 34 (dk_at dksX0_digest_0 8 rfl rfl)
theorem dX0_digest_11 : decode cX0_digest 11 = .ok (.invokevirtual 94, 3) := dk_182 0 94 (dk_at dksX0_digest_0 11 rfl rfl)
theorem dX0_digest_14 : decode cX0_digest 14 = .ok (.if_icmp .ge 26, 3) := dk_162 0 26 (dk_at dksX0_digest_0 14 rfl rfl)
theorem dX0_digest_17 : decode cX0_digest 17 = .ok (.aload_n 0, 1) := dk_42 (dk_at dksX0_digest_0 17 rfl rfl)
theorem dX0_digest_18 : decode cX0_digest 18 = .ok (.lload_n 1, 1) := dk_31 (dk_at dksX0_digest_0 18 rfl rfl)
theorem dX0_digest_19 : decode cX0_digest 19 = .ok (.aload_n 0, 1) := dk_42 (dk_at dksX0_digest_0 19 rfl rfl)
theorem dX0_digest_20 : decode cX0_digest 20 = .ok (.getfield 34, 3) := dk_180 0 34 (dk_at dksX0_digest_0 20 rfl rfl)
theorem dX0_digest_23 : decode cX0_digest 23 = .ok (.iload_n 3, 1) := dk_29 (dk_at dksX0_digest_0 23 rfl rfl)
theorem dX0_digest_24 : decode cX0_digest 24 = .ok (.invokevirtual 193, 3) := dk_182 0 193 (dk_at dksX0_digest_1 0 rfl rfl)
theorem dX0_digest_27 : decode cX0_digest 27 = .ok (.checkcast 106, 3) := dk_192 0 106 (dk_at dksX0_digest_1 3 rfl rfl)
theorem dX0_digest_30 : decode cX0_digest 30 = .ok (.invokevirtual 402, 3) := dk_182 1 146 (dk_at dksX0_digest_1 6 rfl rfl)
theorem dX0_digest_33 : decode cX0_digest 33 = .ok (.lstore_n 1, 1) := dk_64 (dk_at dksX0_digest_1 9 rfl rfl)
theorem dX0_digest_34 : decode cX0_digest 34 = .ok (.iinc 3 1, 3) := dk_132 3 1 (dk_at dksX0_digest_1 10 rfl rfl)
theorem dX0_digest_37 : decode cX0_digest 37 = .ok (.goto (-31), 3) := dk_167 255 225 (dk_at dksX0_digest_1 13 rfl rfl)
theorem dX0_digest_40 : decode cX0_digest 40 = .ok (.aload_n 0, 1) := dk_42 (dk_at dksX0_digest_1 16 rfl rfl)
theorem dX0_digest_41 : decode cX0_digest 41 = .ok (.aload_n 0, 1) := dk_42 (dk_at dksX0_digest_1 17 rfl rfl)
theorem dX0_digest_42 : decode cX0_digest 42 = .ok (.lload_n 1, 1) := dk_31 (dk_at dksX0_digest_1 18 rfl rfl)
theorem dX0_digest_43 : decode cX0_digest 43 = .ok (.invokevirtual 406, 3) := dk_182 1 150 (dk_at dksX0_digest_1 19 rfl rfl)
theorem dX0_digest_46 : decode cX0_digest 46 = .ok (.invokevirtual 410, 3) := dk_182 1 154 (dk_at dksX0_digest_2 0 rfl rfl)
theorem dX0_digest_49 : decode cX0_digest 49 = .ok (.lstore_n 1, 1) := dk_64 (dk_at dksX0_digest_2 3 rfl rfl)
theorem dX0_digest_50 : decode cX0_digest 50 = .ok (.iconst 0, 1) := dk_3 (dk_at dksX0_digest_2 4 rfl rfl)
theorem dX0_digest_51 : decode cX0_digest 51 = .ok (.istore_n 3, 1) := dk_62 (dk_at dksX0_digest_2 5 rfl rfl)
theorem dX0_digest_52 : decode cX0_digest 52 = .ok (.iload_n 3, 1) := dk_29 (dk_at dksX0_digest_2 6 rfl rfl)
theorem dX0_digest_53 : decode cX0_digest 53 = .ok (.aload_n 0, 1) := dk_42 (dk_at dksX0_digest_2 7 rfl rfl)
theorem dX0_digest_54 : decode cX0_digest 54 = .ok (.getfield 43, 3) := dk_180 0 43 (dk_at dksX0_digest_2 8 rfl rfl)
theorem dX0_digest_57 : decode cX0_digest 57 = .ok (.invokevirtual 116, 3) := dk_182 0 116 (dk_at dksX0_digest_2 11 rfl rfl)
theorem dX0_digest_60 : decode cX0_digest 60 = .ok (.if_icmp .ge 23, 3) := dk_162 0 23 (dk_at dksX0_digest_2 14 rfl rfl)
theorem dX0_digest_63 : decode cX0_digest 63 = .ok (.lload_n 1, 1) := dk_31 (dk_at dksX0_digest_2 17 rfl rfl)
theorem dX0_digest_64 : decode cX0_digest 64 = .ok (.aload_n 0, 1) := dk_42 (dk_at dksX0_digest_2 18 rfl rfl)
theorem dX0_digest_65 : decode cX0_digest 65 = .ok (.getfield 43, 3) := dk_180 0 43 (dk_at dksX0_digest_2 19 rfl rfl)
theorem dX0_digest_68 : decode cX0_digest 68 = .ok (.iload_n 3, 1) := dk_29 (dk_at dksX0_digest_2 22 rfl rfl)
theorem dX0_digest_69 : decode cX0_digest 69 = .ok (.invokevirtual 413, 3) := dk_182 1 157 (dk_at dksX0_digest_3 0 rfl rfl)
theorem dX0_digest_72 : decode cX0_digest 72 = .ok (.i2l, 1) := dk_133 (dk_at dksX0_digest_3 3 rfl rfl)
theorem dX0_digest_73 : decode cX0_digest 73 = .ok (.invokestatic 394, 3) := dk_184 1 138 (dk_at dksX0_digest_3 4 rfl rfl)
theorem dX0_digest_76 : decode cX0_digest 76 = .ok (.lstore_n 1, 1) := dk_64 (dk_at dksX0_digest_3 7 rfl rfl)
theorem dX0_digest_77 : decode cX0_digest 77 = .ok (.iinc 3 1, 3) := dk_132 3 1 (dk_at dksX0_digest_3 8 rfl rfl)
theorem dX0_digest_80 : decode cX0_digest 80 = .ok (.goto (-28), 3) := dk_167 255 228 (dk_at dksX0_digest_3 11 rfl rfl)
theorem dX0_digest_83 : decode cX0_digest 83 = .ok (.iconst 0, 1) := dk_3 (dk_at dksX0_digest_3 14 rfl rfl)
theorem dX0_digest_84 : decode cX0_digest 84 = .ok (.istore_n 3, 1) := dk_62 (dk_at dksX0_digest_3 15 rfl rfl)
theorem dX0_digest_85 : decode cX0_digest 85 = .ok (.iload_n 3, 1) := dk_29 (dk_at dksX0_digest_3 16 rfl rfl)
theorem dX0_digest_86 : decode cX0_digest 86 = .ok (.bipush 7, 2) := dk_16 7 (dk_at dksX0_digest_3 17 rfl rfl)
theorem dX0_digest_88 : decode cX0_digest 88 = .ok (.if_icmp .ge 20, 3) := dk_162 0 20 (dk_at dksX0_digest_3 19 rfl rfl)
theorem dX0_digest_91 : decode cX0_digest 91 = .ok (.lload_n 1, 1) := dk_31 (dk_at dksX0_digest_3 22 rfl rfl)
theorem dX0_digest_92 : decode cX0_digest 92 = .ok (.aload_n 0, 1) := dk_42 (dk_at dksX0_digest_3 23 rfl rfl)
theorem dX0_digest_93 : decode cX0_digest 93 = .ok (.iload_n 3, 1) := dk_29 (dk_at dksX0_digest_4 0 rfl rfl)
theorem dX0_digest_94 : decode cX0_digest 94 = .ok (.invokevirtual 389, 3) := dk_182 1 133 (dk_at dksX0_digest_4 1 rfl rfl)
theorem dX0_digest_97 : decode cX0_digest 97 = .ok (.i2l, 1) := dk_133 (dk_at dksX0_digest_4 4 rfl rfl)
theorem dX0_digest_98 : decode cX0_digest 98 = .ok (.invokestatic 394, 3) := dk_184 1 138 (dk_at dksX0_digest_4 5 rfl rfl)
theorem dX0_digest_101 : decode cX0_digest 101 = .ok (.lstore_n 1, 1) := dk_64 (dk_at dksX0_digest_4 8 rfl rfl)
theorem dX0_digest_102 : decode cX0_digest 102 = .ok (.iinc 3 1, 3) := dk_132 3 1 (dk_at dksX0_digest_4 9 rfl rfl)
theorem dX0_digest_105 : decode cX0_digest 105 = .ok (.goto (-20), 3) := dk_167 255 236 (dk_at dksX0_digest_4 12 rfl rfl)
theorem dX0_digest_108 : decode cX0_digest 108 = .ok (.lload_n 1, 1) := dk_31 (dk_at dksX0_digest_4 15 rfl rfl)
theorem dX0_digest_109 : decode cX0_digest 109 = .ok (.lreturn, 1) := dk_173 (dk_at dksX0_digest_4 16 rfl rfl)
abbrev cX0_mixedRoad : ByteArray := prog_1_method_61_code
def yX0_mixedRoad : MethodName := ⟨RX0, "mixedRoad", "(JLRiverWords$Road;)J"⟩
def dkwX0_mixedRoad_7 : List UInt8 := [167, 255, 223, 22, 4, 173]
abbrev dktX0_mixedRoad_7 : List UInt8 := dkwX0_mixedRoad_7 ++ []
def dkwX0_mixedRoad_6 : List UInt8 := [153, 0, 26, 22, 4, 45, 180, 0, 163, 21, 6, 184, 0, 217, 133, 184, 1, 138, 55, 4, 132, 6, 1]
abbrev dktX0_mixedRoad_6 : List UInt8 := dkwX0_mixedRoad_6 ++ dktX0_mixedRoad_7
def dkwX0_mixedRoad_5 : List UInt8 := [4, 184, 0, 221, 133, 184, 1, 138, 55, 4, 3, 54, 6, 21, 6, 8, 162, 0, 33, 45, 182, 0, 169]
abbrev dktX0_mixedRoad_5 : List UInt8 := dkwX0_mixedRoad_5 ++ dktX0_mixedRoad_6
def dkwX0_mixedRoad_4 : List UInt8 := [132, 6, 1, 167, 255, 230, 22, 4, 45, 180, 0, 163, 3, 184, 0, 221, 133, 184, 1, 138, 45, 180, 0, 163]
abbrev dktX0_mixedRoad_4 : List UInt8 := dkwX0_mixedRoad_4 ++ dktX0_mixedRoad_5
def dkwX0_mixedRoad_3 : List UInt8 := [21, 6, 7, 162, 0, 26, 22, 4, 45, 180, 0, 163, 21, 6, 182, 0, 204, 133, 184, 1, 138, 55, 4]
abbrev dktX0_mixedRoad_3 : List UInt8 := dkwX0_mixedRoad_3 ++ dktX0_mixedRoad_4
def dkwX0_mixedRoad_2 : List UInt8 := [22, 4, 45, 21, 6, 182, 0, 201, 133, 184, 1, 138, 55, 4, 132, 6, 1, 167, 255, 230, 3, 54, 6]
abbrev dktX0_mixedRoad_2 : List UInt8 := dkwX0_mixedRoad_2 ++ dktX0_mixedRoad_3
def dkwX0_mixedRoad_1 : List UInt8 := [184, 1, 138, 55, 4, 132, 6, 1, 167, 255, 231, 3, 54, 6, 21, 6, 45, 182, 0, 146, 162, 0, 23]
abbrev dktX0_mixedRoad_1 : List UInt8 := dkwX0_mixedRoad_1 ++ dktX0_mixedRoad_2
def dkwX0_mixedRoad_0 : List UInt8 := [31, 55, 4, 3, 54, 6, 21, 6, 16, 10, 162, 0, 24, 22, 4, 42, 45, 21, 6, 182, 0, 197, 133]
abbrev dktX0_mixedRoad_0 : List UInt8 := dkwX0_mixedRoad_0 ++ dktX0_mixedRoad_1
theorem dksX0_mixedRoad_0 : cX0_mixedRoad.data.toList.drop 0 = dktX0_mixedRoad_0 := by decide +kernel
theorem dksX0_mixedRoad_1 : cX0_mixedRoad.data.toList.drop 23 = dktX0_mixedRoad_1 := dk_seg dksX0_mixedRoad_0 23 rfl rfl
theorem dksX0_mixedRoad_2 : cX0_mixedRoad.data.toList.drop 46 = dktX0_mixedRoad_2 := dk_seg dksX0_mixedRoad_1 23 rfl rfl
theorem dksX0_mixedRoad_3 : cX0_mixedRoad.data.toList.drop 69 = dktX0_mixedRoad_3 := dk_seg dksX0_mixedRoad_2 23 rfl rfl
theorem dksX0_mixedRoad_4 : cX0_mixedRoad.data.toList.drop 92 = dktX0_mixedRoad_4 := dk_seg dksX0_mixedRoad_3 23 rfl rfl
theorem dksX0_mixedRoad_5 : cX0_mixedRoad.data.toList.drop 116 = dktX0_mixedRoad_5 := dk_seg dksX0_mixedRoad_4 24 rfl rfl
theorem dksX0_mixedRoad_6 : cX0_mixedRoad.data.toList.drop 139 = dktX0_mixedRoad_6 := dk_seg dksX0_mixedRoad_5 23 rfl rfl
theorem dksX0_mixedRoad_7 : cX0_mixedRoad.data.toList.drop 162 = dktX0_mixedRoad_7 := dk_seg dksX0_mixedRoad_6 23 rfl rfl
theorem dX0_mixedRoad_0 : decode cX0_mixedRoad 0 = .ok (.lload_n 1, 1) := dk_31 (dk_at dksX0_mixedRoad_0 0 rfl rfl)
theorem dX0_mixedRoad_1 : decode cX0_mixedRoad 1 = .ok (.lstore 4, 2) := dk_55 4 (dk_at dksX0_mixedRoad_0 1 rfl rfl)
theorem dX0_mixedRoad_3 : decode cX0_mixedRoad 3 = .ok (.iconst 0, 1) := dk_3 (dk_at dksX0_mixedRoad_0 3 rfl rfl)
theorem dX0_mixedRoad_4 : decode cX0_mixedRoad 4 = .ok (.istore 6, 2) := dk_54 6 (dk_at dksX0_mixedRoad_0 4 rfl rfl)
theorem dX0_mixedRoad_6 : decode cX0_mixedRoad 6 = .ok (.iload 6, 2) := dk_21 6 (dk_at dksX0_mixedRoad_0 6 rfl rfl)
theorem dX0_mixedRoad_8 : decode cX0_mixedRoad 8 = .ok (.bipush 10, 2) := dk_16 10 (dk_at dksX0_mixedRoad_0 8 rfl rfl)
theorem dX0_mixedRoad_10 : decode cX0_mixedRoad 10 = .ok (.if_icmp .ge 24, 3) := dk_162 0 24 (dk_at dksX0_mixedRoad_0 10 rfl rfl)
theorem dX0_mixedRoad_13 : decode cX0_mixedRoad 13 = .ok (.lload 4, 2) := dk_22 4 (dk_at dksX0_mixedRoad_0 13 rfl rfl)
theorem dX0_mixedRoad_15 : decode cX0_mixedRoad 15 = .ok (.aload_n 0, 1) := dk_42 (dk_at dksX0_mixedRoad_0 15 rfl rfl)
theorem dX0_mixedRoad_16 : decode cX0_mixedRoad 16 = .ok (.aload_n 3, 1) := dk_45 (dk_at dksX0_mixedRoad_0 16 rfl rfl)
theorem dX0_mixedRoad_17 : decode cX0_mixedRoad 17 = .ok (.iload 6, 2) := dk_21 6 (dk_at dksX0_mixedRoad_0 17 rfl rfl)
theorem dX0_mixedRoad_19 : decode cX0_mixedRoad 19 = .ok (.invokevirtual 197, 3) := dk_182 0 197 (dk_at dksX0_mixedRoad_0 19 rfl rfl)
theorem dX0_mixedRoad_22 : decode cX0_mixedRoad 22 = .ok (.i2l, 1) := dk_133 (dk_at dksX0_mixedRoad_0 22 rfl rfl)
theorem dX0_mixedRoad_23 : decode cX0_mixedRoad 23 = .ok (.invokestatic 394, 3) := dk_184 1 138 (dk_at dksX0_mixedRoad_1 0 rfl rfl)
theorem dX0_mixedRoad_26 : decode cX0_mixedRoad 26 = .ok (.lstore 4, 2) := dk_55 4 (dk_at dksX0_mixedRoad_1 3 rfl rfl)
theorem dX0_mixedRoad_28 : decode cX0_mixedRoad 28 = .ok (.iinc 6 1, 3) := dk_132 6 1 (dk_at dksX0_mixedRoad_1 5 rfl rfl)
theorem dX0_mixedRoad_31 : decode cX0_mixedRoad 31 = .ok (.goto (-25), 3) := dk_167 255 231 (dk_at dksX0_mixedRoad_1 8 rfl rfl)
theorem dX0_mixedRoad_34 : decode cX0_mixedRoad 34 = .ok (.iconst 0, 1) := dk_3 (dk_at dksX0_mixedRoad_1 11 rfl rfl)
theorem dX0_mixedRoad_35 : decode cX0_mixedRoad 35 = .ok (.istore 6, 2) := dk_54 6 (dk_at dksX0_mixedRoad_1 12 rfl rfl)
theorem dX0_mixedRoad_37 : decode cX0_mixedRoad 37 = .ok (.iload 6, 2) := dk_21 6 (dk_at dksX0_mixedRoad_1 14 rfl rfl)
theorem dX0_mixedRoad_39 : decode cX0_mixedRoad 39 = .ok (.aload_n 3, 1) := dk_45 (dk_at dksX0_mixedRoad_1 16 rfl rfl)
theorem dX0_mixedRoad_40 : decode cX0_mixedRoad 40 = .ok (.invokevirtual 146, 3) := dk_182 0 146 (dk_at dksX0_mixedRoad_1 17 rfl rfl)
theorem dX0_mixedRoad_43 : decode cX0_mixedRoad 43 = .ok (.if_icmp .ge 23, 3) := dk_162 0 23 (dk_at dksX0_mixedRoad_1 20 rfl rfl)
theorem dX0_mixedRoad_46 : decode cX0_mixedRoad 46 = .ok (.lload 4, 2) := dk_22 4 (dk_at dksX0_mixedRoad_2 0 rfl rfl)
theorem dX0_mixedRoad_48 : decode cX0_mixedRoad 48 = .ok (.aload_n 3, 1) := dk_45 (dk_at dksX0_mixedRoad_2 2 rfl rfl)
theorem dX0_mixedRoad_49 : decode cX0_mixedRoad 49 = .ok (.iload 6, 2) := dk_21 6 (dk_at dksX0_mixedRoad_2 3 rfl rfl)
theorem dX0_mixedRoad_51 : decode cX0_mixedRoad 51 = .ok (.invokevirtual 201, 3) := dk_182 0 201 (dk_at dksX0_mixedRoad_2 5 rfl rfl)
theorem dX0_mixedRoad_54 : decode cX0_mixedRoad 54 = .ok (.i2l, 1) := dk_133 (dk_at dksX0_mixedRoad_2 8 rfl rfl)
theorem dX0_mixedRoad_55 : decode cX0_mixedRoad 55 = .ok (.invokestatic 394, 3) := dk_184 1 138 (dk_at dksX0_mixedRoad_2 9 rfl rfl)
theorem dX0_mixedRoad_58 : decode cX0_mixedRoad 58 = .ok (.lstore 4, 2) := dk_55 4 (dk_at dksX0_mixedRoad_2 12 rfl rfl)
theorem dX0_mixedRoad_60 : decode cX0_mixedRoad 60 = .ok (.iinc 6 1, 3) := dk_132 6 1 (dk_at dksX0_mixedRoad_2 14 rfl rfl)
theorem dX0_mixedRoad_63 : decode cX0_mixedRoad 63 = .ok (.goto (-26), 3) := dk_167 255 230 (dk_at dksX0_mixedRoad_2 17 rfl rfl)
theorem dX0_mixedRoad_66 : decode cX0_mixedRoad 66 = .ok (.iconst 0, 1) := dk_3 (dk_at dksX0_mixedRoad_2 20 rfl rfl)
theorem dX0_mixedRoad_67 : decode cX0_mixedRoad 67 = .ok (.istore 6, 2) := dk_54 6 (dk_at dksX0_mixedRoad_2 21 rfl rfl)
theorem dX0_mixedRoad_69 : decode cX0_mixedRoad 69 = .ok (.iload 6, 2) := dk_21 6 (dk_at dksX0_mixedRoad_3 0 rfl rfl)
theorem dX0_mixedRoad_71 : decode cX0_mixedRoad 71 = .ok (.iconst 4, 1) := dk_7 (dk_at dksX0_mixedRoad_3 2 rfl rfl)
theorem dX0_mixedRoad_72 : decode cX0_mixedRoad 72 = .ok (.if_icmp .ge 26, 3) := dk_162 0 26 (dk_at dksX0_mixedRoad_3 3 rfl rfl)
theorem dX0_mixedRoad_75 : decode cX0_mixedRoad 75 = .ok (.lload 4, 2) := dk_22 4 (dk_at dksX0_mixedRoad_3 6 rfl rfl)
theorem dX0_mixedRoad_77 : decode cX0_mixedRoad 77 = .ok (.aload_n 3, 1) := dk_45 (dk_at dksX0_mixedRoad_3 8 rfl rfl)
theorem dX0_mixedRoad_78 : decode cX0_mixedRoad 78 = .ok (.getfield 163, 3) := dk_180 0 163 (dk_at dksX0_mixedRoad_3 9 rfl rfl)
theorem dX0_mixedRoad_81 : decode cX0_mixedRoad 81 = .ok (.iload 6, 2) := dk_21 6 (dk_at dksX0_mixedRoad_3 12 rfl rfl)
theorem dX0_mixedRoad_83 : decode cX0_mixedRoad 83 = .ok (.invokevirtual 204, 3) := dk_182 0 204 (dk_at dksX0_mixedRoad_3 14 rfl rfl)
theorem dX0_mixedRoad_86 : decode cX0_mixedRoad 86 = .ok (.i2l, 1) := dk_133 (dk_at dksX0_mixedRoad_3 17 rfl rfl)
theorem dX0_mixedRoad_87 : decode cX0_mixedRoad 87 = .ok (.invokestatic 394, 3) := dk_184 1 138 (dk_at dksX0_mixedRoad_3 18 rfl rfl)
theorem dX0_mixedRoad_90 : decode cX0_mixedRoad 90 = .ok (.lstore 4, 2) := dk_55 4 (dk_at dksX0_mixedRoad_3 21 rfl rfl)
theorem dX0_mixedRoad_92 : decode cX0_mixedRoad 92 = .ok (.iinc 6 1, 3) := dk_132 6 1 (dk_at dksX0_mixedRoad_4 0 rfl rfl)
theorem dX0_mixedRoad_95 : decode cX0_mixedRoad 95 = .ok (.goto (-26), 3) := dk_167 255 230 (dk_at dksX0_mixedRoad_4 3 rfl rfl)
theorem dX0_mixedRoad_98 : decode cX0_mixedRoad 98 = .ok (.lload 4, 2) := dk_22 4 (dk_at dksX0_mixedRoad_4 6 rfl rfl)
theorem dX0_mixedRoad_100 : decode cX0_mixedRoad 100 = .ok (.aload_n 3, 1) := dk_45 (dk_at dksX0_mixedRoad_4 8 rfl rfl)
theorem dX0_mixedRoad_101 : decode cX0_mixedRoad 101 = .ok (.getfield 163, 3) := dk_180 0 163 (dk_at dksX0_mixedRoad_4 9 rfl rfl)
theorem dX0_mixedRoad_104 : decode cX0_mixedRoad 104 = .ok (.iconst 0, 1) := dk_3 (dk_at dksX0_mixedRoad_4 12 rfl rfl)
theorem dX0_mixedRoad_105 : decode cX0_mixedRoad 105 = .ok (.invokestatic 221, 3) := dk_184 0 221 (dk_at dksX0_mixedRoad_4 13 rfl rfl)
theorem dX0_mixedRoad_108 : decode cX0_mixedRoad 108 = .ok (.i2l, 1) := dk_133 (dk_at dksX0_mixedRoad_4 16 rfl rfl)
theorem dX0_mixedRoad_109 : decode cX0_mixedRoad 109 = .ok (.invokestatic 394, 3) := dk_184 1 138 (dk_at dksX0_mixedRoad_4 17 rfl rfl)
theorem dX0_mixedRoad_112 : decode cX0_mixedRoad 112 = .ok (.aload_n 3, 1) := dk_45 (dk_at dksX0_mixedRoad_4 20 rfl rfl)
theorem dX0_mixedRoad_113 : decode cX0_mixedRoad 113 = .ok (.getfield 163, 3) := dk_180 0 163 (dk_at dksX0_mixedRoad_4 21 rfl rfl)
theorem dX0_mixedRoad_116 : decode cX0_mixedRoad 116 = .ok (.iconst 1, 1) := dk_4 (dk_at dksX0_mixedRoad_5 0 rfl rfl)
theorem dX0_mixedRoad_117 : decode cX0_mixedRoad 117 = .ok (.invokestatic 221, 3) := dk_184 0 221 (dk_at dksX0_mixedRoad_5 1 rfl rfl)
theorem dX0_mixedRoad_120 : decode cX0_mixedRoad 120 = .ok (.i2l, 1) := dk_133 (dk_at dksX0_mixedRoad_5 4 rfl rfl)
theorem dX0_mixedRoad_121 : decode cX0_mixedRoad 121 = .ok (.invokestatic 394, 3) := dk_184 1 138 (dk_at dksX0_mixedRoad_5 5 rfl rfl)
theorem dX0_mixedRoad_124 : decode cX0_mixedRoad 124 = .ok (.lstore 4, 2) := dk_55 4 (dk_at dksX0_mixedRoad_5 8 rfl rfl)
theorem dX0_mixedRoad_126 : decode cX0_mixedRoad 126 = .ok (.iconst 0, 1) := dk_3 (dk_at dksX0_mixedRoad_5 10 rfl rfl)
theorem dX0_mixedRoad_127 : decode cX0_mixedRoad 127 = .ok (.istore 6, 2) := dk_54 6 (dk_at dksX0_mixedRoad_5 11 rfl rfl)
theorem dX0_mixedRoad_129 : decode cX0_mixedRoad 129 = .ok (.iload 6, 2) := dk_21 6 (dk_at dksX0_mixedRoad_5 13 rfl rfl)
theorem dX0_mixedRoad_131 : decode cX0_mixedRoad 131 = .ok (.iconst 5, 1) := dk_8 (dk_at dksX0_mixedRoad_5 15 rfl rfl)
theorem dX0_mixedRoad_132 : decode cX0_mixedRoad 132 = .ok (.if_icmp .ge 33, 3) := dk_162 0 33 (dk_at dksX0_mixedRoad_5 16 rfl rfl)
theorem dX0_mixedRoad_135 : decode cX0_mixedRoad 135 = .ok (.aload_n 3, 1) := dk_45 (dk_at dksX0_mixedRoad_5 19 rfl rfl)
theorem dX0_mixedRoad_136 : decode cX0_mixedRoad 136 = .ok (.invokevirtual 169, 3) := dk_182 0 169 (dk_at dksX0_mixedRoad_5 20 rfl rfl)
theorem dX0_mixedRoad_139 : decode cX0_mixedRoad 139 = .ok (.ifCond .eq 26, 3) := dk_153 0 26 (dk_at dksX0_mixedRoad_6 0 rfl rfl)
theorem dX0_mixedRoad_142 : decode cX0_mixedRoad 142 = .ok (.lload 4, 2) := dk_22 4 (dk_at dksX0_mixedRoad_6 3 rfl rfl)
theorem dX0_mixedRoad_144 : decode cX0_mixedRoad 144 = .ok (.aload_n 3, 1) := dk_45 (dk_at dksX0_mixedRoad_6 5 rfl rfl)
theorem dX0_mixedRoad_145 : decode cX0_mixedRoad 145 = .ok (.getfield 163, 3) := dk_180 0 163 (dk_at dksX0_mixedRoad_6 6 rfl rfl)
theorem dX0_mixedRoad_148 : decode cX0_mixedRoad 148 = .ok (.iload 6, 2) := dk_21 6 (dk_at dksX0_mixedRoad_6 9 rfl rfl)
theorem dX0_mixedRoad_150 : decode cX0_mixedRoad 150 = .ok (.invokestatic 217, 3) := dk_184 0 217 (dk_at dksX0_mixedRoad_6 11 rfl rfl)
theorem dX0_mixedRoad_153 : decode cX0_mixedRoad 153 = .ok (.i2l, 1) := dk_133 (dk_at dksX0_mixedRoad_6 14 rfl rfl)
theorem dX0_mixedRoad_154 : decode cX0_mixedRoad 154 = .ok (.invokestatic 394, 3) := dk_184 1 138 (dk_at dksX0_mixedRoad_6 15 rfl rfl)
theorem dX0_mixedRoad_157 : decode cX0_mixedRoad 157 = .ok (.lstore 4, 2) := dk_55 4 (dk_at dksX0_mixedRoad_6 18 rfl rfl)
theorem dX0_mixedRoad_159 : decode cX0_mixedRoad 159 = .ok (.iinc 6 1, 3) := dk_132 6 1 (dk_at dksX0_mixedRoad_6 20 rfl rfl)
theorem dX0_mixedRoad_162 : decode cX0_mixedRoad 162 = .ok (.goto (-33), 3) := dk_167 255 223 (dk_at dksX0_mixedRoad_7 0 rfl rfl)
theorem dX0_mixedRoad_165 : decode cX0_mixedRoad 165 = .ok (.lload 4, 2) := dk_22 4 (dk_at dksX0_mixedRoad_7 3 rfl rfl)
theorem dX0_mixedRoad_167 : decode cX0_mixedRoad 167 = .ok (.lreturn, 1) := dk_173 (dk_at dksX0_mixedRoad_7 5 rfl rfl)
abbrev cX0_mixed : ByteArray := prog_1_method_60_code
def yX0_mixed : MethodName := ⟨RX0, "mixed", "(JJ)J"⟩
def dkwX0_mixed_0 : List UInt8 := [20, 1, 136, 30, 105, 32, 97, 173]
abbrev dktX0_mixed_0 : List UInt8 := dkwX0_mixed_0 ++ []
theorem dksX0_mixed_0 : cX0_mixed.data.toList.drop 0 = dktX0_mixed_0 := by decide +kernel
theorem dX0_mixed_0 : decode cX0_mixed 0 = .ok (.ldc2_w 392, 3) := dk_20 1 136 (dk_at dksX0_mixed_0 0 rfl rfl)
theorem dX0_mixed_3 : decode cX0_mixed 3 = .ok (.lload_n 0, 1) := dk_30 (dk_at dksX0_mixed_0 3 rfl rfl)
theorem dX0_mixed_4 : decode cX0_mixed 4 = .ok (.lmul, 1) := dk_105 (dk_at dksX0_mixed_0 4 rfl rfl)
theorem dX0_mixed_5 : decode cX0_mixed 5 = .ok (.lload_n 2, 1) := dk_32 (dk_at dksX0_mixed_0 5 rfl rfl)
theorem dX0_mixed_6 : decode cX0_mixed 6 = .ok (.ladd, 1) := dk_97 (dk_at dksX0_mixed_0 6 rfl rfl)
theorem dX0_mixed_7 : decode cX0_mixed 7 = .ok (.lreturn, 1) := dk_173 (dk_at dksX0_mixed_0 7 rfl rfl)
abbrev cX0_mixedCrossings : ByteArray := prog_1_method_62_code
def yX0_mixedCrossings : MethodName := ⟨RX0, "mixedCrossings", "(J)J"⟩
def dkwX0_mixedCrossings_5 : List UInt8 := [184, 1, 138, 167, 0, 4, 33, 66, 132, 6, 1, 167, 255, 150, 132, 5, 1, 167, 255, 128, 33, 173]
abbrev dktX0_mixedCrossings_5 : List UInt8 := dkwX0_mixedCrossings_5 ++ []
def dkwX0_mixedCrossings_4 : List UInt8 := [180, 0, 154, 42, 180, 0, 34, 21, 6, 182, 0, 193, 192, 0, 106, 180, 0, 154, 184, 0, 241, 133]
abbrev dktX0_mixedCrossings_4 : List UInt8 := dkwX0_mixedCrossings_4 ++ dktX0_mixedCrossings_5
def dkwX0_mixedCrossings_3 : List UInt8 := [167, 0, 4, 3, 54, 7, 21, 7, 153, 0, 44, 33, 42, 180, 0, 34, 21, 5, 182, 0, 193, 192, 0, 106]
abbrev dktX0_mixedCrossings_3 : List UInt8 := dkwX0_mixedCrossings_3 ++ dktX0_mixedCrossings_4
def dkwX0_mixedCrossings_2 : List UInt8 := [153, 0, 25, 42, 180, 0, 34, 21, 6, 182, 0, 193, 192, 0, 106, 182, 0, 169, 153, 0, 7, 4]
abbrev dktX0_mixedCrossings_2 : List UInt8 := dkwX0_mixedCrossings_2 ++ dktX0_mixedCrossings_3
def dkwX0_mixedCrossings_1 : List UInt8 := [180, 0, 34, 182, 0, 94, 162, 0, 100, 42, 180, 0, 34, 21, 5, 182, 0, 193, 192, 0, 106, 182, 0, 169]
abbrev dktX0_mixedCrossings_1 : List UInt8 := dkwX0_mixedCrossings_1 ++ dktX0_mixedCrossings_2
def dkwX0_mixedCrossings_0 : List UInt8 := [31, 66, 3, 54, 5, 21, 5, 42, 180, 0, 34, 182, 0, 94, 162, 0, 122, 21, 5, 54, 6, 21, 6, 42]
abbrev dktX0_mixedCrossings_0 : List UInt8 := dkwX0_mixedCrossings_0 ++ dktX0_mixedCrossings_1
theorem dksX0_mixedCrossings_0 : cX0_mixedCrossings.data.toList.drop 0 = dktX0_mixedCrossings_0 := by decide +kernel
theorem dksX0_mixedCrossings_1 : cX0_mixedCrossings.data.toList.drop 24 = dktX0_mixedCrossings_1 := dk_seg dksX0_mixedCrossings_0 24 rfl rfl
theorem dksX0_mixedCrossings_2 : cX0_mixedCrossings.data.toList.drop 48 = dktX0_mixedCrossings_2 := dk_seg dksX0_mixedCrossings_1 24 rfl rfl
theorem dksX0_mixedCrossings_3 : cX0_mixedCrossings.data.toList.drop 70 = dktX0_mixedCrossings_3 := dk_seg dksX0_mixedCrossings_2 22 rfl rfl
theorem dksX0_mixedCrossings_4 : cX0_mixedCrossings.data.toList.drop 94 = dktX0_mixedCrossings_4 := dk_seg dksX0_mixedCrossings_3 24 rfl rfl
theorem dksX0_mixedCrossings_5 : cX0_mixedCrossings.data.toList.drop 116 = dktX0_mixedCrossings_5 := dk_seg dksX0_mixedCrossings_4 22 rfl rfl
theorem dX0_mixedCrossings_0 : decode cX0_mixedCrossings 0 = .ok (.lload_n 1, 1) := dk_31 (dk_at dksX0_mixedCrossings_0 0 rfl rfl)
theorem dX0_mixedCrossings_1 : decode cX0_mixedCrossings 1 = .ok (.lstore_n 3, 1) := dk_66 (dk_at dksX0_mixedCrossings_0 1 rfl rfl)
theorem dX0_mixedCrossings_2 : decode cX0_mixedCrossings 2 = .ok (.iconst 0, 1) := dk_3 (dk_at dksX0_mixedCrossings_0 2 rfl rfl)
theorem dX0_mixedCrossings_3 : decode cX0_mixedCrossings 3 = .ok (.istore 5, 2) := dk_54 5 (dk_at dksX0_mixedCrossings_0 3 rfl rfl)
theorem dX0_mixedCrossings_5 : decode cX0_mixedCrossings 5 = .ok (.iload 5, 2) := dk_21 5 (dk_at dksX0_mixedCrossings_0 5 rfl rfl)
theorem dX0_mixedCrossings_7 : decode cX0_mixedCrossings 7 = .ok (.aload_n 0, 1) := dk_42 (dk_at dksX0_mixedCrossings_0 7 rfl rfl)
theorem dX0_mixedCrossings_8 : decode cX0_mixedCrossings 8 = .ok (.getfield 34, 3) := dk_180 0 34 (dk_at dksX0_mixedCrossings_0 8 rfl rfl)
theorem dX0_mixedCrossings_11 : decode cX0_mixedCrossings 11 = .ok (.invokevirtual 94, 3) := dk_182 0 94 (dk_at dksX0_mixedCrossings_0 11 rfl rfl)
theorem dX0_mixedCrossings_14 : decode cX0_mixedCrossings 14 = .ok (.if_icmp .ge 122, 3) := dk_162 0 122 (dk_at dksX0_mixedCrossings_0 14 rfl rfl)
theorem dX0_mixedCrossings_17 : decode cX0_mixedCrossings 17 = .ok (.iload 5, 2) := dk_21 5 (dk_at dksX0_mixedCrossings_0 17 rfl rfl)
theorem dX0_mixedCrossings_19 : decode cX0_mixedCrossings 19 = .ok (.istore 6, 2) := dk_54 6 (dk_at dksX0_mixedCrossings_0 19 rfl rfl)
theorem dX0_mixedCrossings_21 : decode cX0_mixedCrossings 21 = .ok (.iload 6, 2) := dk_21 6 (dk_at dksX0_mixedCrossings_0 21 rfl rfl)
theorem dX0_mixedCrossings_23 : decode cX0_mixedCrossings 23 = .ok (.aload_n 0, 1) := dk_42 (dk_at dksX0_mixedCrossings_0 23 rfl rfl)
theorem dX0_mixedCrossings_24 : decode cX0_mixedCrossings 24 = .ok (.getfield 34, 3) := dk_180 0 34 (dk_at dksX0_mixedCrossings_1 0 rfl rfl)
theorem dX0_mixedCrossings_27 : decode cX0_mixedCrossings 27 = .ok (.invokevirtual 94, 3) := dk_182 0 94 (dk_at dksX0_mixedCrossings_1 3 rfl rfl)
theorem dX0_mixedCrossings_30 : decode cX0_mixedCrossings 30 = .ok (.if_icmp .ge 100, 3) := dk_162 0 100 (dk_at dksX0_mixedCrossings_1 6 rfl rfl)
theorem dX0_mixedCrossings_33 : decode cX0_mixedCrossings 33 = .ok (.aload_n 0, 1) := dk_42 (dk_at dksX0_mixedCrossings_1 9 rfl rfl)
theorem dX0_mixedCrossings_34 : decode cX0_mixedCrossings 34 = .ok (.getfield 34, 3) := dk_180 0 34 (dk_at dksX0_mixedCrossings_1 10 rfl rfl)
theorem dX0_mixedCrossings_37 : decode cX0_mixedCrossings 37 = .ok (.iload 5, 2) := dk_21 5 (dk_at dksX0_mixedCrossings_1 13 rfl rfl)
theorem dX0_mixedCrossings_39 : decode cX0_mixedCrossings 39 = .ok (.invokevirtual 193, 3) := dk_182 0 193 (dk_at dksX0_mixedCrossings_1 15 rfl rfl)
theorem dX0_mixedCrossings_42 : decode cX0_mixedCrossings 42 = .ok (.checkcast 106, 3) := dk_192 0 106 (dk_at dksX0_mixedCrossings_1 18 rfl rfl)
theorem dX0_mixedCrossings_45 : decode cX0_mixedCrossings 45 = .ok (.invokevirtual 169, 3) := dk_182 0 169 (dk_at dksX0_mixedCrossings_1 21 rfl rfl)
theorem dX0_mixedCrossings_48 : decode cX0_mixedCrossings 48 = .ok (.ifCond .eq 25, 3) := dk_153 0 25 (dk_at dksX0_mixedCrossings_2 0 rfl rfl)
theorem dX0_mixedCrossings_51 : decode cX0_mixedCrossings 51 = .ok (.aload_n 0, 1) := dk_42 (dk_at dksX0_mixedCrossings_2 3 rfl rfl)
theorem dX0_mixedCrossings_52 : decode cX0_mixedCrossings 52 = .ok (.getfield 34, 3) := dk_180 0 34 (dk_at dksX0_mixedCrossings_2 4 rfl rfl)
theorem dX0_mixedCrossings_55 : decode cX0_mixedCrossings 55 = .ok (.iload 6, 2) := dk_21 6 (dk_at dksX0_mixedCrossings_2 7 rfl rfl)
theorem dX0_mixedCrossings_57 : decode cX0_mixedCrossings 57 = .ok (.invokevirtual 193, 3) := dk_182 0 193 (dk_at dksX0_mixedCrossings_2 9 rfl rfl)
theorem dX0_mixedCrossings_60 : decode cX0_mixedCrossings 60 = .ok (.checkcast 106, 3) := dk_192 0 106 (dk_at dksX0_mixedCrossings_2 12 rfl rfl)
theorem dX0_mixedCrossings_63 : decode cX0_mixedCrossings 63 = .ok (.invokevirtual 169, 3) := dk_182 0 169 (dk_at dksX0_mixedCrossings_2 15 rfl rfl)
theorem dX0_mixedCrossings_66 : decode cX0_mixedCrossings 66 = .ok (.ifCond .eq 7, 3) := dk_153 0 7 (dk_at dksX0_mixedCrossings_2 18 rfl rfl)
theorem dX0_mixedCrossings_69 : decode cX0_mixedCrossings 69 = .ok (.iconst 1, 1) := dk_4 (dk_at dksX0_mixedCrossings_2 21 rfl rfl)
theorem dX0_mixedCrossings_70 : decode cX0_mixedCrossings 70 = .ok (.goto 4, 3) := dk_167 0 4 (dk_at dksX0_mixedCrossings_3 0 rfl rfl)
theorem dX0_mixedCrossings_73 : decode cX0_mixedCrossings 73 = .ok (.iconst 0, 1) := dk_3 (dk_at dksX0_mixedCrossings_3 3 rfl rfl)
theorem dX0_mixedCrossings_74 : decode cX0_mixedCrossings 74 = .ok (.istore 7, 2) := dk_54 7 (dk_at dksX0_mixedCrossings_3 4 rfl rfl)
theorem dX0_mixedCrossings_76 : decode cX0_mixedCrossings 76 = .ok (.iload 7, 2) := dk_21 7 (dk_at dksX0_mixedCrossings_3 6 rfl rfl)
theorem dX0_mixedCrossings_78 : decode cX0_mixedCrossings 78 = .ok (.ifCond .eq 44, 3) := dk_153 0 44 (dk_at dksX0_mixedCrossings_3 8 rfl rfl)
theorem dX0_mixedCrossings_81 : decode cX0_mixedCrossings 81 = .ok (.lload_n 3, 1) := dk_33 (dk_at dksX0_mixedCrossings_3 11 rfl rfl)
theorem dX0_mixedCrossings_82 : decode cX0_mixedCrossings 82 = .ok (.aload_n 0, 1) := dk_42 (dk_at dksX0_mixedCrossings_3 12 rfl rfl)
theorem dX0_mixedCrossings_83 : decode cX0_mixedCrossings 83 = .ok (.getfield 34, 3) := dk_180 0 34 (dk_at dksX0_mixedCrossings_3 13 rfl rfl)
theorem dX0_mixedCrossings_86 : decode cX0_mixedCrossings 86 = .ok (.iload 5, 2) := dk_21 5 (dk_at dksX0_mixedCrossings_3 16 rfl rfl)
theorem dX0_mixedCrossings_88 : decode cX0_mixedCrossings 88 = .ok (.invokevirtual 193, 3) := dk_182 0 193 (dk_at dksX0_mixedCrossings_3 18 rfl rfl)
theorem dX0_mixedCrossings_91 : decode cX0_mixedCrossings 91 = .ok (.checkcast 106, 3) := dk_192 0 106 (dk_at dksX0_mixedCrossings_3 21 rfl rfl)
theorem dX0_mixedCrossings_94 : decode cX0_mixedCrossings 94 = .ok (.getfield 154, 3) := dk_180 0 154 (dk_at dksX0_mixedCrossings_4 0 rfl rfl)
theorem dX0_mixedCrossings_97 : decode cX0_mixedCrossings 97 = .ok (.aload_n 0, 1) := dk_42 (dk_at dksX0_mixedCrossings_4 3 rfl rfl)
theorem dX0_mixedCrossings_98 : decode cX0_mixedCrossings 98 = .ok (.getfield 34, 3) := dk_180 0 34 (dk_at dksX0_mixedCrossings_4 4 rfl rfl)
theorem dX0_mixedCrossings_101 : decode cX0_mixedCrossings 101 = .ok (.iload 6, 2) := dk_21 6 (dk_at dksX0_mixedCrossings_4 7 rfl rfl)
theorem dX0_mixedCrossings_103 : decode cX0_mixedCrossings 103 = .ok (.invokevirtual 193, 3) := dk_182 0 193 (dk_at dksX0_mixedCrossings_4 9 rfl rfl)
theorem dX0_mixedCrossings_106 : decode cX0_mixedCrossings 106 = .ok (.checkcast 106, 3) := dk_192 0 106 (dk_at dksX0_mixedCrossings_4 12 rfl rfl)
theorem dX0_mixedCrossings_109 : decode cX0_mixedCrossings 109 = .ok (.getfield 154, 3) := dk_180 0 154 (dk_at dksX0_mixedCrossings_4 15 rfl rfl)
theorem dX0_mixedCrossings_112 : decode cX0_mixedCrossings 112 = .ok (.invokestatic 241, 3) := dk_184 0 241 (dk_at dksX0_mixedCrossings_4 18 rfl rfl)
theorem dX0_mixedCrossings_115 : decode cX0_mixedCrossings 115 = .ok (.i2l, 1) := dk_133 (dk_at dksX0_mixedCrossings_4 21 rfl rfl)
theorem dX0_mixedCrossings_116 : decode cX0_mixedCrossings 116 = .ok (.invokestatic 394, 3) := dk_184 1 138 (dk_at dksX0_mixedCrossings_5 0 rfl rfl)
theorem dX0_mixedCrossings_119 : decode cX0_mixedCrossings 119 = .ok (.goto 4, 3) := dk_167 0 4 (dk_at dksX0_mixedCrossings_5 3 rfl rfl)
theorem dX0_mixedCrossings_122 : decode cX0_mixedCrossings 122 = .ok (.lload_n 3, 1) := dk_33 (dk_at dksX0_mixedCrossings_5 6 rfl rfl)
theorem dX0_mixedCrossings_123 : decode cX0_mixedCrossings 123 = .ok (.lstore_n 3, 1) := dk_66 (dk_at dksX0_mixedCrossings_5 7 rfl rfl)
theorem dX0_mixedCrossings_124 : decode cX0_mixedCrossings 124 = .ok (.iinc 6 1, 3) := dk_132 6 1 (dk_at dksX0_mixedCrossings_5 8 rfl rfl)
theorem dX0_mixedCrossings_127 : decode cX0_mixedCrossings 127 = .ok (.goto (-106), 3) := dk_167 255 150 (dk_at dksX0_mixedCrossings_5 11 rfl rfl)
theorem dX0_mixedCrossings_130 : decode cX0_mixedCrossings 130 = .ok (.iinc 5 1, 3) := dk_132 5 1 (dk_at dksX0_mixedCrossings_5 14 rfl rfl)
theorem dX0_mixedCrossings_133 : decode cX0_mixedCrossings 133 = .ok (.goto (-128), 3) := dk_167 255 128 (dk_at dksX0_mixedCrossings_5 17 rfl rfl)
theorem dX0_mixedCrossings_136 : decode cX0_mixedCrossings 136 = .ok (.lload_n 3, 1) := dk_33 (dk_at dksX0_mixedCrossings_5 20 rfl rfl)
theorem dX0_mixedCrossings_137 : decode cX0_mixedCrossings 137 = .ok (.lreturn, 1) := dk_173 (dk_at dksX0_mixedCrossings_5 21 rfl rfl)
abbrev cX0_mixedRiver : ByteArray := prog_1_method_63_code
def yX0_mixedRiver : MethodName := ⟨RX0, "mixedRiver", "(J)J"⟩
def dkwX0_mixedRiver_5 : List UInt8 := [33, 42, 21, 5, 17, 3, 229, 182, 1, 142, 133, 184, 1, 138, 66, 132, 5, 1, 167, 255, 187, 33, 173]
abbrev dktX0_mixedRiver_5 : List UInt8 := dkwX0_mixedRiver_5 ++ []
def dkwX0_mixedRiver_4 : List UInt8 := [21, 5, 182, 0, 193, 192, 1, 49, 21, 6, 182, 1, 80, 133, 184, 1, 138, 66, 132, 6, 1, 167, 255, 223]
abbrev dktX0_mixedRiver_4 : List UInt8 := dkwX0_mixedRiver_4 ++ dktX0_mixedRiver_5
def dkwX0_mixedRiver_3 : List UInt8 := [180, 0, 50, 182, 0, 94, 162, 0, 63, 3, 54, 6, 21, 6, 8, 162, 0, 33, 33, 42, 42, 180, 0, 50]
abbrev dktX0_mixedRiver_3 : List UInt8 := dkwX0_mixedRiver_3 ++ dktX0_mixedRiver_4
def dkwX0_mixedRiver_2 : List UInt8 := [184, 1, 138, 66, 132, 6, 1, 167, 255, 222, 132, 5, 1, 167, 255, 201, 3, 54, 5, 21, 5, 42]
abbrev dktX0_mixedRiver_2 : List UInt8 := dkwX0_mixedRiver_2 ++ dktX0_mixedRiver_3
def dkwX0_mixedRiver_1 : List UInt8 := [162, 0, 33, 33, 42, 42, 180, 0, 47, 21, 5, 182, 0, 193, 192, 0, 76, 21, 6, 182, 1, 69, 133]
abbrev dktX0_mixedRiver_1 : List UInt8 := dkwX0_mixedRiver_1 ++ dktX0_mixedRiver_2
def dkwX0_mixedRiver_0 : List UInt8 := [31, 66, 3, 54, 5, 21, 5, 42, 180, 0, 47, 182, 0, 94, 162, 0, 49, 3, 54, 6, 21, 6, 16, 8]
abbrev dktX0_mixedRiver_0 : List UInt8 := dkwX0_mixedRiver_0 ++ dktX0_mixedRiver_1
theorem dksX0_mixedRiver_0 : cX0_mixedRiver.data.toList.drop 0 = dktX0_mixedRiver_0 := by decide +kernel
theorem dksX0_mixedRiver_1 : cX0_mixedRiver.data.toList.drop 24 = dktX0_mixedRiver_1 := dk_seg dksX0_mixedRiver_0 24 rfl rfl
theorem dksX0_mixedRiver_2 : cX0_mixedRiver.data.toList.drop 47 = dktX0_mixedRiver_2 := dk_seg dksX0_mixedRiver_1 23 rfl rfl
theorem dksX0_mixedRiver_3 : cX0_mixedRiver.data.toList.drop 69 = dktX0_mixedRiver_3 := dk_seg dksX0_mixedRiver_2 22 rfl rfl
theorem dksX0_mixedRiver_4 : cX0_mixedRiver.data.toList.drop 93 = dktX0_mixedRiver_4 := dk_seg dksX0_mixedRiver_3 24 rfl rfl
theorem dksX0_mixedRiver_5 : cX0_mixedRiver.data.toList.drop 117 = dktX0_mixedRiver_5 := dk_seg dksX0_mixedRiver_4 24 rfl rfl
theorem dX0_mixedRiver_0 : decode cX0_mixedRiver 0 = .ok (.lload_n 1, 1) := dk_31 (dk_at dksX0_mixedRiver_0 0 rfl rfl)
theorem dX0_mixedRiver_1 : decode cX0_mixedRiver 1 = .ok (.lstore_n 3, 1) := dk_66 (dk_at dksX0_mixedRiver_0 1 rfl rfl)
theorem dX0_mixedRiver_2 : decode cX0_mixedRiver 2 = .ok (.iconst 0, 1) := dk_3 (dk_at dksX0_mixedRiver_0 2 rfl rfl)
theorem dX0_mixedRiver_3 : decode cX0_mixedRiver 3 = .ok (.istore 5, 2) := dk_54 5 (dk_at dksX0_mixedRiver_0 3 rfl rfl)
theorem dX0_mixedRiver_5 : decode cX0_mixedRiver 5 = .ok (.iload 5, 2) := dk_21 5 (dk_at dksX0_mixedRiver_0 5 rfl rfl)
theorem dX0_mixedRiver_7 : decode cX0_mixedRiver 7 = .ok (.aload_n 0, 1) := dk_42 (dk_at dksX0_mixedRiver_0 7 rfl rfl)
theorem dX0_mixedRiver_8 : decode cX0_mixedRiver 8 = .ok (.getfield 47, 3) := dk_180 0 47 (dk_at dksX0_mixedRiver_0 8 rfl rfl)
theorem dX0_mixedRiver_11 : decode cX0_mixedRiver 11 = .ok (.invokevirtual 94, 3) := dk_182 0 94 (dk_at dksX0_mixedRiver_0 11 rfl rfl)
theorem dX0_mixedRiver_14 : decode cX0_mixedRiver 14 = .ok (.if_icmp .ge 49, 3) := dk_162 0 49 (dk_at dksX0_mixedRiver_0 14 rfl rfl)
theorem dX0_mixedRiver_17 : decode cX0_mixedRiver 17 = .ok (.iconst 0, 1) := dk_3 (dk_at dksX0_mixedRiver_0 17 rfl rfl)
theorem dX0_mixedRiver_18 : decode cX0_mixedRiver 18 = .ok (.istore 6, 2) := dk_54 6 (dk_at dksX0_mixedRiver_0 18 rfl rfl)
theorem dX0_mixedRiver_20 : decode cX0_mixedRiver 20 = .ok (.iload 6, 2) := dk_21 6 (dk_at dksX0_mixedRiver_0 20 rfl rfl)
theorem dX0_mixedRiver_22 : decode cX0_mixedRiver 22 = .ok (.bipush 8, 2) := dk_16 8 (dk_at dksX0_mixedRiver_0 22 rfl rfl)
theorem dX0_mixedRiver_24 : decode cX0_mixedRiver 24 = .ok (.if_icmp .ge 33, 3) := dk_162 0 33 (dk_at dksX0_mixedRiver_1 0 rfl rfl)
theorem dX0_mixedRiver_27 : decode cX0_mixedRiver 27 = .ok (.lload_n 3, 1) := dk_33 (dk_at dksX0_mixedRiver_1 3 rfl rfl)
theorem dX0_mixedRiver_28 : decode cX0_mixedRiver 28 = .ok (.aload_n 0, 1) := dk_42 (dk_at dksX0_mixedRiver_1 4 rfl rfl)
theorem dX0_mixedRiver_29 : decode cX0_mixedRiver 29 = .ok (.aload_n 0, 1) := dk_42 (dk_at dksX0_mixedRiver_1 5 rfl rfl)
theorem dX0_mixedRiver_30 : decode cX0_mixedRiver 30 = .ok (.getfield 47, 3) := dk_180 0 47 (dk_at dksX0_mixedRiver_1 6 rfl rfl)
theorem dX0_mixedRiver_33 : decode cX0_mixedRiver 33 = .ok (.iload 5, 2) := dk_21 5 (dk_at dksX0_mixedRiver_1 9 rfl rfl)
theorem dX0_mixedRiver_35 : decode cX0_mixedRiver 35 = .ok (.invokevirtual 193, 3) := dk_182 0 193 (dk_at dksX0_mixedRiver_1 11 rfl rfl)
theorem dX0_mixedRiver_38 : decode cX0_mixedRiver 38 = .ok (.checkcast 76, 3) := dk_192 0 76 (dk_at dksX0_mixedRiver_1 14 rfl rfl)
theorem dX0_mixedRiver_41 : decode cX0_mixedRiver 41 = .ok (.iload 6, 2) := dk_21 6 (dk_at dksX0_mixedRiver_1 17 rfl rfl)
theorem dX0_mixedRiver_43 : decode cX0_mixedRiver 43 = .ok (.invokevirtual 325, 3) := dk_182 1 69 (dk_at dksX0_mixedRiver_1 19 rfl rfl)
theorem dX0_mixedRiver_46 : decode cX0_mixedRiver 46 = .ok (.i2l, 1) := dk_133 (dk_at dksX0_mixedRiver_1 22 rfl rfl)
theorem dX0_mixedRiver_47 : decode cX0_mixedRiver 47 = .ok (.invokestatic 394, 3) := dk_184 1 138 (dk_at dksX0_mixedRiver_2 0 rfl rfl)
theorem dX0_mixedRiver_50 : decode cX0_mixedRiver 50 = .ok (.lstore_n 3, 1) := dk_66 (dk_at dksX0_mixedRiver_2 3 rfl rfl)
theorem dX0_mixedRiver_51 : decode cX0_mixedRiver 51 = .ok (.iinc 6 1, 3) := dk_132 6 1 (dk_at dksX0_mixedRiver_2 4 rfl rfl)
theorem dX0_mixedRiver_54 : decode cX0_mixedRiver 54 = .ok (.goto (-34), 3) := dk_167 255 222 (dk_at dksX0_mixedRiver_2 7 rfl rfl)
theorem dX0_mixedRiver_57 : decode cX0_mixedRiver 57 = .ok (.iinc 5 1, 3) := dk_132 5 1 (dk_at dksX0_mixedRiver_2 10 rfl rfl)
theorem dX0_mixedRiver_60 : decode cX0_mixedRiver 60 = .ok (.goto (-55), 3) := dk_167 255 201 (dk_at dksX0_mixedRiver_2 13 rfl rfl)
theorem dX0_mixedRiver_63 : decode cX0_mixedRiver 63 = .ok (.iconst 0, 1) := dk_3 (dk_at dksX0_mixedRiver_2 16 rfl rfl)
theorem dX0_mixedRiver_64 : decode cX0_mixedRiver 64 = .ok (.istore 5, 2) := dk_54 5 (dk_at dksX0_mixedRiver_2 17 rfl rfl)
theorem dX0_mixedRiver_66 : decode cX0_mixedRiver 66 = .ok (.iload 5, 2) := dk_21 5 (dk_at dksX0_mixedRiver_2 19 rfl rfl)
theorem dX0_mixedRiver_68 : decode cX0_mixedRiver 68 = .ok (.aload_n 0, 1) := dk_42 (dk_at dksX0_mixedRiver_2 21 rfl rfl)
theorem dX0_mixedRiver_69 : decode cX0_mixedRiver 69 = .ok (.getfield 50, 3) := dk_180 0 50 (dk_at dksX0_mixedRiver_3 0 rfl rfl)
theorem dX0_mixedRiver_72 : decode cX0_mixedRiver 72 = .ok (.invokevirtual 94, 3) := dk_182 0 94 (dk_at dksX0_mixedRiver_3 3 rfl rfl)
theorem dX0_mixedRiver_75 : decode cX0_mixedRiver 75 = .ok (.if_icmp .ge 63, 3) := dk_162 0 63 (dk_at dksX0_mixedRiver_3 6 rfl rfl)
theorem dX0_mixedRiver_78 : decode cX0_mixedRiver 78 = .ok (.iconst 0, 1) := dk_3 (dk_at dksX0_mixedRiver_3 9 rfl rfl)
theorem dX0_mixedRiver_79 : decode cX0_mixedRiver 79 = .ok (.istore 6, 2) := dk_54 6 (dk_at dksX0_mixedRiver_3 10 rfl rfl)
theorem dX0_mixedRiver_81 : decode cX0_mixedRiver 81 = .ok (.iload 6, 2) := dk_21 6 (dk_at dksX0_mixedRiver_3 12 rfl rfl)
theorem dX0_mixedRiver_83 : decode cX0_mixedRiver 83 = .ok (.iconst 5, 1) := dk_8 (dk_at dksX0_mixedRiver_3 14 rfl rfl)
theorem dX0_mixedRiver_84 : decode cX0_mixedRiver 84 = .ok (.if_icmp .ge 33, 3) := dk_162 0 33 (dk_at dksX0_mixedRiver_3 15 rfl rfl)
theorem dX0_mixedRiver_87 : decode cX0_mixedRiver 87 = .ok (.lload_n 3, 1) := dk_33 (dk_at dksX0_mixedRiver_3 18 rfl rfl)
theorem dX0_mixedRiver_88 : decode cX0_mixedRiver 88 = .ok (.aload_n 0, 1) := dk_42 (dk_at dksX0_mixedRiver_3 19 rfl rfl)
theorem dX0_mixedRiver_89 : decode cX0_mixedRiver 89 = .ok (.aload_n 0, 1) := dk_42 (dk_at dksX0_mixedRiver_3 20 rfl rfl)
theorem dX0_mixedRiver_90 : decode cX0_mixedRiver 90 = .ok (.getfield 50, 3) := dk_180 0 50 (dk_at dksX0_mixedRiver_3 21 rfl rfl)
theorem dX0_mixedRiver_93 : decode cX0_mixedRiver 93 = .ok (.iload 5, 2) := dk_21 5 (dk_at dksX0_mixedRiver_4 0 rfl rfl)
theorem dX0_mixedRiver_95 : decode cX0_mixedRiver 95 = .ok (.invokevirtual 193, 3) := dk_182 0 193 (dk_at dksX0_mixedRiver_4 2 rfl rfl)
theorem dX0_mixedRiver_98 : decode cX0_mixedRiver 98 = .ok (.checkcast 305, 3) := dk_192 1 49 (dk_at dksX0_mixedRiver_4 5 rfl rfl)
theorem dX0_mixedRiver_101 : decode cX0_mixedRiver 101 = .ok (.iload 6, 2) := dk_21 6 (dk_at dksX0_mixedRiver_4 8 rfl rfl)
theorem dX0_mixedRiver_103 : decode cX0_mixedRiver 103 = .ok (.invokevirtual 336, 3) := dk_182 1 80 (dk_at dksX0_mixedRiver_4 10 rfl rfl)
theorem dX0_mixedRiver_106 : decode cX0_mixedRiver 106 = .ok (.i2l, 1) := dk_133 (dk_at dksX0_mixedRiver_4 13 rfl rfl)
theorem dX0_mixedRiver_107 : decode cX0_mixedRiver 107 = .ok (.invokestatic 394, 3) := dk_184 1 138 (dk_at dksX0_mixedRiver_4 14 rfl rfl)
theorem dX0_mixedRiver_110 : decode cX0_mixedRiver 110 = .ok (.lstore_n 3, 1) := dk_66 (dk_at dksX0_mixedRiver_4 17 rfl rfl)
theorem dX0_mixedRiver_111 : decode cX0_mixedRiver 111 = .ok (.iinc 6 1, 3) := dk_132 6 1 (dk_at dksX0_mixedRiver_4 18 rfl rfl)
theorem dX0_mixedRiver_114 : decode cX0_mixedRiver 114 = .ok (.goto (-33), 3) := dk_167 255 223 (dk_at dksX0_mixedRiver_4 21 rfl rfl)
theorem dX0_mixedRiver_117 : decode cX0_mixedRiver 117 = .ok (.lload_n 3, 1) := dk_33 (dk_at dksX0_mixedRiver_5 0 rfl rfl)
theorem dX0_mixedRiver_118 : decode cX0_mixedRiver 118 = .ok (.aload_n 0, 1) := dk_42 (dk_at dksX0_mixedRiver_5 1 rfl rfl)
theorem dX0_mixedRiver_119 : decode cX0_mixedRiver 119 = .ok (.iload 5, 2) := dk_21 5 (dk_at dksX0_mixedRiver_5 2 rfl rfl)
theorem dX0_mixedRiver_121 : decode cX0_mixedRiver 121 = .ok (.sipush 997, 3) := dk_17 3 229 (dk_at dksX0_mixedRiver_5 4 rfl rfl)
theorem dX0_mixedRiver_124 : decode cX0_mixedRiver 124 = .ok (.invokevirtual 398, 3) := dk_182 1 142 (dk_at dksX0_mixedRiver_5 7 rfl rfl)
theorem dX0_mixedRiver_127 : decode cX0_mixedRiver 127 = .ok (.i2l, 1) := dk_133 (dk_at dksX0_mixedRiver_5 10 rfl rfl)
theorem dX0_mixedRiver_128 : decode cX0_mixedRiver 128 = .ok (.invokestatic 394, 3) := dk_184 1 138 (dk_at dksX0_mixedRiver_5 11 rfl rfl)
theorem dX0_mixedRiver_131 : decode cX0_mixedRiver 131 = .ok (.lstore_n 3, 1) := dk_66 (dk_at dksX0_mixedRiver_5 14 rfl rfl)
theorem dX0_mixedRiver_132 : decode cX0_mixedRiver 132 = .ok (.iinc 5 1, 3) := dk_132 5 1 (dk_at dksX0_mixedRiver_5 15 rfl rfl)
theorem dX0_mixedRiver_135 : decode cX0_mixedRiver 135 = .ok (.goto (-69), 3) := dk_167 255 187 (dk_at dksX0_mixedRiver_5 18 rfl rfl)
theorem dX0_mixedRiver_138 : decode cX0_mixedRiver 138 = .ok (.lload_n 3, 1) := dk_33 (dk_at dksX0_mixedRiver_5 21 rfl rfl)
theorem dX0_mixedRiver_139 : decode cX0_mixedRiver 139 = .ok (.lreturn, 1) := dk_173 (dk_at dksX0_mixedRiver_5 22 rfl rfl)
theorem q81 : (Jvm.Cond.initialized "RiverWords") ∈ lw_all := lw_g (lw_at lw_m1 1 rfl) rfl
theorem q104 : (Jvm.Cond.instantiable "RiverWords" (10 : Nat)) ∈ lw_all := lw_g (lw_at lw_m1 24 rfl) rfl
theorem q106 : (Jvm.Cond.instanceMethod ({ cls := "RiverWords", name := "<init>", desc := "()V" } : Jvm.MethodName)) ∈ lw_all := lw_g (lw_at lw_m1 26 rfl) rfl
theorem q107 : (Jvm.Cond.code ({ cls := "RiverWords", name := "<init>", desc := "()V" } : Jvm.MethodName) prog_1_method_1_code (1 : Nat) (Option.none : Option Jvm.ClassFile.FieldType)) ∈ lw_all := lw_g (lw_at lw_m1 27 rfl) rfl
theorem q108 : (Jvm.Cond.methodLink "RiverWords" (1 : Nat) ({ cls := "java/lang/Object", name := "<init>", desc := "()V" } : Jvm.MethodName)) ∈ lw_all := lw_g (lw_at lw_m1 28 rfl) rfl
theorem q111 : (Jvm.Cond.stringRef "RiverWords" (7 : Nat) "") ∈ lw_tbl := lw_at lw_m1 31 rfl
theorem q112 : (Jvm.Cond.methodLink "RiverWords" (9 : Nat) ({ cls := "RiverWords$Table", name := "of", desc := "(Ljava/lang/String;)LRiverWords$Table;" } : Jvm.MethodName)) ∈ lw_all := lw_g (lw_at lw_m1 32 rfl) rfl
theorem q199 : (Jvm.Cond.fieldLinkNest "RiverWords" (85 : Nat) "RiverWords$Table" "a" "I" "RiverWords") ∈ lw_tbl := lw_at lw_m1 119 rfl
theorem q201 : (Jvm.Cond.fieldLinkNest "RiverWords" (88 : Nat) "RiverWords$Table" "b" "I" "RiverWords") ∈ lw_tbl := lw_at lw_m1 121 rfl
theorem q203 : (Jvm.Cond.fieldLinkNest "RiverWords" (78 : Nat) "RiverWords$Table" "c" "I" "RiverWords") ∈ lw_tbl := lw_at lw_m1 123 rfl
theorem q205 : (Jvm.Cond.fieldLinkNest "RiverWords" (82 : Nat) "RiverWords$Table" "d" "I" "RiverWords") ∈ lw_tbl := lw_at lw_m1 125 rfl
theorem q216 : (Jvm.Cond.stringRef "RiverWords" (21 : Nat) "L") ∈ lw_tbl := lw_at lw_m1 136 rfl
theorem q217 : (Jvm.Cond.stringRef "RiverWords" (26 : Nat) "R") ∈ lw_tbl := lw_at lw_m1 137 rfl
theorem q218 : (Jvm.Cond.classLink "RiverWords" (31 : Nat) "java/util/ArrayList") ∈ lw_all := lw_g (lw_at lw_m1 138 rfl) rfl
theorem q220 : (Jvm.Cond.methodLink "RiverWords" (33 : Nat) ({ cls := "java/util/ArrayList", name := "<init>", desc := "()V" } : Jvm.MethodName)) ∈ lw_all := lw_g (lw_at lw_m1 140 rfl) rfl
theorem q244 : (Jvm.Cond.classLink "RiverWords" (38 : Nat) "java/lang/StringBuilder") ∈ lw_all := lw_g (lw_at lw_m1 164 rfl) rfl
theorem q246 : (Jvm.Cond.methodLink "RiverWords" (40 : Nat) ({ cls := "java/lang/StringBuilder", name := "<init>", desc := "(I)V" } : Jvm.MethodName)) ∈ lw_all := lw_g (lw_at lw_m1 166 rfl) rfl
theorem q275 : (Jvm.Cond.fieldLink "RiverWords" (15 : Nat) "RiverWords" "none" "LRiverWords$Table;") ∈ lw_all := lw_g (lw_at lw_m1 195 rfl) rfl
theorem q276 : (Jvm.Cond.fieldLink "RiverWords" (23 : Nat) "RiverWords" "left" "LRiverWords$Table;") ∈ lw_all := lw_g (lw_at lw_m1 196 rfl) rfl
theorem q277 : (Jvm.Cond.fieldLink "RiverWords" (28 : Nat) "RiverWords" "right" "LRiverWords$Table;") ∈ lw_all := lw_g (lw_at lw_m1 197 rfl) rfl
theorem q278 : (Jvm.Cond.fieldLink "RiverWords" (34 : Nat) "RiverWords" "roads" "Ljava/util/ArrayList;") ∈ lw_all := lw_g (lw_at lw_m1 198 rfl) rfl
theorem q279 : (Jvm.Cond.fieldLink "RiverWords" (143 : Nat) "RiverWords" "read" "I") ∈ lw_all := lw_g (lw_at lw_m1 199 rfl) rfl
theorem q280 : (Jvm.Cond.fieldLink "RiverWords" (43 : Nat) "RiverWords" "page" "Ljava/lang/StringBuilder;") ∈ lw_all := lw_g (lw_at lw_m1 200 rfl) rfl
theorem q281 : (Jvm.Cond.fieldLink "RiverWords" (284 : Nat) "RiverWords" "river" "I") ∈ lw_all := lw_g (lw_at lw_m1 201 rfl) rfl
theorem q283 : (Jvm.Cond.fieldLink "RiverWords" (47 : Nat) "RiverWords" "forms" "Ljava/util/ArrayList;") ∈ lw_all := lw_g (lw_at lw_m1 203 rfl) rfl
theorem q284 : (Jvm.Cond.fieldLink "RiverWords" (50 : Nat) "RiverWords" "cycles" "Ljava/util/ArrayList;") ∈ lw_all := lw_g (lw_at lw_m1 204 rfl) rfl
theorem q285 : (Jvm.Cond.fieldLink "RiverWords" (365 : Nat) "RiverWords" "drawn" "J") ∈ lw_all := lw_g (lw_at lw_m1 205 rfl) rfl
theorem q286 : (Jvm.Cond.laysFinal "RiverWords" "RiverWords" "none" "LRiverWords$Table;") ∈ lw_all := lw_g (lw_at lw_m1 206 rfl) rfl
theorem q287 : (Jvm.Cond.soleField "RiverWords" "none") ∈ lw_all := lw_g (lw_at lw_m1 207 rfl) rfl
theorem q288 : (Jvm.Cond.laysFinal "RiverWords" "RiverWords" "left" "LRiverWords$Table;") ∈ lw_all := lw_g (lw_at lw_m1 208 rfl) rfl
theorem q289 : (Jvm.Cond.soleField "RiverWords" "left") ∈ lw_all := lw_g (lw_at lw_m1 209 rfl) rfl
theorem q290 : (Jvm.Cond.laysFinal "RiverWords" "RiverWords" "right" "LRiverWords$Table;") ∈ lw_all := lw_g (lw_at lw_m1 210 rfl) rfl
theorem q291 : (Jvm.Cond.soleField "RiverWords" "right") ∈ lw_all := lw_g (lw_at lw_m1 211 rfl) rfl
theorem q292 : (Jvm.Cond.laysFinal "RiverWords" "RiverWords" "roads" "Ljava/util/ArrayList;") ∈ lw_all := lw_g (lw_at lw_m1 212 rfl) rfl
theorem q293 : (Jvm.Cond.soleField "RiverWords" "roads") ∈ lw_all := lw_g (lw_at lw_m1 213 rfl) rfl
theorem q294 : (Jvm.Cond.lays "RiverWords" "RiverWords" "read" "I") ∈ lw_all := lw_g (lw_at lw_m1 214 rfl) rfl
theorem q295 : (Jvm.Cond.soleField "RiverWords" "read") ∈ lw_all := lw_g (lw_at lw_m1 215 rfl) rfl
theorem q296 : (Jvm.Cond.laysFinal "RiverWords" "RiverWords" "page" "Ljava/lang/StringBuilder;") ∈ lw_all := lw_g (lw_at lw_m1 216 rfl) rfl
theorem q297 : (Jvm.Cond.soleField "RiverWords" "page") ∈ lw_all := lw_g (lw_at lw_m1 217 rfl) rfl
theorem q298 : (Jvm.Cond.lays "RiverWords" "RiverWords" "river" "I") ∈ lw_all := lw_g (lw_at lw_m1 218 rfl) rfl
theorem q299 : (Jvm.Cond.soleField "RiverWords" "river") ∈ lw_all := lw_g (lw_at lw_m1 219 rfl) rfl
theorem q300 : (Jvm.Cond.laysFinal "RiverWords" "RiverWords" "forms" "Ljava/util/ArrayList;") ∈ lw_all := lw_g (lw_at lw_m1 220 rfl) rfl
theorem q301 : (Jvm.Cond.soleField "RiverWords" "forms") ∈ lw_all := lw_g (lw_at lw_m1 221 rfl) rfl
theorem q302 : (Jvm.Cond.laysFinal "RiverWords" "RiverWords" "cycles" "Ljava/util/ArrayList;") ∈ lw_all := lw_g (lw_at lw_m1 222 rfl) rfl
theorem q303 : (Jvm.Cond.soleField "RiverWords" "cycles") ∈ lw_all := lw_g (lw_at lw_m1 223 rfl) rfl
theorem q304 : (Jvm.Cond.lays "RiverWords" "RiverWords" "drawn" "J") ∈ lw_all := lw_g (lw_at lw_m1 224 rfl) rfl
theorem q305 : (Jvm.Cond.soleField "RiverWords" "drawn") ∈ lw_all := lw_g (lw_at lw_m1 225 rfl) rfl
theorem q306 : (Jvm.Cond.superclass "RiverWords" "java/lang/Object") ∈ lw_all := lw_g (lw_at lw_m1 226 rfl) rfl
theorem q308 : (Jvm.Cond.instanceMethod ({ cls := "RiverWords", name := "letter", desc := "(I)I" } : Jvm.MethodName)) ∈ lw_all := lw_g (lw_at lw_m1 228 rfl) rfl
theorem q309 : (Jvm.Cond.selects "RiverWords" ({ cls := "RiverWords", name := "letter", desc := "(I)I" } : Jvm.MethodName) ({ cls := "RiverWords", name := "letter", desc := "(I)I" } : Jvm.MethodName)) ∈ lw_all := lw_g (lw_at lw_m1 229 rfl) rfl
theorem q310 : (Jvm.Cond.code ({ cls := "RiverWords", name := "letter", desc := "(I)I" } : Jvm.MethodName) prog_1_method_9_code (2 : Nat) (Option.some Jvm.ClassFile.FieldType.int)) ∈ lw_all := lw_g (lw_at lw_m1 230 rfl) rfl
theorem q311 : (Jvm.Cond.methodLink "RiverWords" (97 : Nat) ({ cls := "RiverWords", name := "in", desc := "(III)Z" } : Jvm.MethodName)) ∈ lw_all := lw_g (lw_at lw_m1 231 rfl) rfl
theorem q312 : (Jvm.Cond.static ({ cls := "RiverWords", name := "in", desc := "(III)Z" } : Jvm.MethodName)) ∈ lw_all := lw_g (lw_at lw_m1 232 rfl) rfl
theorem q313 : (Jvm.Cond.code ({ cls := "RiverWords", name := "in", desc := "(III)Z" } : Jvm.MethodName) prog_1_method_2_code (3 : Nat) (Option.some Jvm.ClassFile.FieldType.boolean)) ∈ lw_all := lw_g (lw_at lw_m1 233 rfl) rfl
theorem q314 : (Jvm.Cond.constant "RiverWords" (115 : Nat) (-2000000102 : Int32)) ∈ lw_all := lw_g (lw_at lw_m1 234 rfl) rfl
theorem q315 : (Jvm.Cond.methodLink "RiverWords" (116 : Nat) ({ cls := "java/lang/StringBuilder", name := "length", desc := "()I" } : Jvm.MethodName)) ∈ lw_all := lw_g (lw_at lw_m1 235 rfl) rfl
theorem q322 : (Jvm.Cond.constant "RiverWords" (105 : Nat) (-2000000104 : Int32)) ∈ lw_all := lw_g (lw_at lw_m2 2 rfl) rfl
theorem q323 : (Jvm.Cond.methodLink "RiverWords" (117 : Nat) ({ cls := "java/lang/StringBuilder", name := "append", desc := "(C)Ljava/lang/StringBuilder;" } : Jvm.MethodName)) ∈ lw_all := lw_g (lw_at lw_m2 3 rfl) rfl
theorem q410 : (Jvm.Cond.instanceMethod ({ cls := "RiverWords", name := "blank", desc := "()I" } : Jvm.MethodName)) ∈ lw_all := lw_g (lw_at lw_m2 90 rfl) rfl
theorem q411 : (Jvm.Cond.selects "RiverWords" ({ cls := "RiverWords", name := "blank", desc := "()I" } : Jvm.MethodName) ({ cls := "RiverWords", name := "blank", desc := "()I" } : Jvm.MethodName)) ∈ lw_all := lw_g (lw_at lw_m2 91 rfl) rfl
theorem q412 : (Jvm.Cond.code ({ cls := "RiverWords", name := "blank", desc := "()I" } : Jvm.MethodName) prog_1_method_10_code (2 : Nat) (Option.some Jvm.ClassFile.FieldType.int)) ∈ lw_all := lw_g (lw_at lw_m2 92 rfl) rfl
theorem q413 : (Jvm.Cond.methodLink "RiverWords" (121 : Nat) ({ cls := "java/lang/StringBuilder", name := "setLength", desc := "(I)V" } : Jvm.MethodName)) ∈ lw_all := lw_g (lw_at lw_m2 93 rfl) rfl
theorem q434 : (Jvm.Cond.instanceMethod ({ cls := "RiverWords", name := "fault", desc := "()I" } : Jvm.MethodName)) ∈ lw_all := lw_g (lw_at lw_m2 114 rfl) rfl
theorem q435 : (Jvm.Cond.selects "RiverWords" ({ cls := "RiverWords", name := "fault", desc := "()I" } : Jvm.MethodName) ({ cls := "RiverWords", name := "fault", desc := "()I" } : Jvm.MethodName)) ∈ lw_all := lw_g (lw_at lw_m2 115 rfl) rfl
theorem q436 : (Jvm.Cond.code ({ cls := "RiverWords", name := "fault", desc := "()I" } : Jvm.MethodName) prog_1_method_11_code (1 : Nat) (Option.some Jvm.ClassFile.FieldType.int)) ∈ lw_all := lw_g (lw_at lw_m2 116 rfl) rfl
theorem q437 : (Jvm.Cond.classLink "RiverWords" (124 : Nat) "RiverWords$Reader") ∈ lw_all := lw_g (lw_at lw_m2 117 rfl) rfl
theorem q439 : (Jvm.Cond.methodLink "RiverWords" (126 : Nat) ({ cls := "RiverWords$Reader", name := "<init>", desc := "(Ljava/lang/CharSequence;)V" } : Jvm.MethodName)) ∈ lw_all := lw_g (lw_at lw_m2 119 rfl) rfl
theorem q510 : (Jvm.Cond.fieldLinkNest "RiverWords" (132 : Nat) "RiverWords$Reader" "word" "Ljava/lang/StringBuilder;" "RiverWords") ∈ lw_tbl := lw_at lw_m2 190 rfl
theorem q512 : (Jvm.Cond.fieldLinkNest "RiverWords" (129 : Nat) "RiverWords$Reader" "place" "I" "RiverWords") ∈ lw_tbl := lw_at lw_m2 192 rfl
theorem q519 : (Jvm.Cond.instanceMethod ({ cls := "RiverWords", name := "word", desc := "()I" } : Jvm.MethodName)) ∈ lw_all := lw_g (lw_at lw_m2 199 rfl) rfl
theorem q520 : (Jvm.Cond.selects "RiverWords" ({ cls := "RiverWords", name := "word", desc := "()I" } : Jvm.MethodName) ({ cls := "RiverWords", name := "word", desc := "()I" } : Jvm.MethodName)) ∈ lw_all := lw_g (lw_at lw_m2 200 rfl) rfl
theorem q521 : (Jvm.Cond.code ({ cls := "RiverWords", name := "word", desc := "()I" } : Jvm.MethodName) prog_1_method_12_code (3 : Nat) (Option.some Jvm.ClassFile.FieldType.int)) ∈ lw_all := lw_g (lw_at lw_m2 201 rfl) rfl
theorem q522 : (Jvm.Cond.constant "RiverWords" (104 : Nat) (-2000000103 : Int32)) ∈ lw_all := lw_g (lw_at lw_m2 202 rfl) rfl
theorem q523 : (Jvm.Cond.methodLink "RiverWords" (135 : Nat) ({ cls := "java/lang/StringBuilder", name := "toString", desc := "()Ljava/lang/String;" } : Jvm.MethodName)) ∈ lw_all := lw_g (lw_at lw_m2 203 rfl) rfl
theorem q575 : (Jvm.Cond.methodLink "RiverWords" (139 : Nat) ({ cls := "RiverWords", name := "comes", desc := "(Ljava/lang/String;)I" } : Jvm.MethodName)) ∈ lw_all := lw_g (lw_at lw_m3 15 rfl) rfl
theorem q576 : (Jvm.Cond.privateMethod ({ cls := "RiverWords", name := "comes", desc := "(Ljava/lang/String;)I" } : Jvm.MethodName)) ∈ lw_tbl := lw_at lw_m3 16 rfl
theorem q577 : (Jvm.Cond.instanceMethod ({ cls := "RiverWords", name := "comes", desc := "(Ljava/lang/String;)I" } : Jvm.MethodName)) ∈ lw_all := lw_g (lw_at lw_m3 17 rfl) rfl
theorem q578 : (Jvm.Cond.code ({ cls := "RiverWords", name := "comes", desc := "(Ljava/lang/String;)I" } : Jvm.MethodName) prog_1_method_8_code (2 : Nat) (Option.some Jvm.ClassFile.FieldType.int)) ∈ lw_all := lw_g (lw_at lw_m3 18 rfl) rfl
theorem q579 : (Jvm.Cond.methodLink "RiverWords" (101 : Nat) ({ cls := "java/lang/String", name := "length", desc := "()I" } : Jvm.MethodName)) ∈ lw_all := lw_g (lw_at lw_m3 19 rfl) rfl
theorem q580 : (Jvm.Cond.methodLink "RiverWords" (94 : Nat) ({ cls := "java/util/ArrayList", name := "size", desc := "()I" } : Jvm.MethodName)) ∈ lw_all := lw_g (lw_at lw_m3 20 rfl) rfl
theorem q584 : (Jvm.Cond.classLink "RiverWords" (106 : Nat) "RiverWords$Road") ∈ lw_all := lw_g (lw_at lw_m3 24 rfl) rfl
theorem q586 : (Jvm.Cond.methodLink "RiverWords" (108 : Nat) ({ cls := "RiverWords$Road", name := "<init>", desc := "(LRiverWords;Ljava/lang/String;)V" } : Jvm.MethodName)) ∈ lw_all := lw_g (lw_at lw_m3 26 rfl) rfl
theorem q595 : (Jvm.Cond.privateMethod ({ cls := "RiverWords", name := "tableOf", desc := "(Ljava/lang/CharSequence;)LRiverWords$Table;" } : Jvm.MethodName)) ∈ lw_tbl := lw_at lw_m3 35 rfl
theorem q596 : (Jvm.Cond.instanceMethod ({ cls := "RiverWords", name := "tableOf", desc := "(Ljava/lang/CharSequence;)LRiverWords$Table;" } : Jvm.MethodName)) ∈ lw_all := lw_g (lw_at lw_m3 36 rfl) rfl
theorem q597 : (Jvm.Cond.code ({ cls := "RiverWords", name := "tableOf", desc := "(Ljava/lang/CharSequence;)LRiverWords$Table;" } : Jvm.MethodName) prog_1_method_4_code (4 : Nat) (Option.some (Jvm.ClassFile.FieldType.object "RiverWords$Table"))) ∈ lw_all := lw_g (lw_at lw_m3 37 rfl) rfl
theorem q598 : (Jvm.Cond.interfaceEntry "RiverWords" (59 : Nat)) ∈ lw_tbl := lw_at lw_m3 38 rfl
theorem q599 : (Jvm.Cond.methodLink "RiverWords" (59 : Nat) ({ cls := "java/lang/CharSequence", name := "length", desc := "()I" } : Jvm.MethodName)) ∈ lw_all := lw_g (lw_at lw_m3 39 rfl) rfl
theorem q600 : (Jvm.Cond.interfaceEntry "RiverWords" (65 : Nat)) ∈ lw_tbl := lw_at lw_m3 40 rfl
theorem q601 : (Jvm.Cond.methodLink "RiverWords" (65 : Nat) ({ cls := "java/lang/CharSequence", name := "charAt", desc := "(I)C" } : Jvm.MethodName)) ∈ lw_all := lw_g (lw_at lw_m3 41 rfl) rfl
theorem q602 : (Jvm.Cond.methodLink "RiverWords" (69 : Nat) ({ cls := "RiverWords$Table", name := "times", desc := "(LRiverWords$Table;)LRiverWords$Table;" } : Jvm.MethodName)) ∈ lw_all := lw_g (lw_at lw_m3 42 rfl) rfl
theorem q607 : (Jvm.Cond.fieldLinkNest "RiverWords" (154 : Nat) "RiverWords$Road" "word" "Ljava/lang/String;" "RiverWords") ∈ lw_tbl := lw_at lw_m3 47 rfl
theorem q609 : (Jvm.Cond.fieldLinkNest "RiverWords" (163 : Nat) "RiverWords$Road" "table" "LRiverWords$Table;" "RiverWords") ∈ lw_tbl := lw_at lw_m3 49 rfl
theorem q618 : (Jvm.Cond.methodLink "RiverWords" (111 : Nat) ({ cls := "java/util/ArrayList", name := "add", desc := "(Ljava/lang/Object;)Z" } : Jvm.MethodName)) ∈ lw_all := lw_g (lw_at lw_m3 58 rfl) rfl
theorem q641 : (Jvm.Cond.selects "RiverWords" ({ cls := "java/lang/Object", name := "getClass", desc := "()Ljava/lang/Class;" } : Jvm.MethodName) ({ cls := "java/lang/Object", name := "getClass", desc := "()Ljava/lang/Class;" } : Jvm.MethodName)) ∈ lw_all := lw_g (lw_at lw_m3 81 rfl) rfl
theorem q662 : (Jvm.Cond.instanceMethod ({ cls := "RiverWords", name := "road", desc := "(II)I" } : Jvm.MethodName)) ∈ lw_all := lw_g (lw_at lw_m3 102 rfl) rfl
theorem q663 : (Jvm.Cond.selects "RiverWords" ({ cls := "RiverWords", name := "road", desc := "(II)I" } : Jvm.MethodName) ({ cls := "RiverWords", name := "road", desc := "(II)I" } : Jvm.MethodName)) ∈ lw_all := lw_g (lw_at lw_m3 103 rfl) rfl
theorem q664 : (Jvm.Cond.code ({ cls := "RiverWords", name := "road", desc := "(II)I" } : Jvm.MethodName) prog_1_method_15_code (3 : Nat) (Option.some Jvm.ClassFile.FieldType.int)) ∈ lw_all := lw_g (lw_at lw_m3 104 rfl) rfl
theorem q665 : (Jvm.Cond.methodLink "RiverWords" (188 : Nat) ({ cls := "RiverWords", name := "isRoad", desc := "(I)Z" } : Jvm.MethodName)) ∈ lw_all := lw_g (lw_at lw_m3 105 rfl) rfl
theorem q666 : (Jvm.Cond.privateMethod ({ cls := "RiverWords", name := "isRoad", desc := "(I)Z" } : Jvm.MethodName)) ∈ lw_tbl := lw_at lw_m3 106 rfl
theorem q667 : (Jvm.Cond.instanceMethod ({ cls := "RiverWords", name := "isRoad", desc := "(I)Z" } : Jvm.MethodName)) ∈ lw_all := lw_g (lw_at lw_m3 107 rfl) rfl
theorem q668 : (Jvm.Cond.code ({ cls := "RiverWords", name := "isRoad", desc := "(I)Z" } : Jvm.MethodName) prog_1_method_7_code (2 : Nat) (Option.some Jvm.ClassFile.FieldType.boolean)) ∈ lw_all := lw_g (lw_at lw_m3 108 rfl) rfl
theorem q669 : (Jvm.Cond.constant "RiverWords" (192 : Nat) (-2000000101 : Int32)) ∈ lw_all := lw_g (lw_at lw_m3 109 rfl) rfl
theorem q670 : (Jvm.Cond.methodLink "RiverWords" (193 : Nat) ({ cls := "java/util/ArrayList", name := "get", desc := "(I)Ljava/lang/Object;" } : Jvm.MethodName)) ∈ lw_all := lw_g (lw_at lw_m3 110 rfl) rfl
theorem q682 : (Jvm.Cond.methodLink "RiverWords" (197 : Nat) ({ cls := "RiverWords", name := "roadTold", desc := "(LRiverWords$Road;I)I" } : Jvm.MethodName)) ∈ lw_all := lw_g (lw_at lw_m3 122 rfl) rfl
theorem q683 : (Jvm.Cond.privateMethod ({ cls := "RiverWords", name := "roadTold", desc := "(LRiverWords$Road;I)I" } : Jvm.MethodName)) ∈ lw_tbl := lw_at lw_m3 123 rfl
theorem q684 : (Jvm.Cond.instanceMethod ({ cls := "RiverWords", name := "roadTold", desc := "(LRiverWords$Road;I)I" } : Jvm.MethodName)) ∈ lw_all := lw_g (lw_at lw_m3 124 rfl) rfl
theorem q685 : (Jvm.Cond.code ({ cls := "RiverWords", name := "roadTold", desc := "(LRiverWords$Road;I)I" } : Jvm.MethodName) prog_1_method_14_code (3 : Nat) (Option.some Jvm.ClassFile.FieldType.int)) ∈ lw_all := lw_g (lw_at lw_m3 125 rfl) rfl
theorem q729 : (Jvm.Cond.methodLink "RiverWords" (151 : Nat) ({ cls := "RiverWords$Road", name := "period", desc := "()I" } : Jvm.MethodName)) ∈ lw_all := lw_g (lw_at lw_m3 169 rfl) rfl
theorem q737 : (Jvm.Cond.methodLink "RiverWords" (157 : Nat) ({ cls := "RiverWords$Worded", name := "least", desc := "(Ljava/lang/CharSequence;)I" } : Jvm.MethodName)) ∈ lw_all := lw_g (lw_at lw_m3 177 rfl) rfl
theorem q741 : (Jvm.Cond.methodLink "RiverWords" (166 : Nat) ({ cls := "RiverWords$Table", name := "trace", desc := "()I" } : Jvm.MethodName)) ∈ lw_all := lw_g (lw_at lw_m3 181 rfl) rfl
theorem q754 : (Jvm.Cond.methodLink "RiverWords" (173 : Nat) ({ cls := "RiverWords", name := "truth", desc := "(Z)I" } : Jvm.MethodName)) ∈ lw_all := lw_g (lw_at lw_m3 194 rfl) rfl
theorem q755 : (Jvm.Cond.static ({ cls := "RiverWords", name := "truth", desc := "(Z)I" } : Jvm.MethodName)) ∈ lw_all := lw_g (lw_at lw_m3 195 rfl) rfl
theorem q756 : (Jvm.Cond.code ({ cls := "RiverWords", name := "truth", desc := "(Z)I" } : Jvm.MethodName) prog_1_method_13_code (1 : Nat) (Option.some Jvm.ClassFile.FieldType.int)) ∈ lw_all := lw_g (lw_at lw_m3 196 rfl) rfl
theorem q757 : (Jvm.Cond.methodLink "RiverWords" (177 : Nat) ({ cls := "RiverWords$Worded", name := "back", desc := "(Ljava/lang/CharSequence;)Ljava/lang/String;" } : Jvm.MethodName)) ∈ lw_all := lw_g (lw_at lw_m3 197 rfl) rfl
theorem q764 : (Jvm.Cond.methodLink "RiverWords" (181 : Nat) ({ cls := "RiverWords$Worded", name := "isAlike", desc := "(Ljava/lang/CharSequence;Ljava/lang/CharSequence;)Z" } : Jvm.MethodName)) ∈ lw_all := lw_g (lw_at lw_m3 204 rfl) rfl
theorem q775 : (Jvm.Cond.methodLink "RiverWords" (185 : Nat) ({ cls := "RiverWords$Worded", name := "mirror", desc := "(Ljava/lang/CharSequence;)Ljava/lang/String;" } : Jvm.MethodName)) ∈ lw_all := lw_g (lw_at lw_m3 215 rfl) rfl
theorem q779 : (Jvm.Cond.instanceMethod ({ cls := "RiverWords", name := "sign", desc := "(II)I" } : Jvm.MethodName)) ∈ lw_all := lw_g (lw_at lw_m3 219 rfl) rfl
theorem q780 : (Jvm.Cond.selects "RiverWords" ({ cls := "RiverWords", name := "sign", desc := "(II)I" } : Jvm.MethodName) ({ cls := "RiverWords", name := "sign", desc := "(II)I" } : Jvm.MethodName)) ∈ lw_all := lw_g (lw_at lw_m3 220 rfl) rfl
theorem q781 : (Jvm.Cond.code ({ cls := "RiverWords", name := "sign", desc := "(II)I" } : Jvm.MethodName) prog_1_method_16_code (3 : Nat) (Option.some Jvm.ClassFile.FieldType.int)) ∈ lw_all := lw_g (lw_at lw_m3 221 rfl) rfl
theorem q783 : (Jvm.Cond.instanceMethod ({ cls := "RiverWords", name := "table", desc := "(II)I" } : Jvm.MethodName)) ∈ lw_all := lw_g (lw_at lw_m3 223 rfl) rfl
theorem q784 : (Jvm.Cond.selects "RiverWords" ({ cls := "RiverWords", name := "table", desc := "(II)I" } : Jvm.MethodName) ({ cls := "RiverWords", name := "table", desc := "(II)I" } : Jvm.MethodName)) ∈ lw_all := lw_g (lw_at lw_m3 224 rfl) rfl
theorem q785 : (Jvm.Cond.code ({ cls := "RiverWords", name := "table", desc := "(II)I" } : Jvm.MethodName) prog_1_method_17_code (3 : Nat) (Option.some Jvm.ClassFile.FieldType.int)) ∈ lw_all := lw_g (lw_at lw_m3 225 rfl) rfl
theorem q786 : (Jvm.Cond.methodLink "RiverWords" (204 : Nat) ({ cls := "RiverWords$Table", name := "told", desc := "(I)I" } : Jvm.MethodName)) ∈ lw_all := lw_g (lw_at lw_m3 226 rfl) rfl
theorem q791 : (Jvm.Cond.instanceMethod ({ cls := "RiverWords", name := "form", desc := "(II)I" } : Jvm.MethodName)) ∈ lw_all := lw_g (lw_at lw_m3 231 rfl) rfl
theorem q792 : (Jvm.Cond.selects "RiverWords" ({ cls := "RiverWords", name := "form", desc := "(II)I" } : Jvm.MethodName) ({ cls := "RiverWords", name := "form", desc := "(II)I" } : Jvm.MethodName)) ∈ lw_all := lw_g (lw_at lw_m3 232 rfl) rfl
theorem q793 : (Jvm.Cond.code ({ cls := "RiverWords", name := "form", desc := "(II)I" } : Jvm.MethodName) prog_1_method_19_code (3 : Nat) (Option.some Jvm.ClassFile.FieldType.int)) ∈ lw_all := lw_g (lw_at lw_m3 233 rfl) rfl
theorem q794 : (Jvm.Cond.methodLink "RiverWords" (217 : Nat) ({ cls := "RiverWords", name := "formTold", desc := "(LRiverWords$Table;I)I" } : Jvm.MethodName)) ∈ lw_all := lw_g (lw_at lw_m3 234 rfl) rfl
theorem q795 : (Jvm.Cond.static ({ cls := "RiverWords", name := "formTold", desc := "(LRiverWords$Table;I)I" } : Jvm.MethodName)) ∈ lw_all := lw_g (lw_at lw_m3 235 rfl) rfl
theorem q796 : (Jvm.Cond.code ({ cls := "RiverWords", name := "formTold", desc := "(LRiverWords$Table;I)I" } : Jvm.MethodName) prog_1_method_18_code (3 : Nat) (Option.some Jvm.ClassFile.FieldType.int)) ∈ lw_all := lw_g (lw_at lw_m3 236 rfl) rfl
theorem q797 : (Jvm.Cond.methodLink "RiverWords" (207 : Nat) ({ cls := "RiverWords", name := "formOf", desc := "(LRiverWords$Table;)LRiverWords$Form;" } : Jvm.MethodName)) ∈ lw_all := lw_g (lw_at lw_m3 237 rfl) rfl
theorem q798 : (Jvm.Cond.static ({ cls := "RiverWords", name := "formOf", desc := "(LRiverWords$Table;)LRiverWords$Form;" } : Jvm.MethodName)) ∈ lw_all := lw_g (lw_at lw_m3 238 rfl) rfl
theorem q799 : (Jvm.Cond.code ({ cls := "RiverWords", name := "formOf", desc := "(LRiverWords$Table;)LRiverWords$Form;" } : Jvm.MethodName) prog_1_method_6_code (2 : Nat) (Option.some (Jvm.ClassFile.FieldType.object "RiverWords$Form"))) ∈ lw_all := lw_g (lw_at lw_m3 239 rfl) rfl
theorem q800 : (Jvm.Cond.methodLink "RiverWords" (73 : Nat) ({ cls := "RiverWords$Table", name := "grade", desc := "()I" } : Jvm.MethodName)) ∈ lw_all := lw_g (lw_at lw_m4 0 rfl) rfl
theorem q805 : (Jvm.Cond.static ({ cls := "RiverWords", name := "common", desc := "(II)I" } : Jvm.MethodName)) ∈ lw_all := lw_g (lw_at lw_m4 5 rfl) rfl
theorem q806 : (Jvm.Cond.code ({ cls := "RiverWords", name := "common", desc := "(II)I" } : Jvm.MethodName) prog_1_method_3_code (5 : Nat) (Option.some Jvm.ClassFile.FieldType.int)) ∈ lw_all := lw_g (lw_at lw_m4 6 rfl) rfl
theorem q807 : (Jvm.Cond.methodLink "RiverWords" (53 : Nat) ({ cls := "java/lang/Math", name := "abs", desc := "(I)I" } : Jvm.MethodName)) ∈ lw_all := lw_g (lw_at lw_m4 7 rfl) rfl
theorem q810 : (Jvm.Cond.classLink "RiverWords" (76 : Nat) "RiverWords$Form") ∈ lw_all := lw_g (lw_at lw_m4 10 rfl) rfl
theorem q812 : (Jvm.Cond.methodLink "RiverWords" (91 : Nat) ({ cls := "RiverWords$Form", name := "<init>", desc := "(III)V" } : Jvm.MethodName)) ∈ lw_all := lw_g (lw_at lw_m4 12 rfl) rfl
theorem q818 : (Jvm.Cond.fieldLinkNest "RiverWords" (211 : Nat) "RiverWords$Form" "a" "I" "RiverWords") ∈ lw_tbl := lw_at lw_m4 18 rfl
theorem q820 : (Jvm.Cond.fieldLinkNest "RiverWords" (212 : Nat) "RiverWords$Form" "b" "I" "RiverWords") ∈ lw_tbl := lw_at lw_m4 20 rfl
theorem q822 : (Jvm.Cond.fieldLinkNest "RiverWords" (213 : Nat) "RiverWords$Form" "c" "I" "RiverWords") ∈ lw_tbl := lw_at lw_m4 22 rfl
theorem q825 : (Jvm.Cond.fieldLinkNest "RiverWords" (302 : Nat) "RiverWords$Form" "cycle" "I" "RiverWords") ∈ lw_tbl := lw_at lw_m4 25 rfl
theorem q827 : (Jvm.Cond.fieldLinkNest "RiverWords" (295 : Nat) "RiverWords$Form" "next" "I" "RiverWords") ∈ lw_tbl := lw_at lw_m4 27 rfl
theorem q828 : (Jvm.Cond.fieldLinkNest "RiverWords" (298 : Nat) "RiverWords$Form" "back" "I" "RiverWords") ∈ lw_tbl := lw_at lw_m4 28 rfl
theorem q829 : (Jvm.Cond.fieldLinkNest "RiverWords" (300 : Nat) "RiverWords$Form" "mirror" "I" "RiverWords") ∈ lw_tbl := lw_at lw_m4 29 rfl
theorem q845 : (Jvm.Cond.methodLink "RiverWords" (214 : Nat) ({ cls := "RiverWords$Form", name := "disc", desc := "()I" } : Jvm.MethodName)) ∈ lw_all := lw_g (lw_at lw_m4 45 rfl) rfl
theorem q850 : (Jvm.Cond.instanceMethod ({ cls := "RiverWords", name := "end", desc := "(II)I" } : Jvm.MethodName)) ∈ lw_all := lw_g (lw_at lw_m4 50 rfl) rfl
theorem q851 : (Jvm.Cond.selects "RiverWords" ({ cls := "RiverWords", name := "end", desc := "(II)I" } : Jvm.MethodName) ({ cls := "RiverWords", name := "end", desc := "(II)I" } : Jvm.MethodName)) ∈ lw_all := lw_g (lw_at lw_m4 51 rfl) rfl
theorem q852 : (Jvm.Cond.code ({ cls := "RiverWords", name := "end", desc := "(II)I" } : Jvm.MethodName) prog_1_method_21_code (3 : Nat) (Option.some Jvm.ClassFile.FieldType.int)) ∈ lw_all := lw_g (lw_at lw_m4 52 rfl) rfl
theorem q853 : (Jvm.Cond.methodLink "RiverWords" (221 : Nat) ({ cls := "RiverWords", name := "endTold", desc := "(LRiverWords$Table;I)I" } : Jvm.MethodName)) ∈ lw_all := lw_g (lw_at lw_m4 53 rfl) rfl
theorem q854 : (Jvm.Cond.static ({ cls := "RiverWords", name := "endTold", desc := "(LRiverWords$Table;I)I" } : Jvm.MethodName)) ∈ lw_all := lw_g (lw_at lw_m4 54 rfl) rfl
theorem q855 : (Jvm.Cond.code ({ cls := "RiverWords", name := "endTold", desc := "(LRiverWords$Table;I)I" } : Jvm.MethodName) prog_1_method_20_code (2 : Nat) (Option.some Jvm.ClassFile.FieldType.int)) ∈ lw_all := lw_g (lw_at lw_m4 55 rfl) rfl
theorem q857 : (Jvm.Cond.instanceMethod ({ cls := "RiverWords", name := "alike", desc := "(II)I" } : Jvm.MethodName)) ∈ lw_all := lw_g (lw_at lw_m4 57 rfl) rfl
theorem q858 : (Jvm.Cond.selects "RiverWords" ({ cls := "RiverWords", name := "alike", desc := "(II)I" } : Jvm.MethodName) ({ cls := "RiverWords", name := "alike", desc := "(II)I" } : Jvm.MethodName)) ∈ lw_all := lw_g (lw_at lw_m4 58 rfl) rfl
theorem q859 : (Jvm.Cond.code ({ cls := "RiverWords", name := "alike", desc := "(II)I" } : Jvm.MethodName) prog_1_method_23_code (3 : Nat) (Option.some Jvm.ClassFile.FieldType.int)) ∈ lw_all := lw_g (lw_at lw_m4 59 rfl) rfl
theorem q860 : (Jvm.Cond.methodLink "RiverWords" (225 : Nat) ({ cls := "RiverWords", name := "alikeTold", desc := "(LRiverWords$Road;LRiverWords$Road;)I" } : Jvm.MethodName)) ∈ lw_all := lw_g (lw_at lw_m4 60 rfl) rfl
theorem q861 : (Jvm.Cond.static ({ cls := "RiverWords", name := "alikeTold", desc := "(LRiverWords$Road;LRiverWords$Road;)I" } : Jvm.MethodName)) ∈ lw_all := lw_g (lw_at lw_m4 61 rfl) rfl
theorem q862 : (Jvm.Cond.code ({ cls := "RiverWords", name := "alikeTold", desc := "(LRiverWords$Road;LRiverWords$Road;)I" } : Jvm.MethodName) prog_1_method_22_code (6 : Nat) (Option.some Jvm.ClassFile.FieldType.int)) ∈ lw_all := lw_g (lw_at lw_m4 62 rfl) rfl
theorem q863 : (Jvm.Cond.constant "RiverWords" (224 : Nat) (-2000000001 : Int32)) ∈ lw_all := lw_g (lw_at lw_m4 63 rfl) rfl
theorem q865 : (Jvm.Cond.instanceMethod ({ cls := "RiverWords", name := "cross", desc := "(II)I" } : Jvm.MethodName)) ∈ lw_all := lw_g (lw_at lw_m4 65 rfl) rfl
theorem q866 : (Jvm.Cond.selects "RiverWords" ({ cls := "RiverWords", name := "cross", desc := "(II)I" } : Jvm.MethodName) ({ cls := "RiverWords", name := "cross", desc := "(II)I" } : Jvm.MethodName)) ∈ lw_all := lw_g (lw_at lw_m4 66 rfl) rfl
theorem q867 : (Jvm.Cond.code ({ cls := "RiverWords", name := "cross", desc := "(II)I" } : Jvm.MethodName) prog_1_method_27_code (5 : Nat) (Option.some Jvm.ClassFile.FieldType.int)) ∈ lw_all := lw_g (lw_at lw_m4 67 rfl) rfl
theorem q868 : (Jvm.Cond.methodLink "RiverWords" (241 : Nat) ({ cls := "RiverWords", name := "crossings", desc := "(Ljava/lang/CharSequence;Ljava/lang/CharSequence;)I" } : Jvm.MethodName)) ∈ lw_all := lw_g (lw_at lw_m4 68 rfl) rfl
theorem q869 : (Jvm.Cond.static ({ cls := "RiverWords", name := "crossings", desc := "(Ljava/lang/CharSequence;Ljava/lang/CharSequence;)I" } : Jvm.MethodName)) ∈ lw_all := lw_g (lw_at lw_m4 69 rfl) rfl
theorem q870 : (Jvm.Cond.code ({ cls := "RiverWords", name := "crossings", desc := "(Ljava/lang/CharSequence;Ljava/lang/CharSequence;)I" } : Jvm.MethodName) prog_1_method_26_code (5 : Nat) (Option.some Jvm.ClassFile.FieldType.int)) ∈ lw_all := lw_g (lw_at lw_m4 70 rfl) rfl
theorem q871 : (Jvm.Cond.methodLink "RiverWords" (237 : Nat) ({ cls := "RiverWords", name := "isCrossing", desc := "(Ljava/lang/CharSequence;ILjava/lang/CharSequence;I)Z" } : Jvm.MethodName)) ∈ lw_all := lw_g (lw_at lw_m4 71 rfl) rfl
theorem q872 : (Jvm.Cond.static ({ cls := "RiverWords", name := "isCrossing", desc := "(Ljava/lang/CharSequence;ILjava/lang/CharSequence;I)Z" } : Jvm.MethodName)) ∈ lw_all := lw_g (lw_at lw_m4 72 rfl) rfl
theorem q873 : (Jvm.Cond.code ({ cls := "RiverWords", name := "isCrossing", desc := "(Ljava/lang/CharSequence;ILjava/lang/CharSequence;I)Z" } : Jvm.MethodName) prog_1_method_25_code (6 : Nat) (Option.some Jvm.ClassFile.FieldType.boolean)) ∈ lw_all := lw_g (lw_at lw_m4 73 rfl) rfl
theorem q874 : (Jvm.Cond.methodLink "RiverWords" (233 : Nat) ({ cls := "RiverWords", name := "around", desc := "(Ljava/lang/CharSequence;I)C" } : Jvm.MethodName)) ∈ lw_all := lw_g (lw_at lw_m4 74 rfl) rfl
theorem q875 : (Jvm.Cond.static ({ cls := "RiverWords", name := "around", desc := "(Ljava/lang/CharSequence;I)C" } : Jvm.MethodName)) ∈ lw_all := lw_g (lw_at lw_m4 75 rfl) rfl
theorem q876 : (Jvm.Cond.code ({ cls := "RiverWords", name := "around", desc := "(Ljava/lang/CharSequence;I)C" } : Jvm.MethodName) prog_1_method_24_code (2 : Nat) (Option.some Jvm.ClassFile.FieldType.char)) ∈ lw_all := lw_g (lw_at lw_m4 76 rfl) rfl
theorem q877 : (Jvm.Cond.methodLink "RiverWords" (229 : Nat) ({ cls := "java/lang/Math", name := "floorMod", desc := "(II)I" } : Jvm.MethodName)) ∈ lw_all := lw_g (lw_at lw_m4 77 rfl) rfl
theorem q881 : (Jvm.Cond.instanceMethod ({ cls := "RiverWords", name := "turn", desc := "(II)I" } : Jvm.MethodName)) ∈ lw_all := lw_g (lw_at lw_m4 81 rfl) rfl
theorem q882 : (Jvm.Cond.selects "RiverWords" ({ cls := "RiverWords", name := "turn", desc := "(II)I" } : Jvm.MethodName) ({ cls := "RiverWords", name := "turn", desc := "(II)I" } : Jvm.MethodName)) ∈ lw_all := lw_g (lw_at lw_m4 82 rfl) rfl
theorem q883 : (Jvm.Cond.code ({ cls := "RiverWords", name := "turn", desc := "(II)I" } : Jvm.MethodName) prog_1_method_28_code (4 : Nat) (Option.some Jvm.ClassFile.FieldType.int)) ∈ lw_all := lw_g (lw_at lw_m4 83 rfl) rfl
theorem q884 : (Jvm.Cond.methodLink "RiverWords" (245 : Nat) ({ cls := "RiverWords$Worded", name := "turned", desc := "(Ljava/lang/CharSequence;I)Ljava/lang/String;" } : Jvm.MethodName)) ∈ lw_all := lw_g (lw_at lw_m4 84 rfl) rfl
theorem q885 : (Jvm.Cond.methodLink "RiverWords" (249 : Nat) ({ cls := "RiverWords$Road", name := "lay", desc := "(Ljava/lang/String;)V" } : Jvm.MethodName)) ∈ lw_all := lw_g (lw_at lw_m4 85 rfl) rfl
theorem q887 : (Jvm.Cond.instanceMethod ({ cls := "RiverWords", name := "change", desc := "(II)I" } : Jvm.MethodName)) ∈ lw_all := lw_g (lw_at lw_m4 87 rfl) rfl
theorem q888 : (Jvm.Cond.selects "RiverWords" ({ cls := "RiverWords", name := "change", desc := "(II)I" } : Jvm.MethodName) ({ cls := "RiverWords", name := "change", desc := "(II)I" } : Jvm.MethodName)) ∈ lw_all := lw_g (lw_at lw_m4 88 rfl) rfl
theorem q889 : (Jvm.Cond.code ({ cls := "RiverWords", name := "change", desc := "(II)I" } : Jvm.MethodName) prog_1_method_30_code (4 : Nat) (Option.some Jvm.ClassFile.FieldType.int)) ∈ lw_all := lw_g (lw_at lw_m4 89 rfl) rfl
theorem q890 : (Jvm.Cond.methodLink "RiverWords" (256 : Nat) ({ cls := "RiverWords", name := "changed", desc := "(Ljava/lang/String;I)Ljava/lang/String;" } : Jvm.MethodName)) ∈ lw_all := lw_g (lw_at lw_m4 90 rfl) rfl
theorem q891 : (Jvm.Cond.static ({ cls := "RiverWords", name := "changed", desc := "(Ljava/lang/String;I)Ljava/lang/String;" } : Jvm.MethodName)) ∈ lw_all := lw_g (lw_at lw_m4 91 rfl) rfl
theorem q892 : (Jvm.Cond.code ({ cls := "RiverWords", name := "changed", desc := "(Ljava/lang/String;I)Ljava/lang/String;" } : Jvm.MethodName) prog_1_method_29_code (2 : Nat) (Option.some (Jvm.ClassFile.FieldType.object "java/lang/String"))) ∈ lw_all := lw_g (lw_at lw_m4 92 rfl) rfl
theorem q893 : (Jvm.Cond.methodLink "RiverWords" (253 : Nat) ({ cls := "RiverWords$Worded", name := "leastTurn", desc := "(Ljava/lang/CharSequence;)Ljava/lang/String;" } : Jvm.MethodName)) ∈ lw_all := lw_g (lw_at lw_m4 93 rfl) rfl
theorem q895 : (Jvm.Cond.instanceMethod ({ cls := "RiverWords", name := "join", desc := "(II)I" } : Jvm.MethodName)) ∈ lw_all := lw_g (lw_at lw_m4 95 rfl) rfl
theorem q896 : (Jvm.Cond.selects "RiverWords" ({ cls := "RiverWords", name := "join", desc := "(II)I" } : Jvm.MethodName) ({ cls := "RiverWords", name := "join", desc := "(II)I" } : Jvm.MethodName)) ∈ lw_all := lw_g (lw_at lw_m4 96 rfl) rfl
theorem q897 : (Jvm.Cond.code ({ cls := "RiverWords", name := "join", desc := "(II)I" } : Jvm.MethodName) prog_1_method_31_code (3 : Nat) (Option.some Jvm.ClassFile.FieldType.int)) ∈ lw_all := lw_g (lw_at lw_m4 97 rfl) rfl
theorem q898 : (Jvm.Cond.methodLink "RiverWords" (260 : Nat) ({ cls := "java/lang/StringBuilder", name := "<init>", desc := "()V" } : Jvm.MethodName)) ∈ lw_all := lw_g (lw_at lw_m4 98 rfl) rfl
theorem q901 : (Jvm.Cond.methodLink "RiverWords" (261 : Nat) ({ cls := "java/lang/StringBuilder", name := "append", desc := "(Ljava/lang/String;)Ljava/lang/StringBuilder;" } : Jvm.MethodName)) ∈ lw_all := lw_g (lw_at lw_m4 101 rfl) rfl
theorem q941 : (Jvm.Cond.instanceMethod ({ cls := "RiverWords", name := "times", desc := "(II)I" } : Jvm.MethodName)) ∈ lw_all := lw_g (lw_at lw_m4 141 rfl) rfl
theorem q942 : (Jvm.Cond.selects "RiverWords" ({ cls := "RiverWords", name := "times", desc := "(II)I" } : Jvm.MethodName) ({ cls := "RiverWords", name := "times", desc := "(II)I" } : Jvm.MethodName)) ∈ lw_all := lw_g (lw_at lw_m4 142 rfl) rfl
theorem q943 : (Jvm.Cond.code ({ cls := "RiverWords", name := "times", desc := "(II)I" } : Jvm.MethodName) prog_1_method_32_code (3 : Nat) (Option.some Jvm.ClassFile.FieldType.int)) ∈ lw_all := lw_g (lw_at lw_m4 143 rfl) rfl
theorem q944 : (Jvm.Cond.methodLink "RiverWords" (264 : Nat) ({ cls := "java/lang/String", name := "repeat", desc := "(I)Ljava/lang/String;" } : Jvm.MethodName)) ∈ lw_all := lw_g (lw_at lw_m4 144 rfl) rfl
theorem q960 : (Jvm.Cond.instanceMethod ({ cls := "RiverWords", name := "cut", desc := "(II)I" } : Jvm.MethodName)) ∈ lw_all := lw_g (lw_at lw_m4 160 rfl) rfl
theorem q961 : (Jvm.Cond.selects "RiverWords" ({ cls := "RiverWords", name := "cut", desc := "(II)I" } : Jvm.MethodName) ({ cls := "RiverWords", name := "cut", desc := "(II)I" } : Jvm.MethodName)) ∈ lw_all := lw_g (lw_at lw_m4 161 rfl) rfl
theorem q962 : (Jvm.Cond.code ({ cls := "RiverWords", name := "cut", desc := "(II)I" } : Jvm.MethodName) prog_1_method_34_code (3 : Nat) (Option.some Jvm.ClassFile.FieldType.int)) ∈ lw_all := lw_g (lw_at lw_m4 162 rfl) rfl
theorem q963 : (Jvm.Cond.methodLink "RiverWords" (268 : Nat) ({ cls := "RiverWords", name := "common", desc := "(II)I" } : Jvm.MethodName)) ∈ lw_all := lw_g (lw_at lw_m4 163 rfl) rfl
theorem q964 : (Jvm.Cond.methodLink "RiverWords" (271 : Nat) ({ cls := "RiverWords", name := "cutTo", desc := "(II)Ljava/lang/String;" } : Jvm.MethodName)) ∈ lw_all := lw_g (lw_at lw_m4 164 rfl) rfl
theorem q965 : (Jvm.Cond.static ({ cls := "RiverWords", name := "cutTo", desc := "(II)Ljava/lang/String;" } : Jvm.MethodName)) ∈ lw_all := lw_g (lw_at lw_m4 165 rfl) rfl
theorem q966 : (Jvm.Cond.code ({ cls := "RiverWords", name := "cutTo", desc := "(II)Ljava/lang/String;" } : Jvm.MethodName) prog_1_method_33_code (6 : Nat) (Option.some (Jvm.ClassFile.FieldType.object "java/lang/String"))) ∈ lw_all := lw_g (lw_at lw_m4 166 rfl) rfl
theorem q968 : (Jvm.Cond.instanceMethod ({ cls := "RiverWords", name := "drop", desc := "()I" } : Jvm.MethodName)) ∈ lw_all := lw_g (lw_at lw_m4 168 rfl) rfl
theorem q969 : (Jvm.Cond.selects "RiverWords" ({ cls := "RiverWords", name := "drop", desc := "()I" } : Jvm.MethodName) ({ cls := "RiverWords", name := "drop", desc := "()I" } : Jvm.MethodName)) ∈ lw_all := lw_g (lw_at lw_m4 169 rfl) rfl
theorem q970 : (Jvm.Cond.code ({ cls := "RiverWords", name := "drop", desc := "()I" } : Jvm.MethodName) prog_1_method_35_code (1 : Nat) (Option.some Jvm.ClassFile.FieldType.int)) ∈ lw_all := lw_g (lw_at lw_m4 170 rfl) rfl
theorem q971 : (Jvm.Cond.methodLink "RiverWords" (275 : Nat) ({ cls := "java/util/ArrayList", name := "isEmpty", desc := "()Z" } : Jvm.MethodName)) ∈ lw_all := lw_g (lw_at lw_m4 171 rfl) rfl
theorem q975 : (Jvm.Cond.methodLink "RiverWords" (278 : Nat) ({ cls := "java/util/ArrayList", name := "remove", desc := "(I)Ljava/lang/Object;" } : Jvm.MethodName)) ∈ lw_all := lw_g (lw_at lw_m4 175 rfl) rfl
theorem q985 : (Jvm.Cond.instanceMethod ({ cls := "RiverWords", name := "river", desc := "(I)I" } : Jvm.MethodName)) ∈ lw_all := lw_g (lw_at lw_m4 185 rfl) rfl
theorem q986 : (Jvm.Cond.selects "RiverWords" ({ cls := "RiverWords", name := "river", desc := "(I)I" } : Jvm.MethodName) ({ cls := "RiverWords", name := "river", desc := "(I)I" } : Jvm.MethodName)) ∈ lw_all := lw_g (lw_at lw_m4 186 rfl) rfl
theorem q987 : (Jvm.Cond.code ({ cls := "RiverWords", name := "river", desc := "(I)I" } : Jvm.MethodName) prog_1_method_40_code (2 : Nat) (Option.some Jvm.ClassFile.FieldType.int)) ∈ lw_all := lw_g (lw_at lw_m4 187 rfl) rfl
theorem q988 : (Jvm.Cond.methodLink "RiverWords" (310 : Nat) ({ cls := "RiverWords", name := "isSquare", desc := "(I)Z" } : Jvm.MethodName)) ∈ lw_all := lw_g (lw_at lw_m4 188 rfl) rfl
theorem q989 : (Jvm.Cond.static ({ cls := "RiverWords", name := "isSquare", desc := "(I)Z" } : Jvm.MethodName)) ∈ lw_all := lw_g (lw_at lw_m4 189 rfl) rfl
theorem q990 : (Jvm.Cond.code ({ cls := "RiverWords", name := "isSquare", desc := "(I)Z" } : Jvm.MethodName) prog_1_method_36_code (2 : Nat) (Option.some Jvm.ClassFile.FieldType.boolean)) ∈ lw_all := lw_g (lw_at lw_m4 190 rfl) rfl
theorem q991 : (Jvm.Cond.methodLink "RiverWords" (313 : Nat) ({ cls := "java/util/ArrayList", name := "clear", desc := "()V" } : Jvm.MethodName)) ∈ lw_all := lw_g (lw_at lw_m4 191 rfl) rfl
theorem q995 : (Jvm.Cond.methodLink "RiverWords" (316 : Nat) ({ cls := "RiverWords", name := "layForms", desc := "()V" } : Jvm.MethodName)) ∈ lw_all := lw_g (lw_at lw_m4 195 rfl) rfl
theorem q996 : (Jvm.Cond.privateMethod ({ cls := "RiverWords", name := "layForms", desc := "()V" } : Jvm.MethodName)) ∈ lw_tbl := lw_at lw_m4 196 rfl
theorem q997 : (Jvm.Cond.instanceMethod ({ cls := "RiverWords", name := "layForms", desc := "()V" } : Jvm.MethodName)) ∈ lw_all := lw_g (lw_at lw_m4 197 rfl) rfl
theorem q998 : (Jvm.Cond.code ({ cls := "RiverWords", name := "layForms", desc := "()V" } : Jvm.MethodName) prog_1_method_38_code (5 : Nat) (Option.none : Option Jvm.ClassFile.FieldType)) ∈ lw_all := lw_g (lw_at lw_m4 198 rfl) rfl
theorem q999 : (Jvm.Cond.methodLink "RiverWords" (319 : Nat) ({ cls := "RiverWords", name := "layCycles", desc := "()V" } : Jvm.MethodName)) ∈ lw_all := lw_g (lw_at lw_m4 199 rfl) rfl
theorem q1000 : (Jvm.Cond.privateMethod ({ cls := "RiverWords", name := "layCycles", desc := "()V" } : Jvm.MethodName)) ∈ lw_tbl := lw_at lw_m4 200 rfl
theorem q1001 : (Jvm.Cond.instanceMethod ({ cls := "RiverWords", name := "layCycles", desc := "()V" } : Jvm.MethodName)) ∈ lw_all := lw_g (lw_at lw_m4 201 rfl) rfl
theorem q1002 : (Jvm.Cond.code ({ cls := "RiverWords", name := "layCycles", desc := "()V" } : Jvm.MethodName) prog_1_method_39_code (4 : Nat) (Option.none : Option Jvm.ClassFile.FieldType)) ∈ lw_all := lw_g (lw_at lw_m4 202 rfl) rfl
theorem q1003 : (Jvm.Cond.methodLink "RiverWords" (287 : Nat) ({ cls := "RiverWords$Form", name := "letter", desc := "()C" } : Jvm.MethodName)) ∈ lw_all := lw_g (lw_at lw_m4 203 rfl) rfl
theorem q1007 : (Jvm.Cond.methodLink "RiverWords" (291 : Nat) ({ cls := "RiverWords", name := "numberOf", desc := "(III)I" } : Jvm.MethodName)) ∈ lw_all := lw_g (lw_at lw_m4 207 rfl) rfl
theorem q1008 : (Jvm.Cond.privateMethod ({ cls := "RiverWords", name := "numberOf", desc := "(III)I" } : Jvm.MethodName)) ∈ lw_tbl := lw_at lw_m4 208 rfl
theorem q1009 : (Jvm.Cond.instanceMethod ({ cls := "RiverWords", name := "numberOf", desc := "(III)I" } : Jvm.MethodName)) ∈ lw_all := lw_g (lw_at lw_m4 209 rfl) rfl
theorem q1010 : (Jvm.Cond.code ({ cls := "RiverWords", name := "numberOf", desc := "(III)I" } : Jvm.MethodName) prog_1_method_37_code (5 : Nat) (Option.some Jvm.ClassFile.FieldType.int)) ∈ lw_all := lw_g (lw_at lw_m4 210 rfl) rfl
theorem q1011 : (Jvm.Cond.methodLink "RiverWords" (281 : Nat) ({ cls := "RiverWords$Form", name := "isAs", desc := "(III)Z" } : Jvm.MethodName)) ∈ lw_all := lw_g (lw_at lw_m4 211 rfl) rfl
theorem q1015 : (Jvm.Cond.classLink "RiverWords" (305 : Nat) "RiverWords$Cycle") ∈ lw_all := lw_g (lw_at lw_m4 215 rfl) rfl
theorem q1017 : (Jvm.Cond.methodLink "RiverWords" (307 : Nat) ({ cls := "RiverWords$Cycle", name := "<init>", desc := "(LRiverWords;II)V" } : Jvm.MethodName)) ∈ lw_all := lw_g (lw_at lw_m4 217 rfl) rfl
theorem q1028 : (Jvm.Cond.fieldLinkNest "RiverWords" (329 : Nat) "RiverWords$Cycle" "least" "I" "RiverWords") ∈ lw_tbl := lw_at lw_m4 228 rfl
theorem q1030 : (Jvm.Cond.fieldLinkNest "RiverWords" (341 : Nat) "RiverWords$Cycle" "word" "Ljava/lang/StringBuilder;" "RiverWords") ∈ lw_tbl := lw_at lw_m4 230 rfl
theorem q1040 : (Jvm.Cond.instanceMethod ({ cls := "RiverWords", name := "simple", desc := "(II)I" } : Jvm.MethodName)) ∈ lw_all := lw_g (lw_at lw_m5 0 rfl) rfl
theorem q1041 : (Jvm.Cond.selects "RiverWords" ({ cls := "RiverWords", name := "simple", desc := "(II)I" } : Jvm.MethodName) ({ cls := "RiverWords", name := "simple", desc := "(II)I" } : Jvm.MethodName)) ∈ lw_all := lw_g (lw_at lw_m5 1 rfl) rfl
theorem q1042 : (Jvm.Cond.code ({ cls := "RiverWords", name := "simple", desc := "(II)I" } : Jvm.MethodName) prog_1_method_44_code (3 : Nat) (Option.some Jvm.ClassFile.FieldType.int)) ∈ lw_all := lw_g (lw_at lw_m5 2 rfl) rfl
theorem q1043 : (Jvm.Cond.methodLink "RiverWords" (322 : Nat) ({ cls := "RiverWords", name := "isForm", desc := "(I)Z" } : Jvm.MethodName)) ∈ lw_all := lw_g (lw_at lw_m5 3 rfl) rfl
theorem q1044 : (Jvm.Cond.privateMethod ({ cls := "RiverWords", name := "isForm", desc := "(I)Z" } : Jvm.MethodName)) ∈ lw_tbl := lw_at lw_m5 4 rfl
theorem q1045 : (Jvm.Cond.instanceMethod ({ cls := "RiverWords", name := "isForm", desc := "(I)Z" } : Jvm.MethodName)) ∈ lw_all := lw_g (lw_at lw_m5 5 rfl) rfl
theorem q1046 : (Jvm.Cond.code ({ cls := "RiverWords", name := "isForm", desc := "(I)Z" } : Jvm.MethodName) prog_1_method_41_code (2 : Nat) (Option.some Jvm.ClassFile.FieldType.boolean)) ∈ lw_all := lw_g (lw_at lw_m5 6 rfl) rfl
theorem q1047 : (Jvm.Cond.methodLink "RiverWords" (325 : Nat) ({ cls := "RiverWords", name := "simpleTold", desc := "(LRiverWords$Form;I)I" } : Jvm.MethodName)) ∈ lw_all := lw_g (lw_at lw_m5 7 rfl) rfl
theorem q1048 : (Jvm.Cond.privateMethod ({ cls := "RiverWords", name := "simpleTold", desc := "(LRiverWords$Form;I)I" } : Jvm.MethodName)) ∈ lw_tbl := lw_at lw_m5 8 rfl
theorem q1049 : (Jvm.Cond.instanceMethod ({ cls := "RiverWords", name := "simpleTold", desc := "(LRiverWords$Form;I)I" } : Jvm.MethodName)) ∈ lw_all := lw_g (lw_at lw_m5 9 rfl) rfl
theorem q1050 : (Jvm.Cond.code ({ cls := "RiverWords", name := "simpleTold", desc := "(LRiverWords$Form;I)I" } : Jvm.MethodName) prog_1_method_43_code (3 : Nat) (Option.some Jvm.ClassFile.FieldType.int)) ∈ lw_all := lw_g (lw_at lw_m5 10 rfl) rfl
theorem q1052 : (Jvm.Cond.instanceMethod ({ cls := "RiverWords", name := "cycle", desc := "(II)I" } : Jvm.MethodName)) ∈ lw_all := lw_g (lw_at lw_m5 12 rfl) rfl
theorem q1053 : (Jvm.Cond.selects "RiverWords" ({ cls := "RiverWords", name := "cycle", desc := "(II)I" } : Jvm.MethodName) ({ cls := "RiverWords", name := "cycle", desc := "(II)I" } : Jvm.MethodName)) ∈ lw_all := lw_g (lw_at lw_m5 13 rfl) rfl
theorem q1054 : (Jvm.Cond.code ({ cls := "RiverWords", name := "cycle", desc := "(II)I" } : Jvm.MethodName) prog_1_method_46_code (3 : Nat) (Option.some Jvm.ClassFile.FieldType.int)) ∈ lw_all := lw_g (lw_at lw_m5 14 rfl) rfl
theorem q1055 : (Jvm.Cond.methodLink "RiverWords" (333 : Nat) ({ cls := "RiverWords", name := "isCycle", desc := "(I)Z" } : Jvm.MethodName)) ∈ lw_all := lw_g (lw_at lw_m5 15 rfl) rfl
theorem q1056 : (Jvm.Cond.privateMethod ({ cls := "RiverWords", name := "isCycle", desc := "(I)Z" } : Jvm.MethodName)) ∈ lw_tbl := lw_at lw_m5 16 rfl
theorem q1057 : (Jvm.Cond.instanceMethod ({ cls := "RiverWords", name := "isCycle", desc := "(I)Z" } : Jvm.MethodName)) ∈ lw_all := lw_g (lw_at lw_m5 17 rfl) rfl
theorem q1058 : (Jvm.Cond.code ({ cls := "RiverWords", name := "isCycle", desc := "(I)Z" } : Jvm.MethodName) prog_1_method_42_code (2 : Nat) (Option.some Jvm.ClassFile.FieldType.boolean)) ∈ lw_all := lw_g (lw_at lw_m5 18 rfl) rfl
theorem q1059 : (Jvm.Cond.methodLink "RiverWords" (336 : Nat) ({ cls := "RiverWords", name := "cycleTold", desc := "(LRiverWords$Cycle;I)I" } : Jvm.MethodName)) ∈ lw_all := lw_g (lw_at lw_m5 19 rfl) rfl
theorem q1060 : (Jvm.Cond.privateMethod ({ cls := "RiverWords", name := "cycleTold", desc := "(LRiverWords$Cycle;I)I" } : Jvm.MethodName)) ∈ lw_tbl := lw_at lw_m5 20 rfl
theorem q1061 : (Jvm.Cond.instanceMethod ({ cls := "RiverWords", name := "cycleTold", desc := "(LRiverWords$Cycle;I)I" } : Jvm.MethodName)) ∈ lw_all := lw_g (lw_at lw_m5 21 rfl) rfl
theorem q1062 : (Jvm.Cond.code ({ cls := "RiverWords", name := "cycleTold", desc := "(LRiverWords$Cycle;I)I" } : Jvm.MethodName) prog_1_method_45_code (3 : Nat) (Option.some Jvm.ClassFile.FieldType.int)) ∈ lw_all := lw_g (lw_at lw_m5 22 rfl) rfl
theorem q1064 : (Jvm.Cond.instanceMethod ({ cls := "RiverWords", name := "step", desc := "(II)I" } : Jvm.MethodName)) ∈ lw_all := lw_g (lw_at lw_m5 24 rfl) rfl
theorem q1065 : (Jvm.Cond.selects "RiverWords" ({ cls := "RiverWords", name := "step", desc := "(II)I" } : Jvm.MethodName) ({ cls := "RiverWords", name := "step", desc := "(II)I" } : Jvm.MethodName)) ∈ lw_all := lw_g (lw_at lw_m5 25 rfl) rfl
theorem q1066 : (Jvm.Cond.code ({ cls := "RiverWords", name := "step", desc := "(II)I" } : Jvm.MethodName) prog_1_method_47_code (3 : Nat) (Option.some Jvm.ClassFile.FieldType.int)) ∈ lw_all := lw_g (lw_at lw_m5 26 rfl) rfl
theorem q1068 : (Jvm.Cond.instanceMethod ({ cls := "RiverWords", name := "trace", desc := "(II)I" } : Jvm.MethodName)) ∈ lw_all := lw_g (lw_at lw_m5 28 rfl) rfl
theorem q1069 : (Jvm.Cond.selects "RiverWords" ({ cls := "RiverWords", name := "trace", desc := "(II)I" } : Jvm.MethodName) ({ cls := "RiverWords", name := "trace", desc := "(II)I" } : Jvm.MethodName)) ∈ lw_all := lw_g (lw_at lw_m5 29 rfl) rfl
theorem q1070 : (Jvm.Cond.code ({ cls := "RiverWords", name := "trace", desc := "(II)I" } : Jvm.MethodName) prog_1_method_48_code (3 : Nat) (Option.some Jvm.ClassFile.FieldType.int)) ∈ lw_all := lw_g (lw_at lw_m5 30 rfl) rfl
theorem q1071 : (Jvm.Cond.methodLink "RiverWords" (342 : Nat) ({ cls := "RiverWords", name := "traceBy", desc := "(Ljava/lang/CharSequence;I)I" } : Jvm.MethodName)) ∈ lw_all := lw_g (lw_at lw_m5 31 rfl) rfl
theorem q1072 : (Jvm.Cond.static ({ cls := "RiverWords", name := "traceBy", desc := "(Ljava/lang/CharSequence;I)I" } : Jvm.MethodName)) ∈ lw_all := lw_g (lw_at lw_m5 32 rfl) rfl
theorem q1073 : (Jvm.Cond.code ({ cls := "RiverWords", name := "traceBy", desc := "(Ljava/lang/CharSequence;I)I" } : Jvm.MethodName) prog_1_method_5_code (8 : Nat) (Option.some Jvm.ClassFile.FieldType.int)) ∈ lw_all := lw_g (lw_at lw_m5 33 rfl) rfl
theorem q1075 : (Jvm.Cond.instanceMethod ({ cls := "RiverWords", name := "flow", desc := "(IIIZ)I" } : Jvm.MethodName)) ∈ lw_all := lw_g (lw_at lw_m5 35 rfl) rfl
theorem q1076 : (Jvm.Cond.selects "RiverWords" ({ cls := "RiverWords", name := "flow", desc := "(IIIZ)I" } : Jvm.MethodName) ({ cls := "RiverWords", name := "flow", desc := "(IIIZ)I" } : Jvm.MethodName)) ∈ lw_all := lw_g (lw_at lw_m5 36 rfl) rfl
theorem q1077 : (Jvm.Cond.code ({ cls := "RiverWords", name := "flow", desc := "(IIIZ)I" } : Jvm.MethodName) prog_1_method_50_code (6 : Nat) (Option.some Jvm.ClassFile.FieldType.int)) ∈ lw_all := lw_g (lw_at lw_m5 37 rfl) rfl
theorem q1078 : (Jvm.Cond.methodLink "RiverWords" (356 : Nat) ({ cls := "RiverWords$Form", name := "isWhole", desc := "()Z" } : Jvm.MethodName)) ∈ lw_all := lw_g (lw_at lw_m5 38 rfl) rfl
theorem q1083 : (Jvm.Cond.methodLink "RiverWords" (359 : Nat) ({ cls := "RiverWords", name := "flowTold", desc := "(LRiverWords$Form;Z)I" } : Jvm.MethodName)) ∈ lw_all := lw_g (lw_at lw_m5 43 rfl) rfl
theorem q1084 : (Jvm.Cond.privateMethod ({ cls := "RiverWords", name := "flowTold", desc := "(LRiverWords$Form;Z)I" } : Jvm.MethodName)) ∈ lw_tbl := lw_at lw_m5 44 rfl
theorem q1085 : (Jvm.Cond.instanceMethod ({ cls := "RiverWords", name := "flowTold", desc := "(LRiverWords$Form;Z)I" } : Jvm.MethodName)) ∈ lw_all := lw_g (lw_at lw_m5 45 rfl) rfl
theorem q1086 : (Jvm.Cond.code ({ cls := "RiverWords", name := "flowTold", desc := "(LRiverWords$Form;Z)I" } : Jvm.MethodName) prog_1_method_49_code (5 : Nat) (Option.some Jvm.ClassFile.FieldType.int)) ∈ lw_all := lw_g (lw_at lw_m5 46 rfl) rfl
theorem q1087 : (Jvm.Cond.methodLink "RiverWords" (346 : Nat) ({ cls := "RiverWords$Form", name := "isAsideOnly", desc := "()Z" } : Jvm.MethodName)) ∈ lw_all := lw_g (lw_at lw_m5 47 rfl) rfl
theorem q1091 : (Jvm.Cond.methodLink "RiverWords" (349 : Nat) ({ cls := "RiverWords$Form", name := "nearer", desc := "()LRiverWords$Form;" } : Jvm.MethodName)) ∈ lw_all := lw_g (lw_at lw_m5 51 rfl) rfl
theorem q1098 : (Jvm.Cond.methodLink "RiverWords" (353 : Nat) ({ cls := "RiverWords$Form", name := "upright", desc := "()LRiverWords$Form;" } : Jvm.MethodName)) ∈ lw_all := lw_g (lw_at lw_m5 58 rfl) rfl
theorem q1103 : (Jvm.Cond.instanceMethod ({ cls := "RiverWords", name := "lay", desc := "(I)I" } : Jvm.MethodName)) ∈ lw_all := lw_g (lw_at lw_m5 63 rfl) rfl
theorem q1104 : (Jvm.Cond.selects "RiverWords" ({ cls := "RiverWords", name := "lay", desc := "(I)I" } : Jvm.MethodName) ({ cls := "RiverWords", name := "lay", desc := "(I)I" } : Jvm.MethodName)) ∈ lw_all := lw_g (lw_at lw_m5 64 rfl) rfl
theorem q1105 : (Jvm.Cond.code ({ cls := "RiverWords", name := "lay", desc := "(I)I" } : Jvm.MethodName) prog_1_method_51_code (2 : Nat) (Option.some Jvm.ClassFile.FieldType.int)) ∈ lw_all := lw_g (lw_at lw_m5 65 rfl) rfl
theorem q1107 : (Jvm.Cond.instanceMethod ({ cls := "RiverWords", name := "where", desc := "(I)I" } : Jvm.MethodName)) ∈ lw_all := lw_g (lw_at lw_m5 67 rfl) rfl
theorem q1108 : (Jvm.Cond.selects "RiverWords" ({ cls := "RiverWords", name := "where", desc := "(I)I" } : Jvm.MethodName) ({ cls := "RiverWords", name := "where", desc := "(I)I" } : Jvm.MethodName)) ∈ lw_all := lw_g (lw_at lw_m5 68 rfl) rfl
theorem q1109 : (Jvm.Cond.code ({ cls := "RiverWords", name := "where", desc := "(I)I" } : Jvm.MethodName) prog_1_method_52_code (3 : Nat) (Option.some Jvm.ClassFile.FieldType.int)) ∈ lw_all := lw_g (lw_at lw_m5 69 rfl) rfl
theorem q1111 : (Jvm.Cond.instanceMethod ({ cls := "RiverWords", name := "drawn", desc := "(III)I" } : Jvm.MethodName)) ∈ lw_all := lw_g (lw_at lw_m5 71 rfl) rfl
theorem q1112 : (Jvm.Cond.selects "RiverWords" ({ cls := "RiverWords", name := "drawn", desc := "(III)I" } : Jvm.MethodName) ({ cls := "RiverWords", name := "drawn", desc := "(III)I" } : Jvm.MethodName)) ∈ lw_all := lw_g (lw_at lw_m5 72 rfl) rfl
theorem q1113 : (Jvm.Cond.code ({ cls := "RiverWords", name := "drawn", desc := "(III)I" } : Jvm.MethodName) prog_1_method_55_code (4 : Nat) (Option.some Jvm.ClassFile.FieldType.int)) ∈ lw_all := lw_g (lw_at lw_m5 73 rfl) rfl
theorem q1114 : (Jvm.Cond.methodLink "RiverWords" (380 : Nat) ({ cls := "RiverWords", name := "drawnTold", desc := "(III)I" } : Jvm.MethodName)) ∈ lw_all := lw_g (lw_at lw_m5 74 rfl) rfl
theorem q1115 : (Jvm.Cond.privateMethod ({ cls := "RiverWords", name := "drawnTold", desc := "(III)I" } : Jvm.MethodName)) ∈ lw_tbl := lw_at lw_m5 75 rfl
theorem q1116 : (Jvm.Cond.instanceMethod ({ cls := "RiverWords", name := "drawnTold", desc := "(III)I" } : Jvm.MethodName)) ∈ lw_all := lw_g (lw_at lw_m5 76 rfl) rfl
theorem q1117 : (Jvm.Cond.code ({ cls := "RiverWords", name := "drawnTold", desc := "(III)I" } : Jvm.MethodName) prog_1_method_54_code (10 : Nat) (Option.some Jvm.ClassFile.FieldType.int)) ∈ lw_all := lw_g (lw_at lw_m5 77 rfl) rfl
theorem q1118 : (Jvm.Cond.methodLink "RiverWords" (377 : Nat) ({ cls := "RiverWords", name := "draw", desc := "()Ljava/lang/String;" } : Jvm.MethodName)) ∈ lw_all := lw_g (lw_at lw_m5 78 rfl) rfl
theorem q1119 : (Jvm.Cond.privateMethod ({ cls := "RiverWords", name := "draw", desc := "()Ljava/lang/String;" } : Jvm.MethodName)) ∈ lw_tbl := lw_at lw_m5 79 rfl
theorem q1120 : (Jvm.Cond.instanceMethod ({ cls := "RiverWords", name := "draw", desc := "()Ljava/lang/String;" } : Jvm.MethodName)) ∈ lw_all := lw_g (lw_at lw_m5 80 rfl) rfl
theorem q1121 : (Jvm.Cond.code ({ cls := "RiverWords", name := "draw", desc := "()Ljava/lang/String;" } : Jvm.MethodName) prog_1_method_53_code (3 : Nat) (Option.some (Jvm.ClassFile.FieldType.object "java/lang/String"))) ∈ lw_all := lw_g (lw_at lw_m5 81 rfl) rfl
theorem q1122 : (Jvm.Cond.constantLong "RiverWords" (363 : Nat) (1103515245 : Int64)) ∈ lw_all := lw_g (lw_at lw_m5 82 rfl) rfl
theorem q1123 : (Jvm.Cond.constantLong "RiverWords" (369 : Nat) (12345 : Int64)) ∈ lw_all := lw_g (lw_at lw_m5 83 rfl) rfl
theorem q1124 : (Jvm.Cond.constantLong "RiverWords" (371 : Nat) (2147483647 : Int64)) ∈ lw_all := lw_g (lw_at lw_m5 84 rfl) rfl
theorem q1125 : (Jvm.Cond.constantLong "RiverWords" (373 : Nat) (65536 : Int64)) ∈ lw_all := lw_g (lw_at lw_m5 85 rfl) rfl
theorem q1126 : (Jvm.Cond.constantLong "RiverWords" (375 : Nat) (2 : Int64)) ∈ lw_all := lw_g (lw_at lw_m5 86 rfl) rfl
theorem q1128 : (Jvm.Cond.instanceMethod ({ cls := "RiverWords", name := "count", desc := "(I)I" } : Jvm.MethodName)) ∈ lw_all := lw_g (lw_at lw_m5 88 rfl) rfl
theorem q1129 : (Jvm.Cond.selects "RiverWords" ({ cls := "RiverWords", name := "count", desc := "(I)I" } : Jvm.MethodName) ({ cls := "RiverWords", name := "count", desc := "(I)I" } : Jvm.MethodName)) ∈ lw_all := lw_g (lw_at lw_m5 89 rfl) rfl
theorem q1130 : (Jvm.Cond.code ({ cls := "RiverWords", name := "count", desc := "(I)I" } : Jvm.MethodName) prog_1_method_59_code (2 : Nat) (Option.some Jvm.ClassFile.FieldType.int)) ∈ lw_all := lw_g (lw_at lw_m5 90 rfl) rfl
theorem q1131 : (Jvm.Cond.methodLink "RiverWords" (389 : Nat) ({ cls := "RiverWords", name := "countOf", desc := "(I)I" } : Jvm.MethodName)) ∈ lw_all := lw_g (lw_at lw_m5 91 rfl) rfl
theorem q1132 : (Jvm.Cond.privateMethod ({ cls := "RiverWords", name := "countOf", desc := "(I)I" } : Jvm.MethodName)) ∈ lw_tbl := lw_at lw_m5 92 rfl
theorem q1133 : (Jvm.Cond.instanceMethod ({ cls := "RiverWords", name := "countOf", desc := "(I)I" } : Jvm.MethodName)) ∈ lw_all := lw_g (lw_at lw_m5 93 rfl) rfl
theorem q1134 : (Jvm.Cond.code ({ cls := "RiverWords", name := "countOf", desc := "(I)I" } : Jvm.MethodName) prog_1_method_58_code (2 : Nat) (Option.some Jvm.ClassFile.FieldType.int)) ∈ lw_all := lw_g (lw_at lw_m5 94 rfl) rfl
theorem q1135 : (Jvm.Cond.methodLink "RiverWords" (383 : Nat) ({ cls := "RiverWords", name := "closedMany", desc := "()I" } : Jvm.MethodName)) ∈ lw_all := lw_g (lw_at lw_m5 95 rfl) rfl
theorem q1136 : (Jvm.Cond.privateMethod ({ cls := "RiverWords", name := "closedMany", desc := "()I" } : Jvm.MethodName)) ∈ lw_tbl := lw_at lw_m5 96 rfl
theorem q1137 : (Jvm.Cond.instanceMethod ({ cls := "RiverWords", name := "closedMany", desc := "()I" } : Jvm.MethodName)) ∈ lw_all := lw_g (lw_at lw_m5 97 rfl) rfl
theorem q1138 : (Jvm.Cond.code ({ cls := "RiverWords", name := "closedMany", desc := "()I" } : Jvm.MethodName) prog_1_method_56_code (3 : Nat) (Option.some Jvm.ClassFile.FieldType.int)) ∈ lw_all := lw_g (lw_at lw_m5 98 rfl) rfl
theorem q1139 : (Jvm.Cond.methodLink "RiverWords" (386 : Nat) ({ cls := "RiverWords", name := "unlikeMany", desc := "()I" } : Jvm.MethodName)) ∈ lw_all := lw_g (lw_at lw_m5 99 rfl) rfl
theorem q1140 : (Jvm.Cond.privateMethod ({ cls := "RiverWords", name := "unlikeMany", desc := "()I" } : Jvm.MethodName)) ∈ lw_tbl := lw_at lw_m5 100 rfl
theorem q1141 : (Jvm.Cond.instanceMethod ({ cls := "RiverWords", name := "unlikeMany", desc := "()I" } : Jvm.MethodName)) ∈ lw_all := lw_g (lw_at lw_m5 101 rfl) rfl
theorem q1142 : (Jvm.Cond.code ({ cls := "RiverWords", name := "unlikeMany", desc := "()I" } : Jvm.MethodName) prog_1_method_57_code (5 : Nat) (Option.some Jvm.ClassFile.FieldType.int)) ∈ lw_all := lw_g (lw_at lw_m5 102 rfl) rfl
theorem q1144 : (Jvm.Cond.instanceMethod ({ cls := "RiverWords", name := "digest", desc := "()J" } : Jvm.MethodName)) ∈ lw_all := lw_g (lw_at lw_m5 104 rfl) rfl
theorem q1145 : (Jvm.Cond.selects "RiverWords" ({ cls := "RiverWords", name := "digest", desc := "()J" } : Jvm.MethodName) ({ cls := "RiverWords", name := "digest", desc := "()J" } : Jvm.MethodName)) ∈ lw_all := lw_g (lw_at lw_m5 105 rfl) rfl
theorem q1146 : (Jvm.Cond.code ({ cls := "RiverWords", name := "digest", desc := "()J" } : Jvm.MethodName) prog_1_method_64_code (4 : Nat) (Option.some Jvm.ClassFile.FieldType.long)) ∈ lw_all := lw_g (lw_at lw_m5 106 rfl) rfl
theorem q1147 : (Jvm.Cond.constantLong "RiverWords" (400 : Nat) (1549 : Int64)) ∈ lw_all := lw_g (lw_at lw_m5 107 rfl) rfl
theorem q1148 : (Jvm.Cond.methodLink "RiverWords" (402 : Nat) ({ cls := "RiverWords", name := "mixedRoad", desc := "(JLRiverWords$Road;)J" } : Jvm.MethodName)) ∈ lw_all := lw_g (lw_at lw_m5 108 rfl) rfl
theorem q1149 : (Jvm.Cond.privateMethod ({ cls := "RiverWords", name := "mixedRoad", desc := "(JLRiverWords$Road;)J" } : Jvm.MethodName)) ∈ lw_tbl := lw_at lw_m5 109 rfl
theorem q1150 : (Jvm.Cond.instanceMethod ({ cls := "RiverWords", name := "mixedRoad", desc := "(JLRiverWords$Road;)J" } : Jvm.MethodName)) ∈ lw_all := lw_g (lw_at lw_m5 110 rfl) rfl
theorem q1151 : (Jvm.Cond.code ({ cls := "RiverWords", name := "mixedRoad", desc := "(JLRiverWords$Road;)J" } : Jvm.MethodName) prog_1_method_61_code (7 : Nat) (Option.some Jvm.ClassFile.FieldType.long)) ∈ lw_all := lw_g (lw_at lw_m5 111 rfl) rfl
theorem q1152 : (Jvm.Cond.methodLink "RiverWords" (394 : Nat) ({ cls := "RiverWords", name := "mixed", desc := "(JJ)J" } : Jvm.MethodName)) ∈ lw_all := lw_g (lw_at lw_m5 112 rfl) rfl
theorem q1153 : (Jvm.Cond.static ({ cls := "RiverWords", name := "mixed", desc := "(JJ)J" } : Jvm.MethodName)) ∈ lw_all := lw_g (lw_at lw_m5 113 rfl) rfl
theorem q1154 : (Jvm.Cond.code ({ cls := "RiverWords", name := "mixed", desc := "(JJ)J" } : Jvm.MethodName) prog_1_method_60_code (4 : Nat) (Option.some Jvm.ClassFile.FieldType.long)) ∈ lw_all := lw_g (lw_at lw_m5 114 rfl) rfl
theorem q1155 : (Jvm.Cond.constantLong "RiverWords" (392 : Nat) (31 : Int64)) ∈ lw_all := lw_g (lw_at lw_m5 115 rfl) rfl
theorem q1156 : (Jvm.Cond.methodLink "RiverWords" (406 : Nat) ({ cls := "RiverWords", name := "mixedCrossings", desc := "(J)J" } : Jvm.MethodName)) ∈ lw_all := lw_g (lw_at lw_m5 116 rfl) rfl
theorem q1157 : (Jvm.Cond.privateMethod ({ cls := "RiverWords", name := "mixedCrossings", desc := "(J)J" } : Jvm.MethodName)) ∈ lw_tbl := lw_at lw_m5 117 rfl
theorem q1158 : (Jvm.Cond.instanceMethod ({ cls := "RiverWords", name := "mixedCrossings", desc := "(J)J" } : Jvm.MethodName)) ∈ lw_all := lw_g (lw_at lw_m5 118 rfl) rfl
theorem q1159 : (Jvm.Cond.code ({ cls := "RiverWords", name := "mixedCrossings", desc := "(J)J" } : Jvm.MethodName) prog_1_method_62_code (8 : Nat) (Option.some Jvm.ClassFile.FieldType.long)) ∈ lw_all := lw_g (lw_at lw_m5 119 rfl) rfl
theorem q1160 : (Jvm.Cond.methodLink "RiverWords" (410 : Nat) ({ cls := "RiverWords", name := "mixedRiver", desc := "(J)J" } : Jvm.MethodName)) ∈ lw_all := lw_g (lw_at lw_m5 120 rfl) rfl
theorem q1161 : (Jvm.Cond.privateMethod ({ cls := "RiverWords", name := "mixedRiver", desc := "(J)J" } : Jvm.MethodName)) ∈ lw_tbl := lw_at lw_m5 121 rfl
theorem q1162 : (Jvm.Cond.instanceMethod ({ cls := "RiverWords", name := "mixedRiver", desc := "(J)J" } : Jvm.MethodName)) ∈ lw_all := lw_g (lw_at lw_m5 122 rfl) rfl
theorem q1163 : (Jvm.Cond.code ({ cls := "RiverWords", name := "mixedRiver", desc := "(J)J" } : Jvm.MethodName) prog_1_method_63_code (7 : Nat) (Option.some Jvm.ClassFile.FieldType.long)) ∈ lw_all := lw_g (lw_at lw_m5 123 rfl) rfl
theorem q1164 : (Jvm.Cond.methodLink "RiverWords" (398 : Nat) ({ cls := "RiverWords", name := "trace", desc := "(II)I" } : Jvm.MethodName)) ∈ lw_all := lw_g (lw_at lw_m5 124 rfl) rfl
theorem q1165 : (Jvm.Cond.methodLink "RiverWords" (413 : Nat) ({ cls := "java/lang/StringBuilder", name := "charAt", desc := "(I)C" } : Jvm.MethodName)) ∈ lw_all := lw_g (lw_at lw_m5 125 rfl) rfl
theorem q1647 : (Jvm.Cond.castable "RiverWords" "java/lang/Object") ∈ lw_tbl := lw_at lw_m7 127 rfl
theorem in_X0 : ∀ w ∈ wsX00, w ∈ lw_all := lw_in wsX00 [286, 288, 290, 292, 294, 296, 298, 300, 302, 304] (by decide +kernel) (by decide +kernel)
