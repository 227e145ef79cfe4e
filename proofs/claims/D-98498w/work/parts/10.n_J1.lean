/-! java/lang/StringLatin1 -/
set_option maxRecDepth 100000
def RJ1 : String := "java/lang/StringLatin1"
abbrev cJ1_indexOf : ByteArray := prog_26_method_22_code
def yJ1_indexOf : MethodName := ⟨RJ1, "indexOf", "([BIII)I"⟩
def dkwJ1_indexOf_1 : List UInt8 := [161, 0, 5, 2, 172, 42, 27, 28, 29, 184, 0, 95, 172]
abbrev dktJ1_indexOf_1 : List UInt8 := dkwJ1_indexOf_1 ++ []
def dkwJ1_indexOf_0 : List UInt8 := [27, 184, 0, 88, 154, 0, 5, 2, 172, 28, 3, 184, 0, 92, 61, 29, 42, 190, 184, 0, 38, 62, 28, 29]
abbrev dktJ1_indexOf_0 : List UInt8 := dkwJ1_indexOf_0 ++ dktJ1_indexOf_1
theorem dksJ1_indexOf_0 : cJ1_indexOf.data.toList.drop 0 = dktJ1_indexOf_0 := by decide +kernel
theorem dksJ1_indexOf_1 : cJ1_indexOf.data.toList.drop 24 = dktJ1_indexOf_1 := dk_seg dksJ1_indexOf_0 24 rfl rfl
theorem dJ1_indexOf_0 : decode cJ1_indexOf 0 = .ok (.iload_n 1, 1) := dk_27 (dk_at dksJ1_indexOf_0 0 rfl rfl)
theorem dJ1_indexOf_1 : decode cJ1_indexOf 1 = .ok (.invokestatic 88, 3) := dk_184 0 88 (dk_at dksJ1_indexOf_0 1 rfl rfl)
theorem dJ1_indexOf_4 : decode cJ1_indexOf 4 = .ok (.ifCond .ne 5, 3) := dk_154 0 5 (dk_at dksJ1_indexOf_0 4 rfl rfl)
theorem dJ1_indexOf_7 : decode cJ1_indexOf 7 = .ok (.iconst (-1), 1) := dk_2 (dk_at dksJ1_indexOf_0 7 rfl rfl)
theorem dJ1_indexOf_8 : decode cJ1_indexOf 8 = .ok (.ireturn, 1) := dk_172 (dk_at dksJ1_indexOf_0 8 rfl rfl)
theorem dJ1_indexOf_9 : decode cJ1_indexOf 9 = .ok (.iload_n 2, 1) := dk_28 (dk_at dksJ1_indexOf_0 9 rfl rfl)
theorem dJ1_indexOf_10 : decode cJ1_indexOf 10 = .ok (.iconst 0, 1) := dk_3 (dk_at dksJ1_indexOf_0 10 rfl rfl)
theorem dJ1_indexOf_11 : decode cJ1_indexOf 11 = .ok (.invokestatic 92, 3) := dk_184 0 92 (dk_at dksJ1_indexOf_0 11 rfl rfl)
theorem dJ1_indexOf_14 : decode cJ1_indexOf 14 = .ok (.istore_n 2, 1) := dk_61 (dk_at dksJ1_indexOf_0 14 rfl rfl)
theorem dJ1_indexOf_15 : decode cJ1_indexOf 15 = .ok (.iload_n 3, 1) := dk_29 (dk_at dksJ1_indexOf_0 15 rfl rfl)
theorem dJ1_indexOf_16 : decode cJ1_indexOf 16 = .ok (.aload_n 0, 1) := dk_42 (dk_at dksJ1_indexOf_0 16 rfl rfl)
theorem dJ1_indexOf_17 : decode cJ1_indexOf 17 = .ok (.arraylength, 1) := dk_190 (dk_at dksJ1_indexOf_0 17 rfl rfl)
theorem dJ1_indexOf_18 : decode cJ1_indexOf 18 = .ok (.invokestatic 38, 3) := dk_184 0 38 (dk_at dksJ1_indexOf_0 18 rfl rfl)
theorem dJ1_indexOf_21 : decode cJ1_indexOf 21 = .ok (.istore_n 3, 1) := dk_62 (dk_at dksJ1_indexOf_0 21 rfl rfl)
theorem dJ1_indexOf_22 : decode cJ1_indexOf 22 = .ok (.iload_n 2, 1) := dk_28 (dk_at dksJ1_indexOf_0 22 rfl rfl)
theorem dJ1_indexOf_23 : decode cJ1_indexOf 23 = .ok (.iload_n 3, 1) := dk_29 (dk_at dksJ1_indexOf_0 23 rfl rfl)
theorem dJ1_indexOf_24 : decode cJ1_indexOf 24 = .ok (.if_icmp .lt 5, 3) := dk_161 0 5 (dk_at dksJ1_indexOf_1 0 rfl rfl)
theorem dJ1_indexOf_27 : decode cJ1_indexOf 27 = .ok (.iconst (-1), 1) := dk_2 (dk_at dksJ1_indexOf_1 3 rfl rfl)
theorem dJ1_indexOf_28 : decode cJ1_indexOf 28 = .ok (.ireturn, 1) := dk_172 (dk_at dksJ1_indexOf_1 4 rfl rfl)
theorem dJ1_indexOf_29 : decode cJ1_indexOf 29 = .ok (.aload_n 0, 1) := dk_42 (dk_at dksJ1_indexOf_1 5 rfl rfl)
theorem dJ1_indexOf_30 : decode cJ1_indexOf 30 = .ok (.iload_n 1, 1) := dk_27 (dk_at dksJ1_indexOf_1 6 rfl rfl)
theorem dJ1_indexOf_31 : decode cJ1_indexOf 31 = .ok (.iload_n 2, 1) := dk_28 (dk_at dksJ1_indexOf_1 7 rfl rfl)
theorem dJ1_indexOf_32 : decode cJ1_indexOf 32 = .ok (.iload_n 3, 1) := dk_29 (dk_at dksJ1_indexOf_1 8 rfl rfl)
theorem dJ1_indexOf_33 : decode cJ1_indexOf 33 = .ok (.invokestatic 95, 3) := dk_184 0 95 (dk_at dksJ1_indexOf_1 9 rfl rfl)
theorem dJ1_indexOf_36 : decode cJ1_indexOf 36 = .ok (.ireturn, 1) := dk_172 (dk_at dksJ1_indexOf_1 12 rfl rfl)
abbrev cJ1_canEncode : ByteArray := prog_26_method_4_code
def yJ1_canEncode : MethodName := ⟨RJ1, "canEncode", "(I)Z"⟩
def dkwJ1_canEncode_0 : List UInt8 := [26, 155, 0, 14, 26, 17, 0, 255, 163, 0, 7, 4, 167, 0, 4, 3, 172]
abbrev dktJ1_canEncode_0 : List UInt8 := dkwJ1_canEncode_0 ++ []
theorem dksJ1_canEncode_0 : cJ1_canEncode.data.toList.drop 0 = dktJ1_canEncode_0 := by decide +kernel
theorem dJ1_canEncode_0 : decode cJ1_canEncode 0 = .ok (.iload_n 0, 1) := dk_26 (dk_at dksJ1_canEncode_0 0 rfl rfl)
theorem dJ1_canEncode_1 : decode cJ1_canEncode 1 = .ok (.ifCond .lt 14, 3) := dk_155 0 14 (dk_at dksJ1_canEncode_0 1 rfl rfl)
theorem dJ1_canEncode_4 : decode cJ1_canEncode 4 = .ok (.iload_n 0, 1) := dk_26 (dk_at dksJ1_canEncode_0 4 rfl rfl)
theorem dJ1_canEncode_5 : decode cJ1_canEncode 5 = .ok (.sipush 255, 3) := dk_17 0 255 (dk_at dksJ1_canEncode_0 5 rfl rfl)
theorem dJ1_canEncode_8 : decode cJ1_canEncode 8 = .ok (.if_icmp .gt 7, 3) := dk_163 0 7 (dk_at dksJ1_canEncode_0 8 rfl rfl)
theorem dJ1_canEncode_11 : decode cJ1_canEncode 11 = .ok (.iconst 1, 1) := dk_4 (dk_at dksJ1_canEncode_0 11 rfl rfl)
theorem dJ1_canEncode_12 : decode cJ1_canEncode 12 = .ok (.goto 4, 3) := dk_167 0 4 (dk_at dksJ1_canEncode_0 12 rfl rfl)
theorem dJ1_canEncode_15 : decode cJ1_canEncode 15 = .ok (.iconst 0, 1) := dk_3 (dk_at dksJ1_canEncode_0 15 rfl rfl)
theorem dJ1_canEncode_16 : decode cJ1_canEncode 16 = .ok (.ireturn, 1) := dk_172 (dk_at dksJ1_canEncode_0 16 rfl rfl)
abbrev cJ1_indexOfChar : ByteArray := prog_26_method_23_code
def yJ1_indexOfChar : MethodName := ⟨RJ1, "indexOfChar", "([BIII)I"⟩
def dkwJ1_indexOfChar_1 : List UInt8 := [172, 132, 5, 1, 167, 255, 235, 2, 172]
abbrev dktJ1_indexOfChar_1 : List UInt8 := dkwJ1_indexOfChar_1 ++ []
def dkwJ1_indexOfChar_0 : List UInt8 := [27, 145, 54, 4, 28, 54, 5, 21, 5, 29, 162, 0, 21, 42, 21, 5, 51, 21, 4, 160, 0, 6, 21, 5]
abbrev dktJ1_indexOfChar_0 : List UInt8 := dkwJ1_indexOfChar_0 ++ dktJ1_indexOfChar_1
theorem dksJ1_indexOfChar_0 : cJ1_indexOfChar.data.toList.drop 0 = dktJ1_indexOfChar_0 := by decide +kernel
theorem dksJ1_indexOfChar_1 : cJ1_indexOfChar.data.toList.drop 24 = dktJ1_indexOfChar_1 := dk_seg dksJ1_indexOfChar_0 24 rfl rfl
theorem dJ1_indexOfChar_0 : decode cJ1_indexOfChar 0 = .ok (.iload_n 1, 1) := dk_27 (dk_at dksJ1_indexOfChar_0 0 rfl rfl)
theorem dJ1_indexOfChar_1 : decode cJ1_indexOfChar 1 = .ok (.i2b, 1) := dk_145 (dk_at dksJ1_indexOfChar_0 1 rfl rfl)
theorem dJ1_indexOfChar_2 : decode cJ1_indexOfChar 2 = .ok (.istore 4, 2) := dk_54 4 (dk_at dksJ1_indexOfChar_0 2 rfl rfl)
theorem dJ1_indexOfChar_4 : decode cJ1_indexOfChar 4 = .ok (.iload_n 2, 1) := dk_28 (dk_at dksJ1_indexOfChar_0 4 rfl rfl)
theorem dJ1_indexOfChar_5 : decode cJ1_indexOfChar 5 = .ok (.istore 5, 2) := dk_54 5 (dk_at dksJ1_indexOfChar_0 5 rfl rfl)
theorem dJ1_indexOfChar_7 : decode cJ1_indexOfChar 7 = .ok (.iload 5, 2) := dk_21 5 (dk_at dksJ1_indexOfChar_0 7 rfl rfl)
theorem dJ1_indexOfChar_9 : decode cJ1_indexOfChar 9 = .ok (.iload_n 3, 1) := dk_29 (dk_at dksJ1_indexOfChar_0 9 rfl rfl)
theorem dJ1_indexOfChar_10 : decode cJ1_indexOfChar 10 = .ok (.if_icmp .ge 21, 3) := dk_162 0 21 (dk_at dksJ1_indexOfChar_0 10 rfl rfl)
theorem dJ1_indexOfChar_13 : decode cJ1_indexOfChar 13 = .ok (.aload_n 0, 1) := dk_42 (dk_at dksJ1_indexOfChar_0 13 rfl rfl)
theorem dJ1_indexOfChar_14 : decode cJ1_indexOfChar 14 = .ok (.iload 5, 2) := dk_21 5 (dk_at dksJ1_indexOfChar_0 14 rfl rfl)
theorem dJ1_indexOfChar_16 : decode cJ1_indexOfChar 16 = .ok (.baload, 1) := dk_51 (dk_at dksJ1_indexOfChar_0 16 rfl rfl)
theorem dJ1_indexOfChar_17 : decode cJ1_indexOfChar 17 = .ok (.iload 4, 2) := dk_21 4 (dk_at dksJ1_indexOfChar_0 17 rfl rfl)
theorem dJ1_indexOfChar_19 : decode cJ1_indexOfChar 19 = .ok (.if_icmp .ne 6, 3) := dk_160 0 6 (dk_at dksJ1_indexOfChar_0 19 rfl rfl)
theorem dJ1_indexOfChar_22 : decode cJ1_indexOfChar 22 = .ok (.iload 5, 2) := dk_21 5 (dk_at dksJ1_indexOfChar_0 22 rfl rfl)
theorem dJ1_indexOfChar_24 : decode cJ1_indexOfChar 24 = .ok (.ireturn, 1) := dk_172 (dk_at dksJ1_indexOfChar_1 0 rfl rfl)
theorem dJ1_indexOfChar_25 : decode cJ1_indexOfChar 25 = .ok (.iinc 5 1, 3) := dk_132 5 1 (dk_at dksJ1_indexOfChar_1 1 rfl rfl)
theorem dJ1_indexOfChar_28 : decode cJ1_indexOfChar 28 = .ok (.goto (-21), 3) := dk_167 255 235 (dk_at dksJ1_indexOfChar_1 4 rfl rfl)
theorem dJ1_indexOfChar_31 : decode cJ1_indexOfChar 31 = .ok (.iconst (-1), 1) := dk_2 (dk_at dksJ1_indexOfChar_1 7 rfl rfl)
theorem dJ1_indexOfChar_32 : decode cJ1_indexOfChar 32 = .ok (.ireturn, 1) := dk_172 (dk_at dksJ1_indexOfChar_1 8 rfl rfl)
theorem q118 : (Jvm.Cond.initialized "java/lang/StringLatin1") ∈ lw_all := lw_g (lw_at lw_m1 11 rfl) rfl
theorem q523 : (Jvm.Cond.static ({ cls := "java/lang/StringLatin1", name := "indexOf", desc := "([BIII)I" } : Jvm.MethodName)) ∈ lw_all := lw_g (lw_at lw_m2 176 rfl) rfl
theorem q524 : (Jvm.Cond.code ({ cls := "java/lang/StringLatin1", name := "indexOf", desc := "([BIII)I" } : Jvm.MethodName) prog_26_method_22_code (4 : Nat) (Option.some Jvm.ClassFile.FieldType.int)) ∈ lw_all := lw_g (lw_at lw_m2 177 rfl) rfl
theorem q525 : (Jvm.Cond.methodLink "java/lang/StringLatin1" (88 : Nat) ({ cls := "java/lang/StringLatin1", name := "canEncode", desc := "(I)Z" } : Jvm.MethodName)) ∈ lw_all := lw_g (lw_at lw_m2 178 rfl) rfl
theorem q526 : (Jvm.Cond.static ({ cls := "java/lang/StringLatin1", name := "canEncode", desc := "(I)Z" } : Jvm.MethodName)) ∈ lw_all := lw_g (lw_at lw_m2 179 rfl) rfl
theorem q527 : (Jvm.Cond.code ({ cls := "java/lang/StringLatin1", name := "canEncode", desc := "(I)Z" } : Jvm.MethodName) prog_26_method_4_code (1 : Nat) (Option.some Jvm.ClassFile.FieldType.boolean)) ∈ lw_all := lw_g (lw_at lw_m2 180 rfl) rfl
theorem q528 : (Jvm.Cond.methodLink "java/lang/StringLatin1" (92 : Nat) ({ cls := "java/lang/Math", name := "max", desc := "(II)I" } : Jvm.MethodName)) ∈ lw_all := lw_g (lw_at lw_m2 181 rfl) rfl
theorem q531 : (Jvm.Cond.methodLink "java/lang/StringLatin1" (38 : Nat) ({ cls := "java/lang/Math", name := "min", desc := "(II)I" } : Jvm.MethodName)) ∈ lw_all := lw_g (lw_at lw_m2 184 rfl) rfl
theorem q534 : (Jvm.Cond.methodLink "java/lang/StringLatin1" (95 : Nat) ({ cls := "java/lang/StringLatin1", name := "indexOfChar", desc := "([BIII)I" } : Jvm.MethodName)) ∈ lw_all := lw_g (lw_at lw_m2 187 rfl) rfl
theorem q535 : (Jvm.Cond.static ({ cls := "java/lang/StringLatin1", name := "indexOfChar", desc := "([BIII)I" } : Jvm.MethodName)) ∈ lw_all := lw_g (lw_at lw_m2 188 rfl) rfl
theorem q536 : (Jvm.Cond.code ({ cls := "java/lang/StringLatin1", name := "indexOfChar", desc := "([BIII)I" } : Jvm.MethodName) prog_26_method_23_code (6 : Nat) (Option.some Jvm.ClassFile.FieldType.int)) ∈ lw_all := lw_g (lw_at lw_m2 189 rfl) rfl
