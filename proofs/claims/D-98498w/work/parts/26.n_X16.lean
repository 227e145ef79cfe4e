/-! PuzzleWed$Compared -/
set_option maxRecDepth 100000
def RX16 : String := "PuzzleWed$Compared"
def TX16 : u_T := fun k => match k with
  | 0 => ("PuzzleWed$Compared", "x", "LPuzzleWed$Sum;", true)
  | 1 => ("PuzzleWed$Compared", "y", "LPuzzleWed$Sum;", true)
  | _ => ("PuzzleWed$Compared", "sign", "I", true)
def tyX16 : Nat → FieldType := fun k => match k with
  | 0 => .object "PuzzleWed$Sum"
  | 1 => .object "PuzzleWed$Sum"
  | _ => .int
abbrev wsX160 : List Cond := u_ws RX16 TX16 3
theorem nmX16 : ∀ a, a < 3 → ∀ b, b < 3 → a ≠ b → (TX16 a).2.1 ≠ (TX16 b).2.1 := by decide +kernel
theorem tyX16_ok : ∀ k, k < 3 → parseFieldDescriptor (TX16 k).2.2.1 = some (tyX16 k) := by decide +kernel
abbrev cX16_init : ByteArray := prog_4_method_1_code
def yX16_init : MethodName := ⟨RX16, "<init>", "(LPuzzleWed$Sum;ILPuzzleWed$Sum;)V"⟩
def dkwX16_init_0 : List UInt8 := [42, 183, 0, 1, 42, 43, 181, 0, 7, 42, 28, 181, 0, 13, 42, 45, 181, 0, 17, 177]
abbrev dktX16_init_0 : List UInt8 := dkwX16_init_0 ++ []
theorem dksX16_init_0 : cX16_init.data.toList.drop 0 = dktX16_init_0 := by decide +kernel
theorem dX16_init_0 : decode cX16_init 0 = .ok (.aload_n 0, 1) := dk_42 (dk_at dksX16_init_0 0 rfl rfl)
theorem dX16_init_1 : decode cX16_init 1 = .ok (.invokespecial 1, 3) := dk_183 0 1 (dk_at dksX16_init_0 1 rfl rfl)
theorem dX16_init_4 : decode cX16_init 4 = .ok (.aload_n 0, 1) := dk_42 (dk_at dksX16_init_0 4 rfl rfl)
theorem dX16_init_5 : decode cX16_init 5 = .ok (.aload_n 1, 1) := dk_43 (dk_at dksX16_init_0 5 rfl rfl)
theorem dX16_init_6 : decode cX16_init 6 = .ok (.putfield 7, 3) := dk_181 0 7 (dk_at dksX16_init_0 6 rfl rfl)
theorem dX16_init_9 : decode cX16_init 9 = .ok (.aload_n 0, 1) := dk_42 (dk_at dksX16_init_0 9 rfl rfl)
theorem dX16_init_10 : decode cX16_init 10 = .ok (.iload_n 2, 1) := dk_28 (dk_at dksX16_init_0 10 rfl rfl)
theorem dX16_init_11 : decode cX16_init 11 = .ok (.putfield 13, 3) := dk_181 0 13 (dk_at dksX16_init_0 11 rfl rfl)
theorem dX16_init_14 : decode cX16_init 14 = .ok (.aload_n 0, 1) := dk_42 (dk_at dksX16_init_0 14 rfl rfl)
theorem dX16_init_15 : decode cX16_init 15 = .ok (.aload_n 3, 1) := dk_45 (dk_at dksX16_init_0 15 rfl rfl)
theorem dX16_init_16 : decode cX16_init 16 = .ok (.putfield 17, 3) := dk_181 0 17 (dk_at dksX16_init_0 16 rfl rfl)
theorem dX16_init_19 : decode cX16_init 19 = .ok (.return_, 1) := dk_177 (dk_at dksX16_init_0 19 rfl rfl)
abbrev cX16_holds : ByteArray := prog_4_method_2_code
def yX16_holds : MethodName := ⟨RX16, "holds", "(LPuzzleWed$Asked;)I"⟩
def dkwX16_holds_4 : List UInt8 := [153, 0, 7, 4, 167, 0, 4, 3, 172]
abbrev dktX16_holds_4 : List UInt8 := dkwX16_holds_4 ++ []
def dkwX16_holds_3 : List UInt8 := [160, 0, 7, 4, 167, 0, 4, 3, 54, 4, 43, 180, 0, 20, 153, 0, 7, 5, 167, 0, 13, 21, 4]
abbrev dktX16_holds_3 : List UInt8 := dkwX16_holds_3 ++ dktX16_holds_4
def dkwX16_holds_2 : List UInt8 := [180, 0, 13, 16, 62, 160, 0, 16, 28, 29, 164, 0, 7, 4, 167, 0, 17, 3, 167, 0, 13, 28, 29]
abbrev dktX16_holds_2 : List UInt8 := dkwX16_holds_2 ++ dktX16_holds_3
def dkwX16_holds_1 : List UInt8 := [180, 0, 13, 16, 60, 160, 0, 16, 28, 29, 162, 0, 7, 4, 167, 0, 39, 3, 167, 0, 35, 42]
abbrev dktX16_holds_1 : List UInt8 := dkwX16_holds_1 ++ dktX16_holds_2
def dkwX16_holds_0 : List UInt8 := [43, 3, 181, 0, 20, 42, 180, 0, 7, 43, 182, 0, 26, 61, 42, 180, 0, 17, 43, 182, 0, 26, 62, 42]
abbrev dktX16_holds_0 : List UInt8 := dkwX16_holds_0 ++ dktX16_holds_1
theorem dksX16_holds_0 : cX16_holds.data.toList.drop 0 = dktX16_holds_0 := by decide +kernel
theorem dksX16_holds_1 : cX16_holds.data.toList.drop 24 = dktX16_holds_1 := dk_seg dksX16_holds_0 24 rfl rfl
theorem dksX16_holds_2 : cX16_holds.data.toList.drop 46 = dktX16_holds_2 := dk_seg dksX16_holds_1 22 rfl rfl
theorem dksX16_holds_3 : cX16_holds.data.toList.drop 69 = dktX16_holds_3 := dk_seg dksX16_holds_2 23 rfl rfl
theorem dksX16_holds_4 : cX16_holds.data.toList.drop 92 = dktX16_holds_4 := dk_seg dksX16_holds_3 23 rfl rfl
theorem dX16_holds_0 : decode cX16_holds 0 = .ok (.aload_n 1, 1) := dk_43 (dk_at dksX16_holds_0 0 rfl rfl)
theorem dX16_holds_1 : decode cX16_holds 1 = .ok (.iconst 0, 1) := dk_3 (dk_at dksX16_holds_0 1 rfl rfl)
theorem dX16_holds_2 : decode cX16_holds 2 = .ok (.putfield 20, 3) := dk_181 0 20 (dk_at dksX16_holds_0 2 rfl rfl)
theorem dX16_holds_5 : decode cX16_holds 5 = .ok (.aload_n 0, 1) := dk_42 (dk_at dksX16_holds_0 5 rfl rfl)
theorem dX16_holds_6 : decode cX16_holds 6 = .ok (.getfield 7, 3) := dk_180 0 7 (dk_at dksX16_holds_0 6 rfl rfl)
theorem dX16_holds_9 : decode cX16_holds 9 = .ok (.aload_n 1, 1) := dk_43 (dk_at dksX16_holds_0 9 rfl rfl)
theorem dX16_holds_10 : decode cX16_holds 10 = .ok (.invokevirtual 26, 3) := dk_182 0 26 (dk_at dksX16_holds_0 10 rfl rfl)
theorem dX16_holds_13 : decode cX16_holds 13 = .ok (.istore_n 2, 1) := dk_61 (dk_at dksX16_holds_0 13 rfl rfl)
theorem dX16_holds_14 : decode cX16_holds 14 = .ok (.aload_n 0, 1) := dk_42 (dk_at dksX16_holds_0 14 rfl rfl)
theorem dX16_holds_15 : decode cX16_holds 15 = .ok (.getfield 17, 3) := dk_180 0 17 (dk_at dksX16_holds_0 15 rfl rfl)
theorem dX16_holds_18 : decode cX16_holds 18 = .ok (.aload_n 1, 1) := dk_43 (dk_at dksX16_holds_0 18 rfl rfl)
theorem dX16_holds_19 : decode cX16_holds 19 = .ok (.invokevirtual 26, 3) := dk_182 0 26 (dk_at dksX16_holds_0 19 rfl rfl)
theorem dX16_holds_22 : decode cX16_holds 22 = .ok (.istore_n 3, 1) := dk_62 (dk_at dksX16_holds_0 22 rfl rfl)
theorem dX16_holds_23 : decode cX16_holds 23 = .ok (.aload_n 0, 1) := dk_42 (dk_at dksX16_holds_0 23 rfl rfl)
theorem dX16_holds_24 : decode cX16_holds 24 = .ok (.getfield 13, 3) := dk_180 0 13 (dk_at dksX16_holds_1 0 rfl rfl)
theorem dX16_holds_27 : decode cX16_holds 27 = .ok (.bipush 60, 2) := dk_16 60 (dk_at dksX16_holds_1 3 rfl rfl)
theorem dX16_holds_29 : decode cX16_holds 29 = .ok (.if_icmp .ne 16, 3) := dk_160 0 16 (dk_at dksX16_holds_1 5 rfl rfl)
theorem dX16_holds_32 : decode cX16_holds 32 = .ok (.iload_n 2, 1) := dk_28 (dk_at dksX16_holds_1 8 rfl rfl)
theorem dX16_holds_33 : decode cX16_holds 33 = .ok (.iload_n 3, 1) := dk_29 (dk_at dksX16_holds_1 9 rfl rfl)
theorem dX16_holds_34 : decode cX16_holds 34 = .ok (.if_icmp .ge 7, 3) := dk_162 0 7 (dk_at dksX16_holds_1 10 rfl rfl)
theorem dX16_holds_37 : decode cX16_holds 37 = .ok (.iconst 1, 1) := dk_4 (dk_at dksX16_holds_1 13 rfl rfl)
theorem dX16_holds_38 : decode cX16_holds 38 = .ok (.goto 39, 3) := dk_167 0 39 (dk_at dksX16_holds_1 14 rfl rfl)
theorem dX16_holds_41 : decode cX16_holds 41 = .ok (.iconst 0, 1) := dk_3 (dk_at dksX16_holds_1 17 rfl rfl)
theorem dX16_holds_42 : decode cX16_holds 42 = .ok (.goto 35, 3) := dk_167 0 35 (dk_at dksX16_holds_1 18 rfl rfl)
theorem dX16_holds_45 : decode cX16_holds 45 = .ok (.aload_n 0, 1) := dk_42 (dk_at dksX16_holds_1 21 rfl rfl)
theorem dX16_holds_46 : decode cX16_holds 46 = .ok (.getfield 13, 3) := dk_180 0 13 (dk_at dksX16_holds_2 0 rfl rfl)
theorem dX16_holds_49 : decode cX16_holds 49 = .ok (.bipush 62, 2) := dk_16 62 (dk_at dksX16_holds_2 3 rfl rfl)
theorem dX16_holds_51 : decode cX16_holds 51 = .ok (.if_icmp .ne 16, 3) := dk_160 0 16 (dk_at dksX16_holds_2 5 rfl rfl)
theorem dX16_holds_54 : decode cX16_holds 54 = .ok (.iload_n 2, 1) := dk_28 (dk_at dksX16_holds_2 8 rfl rfl)
theorem dX16_holds_55 : decode cX16_holds 55 = .ok (.iload_n 3, 1) := dk_29 (dk_at dksX16_holds_2 9 rfl rfl)
theorem dX16_holds_56 : decode cX16_holds 56 = .ok (.if_icmp .le 7, 3) := dk_164 0 7 (dk_at dksX16_holds_2 10 rfl rfl)
theorem dX16_holds_59 : decode cX16_holds 59 = .ok (.iconst 1, 1) := dk_4 (dk_at dksX16_holds_2 13 rfl rfl)
theorem dX16_holds_60 : decode cX16_holds 60 = .ok (.goto 17, 3) := dk_167 0 17 (dk_at dksX16_holds_2 14 rfl rfl)
theorem dX16_holds_63 : decode cX16_holds 63 = .ok (.iconst 0, 1) := dk_3 (dk_at dksX16_holds_2 17 rfl rfl)
theorem dX16_holds_64 : decode cX16_holds 64 = .ok (.goto 13, 3) := dk_167 0 13 (dk_at dksX16_holds_2 18 rfl rfl)
theorem dX16_holds_67 : decode cX16_holds 67 = .ok (.iload_n 2, 1) := dk_28 (dk_at dksX16_holds_2 21 rfl rfl)
theorem dX16_holds_68 : decode cX16_holds 68 = .ok (.iload_n 3, 1) := dk_29 (dk_at dksX16_holds_2 22 rfl rfl)
theorem dX16_holds_69 : decode cX16_holds 69 = .ok (.if_icmp .ne 7, 3) := dk_160 0 7 (dk_at dksX16_holds_3 0 rfl rfl)
theorem dX16_holds_72 : decode cX16_holds 72 = .ok (.iconst 1, 1) := dk_4 (dk_at dksX16_holds_3 3 rfl rfl)
theorem dX16_holds_73 : decode cX16_holds 73 = .ok (.goto 4, 3) := dk_167 0 4 (dk_at dksX16_holds_3 4 rfl rfl)
theorem dX16_holds_76 : decode cX16_holds 76 = .ok (.iconst 0, 1) := dk_3 (dk_at dksX16_holds_3 7 rfl rfl)
theorem dX16_holds_77 : decode cX16_holds 77 = .ok (.istore 4, 2) := dk_54 4 (dk_at dksX16_holds_3 8 rfl rfl)
theorem dX16_holds_79 : decode cX16_holds 79 = .ok (.aload_n 1, 1) := dk_43 (dk_at dksX16_holds_3 10 rfl rfl)
theorem dX16_holds_80 : decode cX16_holds 80 = .ok (.getfield 20, 3) := dk_180 0 20 (dk_at dksX16_holds_3 11 rfl rfl)
theorem dX16_holds_83 : decode cX16_holds 83 = .ok (.ifCond .eq 7, 3) := dk_153 0 7 (dk_at dksX16_holds_3 14 rfl rfl)
theorem dX16_holds_86 : decode cX16_holds 86 = .ok (.iconst 2, 1) := dk_5 (dk_at dksX16_holds_3 17 rfl rfl)
theorem dX16_holds_87 : decode cX16_holds 87 = .ok (.goto 13, 3) := dk_167 0 13 (dk_at dksX16_holds_3 18 rfl rfl)
theorem dX16_holds_90 : decode cX16_holds 90 = .ok (.iload 4, 2) := dk_21 4 (dk_at dksX16_holds_3 21 rfl rfl)
theorem dX16_holds_92 : decode cX16_holds 92 = .ok (.ifCond .eq 7, 3) := dk_153 0 7 (dk_at dksX16_holds_4 0 rfl rfl)
theorem dX16_holds_95 : decode cX16_holds 95 = .ok (.iconst 1, 1) := dk_4 (dk_at dksX16_holds_4 3 rfl rfl)
theorem dX16_holds_96 : decode cX16_holds 96 = .ok (.goto 4, 3) := dk_167 0 4 (dk_at dksX16_holds_4 4 rfl rfl)
theorem dX16_holds_99 : decode cX16_holds 99 = .ok (.iconst 0, 1) := dk_3 (dk_at dksX16_holds_4 7 rfl rfl)
theorem dX16_holds_100 : decode cX16_holds 100 = .ok (.ireturn, 1) := dk_172 (dk_at dksX16_holds_4 8 rfl rfl)
theorem q130 : (Jvm.Cond.initialized "PuzzleWed$Compared") ∈ lw_all := lw_g (lw_at lw_m1 23 rfl) rfl
theorem q157 : (Jvm.Cond.fieldLinkNest "PuzzleWed$Compared" (20 : Nat) "PuzzleWed$Asked" "isRefused" "Z" "PuzzleWed") ∈ lw_tbl := lw_at lw_m1 50 rfl
theorem q687 : (Jvm.Cond.instantiable "PuzzleWed$Compared" (3 : Nat)) ∈ lw_all := lw_g (lw_at lw_m3 100 rfl) rfl
theorem q689 : (Jvm.Cond.instanceMethod ({ cls := "PuzzleWed$Compared", name := "<init>", desc := "(LPuzzleWed$Sum;ILPuzzleWed$Sum;)V" } : Jvm.MethodName)) ∈ lw_all := lw_g (lw_at lw_m3 102 rfl) rfl
theorem q690 : (Jvm.Cond.code ({ cls := "PuzzleWed$Compared", name := "<init>", desc := "(LPuzzleWed$Sum;ILPuzzleWed$Sum;)V" } : Jvm.MethodName) prog_4_method_1_code (4 : Nat) (Option.none : Option Jvm.ClassFile.FieldType)) ∈ lw_all := lw_g (lw_at lw_m3 103 rfl) rfl
theorem q691 : (Jvm.Cond.methodLinkNest "PuzzleWed$Compared" (1 : Nat) ({ cls := "PuzzleWed$Condition", name := "<init>", desc := "()V" } : Jvm.MethodName) "PuzzleWed") ∈ lw_tbl := lw_at lw_m3 104 rfl
theorem q692 : (Jvm.Cond.fieldLink "PuzzleWed$Compared" (7 : Nat) "PuzzleWed$Compared" "x" "LPuzzleWed$Sum;") ∈ lw_all := lw_g (lw_at lw_m3 105 rfl) rfl
theorem q693 : (Jvm.Cond.fieldLink "PuzzleWed$Compared" (17 : Nat) "PuzzleWed$Compared" "y" "LPuzzleWed$Sum;") ∈ lw_all := lw_g (lw_at lw_m3 106 rfl) rfl
theorem q694 : (Jvm.Cond.fieldLink "PuzzleWed$Compared" (13 : Nat) "PuzzleWed$Compared" "sign" "I") ∈ lw_all := lw_g (lw_at lw_m3 107 rfl) rfl
theorem q695 : (Jvm.Cond.laysFinal "PuzzleWed$Compared" "PuzzleWed$Compared" "x" "LPuzzleWed$Sum;") ∈ lw_all := lw_g (lw_at lw_m3 108 rfl) rfl
theorem q696 : (Jvm.Cond.soleField "PuzzleWed$Compared" "x") ∈ lw_all := lw_g (lw_at lw_m3 109 rfl) rfl
theorem q697 : (Jvm.Cond.laysFinal "PuzzleWed$Compared" "PuzzleWed$Compared" "y" "LPuzzleWed$Sum;") ∈ lw_all := lw_g (lw_at lw_m3 110 rfl) rfl
theorem q698 : (Jvm.Cond.soleField "PuzzleWed$Compared" "y") ∈ lw_all := lw_g (lw_at lw_m3 111 rfl) rfl
theorem q699 : (Jvm.Cond.laysFinal "PuzzleWed$Compared" "PuzzleWed$Compared" "sign" "I") ∈ lw_all := lw_g (lw_at lw_m3 112 rfl) rfl
theorem q700 : (Jvm.Cond.soleField "PuzzleWed$Compared" "sign") ∈ lw_all := lw_g (lw_at lw_m3 113 rfl) rfl
theorem q701 : (Jvm.Cond.superclass "PuzzleWed$Compared" "PuzzleWed$Condition") ∈ lw_all := lw_g (lw_at lw_m3 114 rfl) rfl
theorem q972 : (Jvm.Cond.selects "PuzzleWed$Compared" ({ cls := "PuzzleWed$Condition", name := "holds", desc := "(LPuzzleWed$Asked;)I" } : Jvm.MethodName) ({ cls := "PuzzleWed$Compared", name := "holds", desc := "(LPuzzleWed$Asked;)I" } : Jvm.MethodName)) ∈ lw_all := lw_g (lw_at lw_m4 145 rfl) rfl
theorem q973 : (Jvm.Cond.instanceMethod ({ cls := "PuzzleWed$Compared", name := "holds", desc := "(LPuzzleWed$Asked;)I" } : Jvm.MethodName)) ∈ lw_all := lw_g (lw_at lw_m4 146 rfl) rfl
theorem q974 : (Jvm.Cond.code ({ cls := "PuzzleWed$Compared", name := "holds", desc := "(LPuzzleWed$Asked;)I" } : Jvm.MethodName) prog_4_method_2_code (5 : Nat) (Option.some Jvm.ClassFile.FieldType.int)) ∈ lw_all := lw_g (lw_at lw_m4 147 rfl) rfl
theorem q975 : (Jvm.Cond.methodLink "PuzzleWed$Compared" (26 : Nat) ({ cls := "PuzzleWed$Sum", name := "worth", desc := "(LPuzzleWed$Asked;)I" } : Jvm.MethodName)) ∈ lw_all := lw_g (lw_at lw_m4 148 rfl) rfl
theorem q1834 : (Jvm.Cond.castable "PuzzleWed$Compared" "PuzzleWed$Condition") ∈ lw_tbl := lw_at lw_m8 47 rfl
theorem in_X16 : ∀ w ∈ wsX160, w ∈ lw_all := lw_in wsX160 [695, 697, 699] (by decide +kernel) (by decide +kernel)
