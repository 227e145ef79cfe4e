/-! PuzzleWed$Row -/
set_option maxRecDepth 100000
def RX10 : String := "PuzzleWed$Row"
def TX10 : u_T := fun k => match k with
  | 0 => ("PuzzleWed$Row", "sign", "I", true)
  | 1 => ("PuzzleWed$Row", "part", "LPuzzleWed$Sum;", true)
  | _ => ("PuzzleWed$Row", "next", "LPuzzleWed$Row;", false)
def tyX10 : Nat → FieldType := fun k => match k with
  | 0 => .int
  | 1 => .object "PuzzleWed$Sum"
  | _ => .object "PuzzleWed$Row"
abbrev wsX100 : List Cond := u_ws RX10 TX10 3
theorem nmX10 : ∀ a, a < 3 → ∀ b, b < 3 → a ≠ b → (TX10 a).2.1 ≠ (TX10 b).2.1 := by decide +kernel
theorem tyX10_ok : ∀ k, k < 3 → parseFieldDescriptor (TX10 k).2.2.1 = some (tyX10 k) := by decide +kernel
abbrev cX10_init : ByteArray := prog_15_method_1_code
def yX10_init : MethodName := ⟨RX10, "<init>", "(ILPuzzleWed$Sum;)V"⟩
def dkwX10_init_0 : List UInt8 := [42, 183, 0, 1, 42, 27, 181, 0, 7, 42, 44, 181, 0, 13, 177]
abbrev dktX10_init_0 : List UInt8 := dkwX10_init_0 ++ []
theorem dksX10_init_0 : cX10_init.data.toList.drop 0 = dktX10_init_0 := by decide +kernel
theorem dX10_init_0 : decode cX10_init 0 = .ok (.aload_n 0, 1) := dk_42 (dk_at dksX10_init_0 0 rfl rfl)
theorem dX10_init_1 : decode cX10_init 1 = .ok (.invokespecial 1, 3) := dk_183 0 1 (dk_at dksX10_init_0 1 rfl rfl)
theorem dX10_init_4 : decode cX10_init 4 = .ok (.aload_n 0, 1) := dk_42 (dk_at dksX10_init_0 4 rfl rfl)
theorem dX10_init_5 : decode cX10_init 5 = .ok (.iload_n 1, 1) := dk_27 (dk_at dksX10_init_0 5 rfl rfl)
theorem dX10_init_6 : decode cX10_init 6 = .ok (.putfield 7, 3) := dk_181 0 7 (dk_at dksX10_init_0 6 rfl rfl)
theorem dX10_init_9 : decode cX10_init 9 = .ok (.aload_n 0, 1) := dk_42 (dk_at dksX10_init_0 9 rfl rfl)
theorem dX10_init_10 : decode cX10_init 10 = .ok (.aload_n 2, 1) := dk_44 (dk_at dksX10_init_0 10 rfl rfl)
theorem dX10_init_11 : decode cX10_init 11 = .ok (.putfield 13, 3) := dk_181 0 13 (dk_at dksX10_init_0 11 rfl rfl)
theorem dX10_init_14 : decode cX10_init 14 = .ok (.return_, 1) := dk_177 (dk_at dksX10_init_0 14 rfl rfl)
abbrev cX10_worth : ByteArray := prog_15_method_3_code
def yX10_worth : MethodName := ⟨RX10, "worth", "(LPuzzleWed$Asked;)I"⟩
def dkwX10_worth_1 : List UInt8 := [180, 0, 13, 43, 182, 0, 23, 43, 184, 0, 31, 61, 45, 180, 0, 27, 78, 167, 255, 229, 28, 172]
abbrev dktX10_worth_1 : List UInt8 := dkwX10_worth_1 ++ []
def dkwX10_worth_0 : List UInt8 := [42, 180, 0, 13, 43, 182, 0, 23, 61, 42, 180, 0, 27, 78, 45, 198, 0, 29, 45, 180, 0, 7, 28, 45]
abbrev dktX10_worth_0 : List UInt8 := dkwX10_worth_0 ++ dktX10_worth_1
theorem dksX10_worth_0 : cX10_worth.data.toList.drop 0 = dktX10_worth_0 := by decide +kernel
theorem dksX10_worth_1 : cX10_worth.data.toList.drop 24 = dktX10_worth_1 := dk_seg dksX10_worth_0 24 rfl rfl
theorem dX10_worth_0 : decode cX10_worth 0 = .ok (.aload_n 0, 1) := dk_42 (dk_at dksX10_worth_0 0 rfl rfl)
theorem dX10_worth_1 : decode cX10_worth 1 = .ok (.getfield 13, 3) := dk_180 0 13 (dk_at dksX10_worth_0 1 rfl rfl)
theorem dX10_worth_4 : decode cX10_worth 4 = .ok (.aload_n 1, 1) := dk_43 (dk_at dksX10_worth_0 4 rfl rfl)
theorem dX10_worth_5 : decode cX10_worth 5 = .ok (.invokevirtual 23, 3) := dk_182 0 23 (dk_at dksX10_worth_0 5 rfl rfl)
theorem dX10_worth_8 : decode cX10_worth 8 = .ok (.istore_n 2, 1) := dk_61 (dk_at dksX10_worth_0 8 rfl rfl)
theorem dX10_worth_9 : decode cX10_worth 9 = .ok (.aload_n 0, 1) := dk_42 (dk_at dksX10_worth_0 9 rfl rfl)
theorem dX10_worth_10 : decode cX10_worth 10 = .ok (.getfield 27, 3) := dk_180 0 27 (dk_at dksX10_worth_0 10 rfl rfl)
theorem dX10_worth_13 : decode cX10_worth 13 = .ok (.astore_n 3, 1) := dk_78 (dk_at dksX10_worth_0 13 rfl rfl)
theorem dX10_worth_14 : decode cX10_worth 14 = .ok (.aload_n 3, 1) := dk_45 (dk_at dksX10_worth_0 14 rfl rfl)
theorem dX10_worth_15 : decode cX10_worth 15 = .ok (.ifnull 29, 3) := dk_198 0 29 (dk_at dksX10_worth_0 15 rfl rfl)
theorem dX10_worth_18 : decode cX10_worth 18 = .ok (.aload_n 3, 1) := dk_45 (dk_at dksX10_worth_0 18 rfl rfl)
theorem dX10_worth_19 : decode cX10_worth 19 = .ok (.getfield 7, 3) := dk_180 0 7 (dk_at dksX10_worth_0 19 rfl rfl)
theorem dX10_worth_22 : decode cX10_worth 22 = .ok (.iload_n 2, 1) := dk_28 (dk_at dksX10_worth_0 22 rfl rfl)
theorem dX10_worth_23 : decode cX10_worth 23 = .ok (.aload_n 3, 1) := dk_45 (dk_at dksX10_worth_0 23 rfl rfl)
theorem dX10_worth_24 : decode cX10_worth 24 = .ok (.getfield 13, 3) := dk_180 0 13 (dk_at dksX10_worth_1 0 rfl rfl)
theorem dX10_worth_27 : decode cX10_worth 27 = .ok (.aload_n 1, 1) := dk_43 (dk_at dksX10_worth_1 3 rfl rfl)
theorem dX10_worth_28 : decode cX10_worth 28 = .ok (.invokevirtual 23, 3) := dk_182 0 23 (dk_at dksX10_worth_1 4 rfl rfl)
theorem dX10_worth_31 : decode cX10_worth 31 = .ok (.aload_n 1, 1) := dk_43 (dk_at dksX10_worth_1 7 rfl rfl)
theorem dX10_worth_32 : decode cX10_worth 32 = .ok (.invokestatic 31, 3) := dk_184 0 31 (dk_at dksX10_worth_1 8 rfl rfl)
theorem dX10_worth_35 : decode cX10_worth 35 = .ok (.istore_n 2, 1) := dk_61 (dk_at dksX10_worth_1 11 rfl rfl)
theorem dX10_worth_36 : decode cX10_worth 36 = .ok (.aload_n 3, 1) := dk_45 (dk_at dksX10_worth_1 12 rfl rfl)
theorem dX10_worth_37 : decode cX10_worth 37 = .ok (.getfield 27, 3) := dk_180 0 27 (dk_at dksX10_worth_1 13 rfl rfl)
theorem dX10_worth_40 : decode cX10_worth 40 = .ok (.astore_n 3, 1) := dk_78 (dk_at dksX10_worth_1 16 rfl rfl)
theorem dX10_worth_41 : decode cX10_worth 41 = .ok (.goto (-27), 3) := dk_167 255 229 (dk_at dksX10_worth_1 17 rfl rfl)
theorem dX10_worth_44 : decode cX10_worth 44 = .ok (.iload_n 2, 1) := dk_28 (dk_at dksX10_worth_1 20 rfl rfl)
theorem dX10_worth_45 : decode cX10_worth 45 = .ok (.ireturn, 1) := dk_172 (dk_at dksX10_worth_1 21 rfl rfl)
abbrev cX10_worked : ByteArray := prog_15_method_2_code
def yX10_worked : MethodName := ⟨RX10, "worked", "(IIILPuzzleWed$Asked;)I"⟩
def dkwX10_worked_3 : List UInt8 := [154, 0, 7, 3, 167, 0, 18, 26, 16, 47, 160, 0, 9, 27, 28, 108, 167, 0, 6, 27, 28, 112, 172]
abbrev dktX10_worked_3 : List UInt8 := dkwX10_worked_3 ++ []
def dkwX10_worked_2 : List UInt8 := [27, 28, 96, 172, 27, 28, 100, 172, 27, 28, 104, 172, 28, 154, 0, 8, 45, 4, 181, 0, 17, 28]
abbrev dktX10_worked_2 : List UInt8 := dkwX10_worked_2 ++ dktX10_worked_3
def dkwX10_worked_1 : List UInt8 := [170, 0, 0, 0, 0, 0, 43, 0, 0, 0, 42, 0, 0, 0, 45, 0, 0, 0, 39, 0, 0, 0, 31, 0, 0, 0, 43, 0, 0, 0, 35]
abbrev dktX10_worked_1 : List UInt8 := dkwX10_worked_1 ++ dktX10_worked_2
def dkwX10_worked_0 : List UInt8 := [26]
abbrev dktX10_worked_0 : List UInt8 := dkwX10_worked_0 ++ dktX10_worked_1
theorem dksX10_worked_0 : cX10_worked.data.toList.drop 0 = dktX10_worked_0 := by decide +kernel
theorem dksX10_worked_1 : cX10_worked.data.toList.drop 1 = dktX10_worked_1 := dk_seg dksX10_worked_0 1 rfl rfl
theorem dksX10_worked_2 : cX10_worked.data.toList.drop 32 = dktX10_worked_2 := dk_seg dksX10_worked_1 31 rfl rfl
theorem dksX10_worked_3 : cX10_worked.data.toList.drop 54 = dktX10_worked_3 := dk_seg dksX10_worked_2 22 rfl rfl
theorem dX10_worked_0 : decode cX10_worked 0 = .ok (.iload_n 0, 1) := dk_26 (dk_at dksX10_worked_0 0 rfl rfl)
theorem dX10_worked_1 : decode cX10_worked 1 = .ok (.tableswitch 43 42 45 #[39, 31, 43, 35], 31) := by decide +kernel
theorem dX10_worked_32 : decode cX10_worked 32 = .ok (.iload_n 1, 1) := dk_27 (dk_at dksX10_worked_2 0 rfl rfl)
theorem dX10_worked_33 : decode cX10_worked 33 = .ok (.iload_n 2, 1) := dk_28 (dk_at dksX10_worked_2 1 rfl rfl)
theorem dX10_worked_34 : decode cX10_worked 34 = .ok (.iadd, 1) := dk_96 (dk_at dksX10_worked_2 2 rfl rfl)
theorem dX10_worked_35 : decode cX10_worked 35 = .ok (.ireturn, 1) := dk_172 (dk_at dksX10_worked_2 3 rfl rfl)
theorem dX10_worked_36 : decode cX10_worked 36 = .ok (.iload_n 1, 1) := dk_27 (dk_at dksX10_worked_2 4 rfl rfl)
theorem dX10_worked_37 : decode cX10_worked 37 = .ok (.iload_n 2, 1) := dk_28 (dk_at dksX10_worked_2 5 rfl rfl)
theorem dX10_worked_38 : decode cX10_worked 38 = .ok (.isub, 1) := dk_100 (dk_at dksX10_worked_2 6 rfl rfl)
theorem dX10_worked_39 : decode cX10_worked 39 = .ok (.ireturn, 1) := dk_172 (dk_at dksX10_worked_2 7 rfl rfl)
theorem dX10_worked_40 : decode cX10_worked 40 = .ok (.iload_n 1, 1) := dk_27 (dk_at dksX10_worked_2 8 rfl rfl)
theorem dX10_worked_41 : decode cX10_worked 41 = .ok (.iload_n 2, 1) := dk_28 (dk_at dksX10_worked_2 9 rfl rfl)
theorem dX10_worked_42 : decode cX10_worked 42 = .ok (.imul, 1) := dk_104 (dk_at dksX10_worked_2 10 rfl rfl)
theorem dX10_worked_43 : decode cX10_worked 43 = .ok (.ireturn, 1) := dk_172 (dk_at dksX10_worked_2 11 rfl rfl)
theorem dX10_worked_44 : decode cX10_worked 44 = .ok (.iload_n 2, 1) := dk_28 (dk_at dksX10_worked_2 12 rfl rfl)
theorem dX10_worked_45 : decode cX10_worked 45 = .ok (.ifCond .ne 8, 3) := dk_154 0 8 (dk_at dksX10_worked_2 13 rfl rfl)
theorem dX10_worked_48 : decode cX10_worked 48 = .ok (.aload_n 3, 1) := dk_45 (dk_at dksX10_worked_2 16 rfl rfl)
theorem dX10_worked_49 : decode cX10_worked 49 = .ok (.iconst 1, 1) := dk_4 (dk_at dksX10_worked_2 17 rfl rfl)
theorem dX10_worked_50 : decode cX10_worked 50 = .ok (.putfield 17, 3) := dk_181 0 17 (dk_at dksX10_worked_2 18 rfl rfl)
theorem dX10_worked_53 : decode cX10_worked 53 = .ok (.iload_n 2, 1) := dk_28 (dk_at dksX10_worked_2 21 rfl rfl)
theorem dX10_worked_54 : decode cX10_worked 54 = .ok (.ifCond .ne 7, 3) := dk_154 0 7 (dk_at dksX10_worked_3 0 rfl rfl)
theorem dX10_worked_57 : decode cX10_worked 57 = .ok (.iconst 0, 1) := dk_3 (dk_at dksX10_worked_3 3 rfl rfl)
theorem dX10_worked_58 : decode cX10_worked 58 = .ok (.goto 18, 3) := dk_167 0 18 (dk_at dksX10_worked_3 4 rfl rfl)
theorem dX10_worked_61 : decode cX10_worked 61 = .ok (.iload_n 0, 1) := dk_26 (dk_at dksX10_worked_3 7 rfl rfl)
theorem dX10_worked_62 : decode cX10_worked 62 = .ok (.bipush 47, 2) := dk_16 47 (dk_at dksX10_worked_3 8 rfl rfl)
theorem dX10_worked_64 : decode cX10_worked 64 = .ok (.if_icmp .ne 9, 3) := dk_160 0 9 (dk_at dksX10_worked_3 10 rfl rfl)
theorem dX10_worked_67 : decode cX10_worked 67 = .ok (.iload_n 1, 1) := dk_27 (dk_at dksX10_worked_3 13 rfl rfl)
theorem dX10_worked_68 : decode cX10_worked 68 = .ok (.iload_n 2, 1) := dk_28 (dk_at dksX10_worked_3 14 rfl rfl)
theorem dX10_worked_69 : decode cX10_worked 69 = .ok (.idiv, 1) := dk_108 (dk_at dksX10_worked_3 15 rfl rfl)
theorem dX10_worked_70 : decode cX10_worked 70 = .ok (.goto 6, 3) := dk_167 0 6 (dk_at dksX10_worked_3 16 rfl rfl)
theorem dX10_worked_73 : decode cX10_worked 73 = .ok (.iload_n 1, 1) := dk_27 (dk_at dksX10_worked_3 19 rfl rfl)
theorem dX10_worked_74 : decode cX10_worked 74 = .ok (.iload_n 2, 1) := dk_28 (dk_at dksX10_worked_3 20 rfl rfl)
theorem dX10_worked_75 : decode cX10_worked 75 = .ok (.irem, 1) := dk_112 (dk_at dksX10_worked_3 21 rfl rfl)
theorem dX10_worked_76 : decode cX10_worked 76 = .ok (.ireturn, 1) := dk_172 (dk_at dksX10_worked_3 22 rfl rfl)
theorem q124 : (Jvm.Cond.initialized "PuzzleWed$Row") ∈ lw_all := lw_g (lw_at lw_m1 17 rfl) rfl
theorem q158 : (Jvm.Cond.fieldLinkNest "PuzzleWed$Row" (17 : Nat) "PuzzleWed$Asked" "isRefused" "Z" "PuzzleWed") ∈ lw_tbl := lw_at lw_m1 51 rfl
theorem q595 : (Jvm.Cond.instantiable "PuzzleWed$Row" (3 : Nat)) ∈ lw_all := lw_g (lw_at lw_m3 8 rfl) rfl
theorem q645 : (Jvm.Cond.instanceMethod ({ cls := "PuzzleWed$Row", name := "<init>", desc := "(ILPuzzleWed$Sum;)V" } : Jvm.MethodName)) ∈ lw_all := lw_g (lw_at lw_m3 58 rfl) rfl
theorem q646 : (Jvm.Cond.code ({ cls := "PuzzleWed$Row", name := "<init>", desc := "(ILPuzzleWed$Sum;)V" } : Jvm.MethodName) prog_15_method_1_code (3 : Nat) (Option.none : Option Jvm.ClassFile.FieldType)) ∈ lw_all := lw_g (lw_at lw_m3 59 rfl) rfl
theorem q647 : (Jvm.Cond.methodLinkNest "PuzzleWed$Row" (1 : Nat) ({ cls := "PuzzleWed$Sum", name := "<init>", desc := "()V" } : Jvm.MethodName) "PuzzleWed") ∈ lw_tbl := lw_at lw_m3 60 rfl
theorem q648 : (Jvm.Cond.fieldLink "PuzzleWed$Row" (7 : Nat) "PuzzleWed$Row" "sign" "I") ∈ lw_all := lw_g (lw_at lw_m3 61 rfl) rfl
theorem q649 : (Jvm.Cond.fieldLink "PuzzleWed$Row" (13 : Nat) "PuzzleWed$Row" "part" "LPuzzleWed$Sum;") ∈ lw_all := lw_g (lw_at lw_m3 62 rfl) rfl
theorem q650 : (Jvm.Cond.fieldLink "PuzzleWed$Row" (27 : Nat) "PuzzleWed$Row" "next" "LPuzzleWed$Row;") ∈ lw_all := lw_g (lw_at lw_m3 63 rfl) rfl
theorem q652 : (Jvm.Cond.laysFinal "PuzzleWed$Row" "PuzzleWed$Row" "sign" "I") ∈ lw_all := lw_g (lw_at lw_m3 65 rfl) rfl
theorem q653 : (Jvm.Cond.soleField "PuzzleWed$Row" "sign") ∈ lw_all := lw_g (lw_at lw_m3 66 rfl) rfl
theorem q654 : (Jvm.Cond.laysFinal "PuzzleWed$Row" "PuzzleWed$Row" "part" "LPuzzleWed$Sum;") ∈ lw_all := lw_g (lw_at lw_m3 67 rfl) rfl
theorem q655 : (Jvm.Cond.soleField "PuzzleWed$Row" "part") ∈ lw_all := lw_g (lw_at lw_m3 68 rfl) rfl
theorem q656 : (Jvm.Cond.lays "PuzzleWed$Row" "PuzzleWed$Row" "next" "LPuzzleWed$Row;") ∈ lw_all := lw_g (lw_at lw_m3 69 rfl) rfl
theorem q657 : (Jvm.Cond.soleField "PuzzleWed$Row" "next") ∈ lw_all := lw_g (lw_at lw_m3 70 rfl) rfl
theorem q658 : (Jvm.Cond.superclass "PuzzleWed$Row" "PuzzleWed$Sum") ∈ lw_all := lw_g (lw_at lw_m3 71 rfl) rfl
theorem q1000 : (Jvm.Cond.selects "PuzzleWed$Row" ({ cls := "PuzzleWed$Sum", name := "worth", desc := "(LPuzzleWed$Asked;)I" } : Jvm.MethodName) ({ cls := "PuzzleWed$Row", name := "worth", desc := "(LPuzzleWed$Asked;)I" } : Jvm.MethodName)) ∈ lw_all := lw_g (lw_at lw_m4 173 rfl) rfl
theorem q1001 : (Jvm.Cond.instanceMethod ({ cls := "PuzzleWed$Row", name := "worth", desc := "(LPuzzleWed$Asked;)I" } : Jvm.MethodName)) ∈ lw_all := lw_g (lw_at lw_m4 174 rfl) rfl
theorem q1002 : (Jvm.Cond.code ({ cls := "PuzzleWed$Row", name := "worth", desc := "(LPuzzleWed$Asked;)I" } : Jvm.MethodName) prog_15_method_3_code (4 : Nat) (Option.some Jvm.ClassFile.FieldType.int)) ∈ lw_all := lw_g (lw_at lw_m4 175 rfl) rfl
theorem q1003 : (Jvm.Cond.methodLink "PuzzleWed$Row" (23 : Nat) ({ cls := "PuzzleWed$Sum", name := "worth", desc := "(LPuzzleWed$Asked;)I" } : Jvm.MethodName)) ∈ lw_all := lw_g (lw_at lw_m4 176 rfl) rfl
theorem q1004 : (Jvm.Cond.methodLink "PuzzleWed$Row" (31 : Nat) ({ cls := "PuzzleWed$Row", name := "worked", desc := "(IIILPuzzleWed$Asked;)I" } : Jvm.MethodName)) ∈ lw_all := lw_g (lw_at lw_m4 177 rfl) rfl
theorem q1005 : (Jvm.Cond.static ({ cls := "PuzzleWed$Row", name := "worked", desc := "(IIILPuzzleWed$Asked;)I" } : Jvm.MethodName)) ∈ lw_all := lw_g (lw_at lw_m4 178 rfl) rfl
theorem q1006 : (Jvm.Cond.code ({ cls := "PuzzleWed$Row", name := "worked", desc := "(IIILPuzzleWed$Asked;)I" } : Jvm.MethodName) prog_15_method_2_code (4 : Nat) (Option.some Jvm.ClassFile.FieldType.int)) ∈ lw_all := lw_g (lw_at lw_m4 179 rfl) rfl
theorem q1020 : (Jvm.Cond.selects "PuzzleWed$Row" ({ cls := "PuzzleWed$Sum", name := "told", desc := "(LPuzzleWed$Asked;)I" } : Jvm.MethodName) ({ cls := "PuzzleWed$Sum", name := "told", desc := "(LPuzzleWed$Asked;)I" } : Jvm.MethodName)) ∈ lw_all := lw_g (lw_at lw_m4 193 rfl) rfl
theorem q1829 : (Jvm.Cond.castable "PuzzleWed$Row" "PuzzleWed$Sum") ∈ lw_tbl := lw_at lw_m8 42 rfl
theorem in_X10 : ∀ w ∈ wsX100, w ∈ lw_all := lw_in wsX100 [652, 654, 656] (by decide +kernel) (by decide +kernel)
