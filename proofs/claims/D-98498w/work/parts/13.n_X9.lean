/-! PuzzleWed$Sum -/
set_option maxRecDepth 100000
def RX9 : String := "PuzzleWed$Sum"
abbrev cX9_init : ByteArray := prog_18_method_1_code
def yX9_init : MethodName := ⟨RX9, "<init>", "()V"⟩
theorem dX9_init_0 : decode cX9_init 0 = .ok (.aload_n 0, 1) := by decide +kernel
theorem dX9_init_1 : decode cX9_init 1 = .ok (.invokespecial 1, 3) := by decide +kernel
theorem dX9_init_4 : decode cX9_init 4 = .ok (.return_, 1) := by decide +kernel
abbrev cX9_told : ByteArray := prog_18_method_3_code
def yX9_told : MethodName := ⟨RX9, "told", "(LPuzzleWed$Asked;)I"⟩
def dkwX9_told_0 : List UInt8 := [43, 3, 181, 0, 7, 42, 43, 182, 0, 13, 61, 43, 180, 0, 7, 153, 0, 7, 3, 167, 0, 4, 28, 172]
abbrev dktX9_told_0 : List UInt8 := dkwX9_told_0 ++ []
theorem dksX9_told_0 : cX9_told.data.toList.drop 0 = dktX9_told_0 := by decide +kernel
theorem dX9_told_0 : decode cX9_told 0 = .ok (.aload_n 1, 1) := dk_43 (dk_at dksX9_told_0 0 rfl rfl)
theorem dX9_told_1 : decode cX9_told 1 = .ok (.iconst 0, 1) := dk_3 (dk_at dksX9_told_0 1 rfl rfl)
theorem dX9_told_2 : decode cX9_told 2 = .ok (.putfield 7, 3) := dk_181 0 7 (dk_at dksX9_told_0 2 rfl rfl)
theorem dX9_told_5 : decode cX9_told 5 = .ok (.aload_n 0, 1) := dk_42 (dk_at dksX9_told_0 5 rfl rfl)
theorem dX9_told_6 : decode cX9_told 6 = .ok (.aload_n 1, 1) := dk_43 (dk_at dksX9_told_0 6 rfl rfl)
theorem dX9_told_7 : decode cX9_told 7 = .ok (.invokevirtual 13, 3) := dk_182 0 13 (dk_at dksX9_told_0 7 rfl rfl)
theorem dX9_told_10 : decode cX9_told 10 = .ok (.istore_n 2, 1) := dk_61 (dk_at dksX9_told_0 10 rfl rfl)
theorem dX9_told_11 : decode cX9_told 11 = .ok (.aload_n 1, 1) := dk_43 (dk_at dksX9_told_0 11 rfl rfl)
theorem dX9_told_12 : decode cX9_told 12 = .ok (.getfield 7, 3) := dk_180 0 7 (dk_at dksX9_told_0 12 rfl rfl)
theorem dX9_told_15 : decode cX9_told 15 = .ok (.ifCond .eq 7, 3) := dk_153 0 7 (dk_at dksX9_told_0 15 rfl rfl)
theorem dX9_told_18 : decode cX9_told 18 = .ok (.iconst 0, 1) := dk_3 (dk_at dksX9_told_0 18 rfl rfl)
theorem dX9_told_19 : decode cX9_told 19 = .ok (.goto 4, 3) := dk_167 0 4 (dk_at dksX9_told_0 19 rfl rfl)
theorem dX9_told_22 : decode cX9_told 22 = .ok (.iload_n 2, 1) := dk_28 (dk_at dksX9_told_0 22 rfl rfl)
theorem dX9_told_23 : decode cX9_told 23 = .ok (.ireturn, 1) := dk_172 (dk_at dksX9_told_0 23 rfl rfl)
theorem q123 : (Jvm.Cond.initialized "PuzzleWed$Sum") ∈ lw_all := lw_g (lw_at lw_m1 16 rfl) rfl
theorem q159 : (Jvm.Cond.fieldLinkNest "PuzzleWed$Sum" (7 : Nat) "PuzzleWed$Asked" "isRefused" "Z" "PuzzleWed") ∈ lw_tbl := lw_at lw_m1 52 rfl
theorem q626 : (Jvm.Cond.instanceMethod ({ cls := "PuzzleWed$Sum", name := "<init>", desc := "()V" } : Jvm.MethodName)) ∈ lw_all := lw_g (lw_at lw_m3 39 rfl) rfl
theorem q627 : (Jvm.Cond.code ({ cls := "PuzzleWed$Sum", name := "<init>", desc := "()V" } : Jvm.MethodName) prog_18_method_1_code (1 : Nat) (Option.none : Option Jvm.ClassFile.FieldType)) ∈ lw_all := lw_g (lw_at lw_m3 40 rfl) rfl
theorem q628 : (Jvm.Cond.methodLink "PuzzleWed$Sum" (1 : Nat) ({ cls := "java/lang/Object", name := "<init>", desc := "()V" } : Jvm.MethodName)) ∈ lw_all := lw_g (lw_at lw_m3 41 rfl) rfl
theorem q976 : (Jvm.Cond.declares ({ cls := "PuzzleWed$Sum", name := "worth", desc := "(LPuzzleWed$Asked;)I" } : Jvm.MethodName)) ∈ lw_tbl := lw_at lw_m4 149 rfl
theorem q977 : (Jvm.Cond.sameMethod "PuzzleWed$Sum" "PuzzleWed$Sum" "worth" "(LPuzzleWed$Asked;)I") ∈ lw_all := lw_g (lw_at lw_m4 150 rfl) rfl
theorem q1016 : (Jvm.Cond.instanceMethod ({ cls := "PuzzleWed$Sum", name := "told", desc := "(LPuzzleWed$Asked;)I" } : Jvm.MethodName)) ∈ lw_all := lw_g (lw_at lw_m4 189 rfl) rfl
theorem q1017 : (Jvm.Cond.sameMethod "PuzzleWed$Sum" "PuzzleWed$Sum" "told" "(LPuzzleWed$Asked;)I") ∈ lw_all := lw_g (lw_at lw_m4 190 rfl) rfl
theorem q1021 : (Jvm.Cond.code ({ cls := "PuzzleWed$Sum", name := "told", desc := "(LPuzzleWed$Asked;)I" } : Jvm.MethodName) prog_18_method_3_code (3 : Nat) (Option.some Jvm.ClassFile.FieldType.int)) ∈ lw_all := lw_g (lw_at lw_m4 194 rfl) rfl
theorem q1022 : (Jvm.Cond.methodLink "PuzzleWed$Sum" (13 : Nat) ({ cls := "PuzzleWed$Sum", name := "worth", desc := "(LPuzzleWed$Asked;)I" } : Jvm.MethodName)) ∈ lw_all := lw_g (lw_at lw_m4 195 rfl) rfl
