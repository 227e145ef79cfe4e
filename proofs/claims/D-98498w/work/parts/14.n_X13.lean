/-! PuzzleWed$Condition -/
set_option maxRecDepth 100000
def RX13 : String := "PuzzleWed$Condition"
abbrev cX13_init : ByteArray := prog_5_method_1_code
def yX13_init : MethodName := ⟨RX13, "<init>", "()V"⟩
theorem dX13_init_0 : decode cX13_init 0 = .ok (.aload_n 0, 1) := by decide +kernel
theorem dX13_init_1 : decode cX13_init 1 = .ok (.invokespecial 1, 3) := by decide +kernel
theorem dX13_init_4 : decode cX13_init 4 = .ok (.return_, 1) := by decide +kernel
theorem q127 : (Jvm.Cond.initialized "PuzzleWed$Condition") ∈ lw_all := lw_g (lw_at lw_m1 20 rfl) rfl
theorem q679 : (Jvm.Cond.instanceMethod ({ cls := "PuzzleWed$Condition", name := "<init>", desc := "()V" } : Jvm.MethodName)) ∈ lw_all := lw_g (lw_at lw_m3 92 rfl) rfl
theorem q680 : (Jvm.Cond.code ({ cls := "PuzzleWed$Condition", name := "<init>", desc := "()V" } : Jvm.MethodName) prog_5_method_1_code (1 : Nat) (Option.none : Option Jvm.ClassFile.FieldType)) ∈ lw_all := lw_g (lw_at lw_m3 93 rfl) rfl
theorem q681 : (Jvm.Cond.methodLink "PuzzleWed$Condition" (1 : Nat) ({ cls := "java/lang/Object", name := "<init>", desc := "()V" } : Jvm.MethodName)) ∈ lw_all := lw_g (lw_at lw_m3 94 rfl) rfl
theorem q970 : (Jvm.Cond.declares ({ cls := "PuzzleWed$Condition", name := "holds", desc := "(LPuzzleWed$Asked;)I" } : Jvm.MethodName)) ∈ lw_tbl := lw_at lw_m4 143 rfl
theorem q971 : (Jvm.Cond.sameMethod "PuzzleWed$Condition" "PuzzleWed$Condition" "holds" "(LPuzzleWed$Asked;)I") ∈ lw_all := lw_g (lw_at lw_m4 144 rfl) rfl
