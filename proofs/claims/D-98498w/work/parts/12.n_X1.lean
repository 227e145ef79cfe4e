/-! PuzzleWed$Asked -/
set_option maxRecDepth 100000
def RX1 : String := "PuzzleWed$Asked"
abbrev cX1_init : ByteArray := prog_2_method_1_code
def yX1_init : MethodName := ⟨RX1, "<init>", "()V"⟩
theorem dX1_init_0 : decode cX1_init 0 = .ok (.aload_n 0, 1) := by decide +kernel
theorem dX1_init_1 : decode cX1_init 1 = .ok (.invokespecial 1, 3) := by decide +kernel
theorem dX1_init_4 : decode cX1_init 4 = .ok (.return_, 1) := by decide +kernel
theorem q109 : (Jvm.Cond.initialized "PuzzleWed$Asked") ∈ lw_all := lw_g (lw_at lw_m1 2 rfl) rfl
theorem q149 : (Jvm.Cond.instanceMethod ({ cls := "PuzzleWed$Asked", name := "<init>", desc := "()V" } : Jvm.MethodName)) ∈ lw_all := lw_g (lw_at lw_m1 42 rfl) rfl
theorem q150 : (Jvm.Cond.code ({ cls := "PuzzleWed$Asked", name := "<init>", desc := "()V" } : Jvm.MethodName) prog_2_method_1_code (1 : Nat) (Option.none : Option Jvm.ClassFile.FieldType)) ∈ lw_all := lw_g (lw_at lw_m1 43 rfl) rfl
theorem q151 : (Jvm.Cond.methodLink "PuzzleWed$Asked" (1 : Nat) ({ cls := "java/lang/Object", name := "<init>", desc := "()V" } : Jvm.MethodName)) ∈ lw_all := lw_g (lw_at lw_m1 44 rfl) rfl
theorem q171 : (Jvm.Cond.soleField "PuzzleWed$Asked" "isRefused") ∈ lw_all := lw_g (lw_at lw_m1 64 rfl) rfl
theorem q982 : (Jvm.Cond.declares ({ cls := "PuzzleWed$Asked", name := "value", desc := "(I)I" } : Jvm.MethodName)) ∈ lw_tbl := lw_at lw_m4 155 rfl
theorem q983 : (Jvm.Cond.sameMethod "PuzzleWed$Asked" "PuzzleWed$Asked" "value" "(I)I") ∈ lw_all := lw_g (lw_at lw_m4 156 rfl) rfl
