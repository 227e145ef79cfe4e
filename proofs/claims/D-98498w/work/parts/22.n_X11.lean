/-! PuzzleWed$Number -/
set_option maxRecDepth 100000
def RX11 : String := "PuzzleWed$Number"
def TX11 : u_T := fun k => match k with
  | _ => ("PuzzleWed$Number", "n", "I", true)
def tyX11 : Nat → FieldType := fun k => match k with
  | _ => .int
abbrev wsX110 : List Cond := u_ws RX11 TX11 1
theorem nmX11 : ∀ a, a < 1 → ∀ b, b < 1 → a ≠ b → (TX11 a).2.1 ≠ (TX11 b).2.1 := by decide +kernel
theorem tyX11_ok : ∀ k, k < 1 → parseFieldDescriptor (TX11 k).2.2.1 = some (tyX11 k) := by decide +kernel
abbrev cX11_init : ByteArray := prog_11_method_1_code
def yX11_init : MethodName := ⟨RX11, "<init>", "(I)V"⟩
def dkwX11_init_0 : List UInt8 := [42, 183, 0, 1, 42, 27, 181, 0, 7, 177]
abbrev dktX11_init_0 : List UInt8 := dkwX11_init_0 ++ []
theorem dksX11_init_0 : cX11_init.data.toList.drop 0 = dktX11_init_0 := by decide +kernel
theorem dX11_init_0 : decode cX11_init 0 = .ok (.aload_n 0, 1) := dk_42 (dk_at dksX11_init_0 0 rfl rfl)
theorem dX11_init_1 : decode cX11_init 1 = .ok (.invokespecial 1, 3) := dk_183 0 1 (dk_at dksX11_init_0 1 rfl rfl)
theorem dX11_init_4 : decode cX11_init 4 = .ok (.aload_n 0, 1) := dk_42 (dk_at dksX11_init_0 4 rfl rfl)
theorem dX11_init_5 : decode cX11_init 5 = .ok (.iload_n 1, 1) := dk_27 (dk_at dksX11_init_0 5 rfl rfl)
theorem dX11_init_6 : decode cX11_init 6 = .ok (.putfield 7, 3) := dk_181 0 7 (dk_at dksX11_init_0 6 rfl rfl)
theorem dX11_init_9 : decode cX11_init 9 = .ok (.return_, 1) := dk_177 (dk_at dksX11_init_0 9 rfl rfl)
abbrev cX11_worth : ByteArray := prog_11_method_2_code
def yX11_worth : MethodName := ⟨RX11, "worth", "(LPuzzleWed$Asked;)I"⟩
theorem dX11_worth_0 : decode cX11_worth 0 = .ok (.aload_n 0, 1) := by decide +kernel
theorem dX11_worth_1 : decode cX11_worth 1 = .ok (.getfield 7, 3) := by decide +kernel
theorem dX11_worth_4 : decode cX11_worth 4 = .ok (.ireturn, 1) := by decide +kernel
theorem q125 : (Jvm.Cond.initialized "PuzzleWed$Number") ∈ lw_all := lw_g (lw_at lw_m1 18 rfl) rfl
theorem q617 : (Jvm.Cond.instantiable "PuzzleWed$Number" (1 : Nat)) ∈ lw_all := lw_g (lw_at lw_m3 30 rfl) rfl
theorem q623 : (Jvm.Cond.instanceMethod ({ cls := "PuzzleWed$Number", name := "<init>", desc := "(I)V" } : Jvm.MethodName)) ∈ lw_all := lw_g (lw_at lw_m3 36 rfl) rfl
theorem q624 : (Jvm.Cond.code ({ cls := "PuzzleWed$Number", name := "<init>", desc := "(I)V" } : Jvm.MethodName) prog_11_method_1_code (2 : Nat) (Option.none : Option Jvm.ClassFile.FieldType)) ∈ lw_all := lw_g (lw_at lw_m3 37 rfl) rfl
theorem q625 : (Jvm.Cond.methodLinkNest "PuzzleWed$Number" (1 : Nat) ({ cls := "PuzzleWed$Sum", name := "<init>", desc := "()V" } : Jvm.MethodName) "PuzzleWed") ∈ lw_tbl := lw_at lw_m3 38 rfl
theorem q629 : (Jvm.Cond.fieldLink "PuzzleWed$Number" (7 : Nat) "PuzzleWed$Number" "n" "I") ∈ lw_all := lw_g (lw_at lw_m3 42 rfl) rfl
theorem q630 : (Jvm.Cond.laysFinal "PuzzleWed$Number" "PuzzleWed$Number" "n" "I") ∈ lw_all := lw_g (lw_at lw_m3 43 rfl) rfl
theorem q631 : (Jvm.Cond.soleField "PuzzleWed$Number" "n") ∈ lw_all := lw_g (lw_at lw_m3 44 rfl) rfl
theorem q632 : (Jvm.Cond.superclass "PuzzleWed$Number" "PuzzleWed$Sum") ∈ lw_all := lw_g (lw_at lw_m3 45 rfl) rfl
theorem q997 : (Jvm.Cond.selects "PuzzleWed$Number" ({ cls := "PuzzleWed$Sum", name := "worth", desc := "(LPuzzleWed$Asked;)I" } : Jvm.MethodName) ({ cls := "PuzzleWed$Number", name := "worth", desc := "(LPuzzleWed$Asked;)I" } : Jvm.MethodName)) ∈ lw_all := lw_g (lw_at lw_m4 170 rfl) rfl
theorem q998 : (Jvm.Cond.instanceMethod ({ cls := "PuzzleWed$Number", name := "worth", desc := "(LPuzzleWed$Asked;)I" } : Jvm.MethodName)) ∈ lw_all := lw_g (lw_at lw_m4 171 rfl) rfl
theorem q999 : (Jvm.Cond.code ({ cls := "PuzzleWed$Number", name := "worth", desc := "(LPuzzleWed$Asked;)I" } : Jvm.MethodName) prog_11_method_2_code (2 : Nat) (Option.some Jvm.ClassFile.FieldType.int)) ∈ lw_all := lw_g (lw_at lw_m4 172 rfl) rfl
theorem q1019 : (Jvm.Cond.selects "PuzzleWed$Number" ({ cls := "PuzzleWed$Sum", name := "told", desc := "(LPuzzleWed$Asked;)I" } : Jvm.MethodName) ({ cls := "PuzzleWed$Sum", name := "told", desc := "(LPuzzleWed$Asked;)I" } : Jvm.MethodName)) ∈ lw_all := lw_g (lw_at lw_m4 192 rfl) rfl
theorem q1830 : (Jvm.Cond.castable "PuzzleWed$Number" "PuzzleWed$Sum") ∈ lw_tbl := lw_at lw_m8 43 rfl
theorem in_X11 : ∀ w ∈ wsX110, w ∈ lw_all := lw_in wsX110 [630] (by decide +kernel) (by decide +kernel)
