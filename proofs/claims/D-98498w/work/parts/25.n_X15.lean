/-! PuzzleWed$Not -/
set_option maxRecDepth 100000
def RX15 : String := "PuzzleWed$Not"
def TX15 : u_T := fun k => match k with
  | _ => ("PuzzleWed$Not", "x", "LPuzzleWed$Condition;", true)
def tyX15 : Nat → FieldType := fun k => match k with
  | _ => .object "PuzzleWed$Condition"
abbrev wsX150 : List Cond := u_ws RX15 TX15 1
theorem nmX15 : ∀ a, a < 1 → ∀ b, b < 1 → a ≠ b → (TX15 a).2.1 ≠ (TX15 b).2.1 := by decide +kernel
theorem tyX15_ok : ∀ k, k < 1 → parseFieldDescriptor (TX15 k).2.2.1 = some (tyX15 k) := by decide +kernel
abbrev cX15_init : ByteArray := prog_10_method_1_code
def yX15_init : MethodName := ⟨RX15, "<init>", "(LPuzzleWed$Condition;)V"⟩
def dkwX15_init_0 : List UInt8 := [42, 183, 0, 1, 42, 43, 181, 0, 7, 177]
abbrev dktX15_init_0 : List UInt8 := dkwX15_init_0 ++ []
theorem dksX15_init_0 : cX15_init.data.toList.drop 0 = dktX15_init_0 := by decide +kernel
theorem dX15_init_0 : decode cX15_init 0 = .ok (.aload_n 0, 1) := dk_42 (dk_at dksX15_init_0 0 rfl rfl)
theorem dX15_init_1 : decode cX15_init 1 = .ok (.invokespecial 1, 3) := dk_183 0 1 (dk_at dksX15_init_0 1 rfl rfl)
theorem dX15_init_4 : decode cX15_init 4 = .ok (.aload_n 0, 1) := dk_42 (dk_at dksX15_init_0 4 rfl rfl)
theorem dX15_init_5 : decode cX15_init 5 = .ok (.aload_n 1, 1) := dk_43 (dk_at dksX15_init_0 5 rfl rfl)
theorem dX15_init_6 : decode cX15_init 6 = .ok (.putfield 7, 3) := dk_181 0 7 (dk_at dksX15_init_0 6 rfl rfl)
theorem dX15_init_9 : decode cX15_init 9 = .ok (.return_, 1) := dk_177 (dk_at dksX15_init_0 9 rfl rfl)
abbrev cX15_holds : ByteArray := prog_10_method_2_code
def yX15_holds : MethodName := ⟨RX15, "holds", "(LPuzzleWed$Asked;)I"⟩
def dkwX15_holds_0 : List UInt8 := [42, 180, 0, 7, 43, 182, 0, 13, 61, 28, 5, 160, 0, 7, 5, 167, 0, 6, 4, 28, 100, 172]
abbrev dktX15_holds_0 : List UInt8 := dkwX15_holds_0 ++ []
theorem dksX15_holds_0 : cX15_holds.data.toList.drop 0 = dktX15_holds_0 := by decide +kernel
theorem dX15_holds_0 : decode cX15_holds 0 = .ok (.aload_n 0, 1) := dk_42 (dk_at dksX15_holds_0 0 rfl rfl)
theorem dX15_holds_1 : decode cX15_holds 1 = .ok (.getfield 7, 3) := dk_180 0 7 (dk_at dksX15_holds_0 1 rfl rfl)
theorem dX15_holds_4 : decode cX15_holds 4 = .ok (.aload_n 1, 1) := dk_43 (dk_at dksX15_holds_0 4 rfl rfl)
theorem dX15_holds_5 : decode cX15_holds 5 = .ok (.invokevirtual 13, 3) := dk_182 0 13 (dk_at dksX15_holds_0 5 rfl rfl)
theorem dX15_holds_8 : decode cX15_holds 8 = .ok (.istore_n 2, 1) := dk_61 (dk_at dksX15_holds_0 8 rfl rfl)
theorem dX15_holds_9 : decode cX15_holds 9 = .ok (.iload_n 2, 1) := dk_28 (dk_at dksX15_holds_0 9 rfl rfl)
theorem dX15_holds_10 : decode cX15_holds 10 = .ok (.iconst 2, 1) := dk_5 (dk_at dksX15_holds_0 10 rfl rfl)
theorem dX15_holds_11 : decode cX15_holds 11 = .ok (.if_icmp .ne 7, 3) := dk_160 0 7 (dk_at dksX15_holds_0 11 rfl rfl)
theorem dX15_holds_14 : decode cX15_holds 14 = .ok (.iconst 2, 1) := dk_5 (dk_at dksX15_holds_0 14 rfl rfl)
theorem dX15_holds_15 : decode cX15_holds 15 = .ok (.goto 6, 3) := dk_167 0 6 (dk_at dksX15_holds_0 15 rfl rfl)
theorem dX15_holds_18 : decode cX15_holds 18 = .ok (.iconst 1, 1) := dk_4 (dk_at dksX15_holds_0 18 rfl rfl)
theorem dX15_holds_19 : decode cX15_holds 19 = .ok (.iload_n 2, 1) := dk_28 (dk_at dksX15_holds_0 19 rfl rfl)
theorem dX15_holds_20 : decode cX15_holds 20 = .ok (.isub, 1) := dk_100 (dk_at dksX15_holds_0 20 rfl rfl)
theorem dX15_holds_21 : decode cX15_holds 21 = .ok (.ireturn, 1) := dk_172 (dk_at dksX15_holds_0 21 rfl rfl)
theorem q129 : (Jvm.Cond.initialized "PuzzleWed$Not") ∈ lw_all := lw_g (lw_at lw_m1 22 rfl) rfl
theorem q674 : (Jvm.Cond.instantiable "PuzzleWed$Not" (1 : Nat)) ∈ lw_all := lw_g (lw_at lw_m3 87 rfl) rfl
theorem q676 : (Jvm.Cond.instanceMethod ({ cls := "PuzzleWed$Not", name := "<init>", desc := "(LPuzzleWed$Condition;)V" } : Jvm.MethodName)) ∈ lw_all := lw_g (lw_at lw_m3 89 rfl) rfl
theorem q677 : (Jvm.Cond.code ({ cls := "PuzzleWed$Not", name := "<init>", desc := "(LPuzzleWed$Condition;)V" } : Jvm.MethodName) prog_10_method_1_code (2 : Nat) (Option.none : Option Jvm.ClassFile.FieldType)) ∈ lw_all := lw_g (lw_at lw_m3 90 rfl) rfl
theorem q678 : (Jvm.Cond.methodLinkNest "PuzzleWed$Not" (1 : Nat) ({ cls := "PuzzleWed$Condition", name := "<init>", desc := "()V" } : Jvm.MethodName) "PuzzleWed") ∈ lw_tbl := lw_at lw_m3 91 rfl
theorem q682 : (Jvm.Cond.fieldLink "PuzzleWed$Not" (7 : Nat) "PuzzleWed$Not" "x" "LPuzzleWed$Condition;") ∈ lw_all := lw_g (lw_at lw_m3 95 rfl) rfl
theorem q683 : (Jvm.Cond.laysFinal "PuzzleWed$Not" "PuzzleWed$Not" "x" "LPuzzleWed$Condition;") ∈ lw_all := lw_g (lw_at lw_m3 96 rfl) rfl
theorem q684 : (Jvm.Cond.soleField "PuzzleWed$Not" "x") ∈ lw_all := lw_g (lw_at lw_m3 97 rfl) rfl
theorem q685 : (Jvm.Cond.superclass "PuzzleWed$Not" "PuzzleWed$Condition") ∈ lw_all := lw_g (lw_at lw_m3 98 rfl) rfl
theorem q1007 : (Jvm.Cond.selects "PuzzleWed$Not" ({ cls := "PuzzleWed$Condition", name := "holds", desc := "(LPuzzleWed$Asked;)I" } : Jvm.MethodName) ({ cls := "PuzzleWed$Not", name := "holds", desc := "(LPuzzleWed$Asked;)I" } : Jvm.MethodName)) ∈ lw_all := lw_g (lw_at lw_m4 180 rfl) rfl
theorem q1008 : (Jvm.Cond.instanceMethod ({ cls := "PuzzleWed$Not", name := "holds", desc := "(LPuzzleWed$Asked;)I" } : Jvm.MethodName)) ∈ lw_all := lw_g (lw_at lw_m4 181 rfl) rfl
theorem q1009 : (Jvm.Cond.code ({ cls := "PuzzleWed$Not", name := "holds", desc := "(LPuzzleWed$Asked;)I" } : Jvm.MethodName) prog_10_method_2_code (3 : Nat) (Option.some Jvm.ClassFile.FieldType.int)) ∈ lw_all := lw_g (lw_at lw_m4 182 rfl) rfl
theorem q1010 : (Jvm.Cond.methodLink "PuzzleWed$Not" (13 : Nat) ({ cls := "PuzzleWed$Condition", name := "holds", desc := "(LPuzzleWed$Asked;)I" } : Jvm.MethodName)) ∈ lw_all := lw_g (lw_at lw_m4 183 rfl) rfl
theorem q1833 : (Jvm.Cond.castable "PuzzleWed$Not" "PuzzleWed$Condition") ∈ lw_tbl := lw_at lw_m8 46 rfl
theorem in_X15 : ∀ w ∈ wsX150, w ∈ lw_all := lw_in wsX150 [683] (by decide +kernel) (by decide +kernel)
