/-! PuzzleWed$Letter -/
set_option maxRecDepth 100000
def RX12 : String := "PuzzleWed$Letter"
def TX12 : u_T := fun k => match k with
  | _ => ("PuzzleWed$Letter", "letter", "I", true)
def tyX12 : Nat → FieldType := fun k => match k with
  | _ => .int
abbrev wsX120 : List Cond := u_ws RX12 TX12 1
theorem nmX12 : ∀ a, a < 1 → ∀ b, b < 1 → a ≠ b → (TX12 a).2.1 ≠ (TX12 b).2.1 := by decide +kernel
theorem tyX12_ok : ∀ k, k < 1 → parseFieldDescriptor (TX12 k).2.2.1 = some (tyX12 k) := by decide +kernel
abbrev cX12_init : ByteArray := prog_8_method_1_code
def yX12_init : MethodName := ⟨RX12, "<init>", "(I)V"⟩
def dkwX12_init_0 : List UInt8 := [42, 183, 0, 1, 42, 27, 181, 0, 7, 177]
abbrev dktX12_init_0 : List UInt8 := dkwX12_init_0 ++ []
theorem dksX12_init_0 : cX12_init.data.toList.drop 0 = dktX12_init_0 := by decide +kernel
theorem dX12_init_0 : decode cX12_init 0 = .ok (.aload_n 0, 1) := dk_42 (dk_at dksX12_init_0 0 rfl rfl)
theorem dX12_init_1 : decode cX12_init 1 = .ok (.invokespecial 1, 3) := dk_183 0 1 (dk_at dksX12_init_0 1 rfl rfl)
theorem dX12_init_4 : decode cX12_init 4 = .ok (.aload_n 0, 1) := dk_42 (dk_at dksX12_init_0 4 rfl rfl)
theorem dX12_init_5 : decode cX12_init 5 = .ok (.iload_n 1, 1) := dk_27 (dk_at dksX12_init_0 5 rfl rfl)
theorem dX12_init_6 : decode cX12_init 6 = .ok (.putfield 7, 3) := dk_181 0 7 (dk_at dksX12_init_0 6 rfl rfl)
theorem dX12_init_9 : decode cX12_init 9 = .ok (.return_, 1) := dk_177 (dk_at dksX12_init_0 9 rfl rfl)
abbrev cX12_worth : ByteArray := prog_8_method_2_code
def yX12_worth : MethodName := ⟨RX12, "worth", "(LPuzzleWed$Asked;)I"⟩
def dkwX12_worth_0 : List UInt8 := [43, 42, 180, 0, 7, 182, 0, 13, 172]
abbrev dktX12_worth_0 : List UInt8 := dkwX12_worth_0 ++ []
theorem dksX12_worth_0 : cX12_worth.data.toList.drop 0 = dktX12_worth_0 := by decide +kernel
theorem dX12_worth_0 : decode cX12_worth 0 = .ok (.aload_n 1, 1) := dk_43 (dk_at dksX12_worth_0 0 rfl rfl)
theorem dX12_worth_1 : decode cX12_worth 1 = .ok (.aload_n 0, 1) := dk_42 (dk_at dksX12_worth_0 1 rfl rfl)
theorem dX12_worth_2 : decode cX12_worth 2 = .ok (.getfield 7, 3) := dk_180 0 7 (dk_at dksX12_worth_0 2 rfl rfl)
theorem dX12_worth_5 : decode cX12_worth 5 = .ok (.invokevirtual 13, 3) := dk_182 0 13 (dk_at dksX12_worth_0 5 rfl rfl)
theorem dX12_worth_8 : decode cX12_worth 8 = .ok (.ireturn, 1) := dk_172 (dk_at dksX12_worth_0 8 rfl rfl)
theorem q126 : (Jvm.Cond.initialized "PuzzleWed$Letter") ∈ lw_all := lw_g (lw_at lw_m1 19 rfl) rfl
theorem q635 : (Jvm.Cond.instantiable "PuzzleWed$Letter" (1 : Nat)) ∈ lw_all := lw_g (lw_at lw_m3 48 rfl) rfl
theorem q637 : (Jvm.Cond.instanceMethod ({ cls := "PuzzleWed$Letter", name := "<init>", desc := "(I)V" } : Jvm.MethodName)) ∈ lw_all := lw_g (lw_at lw_m3 50 rfl) rfl
theorem q638 : (Jvm.Cond.code ({ cls := "PuzzleWed$Letter", name := "<init>", desc := "(I)V" } : Jvm.MethodName) prog_8_method_1_code (2 : Nat) (Option.none : Option Jvm.ClassFile.FieldType)) ∈ lw_all := lw_g (lw_at lw_m3 51 rfl) rfl
theorem q639 : (Jvm.Cond.methodLinkNest "PuzzleWed$Letter" (1 : Nat) ({ cls := "PuzzleWed$Sum", name := "<init>", desc := "()V" } : Jvm.MethodName) "PuzzleWed") ∈ lw_tbl := lw_at lw_m3 52 rfl
theorem q640 : (Jvm.Cond.fieldLink "PuzzleWed$Letter" (7 : Nat) "PuzzleWed$Letter" "letter" "I") ∈ lw_all := lw_g (lw_at lw_m3 53 rfl) rfl
theorem q641 : (Jvm.Cond.laysFinal "PuzzleWed$Letter" "PuzzleWed$Letter" "letter" "I") ∈ lw_all := lw_g (lw_at lw_m3 54 rfl) rfl
theorem q642 : (Jvm.Cond.soleField "PuzzleWed$Letter" "letter") ∈ lw_all := lw_g (lw_at lw_m3 55 rfl) rfl
theorem q643 : (Jvm.Cond.superclass "PuzzleWed$Letter" "PuzzleWed$Sum") ∈ lw_all := lw_g (lw_at lw_m3 56 rfl) rfl
theorem q978 : (Jvm.Cond.selects "PuzzleWed$Letter" ({ cls := "PuzzleWed$Sum", name := "worth", desc := "(LPuzzleWed$Asked;)I" } : Jvm.MethodName) ({ cls := "PuzzleWed$Letter", name := "worth", desc := "(LPuzzleWed$Asked;)I" } : Jvm.MethodName)) ∈ lw_all := lw_g (lw_at lw_m4 151 rfl) rfl
theorem q979 : (Jvm.Cond.instanceMethod ({ cls := "PuzzleWed$Letter", name := "worth", desc := "(LPuzzleWed$Asked;)I" } : Jvm.MethodName)) ∈ lw_all := lw_g (lw_at lw_m4 152 rfl) rfl
theorem q980 : (Jvm.Cond.code ({ cls := "PuzzleWed$Letter", name := "worth", desc := "(LPuzzleWed$Asked;)I" } : Jvm.MethodName) prog_8_method_2_code (2 : Nat) (Option.some Jvm.ClassFile.FieldType.int)) ∈ lw_all := lw_g (lw_at lw_m4 153 rfl) rfl
theorem q981 : (Jvm.Cond.methodLink "PuzzleWed$Letter" (13 : Nat) ({ cls := "PuzzleWed$Asked", name := "value", desc := "(I)I" } : Jvm.MethodName)) ∈ lw_all := lw_g (lw_at lw_m4 154 rfl) rfl
theorem q1018 : (Jvm.Cond.selects "PuzzleWed$Letter" ({ cls := "PuzzleWed$Sum", name := "told", desc := "(LPuzzleWed$Asked;)I" } : Jvm.MethodName) ({ cls := "PuzzleWed$Sum", name := "told", desc := "(LPuzzleWed$Asked;)I" } : Jvm.MethodName)) ∈ lw_all := lw_g (lw_at lw_m4 191 rfl) rfl
theorem q1831 : (Jvm.Cond.castable "PuzzleWed$Letter" "PuzzleWed$Sum") ∈ lw_tbl := lw_at lw_m8 44 rfl
theorem in_X12 : ∀ w ∈ wsX120, w ∈ lw_all := lw_in wsX120 [641] (by decide +kernel) (by decide +kernel)
