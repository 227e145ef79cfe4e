/-! PuzzleWed$Some -/
set_option maxRecDepth 100000
def RX14 : String := "PuzzleWed$Some"
def TX14 : u_T := fun k => match k with
  | 0 => ("PuzzleWed$Some", "part", "LPuzzleWed$Condition;", true)
  | 1 => ("PuzzleWed$Some", "decides", "I", true)
  | _ => ("PuzzleWed$Some", "next", "LPuzzleWed$Some;", false)
def tyX14 : Nat → FieldType := fun k => match k with
  | 0 => .object "PuzzleWed$Condition"
  | 1 => .int
  | _ => .object "PuzzleWed$Some"
abbrev wsX140 : List Cond := u_ws RX14 TX14 3
theorem nmX14 : ∀ a, a < 3 → ∀ b, b < 3 → a ≠ b → (TX14 a).2.1 ≠ (TX14 b).2.1 := by decide +kernel
theorem tyX14_ok : ∀ k, k < 3 → parseFieldDescriptor (TX14 k).2.2.1 = some (tyX14 k) := by decide +kernel
abbrev cX14_init : ByteArray := prog_17_method_1_code
def yX14_init : MethodName := ⟨RX14, "<init>", "(LPuzzleWed$Condition;I)V"⟩
def dkwX14_init_0 : List UInt8 := [42, 183, 0, 1, 42, 43, 181, 0, 7, 42, 28, 181, 0, 13, 177]
abbrev dktX14_init_0 : List UInt8 := dkwX14_init_0 ++ []
theorem dksX14_init_0 : cX14_init.data.toList.drop 0 = dktX14_init_0 := by decide +kernel
theorem dX14_init_0 : decode cX14_init 0 = .ok (.aload_n 0, 1) := dk_42 (dk_at dksX14_init_0 0 rfl rfl)
theorem dX14_init_1 : decode cX14_init 1 = .ok (.invokespecial 1, 3) := dk_183 0 1 (dk_at dksX14_init_0 1 rfl rfl)
theorem dX14_init_4 : decode cX14_init 4 = .ok (.aload_n 0, 1) := dk_42 (dk_at dksX14_init_0 4 rfl rfl)
theorem dX14_init_5 : decode cX14_init 5 = .ok (.aload_n 1, 1) := dk_43 (dk_at dksX14_init_0 5 rfl rfl)
theorem dX14_init_6 : decode cX14_init 6 = .ok (.putfield 7, 3) := dk_181 0 7 (dk_at dksX14_init_0 6 rfl rfl)
theorem dX14_init_9 : decode cX14_init 9 = .ok (.aload_n 0, 1) := dk_42 (dk_at dksX14_init_0 9 rfl rfl)
theorem dX14_init_10 : decode cX14_init 10 = .ok (.iload_n 2, 1) := dk_28 (dk_at dksX14_init_0 10 rfl rfl)
theorem dX14_init_11 : decode cX14_init 11 = .ok (.putfield 13, 3) := dk_181 0 13 (dk_at dksX14_init_0 11 rfl rfl)
theorem dX14_init_14 : decode cX14_init 14 = .ok (.return_, 1) := dk_177 (dk_at dksX14_init_0 14 rfl rfl)
abbrev cX14_holds : ByteArray := prog_17_method_2_code
def yX14_holds : MethodName := ⟨RX14, "holds", "(LPuzzleWed$Asked;)I"⟩
def dkwX14_holds_1 : List UInt8 := [180, 0, 13, 160, 0, 5, 29, 172, 44, 180, 0, 21, 77, 167, 255, 223, 4, 42, 180, 0, 13, 100, 172]
abbrev dktX14_holds_1 : List UInt8 := dkwX14_holds_1 ++ []
def dkwX14_holds_0 : List UInt8 := [42, 77, 44, 198, 0, 35, 44, 180, 0, 7, 43, 182, 0, 17, 62, 29, 5, 159, 0, 11, 29, 42]
abbrev dktX14_holds_0 : List UInt8 := dkwX14_holds_0 ++ dktX14_holds_1
theorem dksX14_holds_0 : cX14_holds.data.toList.drop 0 = dktX14_holds_0 := by decide +kernel
theorem dksX14_holds_1 : cX14_holds.data.toList.drop 22 = dktX14_holds_1 := dk_seg dksX14_holds_0 22 rfl rfl
theorem dX14_holds_0 : decode cX14_holds 0 = .ok (.aload_n 0, 1) := dk_42 (dk_at dksX14_holds_0 0 rfl rfl)
theorem dX14_holds_1 : decode cX14_holds 1 = .ok (.astore_n 2, 1) := dk_77 (dk_at dksX14_holds_0 1 rfl rfl)
theorem dX14_holds_2 : decode cX14_holds 2 = .ok (.aload_n 2, 1) := dk_44 (dk_at dksX14_holds_0 2 rfl rfl)
theorem dX14_holds_3 : decode cX14_holds 3 = .ok (.ifnull 35, 3) := dk_198 0 35 (dk_at dksX14_holds_0 3 rfl rfl)
theorem dX14_holds_6 : decode cX14_holds 6 = .ok (.aload_n 2, 1) := dk_44 (dk_at dksX14_holds_0 6 rfl rfl)
theorem dX14_holds_7 : decode cX14_holds 7 = .ok (.getfield 7, 3) := dk_180 0 7 (dk_at dksX14_holds_0 7 rfl rfl)
theorem dX14_holds_10 : decode cX14_holds 10 = .ok (.aload_n 1, 1) := dk_43 (dk_at dksX14_holds_0 10 rfl rfl)
theorem dX14_holds_11 : decode cX14_holds 11 = .ok (.invokevirtual 17, 3) := dk_182 0 17 (dk_at dksX14_holds_0 11 rfl rfl)
theorem dX14_holds_14 : decode cX14_holds 14 = .ok (.istore_n 3, 1) := dk_62 (dk_at dksX14_holds_0 14 rfl rfl)
theorem dX14_holds_15 : decode cX14_holds 15 = .ok (.iload_n 3, 1) := dk_29 (dk_at dksX14_holds_0 15 rfl rfl)
theorem dX14_holds_16 : decode cX14_holds 16 = .ok (.iconst 2, 1) := dk_5 (dk_at dksX14_holds_0 16 rfl rfl)
theorem dX14_holds_17 : decode cX14_holds 17 = .ok (.if_icmp .eq 11, 3) := dk_159 0 11 (dk_at dksX14_holds_0 17 rfl rfl)
theorem dX14_holds_20 : decode cX14_holds 20 = .ok (.iload_n 3, 1) := dk_29 (dk_at dksX14_holds_0 20 rfl rfl)
theorem dX14_holds_21 : decode cX14_holds 21 = .ok (.aload_n 0, 1) := dk_42 (dk_at dksX14_holds_0 21 rfl rfl)
theorem dX14_holds_22 : decode cX14_holds 22 = .ok (.getfield 13, 3) := dk_180 0 13 (dk_at dksX14_holds_1 0 rfl rfl)
theorem dX14_holds_25 : decode cX14_holds 25 = .ok (.if_icmp .ne 5, 3) := dk_160 0 5 (dk_at dksX14_holds_1 3 rfl rfl)
theorem dX14_holds_28 : decode cX14_holds 28 = .ok (.iload_n 3, 1) := dk_29 (dk_at dksX14_holds_1 6 rfl rfl)
theorem dX14_holds_29 : decode cX14_holds 29 = .ok (.ireturn, 1) := dk_172 (dk_at dksX14_holds_1 7 rfl rfl)
theorem dX14_holds_30 : decode cX14_holds 30 = .ok (.aload_n 2, 1) := dk_44 (dk_at dksX14_holds_1 8 rfl rfl)
theorem dX14_holds_31 : decode cX14_holds 31 = .ok (.getfield 21, 3) := dk_180 0 21 (dk_at dksX14_holds_1 9 rfl rfl)
theorem dX14_holds_34 : decode cX14_holds 34 = .ok (.astore_n 2, 1) := dk_77 (dk_at dksX14_holds_1 12 rfl rfl)
theorem dX14_holds_35 : decode cX14_holds 35 = .ok (.goto (-33), 3) := dk_167 255 223 (dk_at dksX14_holds_1 13 rfl rfl)
theorem dX14_holds_38 : decode cX14_holds 38 = .ok (.iconst 1, 1) := dk_4 (dk_at dksX14_holds_1 16 rfl rfl)
theorem dX14_holds_39 : decode cX14_holds 39 = .ok (.aload_n 0, 1) := dk_42 (dk_at dksX14_holds_1 17 rfl rfl)
theorem dX14_holds_40 : decode cX14_holds 40 = .ok (.getfield 13, 3) := dk_180 0 13 (dk_at dksX14_holds_1 18 rfl rfl)
theorem dX14_holds_43 : decode cX14_holds 43 = .ok (.isub, 1) := dk_100 (dk_at dksX14_holds_1 21 rfl rfl)
theorem dX14_holds_44 : decode cX14_holds 44 = .ok (.ireturn, 1) := dk_172 (dk_at dksX14_holds_1 22 rfl rfl)
theorem q128 : (Jvm.Cond.initialized "PuzzleWed$Some") ∈ lw_all := lw_g (lw_at lw_m1 21 rfl) rfl
theorem q664 : (Jvm.Cond.instantiable "PuzzleWed$Some" (3 : Nat)) ∈ lw_all := lw_g (lw_at lw_m3 77 rfl) rfl
theorem q703 : (Jvm.Cond.instanceMethod ({ cls := "PuzzleWed$Some", name := "<init>", desc := "(LPuzzleWed$Condition;I)V" } : Jvm.MethodName)) ∈ lw_all := lw_g (lw_at lw_m3 116 rfl) rfl
theorem q704 : (Jvm.Cond.code ({ cls := "PuzzleWed$Some", name := "<init>", desc := "(LPuzzleWed$Condition;I)V" } : Jvm.MethodName) prog_17_method_1_code (3 : Nat) (Option.none : Option Jvm.ClassFile.FieldType)) ∈ lw_all := lw_g (lw_at lw_m3 117 rfl) rfl
theorem q705 : (Jvm.Cond.methodLinkNest "PuzzleWed$Some" (1 : Nat) ({ cls := "PuzzleWed$Condition", name := "<init>", desc := "()V" } : Jvm.MethodName) "PuzzleWed") ∈ lw_tbl := lw_at lw_m3 118 rfl
theorem q706 : (Jvm.Cond.fieldLink "PuzzleWed$Some" (7 : Nat) "PuzzleWed$Some" "part" "LPuzzleWed$Condition;") ∈ lw_all := lw_g (lw_at lw_m3 119 rfl) rfl
theorem q707 : (Jvm.Cond.fieldLink "PuzzleWed$Some" (13 : Nat) "PuzzleWed$Some" "decides" "I") ∈ lw_all := lw_g (lw_at lw_m3 120 rfl) rfl
theorem q708 : (Jvm.Cond.fieldLink "PuzzleWed$Some" (21 : Nat) "PuzzleWed$Some" "next" "LPuzzleWed$Some;") ∈ lw_all := lw_g (lw_at lw_m3 121 rfl) rfl
theorem q710 : (Jvm.Cond.laysFinal "PuzzleWed$Some" "PuzzleWed$Some" "part" "LPuzzleWed$Condition;") ∈ lw_all := lw_g (lw_at lw_m3 123 rfl) rfl
theorem q711 : (Jvm.Cond.soleField "PuzzleWed$Some" "part") ∈ lw_all := lw_g (lw_at lw_m3 124 rfl) rfl
theorem q712 : (Jvm.Cond.laysFinal "PuzzleWed$Some" "PuzzleWed$Some" "decides" "I") ∈ lw_all := lw_g (lw_at lw_m3 125 rfl) rfl
theorem q713 : (Jvm.Cond.soleField "PuzzleWed$Some" "decides") ∈ lw_all := lw_g (lw_at lw_m3 126 rfl) rfl
theorem q714 : (Jvm.Cond.lays "PuzzleWed$Some" "PuzzleWed$Some" "next" "LPuzzleWed$Some;") ∈ lw_all := lw_g (lw_at lw_m3 127 rfl) rfl
theorem q715 : (Jvm.Cond.soleField "PuzzleWed$Some" "next") ∈ lw_all := lw_g (lw_at lw_m3 128 rfl) rfl
theorem q716 : (Jvm.Cond.superclass "PuzzleWed$Some" "PuzzleWed$Condition") ∈ lw_all := lw_g (lw_at lw_m3 129 rfl) rfl
theorem q1011 : (Jvm.Cond.instanceMethod ({ cls := "PuzzleWed$Some", name := "holds", desc := "(LPuzzleWed$Asked;)I" } : Jvm.MethodName)) ∈ lw_all := lw_g (lw_at lw_m4 184 rfl) rfl
theorem q1012 : (Jvm.Cond.code ({ cls := "PuzzleWed$Some", name := "holds", desc := "(LPuzzleWed$Asked;)I" } : Jvm.MethodName) prog_17_method_2_code (4 : Nat) (Option.some Jvm.ClassFile.FieldType.int)) ∈ lw_all := lw_g (lw_at lw_m4 185 rfl) rfl
theorem q1013 : (Jvm.Cond.methodLink "PuzzleWed$Some" (17 : Nat) ({ cls := "PuzzleWed$Condition", name := "holds", desc := "(LPuzzleWed$Asked;)I" } : Jvm.MethodName)) ∈ lw_all := lw_g (lw_at lw_m4 186 rfl) rfl
theorem q1014 : (Jvm.Cond.selects "PuzzleWed$Some" ({ cls := "PuzzleWed$Condition", name := "holds", desc := "(LPuzzleWed$Asked;)I" } : Jvm.MethodName) ({ cls := "PuzzleWed$Some", name := "holds", desc := "(LPuzzleWed$Asked;)I" } : Jvm.MethodName)) ∈ lw_all := lw_g (lw_at lw_m4 187 rfl) rfl
theorem q1832 : (Jvm.Cond.castable "PuzzleWed$Some" "PuzzleWed$Condition") ∈ lw_tbl := lw_at lw_m8 45 rfl
theorem in_X14 : ∀ w ∈ wsX140, w ∈ lw_all := lw_in wsX140 [710, 712, 714] (by decide +kernel) (by decide +kernel)
