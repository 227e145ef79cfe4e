/-! PuzzleWed$Text -/
set_option maxRecDepth 100000
def RX6 : String := "PuzzleWed$Text"
def TX6 : u_T := fun k => match k with
  | 0 => ("PuzzleWed$Text", "letters", "[I", true)
  | 1 => ("PuzzleWed$Text", "sums", "[LPuzzleWed$Sum;", true)
  | 2 => ("PuzzleWed$Text", "conditions", "[LPuzzleWed$Condition;", true)
  | _ => ("PuzzleWed$Text", "many", "I", false)
def tyX6 : Nat → FieldType := fun k => match k with
  | 0 => .array .int
  | 1 => .array (.object "PuzzleWed$Sum")
  | 2 => .array (.object "PuzzleWed$Condition")
  | _ => .int
abbrev wsX60 : List Cond := u_ws RX6 TX6 4
theorem nmX6 : ∀ a, a < 4 → ∀ b, b < 4 → a ≠ b → (TX6 a).2.1 ≠ (TX6 b).2.1 := by decide +kernel
theorem tyX6_ok : ∀ k, k < 4 → parseFieldDescriptor (TX6 k).2.2.1 = some (tyX6 k) := by decide +kernel
abbrev cX6_init : ByteArray := prog_19_method_1_code
def yX6_init : MethodName := ⟨RX6, "<init>", "()V"⟩
def dkwX6_init_1 : List UInt8 := [189, 0, 21, 181, 0, 23, 177]
abbrev dktX6_init_1 : List UInt8 := dkwX6_init_1 ++ []
def dkwX6_init_0 : List UInt8 := [42, 183, 0, 3, 42, 16, 16, 188, 10, 181, 0, 9, 42, 16, 16, 189, 0, 15, 181, 0, 17, 42, 16, 16]
abbrev dktX6_init_0 : List UInt8 := dkwX6_init_0 ++ dktX6_init_1
theorem dksX6_init_0 : cX6_init.data.toList.drop 0 = dktX6_init_0 := by decide +kernel
theorem dksX6_init_1 : cX6_init.data.toList.drop 24 = dktX6_init_1 := dk_seg dksX6_init_0 24 rfl rfl
theorem dX6_init_0 : decode cX6_init 0 = .ok (.aload_n 0, 1) := dk_42 (dk_at dksX6_init_0 0 rfl rfl)
theorem dX6_init_1 : decode cX6_init 1 = .ok (.invokespecial 3, 3) := dk_183 0 3 (dk_at dksX6_init_0 1 rfl rfl)
theorem dX6_init_4 : decode cX6_init 4 = .ok (.aload_n 0, 1) := dk_42 (dk_at dksX6_init_0 4 rfl rfl)
theorem dX6_init_5 : decode cX6_init 5 = .ok (.bipush 16, 2) := dk_16 16 (dk_at dksX6_init_0 5 rfl rfl)
theorem dX6_init_7 : decode cX6_init 7 = .ok (.newarray .int, 2) := dk_188_10 (dk_at dksX6_init_0 7 rfl rfl)
theorem dX6_init_9 : decode cX6_init 9 = .ok (.putfield 9, 3) := dk_181 0 9 (dk_at dksX6_init_0 9 rfl rfl)
theorem dX6_init_12 : decode cX6_init 12 = .ok (.aload_n 0, 1) := dk_42 (dk_at dksX6_init_0 12 rfl rfl)
theorem dX6_init_13 : decode cX6_init 13 = .ok (.bipush 16, 2) := dk_16 16 (dk_at dksX6_init_0 13 rfl rfl)
theorem dX6_init_15 : decode cX6_init 15 = .ok (.anewarray 15, 3) := dk_189 0 15 (dk_at dksX6_init_0 15 rfl rfl)
theorem dX6_init_18 : decode cX6_init 18 = .ok (.putfield 17, 3) := dk_181 0 17 (dk_at dksX6_init_0 18 rfl rfl)
theorem dX6_init_21 : decode cX6_init 21 = .ok (.aload_n 0, 1) := dk_42 (dk_at dksX6_init_0 21 rfl rfl)
theorem dX6_init_22 : decode cX6_init 22 = .ok (.bipush 16, 2) := dk_16 16 (dk_at dksX6_init_0 22 rfl rfl)
theorem dX6_init_24 : decode cX6_init 24 = .ok (.anewarray 21, 3) := dk_189 0 21 (dk_at dksX6_init_1 0 rfl rfl)
theorem dX6_init_27 : decode cX6_init 27 = .ok (.putfield 23, 3) := dk_181 0 23 (dk_at dksX6_init_1 3 rfl rfl)
theorem dX6_init_30 : decode cX6_init 30 = .ok (.return_, 1) := dk_177 (dk_at dksX6_init_1 6 rfl rfl)
abbrev cX6_tells : ByteArray := prog_19_method_2_code
def yX6_tells : MethodName := ⟨RX6, "tells", "(ILPuzzleWed$Asked;)I"⟩
def dkwX6_tells_2 : List UInt8 := [167, 255, 210, 3, 172]
abbrev dktX6_tells_2 : List UInt8 := dkwX6_tells_2 ++ []
def dkwX6_tells_1 : List UInt8 := [29, 50, 44, 182, 0, 31, 4, 160, 0, 14, 42, 180, 0, 17, 29, 50, 44, 182, 0, 35, 172, 132, 3, 1]
abbrev dktX6_tells_1 : List UInt8 := dkwX6_tells_1 ++ dktX6_tells_2
def dkwX6_tells_0 : List UInt8 := [3, 62, 29, 42, 180, 0, 27, 162, 0, 44, 42, 180, 0, 9, 29, 46, 27, 160, 0, 28, 42, 180, 0, 23]
abbrev dktX6_tells_0 : List UInt8 := dkwX6_tells_0 ++ dktX6_tells_1
theorem dksX6_tells_0 : cX6_tells.data.toList.drop 0 = dktX6_tells_0 := by decide +kernel
theorem dksX6_tells_1 : cX6_tells.data.toList.drop 24 = dktX6_tells_1 := dk_seg dksX6_tells_0 24 rfl rfl
theorem dksX6_tells_2 : cX6_tells.data.toList.drop 48 = dktX6_tells_2 := dk_seg dksX6_tells_1 24 rfl rfl
theorem dX6_tells_0 : decode cX6_tells 0 = .ok (.iconst 0, 1) := dk_3 (dk_at dksX6_tells_0 0 rfl rfl)
theorem dX6_tells_1 : decode cX6_tells 1 = .ok (.istore_n 3, 1) := dk_62 (dk_at dksX6_tells_0 1 rfl rfl)
theorem dX6_tells_2 : decode cX6_tells 2 = .ok (.iload_n 3, 1) := dk_29 (dk_at dksX6_tells_0 2 rfl rfl)
theorem dX6_tells_3 : decode cX6_tells 3 = .ok (.aload_n 0, 1) := dk_42 (dk_at dksX6_tells_0 3 rfl rfl)
theorem dX6_tells_4 : decode cX6_tells 4 = .ok (.getfield 27, 3) := dk_180 0 27 (dk_at dksX6_tells_0 4 rfl rfl)
theorem dX6_tells_7 : decode cX6_tells 7 = .ok (.if_icmp .ge 44, 3) := dk_162 0 44 (dk_at dksX6_tells_0 7 rfl rfl)
theorem dX6_tells_10 : decode cX6_tells 10 = .ok (.aload_n 0, 1) := dk_42 (dk_at dksX6_tells_0 10 rfl rfl)
theorem dX6_tells_11 : decode cX6_tells 11 = .ok (.getfield 9, 3) := dk_180 0 9 (dk_at dksX6_tells_0 11 rfl rfl)
theorem dX6_tells_14 : decode cX6_tells 14 = .ok (.iload_n 3, 1) := dk_29 (dk_at dksX6_tells_0 14 rfl rfl)
theorem dX6_tells_15 : decode cX6_tells 15 = .ok (.iaload, 1) := dk_46 (dk_at dksX6_tells_0 15 rfl rfl)
theorem dX6_tells_16 : decode cX6_tells 16 = .ok (.iload_n 1, 1) := dk_27 (dk_at dksX6_tells_0 16 rfl rfl)
theorem dX6_tells_17 : decode cX6_tells 17 = .ok (.if_icmp .ne 28, 3) := dk_160 0 28 (dk_at dksX6_tells_0 17 rfl rfl)
theorem dX6_tells_20 : decode cX6_tells 20 = .ok (.aload_n 0, 1) := dk_42 (dk_at dksX6_tells_0 20 rfl rfl)
theorem dX6_tells_21 : decode cX6_tells 21 = .ok (.getfield 23, 3) := dk_180 0 23 (dk_at dksX6_tells_0 21 rfl rfl)
theorem dX6_tells_24 : decode cX6_tells 24 = .ok (.iload_n 3, 1) := dk_29 (dk_at dksX6_tells_1 0 rfl rfl)
theorem dX6_tells_25 : decode cX6_tells 25 = .ok (.aaload, 1) := dk_50 (dk_at dksX6_tells_1 1 rfl rfl)
theorem dX6_tells_26 : decode cX6_tells 26 = .ok (.aload_n 2, 1) := dk_44 (dk_at dksX6_tells_1 2 rfl rfl)
theorem dX6_tells_27 : decode cX6_tells 27 = .ok (.invokevirtual 31, 3) := dk_182 0 31 (dk_at dksX6_tells_1 3 rfl rfl)
theorem dX6_tells_30 : decode cX6_tells 30 = .ok (.iconst 1, 1) := dk_4 (dk_at dksX6_tells_1 6 rfl rfl)
theorem dX6_tells_31 : decode cX6_tells 31 = .ok (.if_icmp .ne 14, 3) := dk_160 0 14 (dk_at dksX6_tells_1 7 rfl rfl)
theorem dX6_tells_34 : decode cX6_tells 34 = .ok (.aload_n 0, 1) := dk_42 (dk_at dksX6_tells_1 10 rfl rfl)
theorem dX6_tells_35 : decode cX6_tells 35 = .ok (.getfield 17, 3) := dk_180 0 17 (dk_at dksX6_tells_1 11 rfl rfl)
theorem dX6_tells_38 : decode cX6_tells 38 = .ok (.iload_n 3, 1) := dk_29 (dk_at dksX6_tells_1 14 rfl rfl)
theorem dX6_tells_39 : decode cX6_tells 39 = .ok (.aaload, 1) := dk_50 (dk_at dksX6_tells_1 15 rfl rfl)
theorem dX6_tells_40 : decode cX6_tells 40 = .ok (.aload_n 2, 1) := dk_44 (dk_at dksX6_tells_1 16 rfl rfl)
theorem dX6_tells_41 : decode cX6_tells 41 = .ok (.invokevirtual 35, 3) := dk_182 0 35 (dk_at dksX6_tells_1 17 rfl rfl)
theorem dX6_tells_44 : decode cX6_tells 44 = .ok (.ireturn, 1) := dk_172 (dk_at dksX6_tells_1 20 rfl rfl)
theorem dX6_tells_45 : decode cX6_tells 45 = .ok (.iinc 3 1, 3) := dk_132 3 1 (dk_at dksX6_tells_1 21 rfl rfl)
theorem dX6_tells_48 : decode cX6_tells 48 = .ok (.goto (-46), 3) := dk_167 255 210 (dk_at dksX6_tells_2 0 rfl rfl)
theorem dX6_tells_51 : decode cX6_tells 51 = .ok (.iconst 0, 1) := dk_3 (dk_at dksX6_tells_2 3 rfl rfl)
theorem dX6_tells_52 : decode cX6_tells 52 = .ok (.ireturn, 1) := dk_172 (dk_at dksX6_tells_2 4 rfl rfl)
theorem q114 : (Jvm.Cond.initialized "PuzzleWed$Text") ∈ lw_all := lw_g (lw_at lw_m1 7 rfl) rfl
theorem q296 : (Jvm.Cond.instantiable "PuzzleWed$Text" (4 : Nat)) ∈ lw_all := lw_g (lw_at lw_m1 189 rfl) rfl
theorem q298 : (Jvm.Cond.instanceMethod ({ cls := "PuzzleWed$Text", name := "<init>", desc := "()V" } : Jvm.MethodName)) ∈ lw_all := lw_g (lw_at lw_m1 191 rfl) rfl
theorem q299 : (Jvm.Cond.code ({ cls := "PuzzleWed$Text", name := "<init>", desc := "()V" } : Jvm.MethodName) prog_19_method_1_code (1 : Nat) (Option.none : Option Jvm.ClassFile.FieldType)) ∈ lw_all := lw_g (lw_at lw_m1 192 rfl) rfl
theorem q300 : (Jvm.Cond.methodLink "PuzzleWed$Text" (3 : Nat) ({ cls := "java/lang/Object", name := "<init>", desc := "()V" } : Jvm.MethodName)) ∈ lw_all := lw_g (lw_at lw_m1 193 rfl) rfl
theorem q301 : (Jvm.Cond.classLink "PuzzleWed$Text" (15 : Nat) "PuzzleWed$Sum") ∈ lw_all := lw_g (lw_at lw_m1 194 rfl) rfl
theorem q303 : (Jvm.Cond.classLink "PuzzleWed$Text" (21 : Nat) "PuzzleWed$Condition") ∈ lw_all := lw_g (lw_at lw_m1 196 rfl) rfl
theorem q305 : (Jvm.Cond.fieldLink "PuzzleWed$Text" (9 : Nat) "PuzzleWed$Text" "letters" "[I") ∈ lw_all := lw_g (lw_at lw_m1 198 rfl) rfl
theorem q307 : (Jvm.Cond.fieldLink "PuzzleWed$Text" (17 : Nat) "PuzzleWed$Text" "sums" "[LPuzzleWed$Sum;") ∈ lw_all := lw_g (lw_at lw_m1 200 rfl) rfl
theorem q309 : (Jvm.Cond.fieldLink "PuzzleWed$Text" (23 : Nat) "PuzzleWed$Text" "conditions" "[LPuzzleWed$Condition;") ∈ lw_all := lw_g (lw_at lw_m1 202 rfl) rfl
theorem q311 : (Jvm.Cond.fieldLink "PuzzleWed$Text" (27 : Nat) "PuzzleWed$Text" "many" "I") ∈ lw_all := lw_g (lw_at lw_m1 204 rfl) rfl
theorem q314 : (Jvm.Cond.laysFinal "PuzzleWed$Text" "PuzzleWed$Text" "letters" "[I") ∈ lw_all := lw_g (lw_at lw_m1 207 rfl) rfl
theorem q315 : (Jvm.Cond.soleField "PuzzleWed$Text" "letters") ∈ lw_all := lw_g (lw_at lw_m1 208 rfl) rfl
theorem q316 : (Jvm.Cond.laysFinal "PuzzleWed$Text" "PuzzleWed$Text" "sums" "[LPuzzleWed$Sum;") ∈ lw_all := lw_g (lw_at lw_m1 209 rfl) rfl
theorem q317 : (Jvm.Cond.soleField "PuzzleWed$Text" "sums") ∈ lw_all := lw_g (lw_at lw_m1 210 rfl) rfl
theorem q318 : (Jvm.Cond.laysFinal "PuzzleWed$Text" "PuzzleWed$Text" "conditions" "[LPuzzleWed$Condition;") ∈ lw_all := lw_g (lw_at lw_m1 211 rfl) rfl
theorem q319 : (Jvm.Cond.soleField "PuzzleWed$Text" "conditions") ∈ lw_all := lw_g (lw_at lw_m1 212 rfl) rfl
theorem q320 : (Jvm.Cond.lays "PuzzleWed$Text" "PuzzleWed$Text" "many" "I") ∈ lw_all := lw_g (lw_at lw_m1 213 rfl) rfl
theorem q321 : (Jvm.Cond.soleField "PuzzleWed$Text" "many") ∈ lw_all := lw_g (lw_at lw_m1 214 rfl) rfl
theorem q322 : (Jvm.Cond.superclass "PuzzleWed$Text" "java/lang/Object") ∈ lw_all := lw_g (lw_at lw_m1 215 rfl) rfl
theorem q966 : (Jvm.Cond.instanceMethod ({ cls := "PuzzleWed$Text", name := "tells", desc := "(ILPuzzleWed$Asked;)I" } : Jvm.MethodName)) ∈ lw_all := lw_g (lw_at lw_m4 139 rfl) rfl
theorem q967 : (Jvm.Cond.selects "PuzzleWed$Text" ({ cls := "PuzzleWed$Text", name := "tells", desc := "(ILPuzzleWed$Asked;)I" } : Jvm.MethodName) ({ cls := "PuzzleWed$Text", name := "tells", desc := "(ILPuzzleWed$Asked;)I" } : Jvm.MethodName)) ∈ lw_all := lw_g (lw_at lw_m4 140 rfl) rfl
theorem q968 : (Jvm.Cond.code ({ cls := "PuzzleWed$Text", name := "tells", desc := "(ILPuzzleWed$Asked;)I" } : Jvm.MethodName) prog_19_method_2_code (4 : Nat) (Option.some Jvm.ClassFile.FieldType.int)) ∈ lw_all := lw_g (lw_at lw_m4 141 rfl) rfl
theorem q969 : (Jvm.Cond.methodLink "PuzzleWed$Text" (31 : Nat) ({ cls := "PuzzleWed$Condition", name := "holds", desc := "(LPuzzleWed$Asked;)I" } : Jvm.MethodName)) ∈ lw_all := lw_g (lw_at lw_m4 142 rfl) rfl
theorem q1015 : (Jvm.Cond.methodLink "PuzzleWed$Text" (35 : Nat) ({ cls := "PuzzleWed$Sum", name := "told", desc := "(LPuzzleWed$Asked;)I" } : Jvm.MethodName)) ∈ lw_all := lw_g (lw_at lw_m4 188 rfl) rfl
theorem in_X6 : ∀ w ∈ wsX60, w ∈ lw_all := lw_in wsX60 [314, 316, 318, 320] (by decide +kernel) (by decide +kernel)
