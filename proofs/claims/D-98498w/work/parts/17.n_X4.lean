/-! PuzzleWed$Person -/
set_option maxRecDepth 100000
def RX4 : String := "PuzzleWed$Person"
def TX4 : u_T := fun k => match k with
  | 0 => ("PuzzleWed$Person", "towns", "[I", true)
  | 1 => ("PuzzleWed$Person", "side", "I", false)
  | 2 => ("PuzzleWed$Person", "town", "I", false)
  | 3 => ("PuzzleWed$Person", "wed", "I", false)
  | 4 => ("PuzzleWed$Person", "creaks", "I", false)
  | 5 => ("PuzzleWed$Person", "tried", "I", false)
  | 6 => ("PuzzleWed$Person", "next", "I", false)
  | 7 => ("PuzzleWed$Person", "days", "I", false)
  | 8 => ("PuzzleWed$Person", "isTold", "Z", false)
  | _ => ("PuzzleWed$Person", "isDead", "Z", false)
def tyX4 : Nat → FieldType := fun k => match k with
  | 0 => .array .int
  | 1 => .int
  | 2 => .int
  | 3 => .int
  | 4 => .int
  | 5 => .int
  | 6 => .int
  | 7 => .int
  | 8 => .boolean
  | _ => .boolean
abbrev wsX40 : List Cond := u_ws RX4 TX4 10
theorem nmX4 : ∀ a, a < 10 → ∀ b, b < 10 → a ≠ b → (TX4 a).2.1 ≠ (TX4 b).2.1 := by decide +kernel
theorem tyX4_ok : ∀ k, k < 10 → parseFieldDescriptor (TX4 k).2.2.1 = some (tyX4 k) := by decide +kernel
abbrev cX4_init : ByteArray := prog_12_method_1_code
def yX4_init : MethodName := ⟨RX4, "<init>", "()V"⟩
def dkwX4_init_0 : List UInt8 := [42, 183, 0, 3, 42, 17, 0, 144, 188, 10, 181, 0, 9, 177]
abbrev dktX4_init_0 : List UInt8 := dkwX4_init_0 ++ []
theorem dksX4_init_0 : cX4_init.data.toList.drop 0 = dktX4_init_0 := by decide +kernel
theorem dX4_init_0 : decode cX4_init 0 = .ok (.aload_n 0, 1) := dk_42 (dk_at dksX4_init_0 0 rfl rfl)
theorem dX4_init_1 : decode cX4_init 1 = .ok (.invokespecial 3, 3) := dk_183 0 3 (dk_at dksX4_init_0 1 rfl rfl)
theorem dX4_init_4 : decode cX4_init 4 = .ok (.aload_n 0, 1) := dk_42 (dk_at dksX4_init_0 4 rfl rfl)
theorem dX4_init_5 : decode cX4_init 5 = .ok (.sipush 144, 3) := dk_17 0 144 (dk_at dksX4_init_0 5 rfl rfl)
theorem dX4_init_8 : decode cX4_init 8 = .ok (.newarray .int, 2) := dk_188_10 (dk_at dksX4_init_0 8 rfl rfl)
theorem dX4_init_10 : decode cX4_init 10 = .ok (.putfield 9, 3) := dk_181 0 9 (dk_at dksX4_init_0 10 rfl rfl)
theorem dX4_init_13 : decode cX4_init 13 = .ok (.return_, 1) := dk_177 (dk_at dksX4_init_0 13 rfl rfl)
abbrev cX4_lives : ByteArray := prog_12_method_3_code
def yX4_lives : MethodName := ⟨RX4, "lives", "()Z"⟩
def dkwX4_lives_0 : List UInt8 := [42, 180, 0, 37, 153, 0, 14, 42, 180, 0, 41, 154, 0, 7, 4, 167, 0, 4, 3, 172]
abbrev dktX4_lives_0 : List UInt8 := dkwX4_lives_0 ++ []
theorem dksX4_lives_0 : cX4_lives.data.toList.drop 0 = dktX4_lives_0 := by decide +kernel
theorem dX4_lives_0 : decode cX4_lives 0 = .ok (.aload_n 0, 1) := dk_42 (dk_at dksX4_lives_0 0 rfl rfl)
theorem dX4_lives_1 : decode cX4_lives 1 = .ok (.getfield 37, 3) := dk_180 0 37 (dk_at dksX4_lives_0 1 rfl rfl)
theorem dX4_lives_4 : decode cX4_lives 4 = .ok (.ifCond .eq 14, 3) := dk_153 0 14 (dk_at dksX4_lives_0 4 rfl rfl)
theorem dX4_lives_7 : decode cX4_lives 7 = .ok (.aload_n 0, 1) := dk_42 (dk_at dksX4_lives_0 7 rfl rfl)
theorem dX4_lives_8 : decode cX4_lives 8 = .ok (.getfield 41, 3) := dk_180 0 41 (dk_at dksX4_lives_0 8 rfl rfl)
theorem dX4_lives_11 : decode cX4_lives 11 = .ok (.ifCond .ne 7, 3) := dk_154 0 7 (dk_at dksX4_lives_0 11 rfl rfl)
theorem dX4_lives_14 : decode cX4_lives 14 = .ok (.iconst 1, 1) := dk_4 (dk_at dksX4_lives_0 14 rfl rfl)
theorem dX4_lives_15 : decode cX4_lives 15 = .ok (.goto 4, 3) := dk_167 0 4 (dk_at dksX4_lives_0 15 rfl rfl)
theorem dX4_lives_18 : decode cX4_lives 18 = .ok (.iconst 0, 1) := dk_3 (dk_at dksX4_lives_0 18 rfl rfl)
theorem dX4_lives_19 : decode cX4_lives 19 = .ok (.ireturn, 1) := dk_172 (dk_at dksX4_lives_0 19 rfl rfl)
abbrev cX4_isFree : ByteArray := prog_12_method_4_code
def yX4_isFree : MethodName := ⟨RX4, "isFree", "()Z"⟩
def dkwX4_isFree_0 : List UInt8 := [42, 182, 0, 44, 153, 0, 15, 42, 180, 0, 25, 2, 160, 0, 7, 4, 167, 0, 4, 3, 172]
abbrev dktX4_isFree_0 : List UInt8 := dkwX4_isFree_0 ++ []
theorem dksX4_isFree_0 : cX4_isFree.data.toList.drop 0 = dktX4_isFree_0 := by decide +kernel
theorem dX4_isFree_0 : decode cX4_isFree 0 = .ok (.aload_n 0, 1) := dk_42 (dk_at dksX4_isFree_0 0 rfl rfl)
theorem dX4_isFree_1 : decode cX4_isFree 1 = .ok (.invokevirtual 44, 3) := dk_182 0 44 (dk_at dksX4_isFree_0 1 rfl rfl)
theorem dX4_isFree_4 : decode cX4_isFree 4 = .ok (.ifCond .eq 15, 3) := dk_153 0 15 (dk_at dksX4_isFree_0 4 rfl rfl)
theorem dX4_isFree_7 : decode cX4_isFree 7 = .ok (.aload_n 0, 1) := dk_42 (dk_at dksX4_isFree_0 7 rfl rfl)
theorem dX4_isFree_8 : decode cX4_isFree 8 = .ok (.getfield 25, 3) := dk_180 0 25 (dk_at dksX4_isFree_0 8 rfl rfl)
theorem dX4_isFree_11 : decode cX4_isFree 11 = .ok (.iconst (-1), 1) := dk_2 (dk_at dksX4_isFree_0 11 rfl rfl)
theorem dX4_isFree_12 : decode cX4_isFree 12 = .ok (.if_icmp .ne 7, 3) := dk_160 0 7 (dk_at dksX4_isFree_0 12 rfl rfl)
theorem dX4_isFree_15 : decode cX4_isFree 15 = .ok (.iconst 1, 1) := dk_4 (dk_at dksX4_isFree_0 15 rfl rfl)
theorem dX4_isFree_16 : decode cX4_isFree 16 = .ok (.goto 4, 3) := dk_167 0 4 (dk_at dksX4_isFree_0 16 rfl rfl)
theorem dX4_isFree_19 : decode cX4_isFree 19 = .ok (.iconst 0, 1) := dk_3 (dk_at dksX4_isFree_0 19 rfl rfl)
theorem dX4_isFree_20 : decode cX4_isFree 20 = .ok (.ireturn, 1) := dk_172 (dk_at dksX4_isFree_0 20 rfl rfl)
abbrev cX4_takes : ByteArray := prog_12_method_2_code
def yX4_takes : MethodName := ⟨RX4, "takes", "(LPuzzleWed$Person;)V"⟩
def dkwX4_takes_4 : List UInt8 := [180, 0, 41, 181, 0, 41, 177]
abbrev dktX4_takes_4 : List UInt8 := dkwX4_takes_4 ++ []
def dkwX4_takes_3 : List UInt8 := [180, 0, 34, 181, 0, 34, 42, 43, 180, 0, 15, 181, 0, 15, 42, 43, 180, 0, 37, 181, 0, 37, 42, 43]
abbrev dktX4_takes_3 : List UInt8 := dkwX4_takes_3 ++ dktX4_takes_4
def dkwX4_takes_2 : List UInt8 := [180, 0, 25, 181, 0, 25, 42, 43, 180, 0, 28, 181, 0, 28, 42, 43, 180, 0, 31, 181, 0, 31, 42, 43]
abbrev dktX4_takes_2 : List UInt8 := dkwX4_takes_2 ++ dktX4_takes_3
def dkwX4_takes_1 : List UInt8 := [132, 2, 1, 167, 255, 233, 42, 43, 180, 0, 19, 181, 0, 19, 42, 43, 180, 0, 22, 181, 0, 22, 42, 43]
abbrev dktX4_takes_1 : List UInt8 := dkwX4_takes_1 ++ dktX4_takes_2
def dkwX4_takes_0 : List UInt8 := [3, 61, 28, 43, 180, 0, 15, 162, 0, 21, 42, 180, 0, 9, 28, 43, 180, 0, 9, 28, 46, 79]
abbrev dktX4_takes_0 : List UInt8 := dkwX4_takes_0 ++ dktX4_takes_1
theorem dksX4_takes_0 : cX4_takes.data.toList.drop 0 = dktX4_takes_0 := by decide +kernel
theorem dksX4_takes_1 : cX4_takes.data.toList.drop 22 = dktX4_takes_1 := dk_seg dksX4_takes_0 22 rfl rfl
theorem dksX4_takes_2 : cX4_takes.data.toList.drop 46 = dktX4_takes_2 := dk_seg dksX4_takes_1 24 rfl rfl
theorem dksX4_takes_3 : cX4_takes.data.toList.drop 70 = dktX4_takes_3 := dk_seg dksX4_takes_2 24 rfl rfl
theorem dksX4_takes_4 : cX4_takes.data.toList.drop 94 = dktX4_takes_4 := dk_seg dksX4_takes_3 24 rfl rfl
theorem dX4_takes_0 : decode cX4_takes 0 = .ok (.iconst 0, 1) := dk_3 (dk_at dksX4_takes_0 0 rfl rfl)
theorem dX4_takes_1 : decode cX4_takes 1 = .ok (.istore_n 2, 1) := dk_61 (dk_at dksX4_takes_0 1 rfl rfl)
theorem dX4_takes_2 : decode cX4_takes 2 = .ok (.iload_n 2, 1) := dk_28 (dk_at dksX4_takes_0 2 rfl rfl)
theorem dX4_takes_3 : decode cX4_takes 3 = .ok (.aload_n 1, 1) := dk_43 (dk_at dksX4_takes_0 3 rfl rfl)
theorem dX4_takes_4 : decode cX4_takes 4 = .ok (.getfield 15, 3) := dk_180 0 15 (dk_at dksX4_takes_0 4 rfl rfl)
theorem dX4_takes_7 : decode cX4_takes 7 = .ok (.if_icmp .ge 21, 3) := dk_162 0 21 (dk_at dksX4_takes_0 7 rfl rfl)
theorem dX4_takes_10 : decode cX4_takes 10 = .ok (.aload_n 0, 1) := dk_42 (dk_at dksX4_takes_0 10 rfl rfl)
theorem dX4_takes_11 : decode cX4_takes 11 = .ok (.getfield 9, 3) := dk_180 0 9 (dk_at dksX4_takes_0 11 rfl rfl)
theorem dX4_takes_14 : decode cX4_takes 14 = .ok (.iload_n 2, 1) := dk_28 (dk_at dksX4_takes_0 14 rfl rfl)
theorem dX4_takes_15 : decode cX4_takes 15 = .ok (.aload_n 1, 1) := dk_43 (dk_at dksX4_takes_0 15 rfl rfl)
theorem dX4_takes_16 : decode cX4_takes 16 = .ok (.getfield 9, 3) := dk_180 0 9 (dk_at dksX4_takes_0 16 rfl rfl)
theorem dX4_takes_19 : decode cX4_takes 19 = .ok (.iload_n 2, 1) := dk_28 (dk_at dksX4_takes_0 19 rfl rfl)
theorem dX4_takes_20 : decode cX4_takes 20 = .ok (.iaload, 1) := dk_46 (dk_at dksX4_takes_0 20 rfl rfl)
theorem dX4_takes_21 : decode cX4_takes 21 = .ok (.iastore, 1) := dk_79 (dk_at dksX4_takes_0 21 rfl rfl)
theorem dX4_takes_22 : decode cX4_takes 22 = .ok (.iinc 2 1, 3) := dk_132 2 1 (dk_at dksX4_takes_1 0 rfl rfl)
theorem dX4_takes_25 : decode cX4_takes 25 = .ok (.goto (-23), 3) := dk_167 255 233 (dk_at dksX4_takes_1 3 rfl rfl)
theorem dX4_takes_28 : decode cX4_takes 28 = .ok (.aload_n 0, 1) := dk_42 (dk_at dksX4_takes_1 6 rfl rfl)
theorem dX4_takes_29 : decode cX4_takes 29 = .ok (.aload_n 1, 1) := dk_43 (dk_at dksX4_takes_1 7 rfl rfl)
theorem dX4_takes_30 : decode cX4_takes 30 = .ok (.getfield 19, 3) := dk_180 0 19 (dk_at dksX4_takes_1 8 rfl rfl)
theorem dX4_takes_33 : decode cX4_takes 33 = .ok (.putfield 19, 3) := dk_181 0 19 (dk_at dksX4_takes_1 11 rfl rfl)
theorem dX4_takes_36 : decode cX4_takes 36 = .ok (.aload_n 0, 1) := dk_42 (dk_at dksX4_takes_1 14 rfl rfl)
theorem dX4_takes_37 : decode cX4_takes 37 = .ok (.aload_n 1, 1) := dk_43 (dk_at dksX4_takes_1 15 rfl rfl)
theorem dX4_takes_38 : decode cX4_takes 38 = .ok (.getfield 22, 3) := dk_180 0 22 (dk_at dksX4_takes_1 16 rfl rfl)
theorem dX4_takes_41 : decode cX4_takes 41 = .ok (.putfield 22, 3) := dk_181 0 22 (dk_at dksX4_takes_1 19 rfl rfl)
theorem dX4_takes_44 : decode cX4_takes 44 = .ok (.aload_n 0, 1) := dk_42 (dk_at dksX4_takes_1 22 rfl rfl)
theorem dX4_takes_45 : decode cX4_takes 45 = .ok (.aload_n 1, 1) := dk_43 (dk_at dksX4_takes_1 23 rfl rfl)
theorem dX4_takes_46 : decode cX4_takes 46 = .ok (.getfield 25, 3) := dk_180 0 25 (dk_at dksX4_takes_2 0 rfl rfl)
theorem dX4_takes_49 : decode cX4_takes 49 = .ok (.putfield 25, 3) := dk_181 0 25 (dk_at dksX4_takes_2 3 rfl rfl)
theorem dX4_takes_52 : decode cX4_takes 52 = .ok (.aload_n 0, 1) := dk_42 (dk_at dksX4_takes_2 6 rfl rfl)
theorem dX4_takes_53 : decode cX4_takes 53 = .ok (.aload_n 1, 1) := dk_43 (dk_at dksX4_takes_2 7 rfl rfl)
theorem dX4_takes_54 : decode cX4_takes 54 = .ok (.getfield 28, 3) := dk_180 0 28 (dk_at dksX4_takes_2 8 rfl rfl)
theorem dX4_takes_57 : decode cX4_takes 57 = .ok (.putfield 28, 3) := dk_181 0 28 (dk_at dksX4_takes_2 11 rfl rfl)
theorem dX4_takes_60 : decode cX4_takes 60 = .ok (.aload_n 0, 1) := dk_42 (dk_at dksX4_takes_2 14 rfl rfl)
theorem dX4_takes_61 : decode cX4_takes 61 = .ok (.aload_n 1, 1) := dk_43 (dk_at dksX4_takes_2 15 rfl rfl)
theorem dX4_takes_62 : decode cX4_takes 62 = .ok (.getfield 31, 3) := dk_180 0 31 (dk_at dksX4_takes_2 16 rfl rfl)
theorem dX4_takes_65 : decode cX4_takes 65 = .ok (.putfield 31, 3) := dk_181 0 31 (dk_at dksX4_takes_2 19 rfl rfl)
theorem dX4_takes_68 : decode cX4_takes 68 = .ok (.aload_n 0, 1) := dk_42 (dk_at dksX4_takes_2 22 rfl rfl)
theorem dX4_takes_69 : decode cX4_takes 69 = .ok (.aload_n 1, 1) := dk_43 (dk_at dksX4_takes_2 23 rfl rfl)
theorem dX4_takes_70 : decode cX4_takes 70 = .ok (.getfield 34, 3) := dk_180 0 34 (dk_at dksX4_takes_3 0 rfl rfl)
theorem dX4_takes_73 : decode cX4_takes 73 = .ok (.putfield 34, 3) := dk_181 0 34 (dk_at dksX4_takes_3 3 rfl rfl)
theorem dX4_takes_76 : decode cX4_takes 76 = .ok (.aload_n 0, 1) := dk_42 (dk_at dksX4_takes_3 6 rfl rfl)
theorem dX4_takes_77 : decode cX4_takes 77 = .ok (.aload_n 1, 1) := dk_43 (dk_at dksX4_takes_3 7 rfl rfl)
theorem dX4_takes_78 : decode cX4_takes 78 = .ok (.getfield 15, 3) := dk_180 0 15 (dk_at dksX4_takes_3 8 rfl rfl)
theorem dX4_takes_81 : decode cX4_takes 81 = .ok (.putfield 15, 3) := dk_181 0 15 (dk_at dksX4_takes_3 11 rfl rfl)
theorem dX4_takes_84 : decode cX4_takes 84 = .ok (.aload_n 0, 1) := dk_42 (dk_at dksX4_takes_3 14 rfl rfl)
theorem dX4_takes_85 : decode cX4_takes 85 = .ok (.aload_n 1, 1) := dk_43 (dk_at dksX4_takes_3 15 rfl rfl)
theorem dX4_takes_86 : decode cX4_takes 86 = .ok (.getfield 37, 3) := dk_180 0 37 (dk_at dksX4_takes_3 16 rfl rfl)
theorem dX4_takes_89 : decode cX4_takes 89 = .ok (.putfield 37, 3) := dk_181 0 37 (dk_at dksX4_takes_3 19 rfl rfl)
theorem dX4_takes_92 : decode cX4_takes 92 = .ok (.aload_n 0, 1) := dk_42 (dk_at dksX4_takes_3 22 rfl rfl)
theorem dX4_takes_93 : decode cX4_takes 93 = .ok (.aload_n 1, 1) := dk_43 (dk_at dksX4_takes_3 23 rfl rfl)
theorem dX4_takes_94 : decode cX4_takes 94 = .ok (.getfield 41, 3) := dk_180 0 41 (dk_at dksX4_takes_4 0 rfl rfl)
theorem dX4_takes_97 : decode cX4_takes 97 = .ok (.putfield 41, 3) := dk_181 0 41 (dk_at dksX4_takes_4 3 rfl rfl)
theorem dX4_takes_100 : decode cX4_takes 100 = .ok (.return_, 1) := dk_177 (dk_at dksX4_takes_4 6 rfl rfl)
theorem q112 : (Jvm.Cond.initialized "PuzzleWed$Person") ∈ lw_all := lw_g (lw_at lw_m1 5 rfl) rfl
theorem q183 : (Jvm.Cond.instantiable "PuzzleWed$Person" (10 : Nat)) ∈ lw_all := lw_g (lw_at lw_m1 76 rfl) rfl
theorem q185 : (Jvm.Cond.instanceMethod ({ cls := "PuzzleWed$Person", name := "<init>", desc := "()V" } : Jvm.MethodName)) ∈ lw_all := lw_g (lw_at lw_m1 78 rfl) rfl
theorem q186 : (Jvm.Cond.code ({ cls := "PuzzleWed$Person", name := "<init>", desc := "()V" } : Jvm.MethodName) prog_12_method_1_code (1 : Nat) (Option.none : Option Jvm.ClassFile.FieldType)) ∈ lw_all := lw_g (lw_at lw_m1 79 rfl) rfl
theorem q187 : (Jvm.Cond.methodLink "PuzzleWed$Person" (3 : Nat) ({ cls := "java/lang/Object", name := "<init>", desc := "()V" } : Jvm.MethodName)) ∈ lw_all := lw_g (lw_at lw_m1 80 rfl) rfl
theorem q188 : (Jvm.Cond.fieldLink "PuzzleWed$Person" (9 : Nat) "PuzzleWed$Person" "towns" "[I") ∈ lw_all := lw_g (lw_at lw_m1 81 rfl) rfl
theorem q191 : (Jvm.Cond.fieldLink "PuzzleWed$Person" (19 : Nat) "PuzzleWed$Person" "side" "I") ∈ lw_all := lw_g (lw_at lw_m1 84 rfl) rfl
theorem q195 : (Jvm.Cond.fieldLink "PuzzleWed$Person" (22 : Nat) "PuzzleWed$Person" "town" "I") ∈ lw_all := lw_g (lw_at lw_m1 88 rfl) rfl
theorem q199 : (Jvm.Cond.fieldLink "PuzzleWed$Person" (25 : Nat) "PuzzleWed$Person" "wed" "I") ∈ lw_all := lw_g (lw_at lw_m1 92 rfl) rfl
theorem q202 : (Jvm.Cond.fieldLink "PuzzleWed$Person" (28 : Nat) "PuzzleWed$Person" "creaks" "I") ∈ lw_all := lw_g (lw_at lw_m1 95 rfl) rfl
theorem q206 : (Jvm.Cond.fieldLink "PuzzleWed$Person" (31 : Nat) "PuzzleWed$Person" "tried" "I") ∈ lw_all := lw_g (lw_at lw_m1 99 rfl) rfl
theorem q209 : (Jvm.Cond.fieldLink "PuzzleWed$Person" (34 : Nat) "PuzzleWed$Person" "next" "I") ∈ lw_all := lw_g (lw_at lw_m1 102 rfl) rfl
theorem q212 : (Jvm.Cond.fieldLink "PuzzleWed$Person" (15 : Nat) "PuzzleWed$Person" "days" "I") ∈ lw_all := lw_g (lw_at lw_m1 105 rfl) rfl
theorem q215 : (Jvm.Cond.fieldLink "PuzzleWed$Person" (37 : Nat) "PuzzleWed$Person" "isTold" "Z") ∈ lw_all := lw_g (lw_at lw_m1 108 rfl) rfl
theorem q217 : (Jvm.Cond.fieldLink "PuzzleWed$Person" (41 : Nat) "PuzzleWed$Person" "isDead" "Z") ∈ lw_all := lw_g (lw_at lw_m1 110 rfl) rfl
theorem q220 : (Jvm.Cond.laysFinal "PuzzleWed$Person" "PuzzleWed$Person" "towns" "[I") ∈ lw_all := lw_g (lw_at lw_m1 113 rfl) rfl
theorem q221 : (Jvm.Cond.soleField "PuzzleWed$Person" "towns") ∈ lw_all := lw_g (lw_at lw_m1 114 rfl) rfl
theorem q222 : (Jvm.Cond.lays "PuzzleWed$Person" "PuzzleWed$Person" "side" "I") ∈ lw_all := lw_g (lw_at lw_m1 115 rfl) rfl
theorem q223 : (Jvm.Cond.soleField "PuzzleWed$Person" "side") ∈ lw_all := lw_g (lw_at lw_m1 116 rfl) rfl
theorem q224 : (Jvm.Cond.lays "PuzzleWed$Person" "PuzzleWed$Person" "town" "I") ∈ lw_all := lw_g (lw_at lw_m1 117 rfl) rfl
theorem q225 : (Jvm.Cond.soleField "PuzzleWed$Person" "town") ∈ lw_all := lw_g (lw_at lw_m1 118 rfl) rfl
theorem q226 : (Jvm.Cond.lays "PuzzleWed$Person" "PuzzleWed$Person" "wed" "I") ∈ lw_all := lw_g (lw_at lw_m1 119 rfl) rfl
theorem q227 : (Jvm.Cond.soleField "PuzzleWed$Person" "wed") ∈ lw_all := lw_g (lw_at lw_m1 120 rfl) rfl
theorem q228 : (Jvm.Cond.lays "PuzzleWed$Person" "PuzzleWed$Person" "creaks" "I") ∈ lw_all := lw_g (lw_at lw_m1 121 rfl) rfl
theorem q229 : (Jvm.Cond.soleField "PuzzleWed$Person" "creaks") ∈ lw_all := lw_g (lw_at lw_m1 122 rfl) rfl
theorem q230 : (Jvm.Cond.lays "PuzzleWed$Person" "PuzzleWed$Person" "tried" "I") ∈ lw_all := lw_g (lw_at lw_m1 123 rfl) rfl
theorem q231 : (Jvm.Cond.soleField "PuzzleWed$Person" "tried") ∈ lw_all := lw_g (lw_at lw_m1 124 rfl) rfl
theorem q232 : (Jvm.Cond.lays "PuzzleWed$Person" "PuzzleWed$Person" "next" "I") ∈ lw_all := lw_g (lw_at lw_m1 125 rfl) rfl
theorem q233 : (Jvm.Cond.soleField "PuzzleWed$Person" "next") ∈ lw_all := lw_g (lw_at lw_m1 126 rfl) rfl
theorem q234 : (Jvm.Cond.lays "PuzzleWed$Person" "PuzzleWed$Person" "days" "I") ∈ lw_all := lw_g (lw_at lw_m1 127 rfl) rfl
theorem q235 : (Jvm.Cond.soleField "PuzzleWed$Person" "days") ∈ lw_all := lw_g (lw_at lw_m1 128 rfl) rfl
theorem q236 : (Jvm.Cond.lays "PuzzleWed$Person" "PuzzleWed$Person" "isTold" "Z") ∈ lw_all := lw_g (lw_at lw_m1 129 rfl) rfl
theorem q237 : (Jvm.Cond.soleField "PuzzleWed$Person" "isTold") ∈ lw_all := lw_g (lw_at lw_m1 130 rfl) rfl
theorem q238 : (Jvm.Cond.lays "PuzzleWed$Person" "PuzzleWed$Person" "isDead" "Z") ∈ lw_all := lw_g (lw_at lw_m1 131 rfl) rfl
theorem q239 : (Jvm.Cond.soleField "PuzzleWed$Person" "isDead") ∈ lw_all := lw_g (lw_at lw_m1 132 rfl) rfl
theorem q240 : (Jvm.Cond.superclass "PuzzleWed$Person" "java/lang/Object") ∈ lw_all := lw_g (lw_at lw_m1 133 rfl) rfl
theorem q416 : (Jvm.Cond.instanceMethod ({ cls := "PuzzleWed$Person", name := "lives", desc := "()Z" } : Jvm.MethodName)) ∈ lw_all := lw_g (lw_at lw_m2 69 rfl) rfl
theorem q417 : (Jvm.Cond.selects "PuzzleWed$Person" ({ cls := "PuzzleWed$Person", name := "lives", desc := "()Z" } : Jvm.MethodName) ({ cls := "PuzzleWed$Person", name := "lives", desc := "()Z" } : Jvm.MethodName)) ∈ lw_all := lw_g (lw_at lw_m2 70 rfl) rfl
theorem q418 : (Jvm.Cond.code ({ cls := "PuzzleWed$Person", name := "lives", desc := "()Z" } : Jvm.MethodName) prog_12_method_3_code (1 : Nat) (Option.some Jvm.ClassFile.FieldType.boolean)) ∈ lw_all := lw_g (lw_at lw_m2 71 rfl) rfl
theorem q432 : (Jvm.Cond.instanceMethod ({ cls := "PuzzleWed$Person", name := "isFree", desc := "()Z" } : Jvm.MethodName)) ∈ lw_all := lw_g (lw_at lw_m2 85 rfl) rfl
theorem q433 : (Jvm.Cond.selects "PuzzleWed$Person" ({ cls := "PuzzleWed$Person", name := "isFree", desc := "()Z" } : Jvm.MethodName) ({ cls := "PuzzleWed$Person", name := "isFree", desc := "()Z" } : Jvm.MethodName)) ∈ lw_all := lw_g (lw_at lw_m2 86 rfl) rfl
theorem q434 : (Jvm.Cond.code ({ cls := "PuzzleWed$Person", name := "isFree", desc := "()Z" } : Jvm.MethodName) prog_12_method_4_code (1 : Nat) (Option.some Jvm.ClassFile.FieldType.boolean)) ∈ lw_all := lw_g (lw_at lw_m2 87 rfl) rfl
theorem q435 : (Jvm.Cond.methodLink "PuzzleWed$Person" (44 : Nat) ({ cls := "PuzzleWed$Person", name := "lives", desc := "()Z" } : Jvm.MethodName)) ∈ lw_all := lw_g (lw_at lw_m2 88 rfl) rfl
theorem q1052 : (Jvm.Cond.instanceMethod ({ cls := "PuzzleWed$Person", name := "takes", desc := "(LPuzzleWed$Person;)V" } : Jvm.MethodName)) ∈ lw_all := lw_g (lw_at lw_m4 225 rfl) rfl
theorem q1053 : (Jvm.Cond.selects "PuzzleWed$Person" ({ cls := "PuzzleWed$Person", name := "takes", desc := "(LPuzzleWed$Person;)V" } : Jvm.MethodName) ({ cls := "PuzzleWed$Person", name := "takes", desc := "(LPuzzleWed$Person;)V" } : Jvm.MethodName)) ∈ lw_all := lw_g (lw_at lw_m4 226 rfl) rfl
theorem q1054 : (Jvm.Cond.code ({ cls := "PuzzleWed$Person", name := "takes", desc := "(LPuzzleWed$Person;)V" } : Jvm.MethodName) prog_12_method_2_code (3 : Nat) (Option.none : Option Jvm.ClassFile.FieldType)) ∈ lw_all := lw_g (lw_at lw_m4 227 rfl) rfl
theorem in_X4 : ∀ w ∈ wsX40, w ∈ lw_all := lw_in wsX40 [220, 222, 224, 226, 228, 230, 232, 234, 236, 238] (by decide +kernel) (by decide +kernel)
