/-! PuzzleWed$Reader -/
set_option maxRecDepth 100000
def RX8 : String := "PuzzleWed$Reader"
def TX8 : u_T := fun k => match k with
  | 0 => ("PuzzleWed$Reader", "n", "I", true)
  | 1 => ("PuzzleWed$Reader", "text", "LPuzzleWed$Text;", true)
  | 2 => ("PuzzleWed$Reader", "at", "I", false)
  | 3 => ("PuzzleWed$Reader", "open", "I", false)
  | 4 => ("PuzzleWed$Reader", "fault", "I", false)
  | 5 => ("PuzzleWed$Reader", "place", "I", false)
  | _ => ("PuzzleWed$Reader", "this$0", "LPuzzleWed;", true)
def tyX8 : Nat → FieldType := fun k => match k with
  | 0 => .int
  | 1 => .object "PuzzleWed$Text"
  | 2 => .int
  | 3 => .int
  | 4 => .int
  | 5 => .int
  | _ => .object "PuzzleWed"
abbrev wsX80 : List Cond := u_ws RX8 TX8 7
theorem nmX8 : ∀ a, a < 7 → ∀ b, b < 7 → a ≠ b → (TX8 a).2.1 ≠ (TX8 b).2.1 := by decide +kernel
theorem tyX8_ok : ∀ k, k < 7 → parseFieldDescriptor (TX8 k).2.2.1 = some (tyX8 k) := by decide +kernel
abbrev cX8_init : ByteArray := prog_14_method_1_code
def yX8_init : MethodName := ⟨RX8, "<init>", "(LPuzzleWed;I)V"⟩
def dkwX8_init_1 : List UInt8 := [181, 0, 22, 177]
abbrev dktX8_init_1 : List UInt8 := dkwX8_init_1 ++ []
def dkwX8_init_0 : List UInt8 := [42, 43, 181, 0, 3, 42, 183, 0, 9, 42, 187, 0, 15, 89, 183, 0, 17, 181, 0, 18, 42, 28]
abbrev dktX8_init_0 : List UInt8 := dkwX8_init_0 ++ dktX8_init_1
theorem dksX8_init_0 : cX8_init.data.toList.drop 0 = dktX8_init_0 := by decide +kernel
theorem dksX8_init_1 : cX8_init.data.toList.drop 22 = dktX8_init_1 := dk_seg dksX8_init_0 22 rfl rfl
theorem dX8_init_0 : decode cX8_init 0 = .ok (.aload_n 0, 1) := dk_42 (dk_at dksX8_init_0 0 rfl rfl)
theorem dX8_init_1 : decode cX8_init 1 = .ok (.aload_n 1, 1) := dk_43 (dk_at dksX8_init_0 1 rfl rfl)
theorem dX8_init_2 : decode cX8_init 2 = .ok (.putfield 3, 3) := dk_181 0 3 (dk_at dksX8_init_0 2 rfl rfl)
theorem dX8_init_5 : decode cX8_init 5 = .ok (.aload_n 0, 1) := dk_42 (dk_at dksX8_init_0 5 rfl rfl)
theorem dX8_init_6 : decode cX8_init 6 = .ok (.invokespecial 9, 3) := dk_183 0 9 (dk_at dksX8_init_0 6 rfl rfl)
theorem dX8_init_9 : decode cX8_init 9 = .ok (.aload_n 0, 1) := dk_42 (dk_at dksX8_init_0 9 rfl rfl)
theorem dX8_init_10 : decode cX8_init 10 = .ok (.new 15, 3) := dk_187 0 15 (dk_at dksX8_init_0 10 rfl rfl)
theorem dX8_init_13 : decode cX8_init 13 = .ok (.dup, 1) := dk_89 (dk_at dksX8_init_0 13 rfl rfl)
theorem dX8_init_14 : decode cX8_init 14 = .ok (.invokespecial 17, 3) := dk_183 0 17 (dk_at dksX8_init_0 14 rfl rfl)
theorem dX8_init_17 : decode cX8_init 17 = .ok (.putfield 18, 3) := dk_181 0 18 (dk_at dksX8_init_0 17 rfl rfl)
theorem dX8_init_20 : decode cX8_init 20 = .ok (.aload_n 0, 1) := dk_42 (dk_at dksX8_init_0 20 rfl rfl)
theorem dX8_init_21 : decode cX8_init 21 = .ok (.iload_n 2, 1) := dk_28 (dk_at dksX8_init_0 21 rfl rfl)
theorem dX8_init_22 : decode cX8_init 22 = .ok (.putfield 22, 3) := dk_181 0 22 (dk_at dksX8_init_1 0 rfl rfl)
theorem dX8_init_25 : decode cX8_init 25 = .ok (.return_, 1) := dk_177 (dk_at dksX8_init_1 3 rfl rfl)
abbrev cX8_read : ByteArray := prog_14_method_16_code
def yX8_read : MethodName := ⟨RX8, "read", "()I"⟩
def dkwX8_read_3 : List UInt8 := [17, 252, 24, 42, 180, 0, 33, 104, 42, 180, 0, 36, 100, 172]
abbrev dktX8_read_3 : List UInt8 := dkwX8_read_3 ++ []
def dkwX8_read_2 : List UInt8 := [182, 0, 64, 167, 255, 207, 42, 182, 0, 43, 153, 0, 13, 42, 180, 0, 18, 180, 0, 131, 167, 0, 16]
abbrev dktX8_read_2 : List UInt8 := dkwX8_read_2 ++ dktX8_read_3
def dkwX8_read_1 : List UInt8 := [42, 180, 0, 26, 42, 180, 0, 22, 162, 0, 7, 4, 167, 0, 4, 3, 60, 27, 153, 255, 216, 42, 16, 59]
abbrev dktX8_read_1 : List UInt8 := dkwX8_read_1 ++ dktX8_read_2
def dkwX8_read_0 : List UInt8 := [4, 60, 27, 153, 0, 51, 42, 182, 0, 43, 153, 0, 44, 42, 182, 0, 146, 42, 182, 0, 43, 153, 0, 18]
abbrev dktX8_read_0 : List UInt8 := dkwX8_read_0 ++ dktX8_read_1
theorem dksX8_read_0 : cX8_read.data.toList.drop 0 = dktX8_read_0 := by decide +kernel
theorem dksX8_read_1 : cX8_read.data.toList.drop 24 = dktX8_read_1 := dk_seg dksX8_read_0 24 rfl rfl
theorem dksX8_read_2 : cX8_read.data.toList.drop 48 = dktX8_read_2 := dk_seg dksX8_read_1 24 rfl rfl
theorem dksX8_read_3 : cX8_read.data.toList.drop 71 = dktX8_read_3 := dk_seg dksX8_read_2 23 rfl rfl
theorem dX8_read_0 : decode cX8_read 0 = .ok (.iconst 1, 1) := dk_4 (dk_at dksX8_read_0 0 rfl rfl)
theorem dX8_read_1 : decode cX8_read 1 = .ok (.istore_n 1, 1) := dk_60 (dk_at dksX8_read_0 1 rfl rfl)
theorem dX8_read_2 : decode cX8_read 2 = .ok (.iload_n 1, 1) := dk_27 (dk_at dksX8_read_0 2 rfl rfl)
theorem dX8_read_3 : decode cX8_read 3 = .ok (.ifCond .eq 51, 3) := dk_153 0 51 (dk_at dksX8_read_0 3 rfl rfl)
theorem dX8_read_6 : decode cX8_read 6 = .ok (.aload_n 0, 1) := dk_42 (dk_at dksX8_read_0 6 rfl rfl)
theorem dX8_read_7 : decode cX8_read 7 = .ok (.invokevirtual 43, 3) := dk_182 0 43 (dk_at dksX8_read_0 7 rfl rfl)
theorem dX8_read_10 : decode cX8_read 10 = .ok (.ifCond .eq 44, 3) := dk_153 0 44 (dk_at dksX8_read_0 10 rfl rfl)
theorem dX8_read_13 : decode cX8_read 13 = .ok (.aload_n 0, 1) := dk_42 (dk_at dksX8_read_0 13 rfl rfl)
theorem dX8_read_14 : decode cX8_read 14 = .ok (.invokevirtual 146, 3) := dk_182 0 146 (dk_at dksX8_read_0 14 rfl rfl)
theorem dX8_read_17 : decode cX8_read 17 = .ok (.aload_n 0, 1) := dk_42 (dk_at dksX8_read_0 17 rfl rfl)
theorem dX8_read_18 : decode cX8_read 18 = .ok (.invokevirtual 43, 3) := dk_182 0 43 (dk_at dksX8_read_0 18 rfl rfl)
theorem dX8_read_21 : decode cX8_read 21 = .ok (.ifCond .eq 18, 3) := dk_153 0 18 (dk_at dksX8_read_0 21 rfl rfl)
theorem dX8_read_24 : decode cX8_read 24 = .ok (.aload_n 0, 1) := dk_42 (dk_at dksX8_read_1 0 rfl rfl)
theorem dX8_read_25 : decode cX8_read 25 = .ok (.getfield 26, 3) := dk_180 0 26 (dk_at dksX8_read_1 1 rfl rfl)
theorem dX8_read_28 : decode cX8_read 28 = .ok (.aload_n 0, 1) := dk_42 (dk_at dksX8_read_1 4 rfl rfl)
theorem dX8_read_29 : decode cX8_read 29 = .ok (.getfield 22, 3) := dk_180 0 22 (dk_at dksX8_read_1 5 rfl rfl)
theorem dX8_read_32 : decode cX8_read 32 = .ok (.if_icmp .ge 7, 3) := dk_162 0 7 (dk_at dksX8_read_1 8 rfl rfl)
theorem dX8_read_35 : decode cX8_read 35 = .ok (.iconst 1, 1) := dk_4 (dk_at dksX8_read_1 11 rfl rfl)
theorem dX8_read_36 : decode cX8_read 36 = .ok (.goto 4, 3) := dk_167 0 4 (dk_at dksX8_read_1 12 rfl rfl)
theorem dX8_read_39 : decode cX8_read 39 = .ok (.iconst 0, 1) := dk_3 (dk_at dksX8_read_1 15 rfl rfl)
theorem dX8_read_40 : decode cX8_read 40 = .ok (.istore_n 1, 1) := dk_60 (dk_at dksX8_read_1 16 rfl rfl)
theorem dX8_read_41 : decode cX8_read 41 = .ok (.iload_n 1, 1) := dk_27 (dk_at dksX8_read_1 17 rfl rfl)
theorem dX8_read_42 : decode cX8_read 42 = .ok (.ifCond .eq (-40), 3) := dk_153 255 216 (dk_at dksX8_read_1 18 rfl rfl)
theorem dX8_read_45 : decode cX8_read 45 = .ok (.aload_n 0, 1) := dk_42 (dk_at dksX8_read_1 21 rfl rfl)
theorem dX8_read_46 : decode cX8_read 46 = .ok (.bipush 59, 2) := dk_16 59 (dk_at dksX8_read_1 22 rfl rfl)
theorem dX8_read_48 : decode cX8_read 48 = .ok (.invokevirtual 64, 3) := dk_182 0 64 (dk_at dksX8_read_2 0 rfl rfl)
theorem dX8_read_51 : decode cX8_read 51 = .ok (.goto (-49), 3) := dk_167 255 207 (dk_at dksX8_read_2 3 rfl rfl)
theorem dX8_read_54 : decode cX8_read 54 = .ok (.aload_n 0, 1) := dk_42 (dk_at dksX8_read_2 6 rfl rfl)
theorem dX8_read_55 : decode cX8_read 55 = .ok (.invokevirtual 43, 3) := dk_182 0 43 (dk_at dksX8_read_2 7 rfl rfl)
theorem dX8_read_58 : decode cX8_read 58 = .ok (.ifCond .eq 13, 3) := dk_153 0 13 (dk_at dksX8_read_2 10 rfl rfl)
theorem dX8_read_61 : decode cX8_read 61 = .ok (.aload_n 0, 1) := dk_42 (dk_at dksX8_read_2 13 rfl rfl)
theorem dX8_read_62 : decode cX8_read 62 = .ok (.getfield 18, 3) := dk_180 0 18 (dk_at dksX8_read_2 14 rfl rfl)
theorem dX8_read_65 : decode cX8_read 65 = .ok (.getfield 131, 3) := dk_180 0 131 (dk_at dksX8_read_2 17 rfl rfl)
theorem dX8_read_68 : decode cX8_read 68 = .ok (.goto 16, 3) := dk_167 0 16 (dk_at dksX8_read_2 20 rfl rfl)
theorem dX8_read_71 : decode cX8_read 71 = .ok (.sipush (-1000), 3) := dk_17 252 24 (dk_at dksX8_read_3 0 rfl rfl)
theorem dX8_read_74 : decode cX8_read 74 = .ok (.aload_n 0, 1) := dk_42 (dk_at dksX8_read_3 3 rfl rfl)
theorem dX8_read_75 : decode cX8_read 75 = .ok (.getfield 33, 3) := dk_180 0 33 (dk_at dksX8_read_3 4 rfl rfl)
theorem dX8_read_78 : decode cX8_read 78 = .ok (.imul, 1) := dk_104 (dk_at dksX8_read_3 7 rfl rfl)
theorem dX8_read_79 : decode cX8_read 79 = .ok (.aload_n 0, 1) := dk_42 (dk_at dksX8_read_3 8 rfl rfl)
theorem dX8_read_80 : decode cX8_read 80 = .ok (.getfield 36, 3) := dk_180 0 36 (dk_at dksX8_read_3 9 rfl rfl)
theorem dX8_read_83 : decode cX8_read 83 = .ok (.isub, 1) := dk_100 (dk_at dksX8_read_3 12 rfl rfl)
theorem dX8_read_84 : decode cX8_read 84 = .ok (.ireturn, 1) := dk_172 (dk_at dksX8_read_3 13 rfl rfl)
abbrev cX8_isGood : ByteArray := prog_14_method_3_code
def yX8_isGood : MethodName := ⟨RX8, "isGood", "()Z"⟩
def dkwX8_isGood_0 : List UInt8 := [42, 180, 0, 33, 154, 0, 7, 4, 167, 0, 4, 3, 172]
abbrev dktX8_isGood_0 : List UInt8 := dkwX8_isGood_0 ++ []
theorem dksX8_isGood_0 : cX8_isGood.data.toList.drop 0 = dktX8_isGood_0 := by decide +kernel
theorem dX8_isGood_0 : decode cX8_isGood 0 = .ok (.aload_n 0, 1) := dk_42 (dk_at dksX8_isGood_0 0 rfl rfl)
theorem dX8_isGood_1 : decode cX8_isGood 1 = .ok (.getfield 33, 3) := dk_180 0 33 (dk_at dksX8_isGood_0 1 rfl rfl)
theorem dX8_isGood_4 : decode cX8_isGood 4 = .ok (.ifCond .ne 7, 3) := dk_154 0 7 (dk_at dksX8_isGood_0 4 rfl rfl)
theorem dX8_isGood_7 : decode cX8_isGood 7 = .ok (.iconst 1, 1) := dk_4 (dk_at dksX8_isGood_0 7 rfl rfl)
theorem dX8_isGood_8 : decode cX8_isGood 8 = .ok (.goto 4, 3) := dk_167 0 4 (dk_at dksX8_isGood_0 8 rfl rfl)
theorem dX8_isGood_11 : decode cX8_isGood 11 = .ok (.iconst 0, 1) := dk_3 (dk_at dksX8_isGood_0 11 rfl rfl)
theorem dX8_isGood_12 : decode cX8_isGood 12 = .ok (.ireturn, 1) := dk_172 (dk_at dksX8_isGood_0 12 rfl rfl)
abbrev cX8_clause : ByteArray := prog_14_method_15_code
def yX8_clause : MethodName := ⟨RX8, "clause", "()V"⟩
def dkwX8_clause_7 : List UInt8 := [83, 42, 180, 0, 18, 89, 180, 0, 131, 4, 96, 181, 0, 131, 177]
abbrev dktX8_clause_7 : List UInt8 := dkwX8_clause_7 ++ []
def dkwX8_clause_6 : List UInt8 := [42, 180, 0, 18, 180, 0, 131, 44, 83, 42, 180, 0, 18, 180, 0, 142, 42, 180, 0, 18, 180, 0, 131, 45]
abbrev dktX8_clause_6 : List UInt8 := dkwX8_clause_6 ++ dktX8_clause_7
def dkwX8_clause_5 : List UInt8 := [78, 42, 180, 0, 18, 180, 0, 134, 42, 180, 0, 18, 180, 0, 131, 27, 79, 42, 180, 0, 18, 180, 0, 138]
abbrev dktX8_clause_5 : List UInt8 := dkwX8_clause_5 ++ dktX8_clause_6
def dkwX8_clause_4 : List UInt8 := [42, 4, 42, 180, 0, 26, 182, 0, 50, 42, 182, 0, 43, 153, 0, 10, 42, 182, 0, 110, 167, 0, 4, 1]
abbrev dktX8_clause_4 : List UInt8 := dkwX8_clause_4 ++ dktX8_clause_5
def dkwX8_clause_3 : List UInt8 := [181, 0, 54, 42, 182, 0, 60, 77, 42, 182, 0, 43, 153, 0, 21, 42, 182, 0, 39, 16, 40, 159, 0, 12]
abbrev dktX8_clause_3 : List UInt8 := dkwX8_clause_3 ++ dktX8_clause_4
def dkwX8_clause_2 : List UInt8 := [182, 0, 50, 42, 182, 0, 43, 154, 0, 4, 177, 42, 89, 180, 0, 26, 4, 96, 181, 0, 26, 42, 3]
abbrev dktX8_clause_2 : List UInt8 := dkwX8_clause_2 ++ dktX8_clause_3
def dkwX8_clause_1 : List UInt8 := [182, 0, 50, 167, 0, 24, 42, 180, 0, 18, 180, 0, 131, 16, 16, 160, 0, 12, 42, 7, 42, 180, 0, 26]
abbrev dktX8_clause_1 : List UInt8 := dkwX8_clause_1 ++ dktX8_clause_2
def dkwX8_clause_0 : List UInt8 := [42, 182, 0, 39, 60, 27, 153, 0, 12, 18, 129, 27, 182, 0, 77, 156, 0, 15, 42, 4, 42, 180, 0, 26]
abbrev dktX8_clause_0 : List UInt8 := dkwX8_clause_0 ++ dktX8_clause_1
theorem dksX8_clause_0 : cX8_clause.data.toList.drop 0 = dktX8_clause_0 := by decide +kernel
theorem dksX8_clause_1 : cX8_clause.data.toList.drop 24 = dktX8_clause_1 := dk_seg dksX8_clause_0 24 rfl rfl
theorem dksX8_clause_2 : cX8_clause.data.toList.drop 48 = dktX8_clause_2 := dk_seg dksX8_clause_1 24 rfl rfl
theorem dksX8_clause_3 : cX8_clause.data.toList.drop 71 = dktX8_clause_3 := dk_seg dksX8_clause_2 23 rfl rfl
theorem dksX8_clause_4 : cX8_clause.data.toList.drop 95 = dktX8_clause_4 := dk_seg dksX8_clause_3 24 rfl rfl
theorem dksX8_clause_5 : cX8_clause.data.toList.drop 119 = dktX8_clause_5 := dk_seg dksX8_clause_4 24 rfl rfl
theorem dksX8_clause_6 : cX8_clause.data.toList.drop 143 = dktX8_clause_6 := dk_seg dksX8_clause_5 24 rfl rfl
theorem dksX8_clause_7 : cX8_clause.data.toList.drop 167 = dktX8_clause_7 := dk_seg dksX8_clause_6 24 rfl rfl
theorem dX8_clause_0 : decode cX8_clause 0 = .ok (.aload_n 0, 1) := dk_42 (dk_at dksX8_clause_0 0 rfl rfl)
theorem dX8_clause_1 : decode cX8_clause 1 = .ok (.invokevirtual 39, 3) := dk_182 0 39 (dk_at dksX8_clause_0 1 rfl rfl)
theorem dX8_clause_4 : decode cX8_clause 4 = .ok (.istore_n 1, 1) := dk_60 (dk_at dksX8_clause_0 4 rfl rfl)
theorem dX8_clause_5 : decode cX8_clause 5 = .ok (.iload_n 1, 1) := dk_27 (dk_at dksX8_clause_0 5 rfl rfl)
theorem dX8_clause_6 : decode cX8_clause 6 = .ok (.ifCond .eq 12, 3) := dk_153 0 12 (dk_at dksX8_clause_0 6 rfl rfl)
theorem dX8_clause_9 : decode cX8_clause 9 = .ok (.ldc 129, 2) := dk_18 129 (dk_at dksX8_clause_0 9 rfl rfl)
theorem dX8_clause_11 : decode cX8_clause 11 = .ok (.iload_n 1, 1) := dk_27 (dk_at dksX8_clause_0 11 rfl rfl)
theorem dX8_clause_12 : decode cX8_clause 12 = .ok (.invokevirtual 77, 3) := dk_182 0 77 (dk_at dksX8_clause_0 12 rfl rfl)
theorem dX8_clause_15 : decode cX8_clause 15 = .ok (.ifCond .ge 15, 3) := dk_156 0 15 (dk_at dksX8_clause_0 15 rfl rfl)
theorem dX8_clause_18 : decode cX8_clause 18 = .ok (.aload_n 0, 1) := dk_42 (dk_at dksX8_clause_0 18 rfl rfl)
theorem dX8_clause_19 : decode cX8_clause 19 = .ok (.iconst 1, 1) := dk_4 (dk_at dksX8_clause_0 19 rfl rfl)
theorem dX8_clause_20 : decode cX8_clause 20 = .ok (.aload_n 0, 1) := dk_42 (dk_at dksX8_clause_0 20 rfl rfl)
theorem dX8_clause_21 : decode cX8_clause 21 = .ok (.getfield 26, 3) := dk_180 0 26 (dk_at dksX8_clause_0 21 rfl rfl)
theorem dX8_clause_24 : decode cX8_clause 24 = .ok (.invokevirtual 50, 3) := dk_182 0 50 (dk_at dksX8_clause_1 0 rfl rfl)
theorem dX8_clause_27 : decode cX8_clause 27 = .ok (.goto 24, 3) := dk_167 0 24 (dk_at dksX8_clause_1 3 rfl rfl)
theorem dX8_clause_30 : decode cX8_clause 30 = .ok (.aload_n 0, 1) := dk_42 (dk_at dksX8_clause_1 6 rfl rfl)
theorem dX8_clause_31 : decode cX8_clause 31 = .ok (.getfield 18, 3) := dk_180 0 18 (dk_at dksX8_clause_1 7 rfl rfl)
theorem dX8_clause_34 : decode cX8_clause 34 = .ok (.getfield 131, 3) := dk_180 0 131 (dk_at dksX8_clause_1 10 rfl rfl)
theorem dX8_clause_37 : decode cX8_clause 37 = .ok (.bipush 16, 2) := dk_16 16 (dk_at dksX8_clause_1 13 rfl rfl)
theorem dX8_clause_39 : decode cX8_clause 39 = .ok (.if_icmp .ne 12, 3) := dk_160 0 12 (dk_at dksX8_clause_1 15 rfl rfl)
theorem dX8_clause_42 : decode cX8_clause 42 = .ok (.aload_n 0, 1) := dk_42 (dk_at dksX8_clause_1 18 rfl rfl)
theorem dX8_clause_43 : decode cX8_clause 43 = .ok (.iconst 4, 1) := dk_7 (dk_at dksX8_clause_1 19 rfl rfl)
theorem dX8_clause_44 : decode cX8_clause 44 = .ok (.aload_n 0, 1) := dk_42 (dk_at dksX8_clause_1 20 rfl rfl)
theorem dX8_clause_45 : decode cX8_clause 45 = .ok (.getfield 26, 3) := dk_180 0 26 (dk_at dksX8_clause_1 21 rfl rfl)
theorem dX8_clause_48 : decode cX8_clause 48 = .ok (.invokevirtual 50, 3) := dk_182 0 50 (dk_at dksX8_clause_2 0 rfl rfl)
theorem dX8_clause_51 : decode cX8_clause 51 = .ok (.aload_n 0, 1) := dk_42 (dk_at dksX8_clause_2 3 rfl rfl)
theorem dX8_clause_52 : decode cX8_clause 52 = .ok (.invokevirtual 43, 3) := dk_182 0 43 (dk_at dksX8_clause_2 4 rfl rfl)
theorem dX8_clause_55 : decode cX8_clause 55 = .ok (.ifCond .ne 4, 3) := dk_154 0 4 (dk_at dksX8_clause_2 7 rfl rfl)
theorem dX8_clause_58 : decode cX8_clause 58 = .ok (.return_, 1) := dk_177 (dk_at dksX8_clause_2 10 rfl rfl)
theorem dX8_clause_59 : decode cX8_clause 59 = .ok (.aload_n 0, 1) := dk_42 (dk_at dksX8_clause_2 11 rfl rfl)
theorem dX8_clause_60 : decode cX8_clause 60 = .ok (.dup, 1) := dk_89 (dk_at dksX8_clause_2 12 rfl rfl)
theorem dX8_clause_61 : decode cX8_clause 61 = .ok (.getfield 26, 3) := dk_180 0 26 (dk_at dksX8_clause_2 13 rfl rfl)
theorem dX8_clause_64 : decode cX8_clause 64 = .ok (.iconst 1, 1) := dk_4 (dk_at dksX8_clause_2 16 rfl rfl)
theorem dX8_clause_65 : decode cX8_clause 65 = .ok (.iadd, 1) := dk_96 (dk_at dksX8_clause_2 17 rfl rfl)
theorem dX8_clause_66 : decode cX8_clause 66 = .ok (.putfield 26, 3) := dk_181 0 26 (dk_at dksX8_clause_2 18 rfl rfl)
theorem dX8_clause_69 : decode cX8_clause 69 = .ok (.aload_n 0, 1) := dk_42 (dk_at dksX8_clause_2 21 rfl rfl)
theorem dX8_clause_70 : decode cX8_clause 70 = .ok (.iconst 0, 1) := dk_3 (dk_at dksX8_clause_2 22 rfl rfl)
theorem dX8_clause_71 : decode cX8_clause 71 = .ok (.putfield 54, 3) := dk_181 0 54 (dk_at dksX8_clause_3 0 rfl rfl)
theorem dX8_clause_74 : decode cX8_clause 74 = .ok (.aload_n 0, 1) := dk_42 (dk_at dksX8_clause_3 3 rfl rfl)
theorem dX8_clause_75 : decode cX8_clause 75 = .ok (.invokevirtual 60, 3) := dk_182 0 60 (dk_at dksX8_clause_3 4 rfl rfl)
theorem dX8_clause_78 : decode cX8_clause 78 = .ok (.astore_n 2, 1) := dk_77 (dk_at dksX8_clause_3 7 rfl rfl)
theorem dX8_clause_79 : decode cX8_clause 79 = .ok (.aload_n 0, 1) := dk_42 (dk_at dksX8_clause_3 8 rfl rfl)
theorem dX8_clause_80 : decode cX8_clause 80 = .ok (.invokevirtual 43, 3) := dk_182 0 43 (dk_at dksX8_clause_3 9 rfl rfl)
theorem dX8_clause_83 : decode cX8_clause 83 = .ok (.ifCond .eq 21, 3) := dk_153 0 21 (dk_at dksX8_clause_3 12 rfl rfl)
theorem dX8_clause_86 : decode cX8_clause 86 = .ok (.aload_n 0, 1) := dk_42 (dk_at dksX8_clause_3 15 rfl rfl)
theorem dX8_clause_87 : decode cX8_clause 87 = .ok (.invokevirtual 39, 3) := dk_182 0 39 (dk_at dksX8_clause_3 16 rfl rfl)
theorem dX8_clause_90 : decode cX8_clause 90 = .ok (.bipush 40, 2) := dk_16 40 (dk_at dksX8_clause_3 19 rfl rfl)
theorem dX8_clause_92 : decode cX8_clause 92 = .ok (.if_icmp .eq 12, 3) := dk_159 0 12 (dk_at dksX8_clause_3 21 rfl rfl)
theorem dX8_clause_95 : decode cX8_clause 95 = .ok (.aload_n 0, 1) := dk_42 (dk_at dksX8_clause_4 0 rfl rfl)
theorem dX8_clause_96 : decode cX8_clause 96 = .ok (.iconst 1, 1) := dk_4 (dk_at dksX8_clause_4 1 rfl rfl)
theorem dX8_clause_97 : decode cX8_clause 97 = .ok (.aload_n 0, 1) := dk_42 (dk_at dksX8_clause_4 2 rfl rfl)
theorem dX8_clause_98 : decode cX8_clause 98 = .ok (.getfield 26, 3) := dk_180 0 26 (dk_at dksX8_clause_4 3 rfl rfl)
theorem dX8_clause_101 : decode cX8_clause 101 = .ok (.invokevirtual 50, 3) := dk_182 0 50 (dk_at dksX8_clause_4 6 rfl rfl)
theorem dX8_clause_104 : decode cX8_clause 104 = .ok (.aload_n 0, 1) := dk_42 (dk_at dksX8_clause_4 9 rfl rfl)
theorem dX8_clause_105 : decode cX8_clause 105 = .ok (.invokevirtual 43, 3) := dk_182 0 43 (dk_at dksX8_clause_4 10 rfl rfl)
theorem dX8_clause_108 : decode cX8_clause 108 = .ok (.ifCond .eq 10, 3) := dk_153 0 10 (dk_at dksX8_clause_4 13 rfl rfl)
theorem dX8_clause_111 : decode cX8_clause 111 = .ok (.aload_n 0, 1) := dk_42 (dk_at dksX8_clause_4 16 rfl rfl)
theorem dX8_clause_112 : decode cX8_clause 112 = .ok (.invokevirtual 110, 3) := dk_182 0 110 (dk_at dksX8_clause_4 17 rfl rfl)
theorem dX8_clause_115 : decode cX8_clause 115 = .ok (.goto 4, 3) := dk_167 0 4 (dk_at dksX8_clause_4 20 rfl rfl)
theorem dX8_clause_118 : decode cX8_clause 118 = .ok (.aconst_null, 1) := dk_1 (dk_at dksX8_clause_4 23 rfl rfl)
theorem dX8_clause_119 : decode cX8_clause 119 = .ok (.astore_n 3, 1) := dk_78 (dk_at dksX8_clause_5 0 rfl rfl)
theorem dX8_clause_120 : decode cX8_clause 120 = .ok (.aload_n 0, 1) := dk_42 (dk_at dksX8_clause_5 1 rfl rfl)
theorem dX8_clause_121 : decode cX8_clause 121 = .ok (.getfield 18, 3) := dk_180 0 18 (dk_at dksX8_clause_5 2 rfl rfl)
theorem dX8_clause_124 : decode cX8_clause 124 = .ok (.getfield 134, 3) := dk_180 0 134 (dk_at dksX8_clause_5 5 rfl rfl)
theorem dX8_clause_127 : decode cX8_clause 127 = .ok (.aload_n 0, 1) := dk_42 (dk_at dksX8_clause_5 8 rfl rfl)
theorem dX8_clause_128 : decode cX8_clause 128 = .ok (.getfield 18, 3) := dk_180 0 18 (dk_at dksX8_clause_5 9 rfl rfl)
theorem dX8_clause_131 : decode cX8_clause 131 = .ok (.getfield 131, 3) := dk_180 0 131 (dk_at dksX8_clause_5 12 rfl rfl)
theorem dX8_clause_134 : decode cX8_clause 134 = .ok (.iload_n 1, 1) := dk_27 (dk_at dksX8_clause_5 15 rfl rfl)
theorem dX8_clause_135 : decode cX8_clause 135 = .ok (.iastore, 1) := dk_79 (dk_at dksX8_clause_5 16 rfl rfl)
theorem dX8_clause_136 : decode cX8_clause 136 = .ok (.aload_n 0, 1) := dk_42 (dk_at dksX8_clause_5 17 rfl rfl)
theorem dX8_clause_137 : decode cX8_clause 137 = .ok (.getfield 18, 3) := dk_180 0 18 (dk_at dksX8_clause_5 18 rfl rfl)
theorem dX8_clause_140 : decode cX8_clause 140 = .ok (.getfield 138, 3) := dk_180 0 138 (dk_at dksX8_clause_5 21 rfl rfl)
theorem dX8_clause_143 : decode cX8_clause 143 = .ok (.aload_n 0, 1) := dk_42 (dk_at dksX8_clause_6 0 rfl rfl)
theorem dX8_clause_144 : decode cX8_clause 144 = .ok (.getfield 18, 3) := dk_180 0 18 (dk_at dksX8_clause_6 1 rfl rfl)
theorem dX8_clause_147 : decode cX8_clause 147 = .ok (.getfield 131, 3) := dk_180 0 131 (dk_at dksX8_clause_6 4 rfl rfl)
theorem dX8_clause_150 : decode cX8_clause 150 = .ok (.aload_n 2, 1) := dk_44 (dk_at dksX8_clause_6 7 rfl rfl)
theorem dX8_clause_151 : decode cX8_clause 151 = .ok (.aastore, 1) := dk_83 (dk_at dksX8_clause_6 8 rfl rfl)
theorem dX8_clause_152 : decode cX8_clause 152 = .ok (.aload_n 0, 1) := dk_42 (dk_at dksX8_clause_6 9 rfl rfl)
theorem dX8_clause_153 : decode cX8_clause 153 = .ok (.getfield 18, 3) := dk_180 0 18 (dk_at dksX8_clause_6 10 rfl rfl)
theorem dX8_clause_156 : decode cX8_clause 156 = .ok (.getfield 142, 3) := dk_180 0 142 (dk_at dksX8_clause_6 13 rfl rfl)
theorem dX8_clause_159 : decode cX8_clause 159 = .ok (.aload_n 0, 1) := dk_42 (dk_at dksX8_clause_6 16 rfl rfl)
theorem dX8_clause_160 : decode cX8_clause 160 = .ok (.getfield 18, 3) := dk_180 0 18 (dk_at dksX8_clause_6 17 rfl rfl)
theorem dX8_clause_163 : decode cX8_clause 163 = .ok (.getfield 131, 3) := dk_180 0 131 (dk_at dksX8_clause_6 20 rfl rfl)
theorem dX8_clause_166 : decode cX8_clause 166 = .ok (.aload_n 3, 1) := dk_45 (dk_at dksX8_clause_6 23 rfl rfl)
theorem dX8_clause_167 : decode cX8_clause 167 = .ok (.aastore, 1) := dk_83 (dk_at dksX8_clause_7 0 rfl rfl)
theorem dX8_clause_168 : decode cX8_clause 168 = .ok (.aload_n 0, 1) := dk_42 (dk_at dksX8_clause_7 1 rfl rfl)
theorem dX8_clause_169 : decode cX8_clause 169 = .ok (.getfield 18, 3) := dk_180 0 18 (dk_at dksX8_clause_7 2 rfl rfl)
theorem dX8_clause_172 : decode cX8_clause 172 = .ok (.dup, 1) := dk_89 (dk_at dksX8_clause_7 5 rfl rfl)
theorem dX8_clause_173 : decode cX8_clause 173 = .ok (.getfield 131, 3) := dk_180 0 131 (dk_at dksX8_clause_7 6 rfl rfl)
theorem dX8_clause_176 : decode cX8_clause 176 = .ok (.iconst 1, 1) := dk_4 (dk_at dksX8_clause_7 9 rfl rfl)
theorem dX8_clause_177 : decode cX8_clause 177 = .ok (.iadd, 1) := dk_96 (dk_at dksX8_clause_7 10 rfl rfl)
theorem dX8_clause_178 : decode cX8_clause 178 = .ok (.putfield 131, 3) := dk_181 0 131 (dk_at dksX8_clause_7 11 rfl rfl)
theorem dX8_clause_181 : decode cX8_clause 181 = .ok (.return_, 1) := dk_177 (dk_at dksX8_clause_7 14 rfl rfl)
abbrev cX8_here : ByteArray := prog_14_method_2_code
def yX8_here : MethodName := ⟨RX8, "here", "()I"⟩
def dkwX8_here_1 : List UInt8 := [17, 0, 255, 126, 167, 0, 4, 3, 172]
abbrev dktX8_here_1 : List UInt8 := dkwX8_here_1 ++ []
def dkwX8_here_0 : List UInt8 := [42, 180, 0, 26, 42, 180, 0, 22, 162, 0, 22, 42, 180, 0, 3, 180, 0, 29, 42, 180, 0, 26, 51]
abbrev dktX8_here_0 : List UInt8 := dkwX8_here_0 ++ dktX8_here_1
theorem dksX8_here_0 : cX8_here.data.toList.drop 0 = dktX8_here_0 := by decide +kernel
theorem dksX8_here_1 : cX8_here.data.toList.drop 23 = dktX8_here_1 := dk_seg dksX8_here_0 23 rfl rfl
theorem dX8_here_0 : decode cX8_here 0 = .ok (.aload_n 0, 1) := dk_42 (dk_at dksX8_here_0 0 rfl rfl)
theorem dX8_here_1 : decode cX8_here 1 = .ok (.getfield 26, 3) := dk_180 0 26 (dk_at dksX8_here_0 1 rfl rfl)
theorem dX8_here_4 : decode cX8_here 4 = .ok (.aload_n 0, 1) := dk_42 (dk_at dksX8_here_0 4 rfl rfl)
theorem dX8_here_5 : decode cX8_here 5 = .ok (.getfield 22, 3) := dk_180 0 22 (dk_at dksX8_here_0 5 rfl rfl)
theorem dX8_here_8 : decode cX8_here 8 = .ok (.if_icmp .ge 22, 3) := dk_162 0 22 (dk_at dksX8_here_0 8 rfl rfl)
theorem dX8_here_11 : decode cX8_here 11 = .ok (.aload_n 0, 1) := dk_42 (dk_at dksX8_here_0 11 rfl rfl)
theorem dX8_here_12 : decode cX8_here 12 = .ok (.getfield 3, 3) := dk_180 0 3 (dk_at dksX8_here_0 12 rfl rfl)
theorem dX8_here_15 : decode cX8_here 15 = .ok (.getfield 29, 3) := dk_180 0 29 (dk_at dksX8_here_0 15 rfl rfl)
theorem dX8_here_18 : decode cX8_here 18 = .ok (.aload_n 0, 1) := dk_42 (dk_at dksX8_here_0 18 rfl rfl)
theorem dX8_here_19 : decode cX8_here 19 = .ok (.getfield 26, 3) := dk_180 0 26 (dk_at dksX8_here_0 19 rfl rfl)
theorem dX8_here_22 : decode cX8_here 22 = .ok (.baload, 1) := dk_51 (dk_at dksX8_here_0 22 rfl rfl)
theorem dX8_here_23 : decode cX8_here 23 = .ok (.sipush 255, 3) := dk_17 0 255 (dk_at dksX8_here_1 0 rfl rfl)
theorem dX8_here_26 : decode cX8_here 26 = .ok (.iand, 1) := dk_126 (dk_at dksX8_here_1 3 rfl rfl)
theorem dX8_here_27 : decode cX8_here 27 = .ok (.goto 4, 3) := dk_167 0 4 (dk_at dksX8_here_1 4 rfl rfl)
theorem dX8_here_30 : decode cX8_here 30 = .ok (.iconst 0, 1) := dk_3 (dk_at dksX8_here_1 7 rfl rfl)
theorem dX8_here_31 : decode cX8_here 31 = .ok (.ireturn, 1) := dk_172 (dk_at dksX8_here_1 8 rfl rfl)
abbrev cX8_bad : ByteArray := prog_14_method_4_code
def yX8_bad : MethodName := ⟨RX8, "bad", "(II)V"⟩
def dkwX8_bad_0 : List UInt8 := [42, 180, 0, 33, 158, 0, 4, 177, 42, 27, 181, 0, 33, 42, 28, 181, 0, 36, 177]
abbrev dktX8_bad_0 : List UInt8 := dkwX8_bad_0 ++ []
theorem dksX8_bad_0 : cX8_bad.data.toList.drop 0 = dktX8_bad_0 := by decide +kernel
theorem dX8_bad_0 : decode cX8_bad 0 = .ok (.aload_n 0, 1) := dk_42 (dk_at dksX8_bad_0 0 rfl rfl)
theorem dX8_bad_1 : decode cX8_bad 1 = .ok (.getfield 33, 3) := dk_180 0 33 (dk_at dksX8_bad_0 1 rfl rfl)
theorem dX8_bad_4 : decode cX8_bad 4 = .ok (.ifCond .le 4, 3) := dk_158 0 4 (dk_at dksX8_bad_0 4 rfl rfl)
theorem dX8_bad_7 : decode cX8_bad 7 = .ok (.return_, 1) := dk_177 (dk_at dksX8_bad_0 7 rfl rfl)
theorem dX8_bad_8 : decode cX8_bad 8 = .ok (.aload_n 0, 1) := dk_42 (dk_at dksX8_bad_0 8 rfl rfl)
theorem dX8_bad_9 : decode cX8_bad 9 = .ok (.iload_n 1, 1) := dk_27 (dk_at dksX8_bad_0 9 rfl rfl)
theorem dX8_bad_10 : decode cX8_bad 10 = .ok (.putfield 33, 3) := dk_181 0 33 (dk_at dksX8_bad_0 10 rfl rfl)
theorem dX8_bad_13 : decode cX8_bad 13 = .ok (.aload_n 0, 1) := dk_42 (dk_at dksX8_bad_0 13 rfl rfl)
theorem dX8_bad_14 : decode cX8_bad 14 = .ok (.iload_n 2, 1) := dk_28 (dk_at dksX8_bad_0 14 rfl rfl)
theorem dX8_bad_15 : decode cX8_bad 15 = .ok (.putfield 36, 3) := dk_181 0 36 (dk_at dksX8_bad_0 15 rfl rfl)
theorem dX8_bad_18 : decode cX8_bad 18 = .ok (.return_, 1) := dk_177 (dk_at dksX8_bad_0 18 rfl rfl)
abbrev cX8_sum : ByteArray := prog_14_method_11_code
def yX8_sum : MethodName := ⟨RX8, "sum", "()LPuzzleWed$Sum;"⟩
def dkwX8_sum_3 : List UInt8 := [44, 180, 0, 94, 77, 167, 255, 195, 43, 176]
abbrev dktX8_sum_3 : List UInt8 := dkwX8_sum_3 ++ []
def dkwX8_sum_2 : List UInt8 := [180, 0, 26, 4, 96, 181, 0, 26, 44, 187, 0, 86, 89, 29, 42, 182, 0, 98, 183, 0, 91, 181, 0, 94]
abbrev dktX8_sum_2 : List UInt8 := dkwX8_sum_2 ++ dktX8_sum_3
def dkwX8_sum_1 : List UInt8 := [182, 0, 39, 16, 43, 159, 0, 12, 42, 182, 0, 39, 16, 45, 160, 0, 42, 42, 182, 0, 39, 62, 42, 89]
abbrev dktX8_sum_1 : List UInt8 := dkwX8_sum_1 ++ dktX8_sum_2
def dkwX8_sum_0 : List UInt8 := [187, 0, 86, 89, 3, 42, 182, 0, 98, 183, 0, 91, 76, 43, 77, 42, 182, 0, 43, 153, 0, 60, 42]
abbrev dktX8_sum_0 : List UInt8 := dkwX8_sum_0 ++ dktX8_sum_1
theorem dksX8_sum_0 : cX8_sum.data.toList.drop 0 = dktX8_sum_0 := by decide +kernel
theorem dksX8_sum_1 : cX8_sum.data.toList.drop 23 = dktX8_sum_1 := dk_seg dksX8_sum_0 23 rfl rfl
theorem dksX8_sum_2 : cX8_sum.data.toList.drop 47 = dktX8_sum_2 := dk_seg dksX8_sum_1 24 rfl rfl
theorem dksX8_sum_3 : cX8_sum.data.toList.drop 71 = dktX8_sum_3 := dk_seg dksX8_sum_2 24 rfl rfl
theorem dX8_sum_0 : decode cX8_sum 0 = .ok (.new 86, 3) := dk_187 0 86 (dk_at dksX8_sum_0 0 rfl rfl)
theorem dX8_sum_3 : decode cX8_sum 3 = .ok (.dup, 1) := dk_89 (dk_at dksX8_sum_0 3 rfl rfl)
theorem dX8_sum_4 : decode cX8_sum 4 = .ok (.iconst 0, 1) := dk_3 (dk_at dksX8_sum_0 4 rfl rfl)
theorem dX8_sum_5 : decode cX8_sum 5 = .ok (.aload_n 0, 1) := dk_42 (dk_at dksX8_sum_0 5 rfl rfl)
theorem dX8_sum_6 : decode cX8_sum 6 = .ok (.invokevirtual 98, 3) := dk_182 0 98 (dk_at dksX8_sum_0 6 rfl rfl)
theorem dX8_sum_9 : decode cX8_sum 9 = .ok (.invokespecial 91, 3) := dk_183 0 91 (dk_at dksX8_sum_0 9 rfl rfl)
theorem dX8_sum_12 : decode cX8_sum 12 = .ok (.astore_n 1, 1) := dk_76 (dk_at dksX8_sum_0 12 rfl rfl)
theorem dX8_sum_13 : decode cX8_sum 13 = .ok (.aload_n 1, 1) := dk_43 (dk_at dksX8_sum_0 13 rfl rfl)
theorem dX8_sum_14 : decode cX8_sum 14 = .ok (.astore_n 2, 1) := dk_77 (dk_at dksX8_sum_0 14 rfl rfl)
theorem dX8_sum_15 : decode cX8_sum 15 = .ok (.aload_n 0, 1) := dk_42 (dk_at dksX8_sum_0 15 rfl rfl)
theorem dX8_sum_16 : decode cX8_sum 16 = .ok (.invokevirtual 43, 3) := dk_182 0 43 (dk_at dksX8_sum_0 16 rfl rfl)
theorem dX8_sum_19 : decode cX8_sum 19 = .ok (.ifCond .eq 60, 3) := dk_153 0 60 (dk_at dksX8_sum_0 19 rfl rfl)
theorem dX8_sum_22 : decode cX8_sum 22 = .ok (.aload_n 0, 1) := dk_42 (dk_at dksX8_sum_0 22 rfl rfl)
theorem dX8_sum_23 : decode cX8_sum 23 = .ok (.invokevirtual 39, 3) := dk_182 0 39 (dk_at dksX8_sum_1 0 rfl rfl)
theorem dX8_sum_26 : decode cX8_sum 26 = .ok (.bipush 43, 2) := dk_16 43 (dk_at dksX8_sum_1 3 rfl rfl)
theorem dX8_sum_28 : decode cX8_sum 28 = .ok (.if_icmp .eq 12, 3) := dk_159 0 12 (dk_at dksX8_sum_1 5 rfl rfl)
theorem dX8_sum_31 : decode cX8_sum 31 = .ok (.aload_n 0, 1) := dk_42 (dk_at dksX8_sum_1 8 rfl rfl)
theorem dX8_sum_32 : decode cX8_sum 32 = .ok (.invokevirtual 39, 3) := dk_182 0 39 (dk_at dksX8_sum_1 9 rfl rfl)
theorem dX8_sum_35 : decode cX8_sum 35 = .ok (.bipush 45, 2) := dk_16 45 (dk_at dksX8_sum_1 12 rfl rfl)
theorem dX8_sum_37 : decode cX8_sum 37 = .ok (.if_icmp .ne 42, 3) := dk_160 0 42 (dk_at dksX8_sum_1 14 rfl rfl)
theorem dX8_sum_40 : decode cX8_sum 40 = .ok (.aload_n 0, 1) := dk_42 (dk_at dksX8_sum_1 17 rfl rfl)
theorem dX8_sum_41 : decode cX8_sum 41 = .ok (.invokevirtual 39, 3) := dk_182 0 39 (dk_at dksX8_sum_1 18 rfl rfl)
theorem dX8_sum_44 : decode cX8_sum 44 = .ok (.istore_n 3, 1) := dk_62 (dk_at dksX8_sum_1 21 rfl rfl)
theorem dX8_sum_45 : decode cX8_sum 45 = .ok (.aload_n 0, 1) := dk_42 (dk_at dksX8_sum_1 22 rfl rfl)
theorem dX8_sum_46 : decode cX8_sum 46 = .ok (.dup, 1) := dk_89 (dk_at dksX8_sum_1 23 rfl rfl)
theorem dX8_sum_47 : decode cX8_sum 47 = .ok (.getfield 26, 3) := dk_180 0 26 (dk_at dksX8_sum_2 0 rfl rfl)
theorem dX8_sum_50 : decode cX8_sum 50 = .ok (.iconst 1, 1) := dk_4 (dk_at dksX8_sum_2 3 rfl rfl)
theorem dX8_sum_51 : decode cX8_sum 51 = .ok (.iadd, 1) := dk_96 (dk_at dksX8_sum_2 4 rfl rfl)
theorem dX8_sum_52 : decode cX8_sum 52 = .ok (.putfield 26, 3) := dk_181 0 26 (dk_at dksX8_sum_2 5 rfl rfl)
theorem dX8_sum_55 : decode cX8_sum 55 = .ok (.aload_n 2, 1) := dk_44 (dk_at dksX8_sum_2 8 rfl rfl)
theorem dX8_sum_56 : decode cX8_sum 56 = .ok (.new 86, 3) := dk_187 0 86 (dk_at dksX8_sum_2 9 rfl rfl)
theorem dX8_sum_59 : decode cX8_sum 59 = .ok (.dup, 1) := dk_89 (dk_at dksX8_sum_2 12 rfl rfl)
theorem dX8_sum_60 : decode cX8_sum 60 = .ok (.iload_n 3, 1) := dk_29 (dk_at dksX8_sum_2 13 rfl rfl)
theorem dX8_sum_61 : decode cX8_sum 61 = .ok (.aload_n 0, 1) := dk_42 (dk_at dksX8_sum_2 14 rfl rfl)
theorem dX8_sum_62 : decode cX8_sum 62 = .ok (.invokevirtual 98, 3) := dk_182 0 98 (dk_at dksX8_sum_2 15 rfl rfl)
theorem dX8_sum_65 : decode cX8_sum 65 = .ok (.invokespecial 91, 3) := dk_183 0 91 (dk_at dksX8_sum_2 18 rfl rfl)
theorem dX8_sum_68 : decode cX8_sum 68 = .ok (.putfield 94, 3) := dk_181 0 94 (dk_at dksX8_sum_2 21 rfl rfl)
theorem dX8_sum_71 : decode cX8_sum 71 = .ok (.aload_n 2, 1) := dk_44 (dk_at dksX8_sum_3 0 rfl rfl)
theorem dX8_sum_72 : decode cX8_sum 72 = .ok (.getfield 94, 3) := dk_180 0 94 (dk_at dksX8_sum_3 1 rfl rfl)
theorem dX8_sum_75 : decode cX8_sum 75 = .ok (.astore_n 2, 1) := dk_77 (dk_at dksX8_sum_3 4 rfl rfl)
theorem dX8_sum_76 : decode cX8_sum 76 = .ok (.goto (-61), 3) := dk_167 255 195 (dk_at dksX8_sum_3 5 rfl rfl)
theorem dX8_sum_79 : decode cX8_sum 79 = .ok (.aload_n 1, 1) := dk_43 (dk_at dksX8_sum_3 8 rfl rfl)
theorem dX8_sum_80 : decode cX8_sum 80 = .ok (.areturn, 1) := dk_176 (dk_at dksX8_sum_3 9 rfl rfl)
abbrev cX8_product : ByteArray := prog_14_method_10_code
def yX8_product : MethodName := ⟨RX8, "product", "()LPuzzleWed$Sum;"⟩
def dkwX8_product_3 : List UInt8 := [42, 182, 0, 88, 183, 0, 91, 181, 0, 94, 44, 180, 0, 94, 77, 167, 255, 186, 43, 176]
abbrev dktX8_product_3 : List UInt8 := dkwX8_product_3 ++ []
def dkwX8_product_2 : List UInt8 := [160, 0, 42, 42, 182, 0, 39, 62, 42, 89, 180, 0, 26, 4, 96, 181, 0, 26, 44, 187, 0, 86, 89, 29]
abbrev dktX8_product_2 : List UInt8 := dkwX8_product_2 ++ dktX8_product_3
def dkwX8_product_1 : List UInt8 := [182, 0, 39, 16, 42, 159, 0, 21, 42, 182, 0, 39, 16, 47, 159, 0, 12, 42, 182, 0, 39, 16, 37]
abbrev dktX8_product_1 : List UInt8 := dkwX8_product_1 ++ dktX8_product_2
def dkwX8_product_0 : List UInt8 := [187, 0, 86, 89, 3, 42, 182, 0, 88, 183, 0, 91, 76, 43, 77, 42, 182, 0, 43, 153, 0, 69, 42]
abbrev dktX8_product_0 : List UInt8 := dkwX8_product_0 ++ dktX8_product_1
theorem dksX8_product_0 : cX8_product.data.toList.drop 0 = dktX8_product_0 := by decide +kernel
theorem dksX8_product_1 : cX8_product.data.toList.drop 23 = dktX8_product_1 := dk_seg dksX8_product_0 23 rfl rfl
theorem dksX8_product_2 : cX8_product.data.toList.drop 46 = dktX8_product_2 := dk_seg dksX8_product_1 23 rfl rfl
theorem dksX8_product_3 : cX8_product.data.toList.drop 70 = dktX8_product_3 := dk_seg dksX8_product_2 24 rfl rfl
theorem dX8_product_0 : decode cX8_product 0 = .ok (.new 86, 3) := dk_187 0 86 (dk_at dksX8_product_0 0 rfl rfl)
theorem dX8_product_3 : decode cX8_product 3 = .ok (.dup, 1) := dk_89 (dk_at dksX8_product_0 3 rfl rfl)
theorem dX8_product_4 : decode cX8_product 4 = .ok (.iconst 0, 1) := dk_3 (dk_at dksX8_product_0 4 rfl rfl)
theorem dX8_product_5 : decode cX8_product 5 = .ok (.aload_n 0, 1) := dk_42 (dk_at dksX8_product_0 5 rfl rfl)
theorem dX8_product_6 : decode cX8_product 6 = .ok (.invokevirtual 88, 3) := dk_182 0 88 (dk_at dksX8_product_0 6 rfl rfl)
theorem dX8_product_9 : decode cX8_product 9 = .ok (.invokespecial 91, 3) := dk_183 0 91 (dk_at dksX8_product_0 9 rfl rfl)
theorem dX8_product_12 : decode cX8_product 12 = .ok (.astore_n 1, 1) := dk_76 (dk_at dksX8_product_0 12 rfl rfl)
theorem dX8_product_13 : decode cX8_product 13 = .ok (.aload_n 1, 1) := dk_43 (dk_at dksX8_product_0 13 rfl rfl)
theorem dX8_product_14 : decode cX8_product 14 = .ok (.astore_n 2, 1) := dk_77 (dk_at dksX8_product_0 14 rfl rfl)
theorem dX8_product_15 : decode cX8_product 15 = .ok (.aload_n 0, 1) := dk_42 (dk_at dksX8_product_0 15 rfl rfl)
theorem dX8_product_16 : decode cX8_product 16 = .ok (.invokevirtual 43, 3) := dk_182 0 43 (dk_at dksX8_product_0 16 rfl rfl)
theorem dX8_product_19 : decode cX8_product 19 = .ok (.ifCond .eq 69, 3) := dk_153 0 69 (dk_at dksX8_product_0 19 rfl rfl)
theorem dX8_product_22 : decode cX8_product 22 = .ok (.aload_n 0, 1) := dk_42 (dk_at dksX8_product_0 22 rfl rfl)
theorem dX8_product_23 : decode cX8_product 23 = .ok (.invokevirtual 39, 3) := dk_182 0 39 (dk_at dksX8_product_1 0 rfl rfl)
theorem dX8_product_26 : decode cX8_product 26 = .ok (.bipush 42, 2) := dk_16 42 (dk_at dksX8_product_1 3 rfl rfl)
theorem dX8_product_28 : decode cX8_product 28 = .ok (.if_icmp .eq 21, 3) := dk_159 0 21 (dk_at dksX8_product_1 5 rfl rfl)
theorem dX8_product_31 : decode cX8_product 31 = .ok (.aload_n 0, 1) := dk_42 (dk_at dksX8_product_1 8 rfl rfl)
theorem dX8_product_32 : decode cX8_product 32 = .ok (.invokevirtual 39, 3) := dk_182 0 39 (dk_at dksX8_product_1 9 rfl rfl)
theorem dX8_product_35 : decode cX8_product 35 = .ok (.bipush 47, 2) := dk_16 47 (dk_at dksX8_product_1 12 rfl rfl)
theorem dX8_product_37 : decode cX8_product 37 = .ok (.if_icmp .eq 12, 3) := dk_159 0 12 (dk_at dksX8_product_1 14 rfl rfl)
theorem dX8_product_40 : decode cX8_product 40 = .ok (.aload_n 0, 1) := dk_42 (dk_at dksX8_product_1 17 rfl rfl)
theorem dX8_product_41 : decode cX8_product 41 = .ok (.invokevirtual 39, 3) := dk_182 0 39 (dk_at dksX8_product_1 18 rfl rfl)
theorem dX8_product_44 : decode cX8_product 44 = .ok (.bipush 37, 2) := dk_16 37 (dk_at dksX8_product_1 21 rfl rfl)
theorem dX8_product_46 : decode cX8_product 46 = .ok (.if_icmp .ne 42, 3) := dk_160 0 42 (dk_at dksX8_product_2 0 rfl rfl)
theorem dX8_product_49 : decode cX8_product 49 = .ok (.aload_n 0, 1) := dk_42 (dk_at dksX8_product_2 3 rfl rfl)
theorem dX8_product_50 : decode cX8_product 50 = .ok (.invokevirtual 39, 3) := dk_182 0 39 (dk_at dksX8_product_2 4 rfl rfl)
theorem dX8_product_53 : decode cX8_product 53 = .ok (.istore_n 3, 1) := dk_62 (dk_at dksX8_product_2 7 rfl rfl)
theorem dX8_product_54 : decode cX8_product 54 = .ok (.aload_n 0, 1) := dk_42 (dk_at dksX8_product_2 8 rfl rfl)
theorem dX8_product_55 : decode cX8_product 55 = .ok (.dup, 1) := dk_89 (dk_at dksX8_product_2 9 rfl rfl)
theorem dX8_product_56 : decode cX8_product 56 = .ok (.getfield 26, 3) := dk_180 0 26 (dk_at dksX8_product_2 10 rfl rfl)
theorem dX8_product_59 : decode cX8_product 59 = .ok (.iconst 1, 1) := dk_4 (dk_at dksX8_product_2 13 rfl rfl)
theorem dX8_product_60 : decode cX8_product 60 = .ok (.iadd, 1) := dk_96 (dk_at dksX8_product_2 14 rfl rfl)
theorem dX8_product_61 : decode cX8_product 61 = .ok (.putfield 26, 3) := dk_181 0 26 (dk_at dksX8_product_2 15 rfl rfl)
theorem dX8_product_64 : decode cX8_product 64 = .ok (.aload_n 2, 1) := dk_44 (dk_at dksX8_product_2 18 rfl rfl)
theorem dX8_product_65 : decode cX8_product 65 = .ok (.new 86, 3) := dk_187 0 86 (dk_at dksX8_product_2 19 rfl rfl)
theorem dX8_product_68 : decode cX8_product 68 = .ok (.dup, 1) := dk_89 (dk_at dksX8_product_2 22 rfl rfl)
theorem dX8_product_69 : decode cX8_product 69 = .ok (.iload_n 3, 1) := dk_29 (dk_at dksX8_product_2 23 rfl rfl)
theorem dX8_product_70 : decode cX8_product 70 = .ok (.aload_n 0, 1) := dk_42 (dk_at dksX8_product_3 0 rfl rfl)
theorem dX8_product_71 : decode cX8_product 71 = .ok (.invokevirtual 88, 3) := dk_182 0 88 (dk_at dksX8_product_3 1 rfl rfl)
theorem dX8_product_74 : decode cX8_product 74 = .ok (.invokespecial 91, 3) := dk_183 0 91 (dk_at dksX8_product_3 4 rfl rfl)
theorem dX8_product_77 : decode cX8_product 77 = .ok (.putfield 94, 3) := dk_181 0 94 (dk_at dksX8_product_3 7 rfl rfl)
theorem dX8_product_80 : decode cX8_product 80 = .ok (.aload_n 2, 1) := dk_44 (dk_at dksX8_product_3 10 rfl rfl)
theorem dX8_product_81 : decode cX8_product 81 = .ok (.getfield 94, 3) := dk_180 0 94 (dk_at dksX8_product_3 11 rfl rfl)
theorem dX8_product_84 : decode cX8_product 84 = .ok (.astore_n 2, 1) := dk_77 (dk_at dksX8_product_3 14 rfl rfl)
theorem dX8_product_85 : decode cX8_product 85 = .ok (.goto (-70), 3) := dk_167 255 186 (dk_at dksX8_product_3 15 rfl rfl)
theorem dX8_product_88 : decode cX8_product 88 = .ok (.aload_n 1, 1) := dk_43 (dk_at dksX8_product_3 18 rfl rfl)
theorem dX8_product_89 : decode cX8_product 89 = .ok (.areturn, 1) := dk_176 (dk_at dksX8_product_3 19 rfl rfl)
abbrev cX8_factor : ByteArray := prog_14_method_9_code
def yX8_factor : MethodName := ⟨RX8, "factor", "()LPuzzleWed$Sum;"⟩
def dkwX8_factor_5 : List UInt8 := [176]
abbrev dktX8_factor_5 : List UInt8 := dkwX8_factor_5 ++ []
def dkwX8_factor_4 : List UInt8 := [180, 0, 26, 182, 0, 50, 42, 89, 180, 0, 26, 4, 96, 181, 0, 26, 187, 0, 83, 89, 27, 183, 0, 85]
abbrev dktX8_factor_4 : List UInt8 := dkwX8_factor_4 ++ dktX8_factor_5
def dkwX8_factor_3 : List UInt8 := [182, 0, 70, 183, 0, 73, 176, 27, 153, 0, 12, 18, 75, 27, 182, 0, 77, 156, 0, 12, 42, 4, 42]
abbrev dktX8_factor_3 : List UInt8 := dkwX8_factor_3 ++ dktX8_factor_4
def dkwX8_factor_2 : List UInt8 := [180, 0, 54, 4, 100, 181, 0, 54, 44, 176, 42, 182, 0, 47, 153, 0, 15, 187, 0, 68, 89, 42]
abbrev dktX8_factor_2 : List UInt8 := dkwX8_factor_2 ++ dktX8_factor_3
def dkwX8_factor_1 : List UInt8 := [182, 0, 60, 167, 0, 4, 1, 77, 42, 182, 0, 43, 153, 0, 9, 42, 16, 93, 182, 0, 64, 42, 89]
abbrev dktX8_factor_1 : List UInt8 := dkwX8_factor_1 ++ dktX8_factor_2
def dkwX8_factor_0 : List UInt8 := [42, 182, 0, 39, 60, 27, 16, 91, 160, 0, 48, 42, 182, 0, 57, 42, 182, 0, 43, 153, 0, 10, 42]
abbrev dktX8_factor_0 : List UInt8 := dkwX8_factor_0 ++ dktX8_factor_1
theorem dksX8_factor_0 : cX8_factor.data.toList.drop 0 = dktX8_factor_0 := by decide +kernel
theorem dksX8_factor_1 : cX8_factor.data.toList.drop 23 = dktX8_factor_1 := dk_seg dksX8_factor_0 23 rfl rfl
theorem dksX8_factor_2 : cX8_factor.data.toList.drop 46 = dktX8_factor_2 := dk_seg dksX8_factor_1 23 rfl rfl
theorem dksX8_factor_3 : cX8_factor.data.toList.drop 68 = dktX8_factor_3 := dk_seg dksX8_factor_2 22 rfl rfl
theorem dksX8_factor_4 : cX8_factor.data.toList.drop 91 = dktX8_factor_4 := dk_seg dksX8_factor_3 23 rfl rfl
theorem dksX8_factor_5 : cX8_factor.data.toList.drop 115 = dktX8_factor_5 := dk_seg dksX8_factor_4 24 rfl rfl
theorem dX8_factor_0 : decode cX8_factor 0 = .ok (.aload_n 0, 1) := dk_42 (dk_at dksX8_factor_0 0 rfl rfl)
theorem dX8_factor_1 : decode cX8_factor 1 = .ok (.invokevirtual 39, 3) := dk_182 0 39 (dk_at dksX8_factor_0 1 rfl rfl)
theorem dX8_factor_4 : decode cX8_factor 4 = .ok (.istore_n 1, 1) := dk_60 (dk_at dksX8_factor_0 4 rfl rfl)
theorem dX8_factor_5 : decode cX8_factor 5 = .ok (.iload_n 1, 1) := dk_27 (dk_at dksX8_factor_0 5 rfl rfl)
theorem dX8_factor_6 : decode cX8_factor 6 = .ok (.bipush 91, 2) := dk_16 91 (dk_at dksX8_factor_0 6 rfl rfl)
theorem dX8_factor_8 : decode cX8_factor 8 = .ok (.if_icmp .ne 48, 3) := dk_160 0 48 (dk_at dksX8_factor_0 8 rfl rfl)
theorem dX8_factor_11 : decode cX8_factor 11 = .ok (.aload_n 0, 1) := dk_42 (dk_at dksX8_factor_0 11 rfl rfl)
theorem dX8_factor_12 : decode cX8_factor 12 = .ok (.invokevirtual 57, 3) := dk_182 0 57 (dk_at dksX8_factor_0 12 rfl rfl)
theorem dX8_factor_15 : decode cX8_factor 15 = .ok (.aload_n 0, 1) := dk_42 (dk_at dksX8_factor_0 15 rfl rfl)
theorem dX8_factor_16 : decode cX8_factor 16 = .ok (.invokevirtual 43, 3) := dk_182 0 43 (dk_at dksX8_factor_0 16 rfl rfl)
theorem dX8_factor_19 : decode cX8_factor 19 = .ok (.ifCond .eq 10, 3) := dk_153 0 10 (dk_at dksX8_factor_0 19 rfl rfl)
theorem dX8_factor_22 : decode cX8_factor 22 = .ok (.aload_n 0, 1) := dk_42 (dk_at dksX8_factor_0 22 rfl rfl)
theorem dX8_factor_23 : decode cX8_factor 23 = .ok (.invokevirtual 60, 3) := dk_182 0 60 (dk_at dksX8_factor_1 0 rfl rfl)
theorem dX8_factor_26 : decode cX8_factor 26 = .ok (.goto 4, 3) := dk_167 0 4 (dk_at dksX8_factor_1 3 rfl rfl)
theorem dX8_factor_29 : decode cX8_factor 29 = .ok (.aconst_null, 1) := dk_1 (dk_at dksX8_factor_1 6 rfl rfl)
theorem dX8_factor_30 : decode cX8_factor 30 = .ok (.astore_n 2, 1) := dk_77 (dk_at dksX8_factor_1 7 rfl rfl)
theorem dX8_factor_31 : decode cX8_factor 31 = .ok (.aload_n 0, 1) := dk_42 (dk_at dksX8_factor_1 8 rfl rfl)
theorem dX8_factor_32 : decode cX8_factor 32 = .ok (.invokevirtual 43, 3) := dk_182 0 43 (dk_at dksX8_factor_1 9 rfl rfl)
theorem dX8_factor_35 : decode cX8_factor 35 = .ok (.ifCond .eq 9, 3) := dk_153 0 9 (dk_at dksX8_factor_1 12 rfl rfl)
theorem dX8_factor_38 : decode cX8_factor 38 = .ok (.aload_n 0, 1) := dk_42 (dk_at dksX8_factor_1 15 rfl rfl)
theorem dX8_factor_39 : decode cX8_factor 39 = .ok (.bipush 93, 2) := dk_16 93 (dk_at dksX8_factor_1 16 rfl rfl)
theorem dX8_factor_41 : decode cX8_factor 41 = .ok (.invokevirtual 64, 3) := dk_182 0 64 (dk_at dksX8_factor_1 18 rfl rfl)
theorem dX8_factor_44 : decode cX8_factor 44 = .ok (.aload_n 0, 1) := dk_42 (dk_at dksX8_factor_1 21 rfl rfl)
theorem dX8_factor_45 : decode cX8_factor 45 = .ok (.dup, 1) := dk_89 (dk_at dksX8_factor_1 22 rfl rfl)
theorem dX8_factor_46 : decode cX8_factor 46 = .ok (.getfield 54, 3) := dk_180 0 54 (dk_at dksX8_factor_2 0 rfl rfl)
theorem dX8_factor_49 : decode cX8_factor 49 = .ok (.iconst 1, 1) := dk_4 (dk_at dksX8_factor_2 3 rfl rfl)
theorem dX8_factor_50 : decode cX8_factor 50 = .ok (.isub, 1) := dk_100 (dk_at dksX8_factor_2 4 rfl rfl)
theorem dX8_factor_51 : decode cX8_factor 51 = .ok (.putfield 54, 3) := dk_181 0 54 (dk_at dksX8_factor_2 5 rfl rfl)
theorem dX8_factor_54 : decode cX8_factor 54 = .ok (.aload_n 2, 1) := dk_44 (dk_at dksX8_factor_2 8 rfl rfl)
theorem dX8_factor_55 : decode cX8_factor 55 = .ok (.areturn, 1) := dk_176 (dk_at dksX8_factor_2 9 rfl rfl)
theorem dX8_factor_56 : decode cX8_factor 56 = .ok (.aload_n 0, 1) := dk_42 (dk_at dksX8_factor_2 10 rfl rfl)
theorem dX8_factor_57 : decode cX8_factor 57 = .ok (.invokevirtual 47, 3) := dk_182 0 47 (dk_at dksX8_factor_2 11 rfl rfl)
theorem dX8_factor_60 : decode cX8_factor 60 = .ok (.ifCond .eq 15, 3) := dk_153 0 15 (dk_at dksX8_factor_2 14 rfl rfl)
theorem dX8_factor_63 : decode cX8_factor 63 = .ok (.new 68, 3) := dk_187 0 68 (dk_at dksX8_factor_2 17 rfl rfl)
theorem dX8_factor_66 : decode cX8_factor 66 = .ok (.dup, 1) := dk_89 (dk_at dksX8_factor_2 20 rfl rfl)
theorem dX8_factor_67 : decode cX8_factor 67 = .ok (.aload_n 0, 1) := dk_42 (dk_at dksX8_factor_2 21 rfl rfl)
theorem dX8_factor_68 : decode cX8_factor 68 = .ok (.invokevirtual 70, 3) := dk_182 0 70 (dk_at dksX8_factor_3 0 rfl rfl)
theorem dX8_factor_71 : decode cX8_factor 71 = .ok (.invokespecial 73, 3) := dk_183 0 73 (dk_at dksX8_factor_3 3 rfl rfl)
theorem dX8_factor_74 : decode cX8_factor 74 = .ok (.areturn, 1) := dk_176 (dk_at dksX8_factor_3 6 rfl rfl)
theorem dX8_factor_75 : decode cX8_factor 75 = .ok (.iload_n 1, 1) := dk_27 (dk_at dksX8_factor_3 7 rfl rfl)
theorem dX8_factor_76 : decode cX8_factor 76 = .ok (.ifCond .eq 12, 3) := dk_153 0 12 (dk_at dksX8_factor_3 8 rfl rfl)
theorem dX8_factor_79 : decode cX8_factor 79 = .ok (.ldc 75, 2) := dk_18 75 (dk_at dksX8_factor_3 11 rfl rfl)
theorem dX8_factor_81 : decode cX8_factor 81 = .ok (.iload_n 1, 1) := dk_27 (dk_at dksX8_factor_3 13 rfl rfl)
theorem dX8_factor_82 : decode cX8_factor 82 = .ok (.invokevirtual 77, 3) := dk_182 0 77 (dk_at dksX8_factor_3 14 rfl rfl)
theorem dX8_factor_85 : decode cX8_factor 85 = .ok (.ifCond .ge 12, 3) := dk_156 0 12 (dk_at dksX8_factor_3 17 rfl rfl)
theorem dX8_factor_88 : decode cX8_factor 88 = .ok (.aload_n 0, 1) := dk_42 (dk_at dksX8_factor_3 20 rfl rfl)
theorem dX8_factor_89 : decode cX8_factor 89 = .ok (.iconst 1, 1) := dk_4 (dk_at dksX8_factor_3 21 rfl rfl)
theorem dX8_factor_90 : decode cX8_factor 90 = .ok (.aload_n 0, 1) := dk_42 (dk_at dksX8_factor_3 22 rfl rfl)
theorem dX8_factor_91 : decode cX8_factor 91 = .ok (.getfield 26, 3) := dk_180 0 26 (dk_at dksX8_factor_4 0 rfl rfl)
theorem dX8_factor_94 : decode cX8_factor 94 = .ok (.invokevirtual 50, 3) := dk_182 0 50 (dk_at dksX8_factor_4 3 rfl rfl)
theorem dX8_factor_97 : decode cX8_factor 97 = .ok (.aload_n 0, 1) := dk_42 (dk_at dksX8_factor_4 6 rfl rfl)
theorem dX8_factor_98 : decode cX8_factor 98 = .ok (.dup, 1) := dk_89 (dk_at dksX8_factor_4 7 rfl rfl)
theorem dX8_factor_99 : decode cX8_factor 99 = .ok (.getfield 26, 3) := dk_180 0 26 (dk_at dksX8_factor_4 8 rfl rfl)
theorem dX8_factor_102 : decode cX8_factor 102 = .ok (.iconst 1, 1) := dk_4 (dk_at dksX8_factor_4 11 rfl rfl)
theorem dX8_factor_103 : decode cX8_factor 103 = .ok (.iadd, 1) := dk_96 (dk_at dksX8_factor_4 12 rfl rfl)
theorem dX8_factor_104 : decode cX8_factor 104 = .ok (.putfield 26, 3) := dk_181 0 26 (dk_at dksX8_factor_4 13 rfl rfl)
theorem dX8_factor_107 : decode cX8_factor 107 = .ok (.new 83, 3) := dk_187 0 83 (dk_at dksX8_factor_4 16 rfl rfl)
theorem dX8_factor_110 : decode cX8_factor 110 = .ok (.dup, 1) := dk_89 (dk_at dksX8_factor_4 19 rfl rfl)
theorem dX8_factor_111 : decode cX8_factor 111 = .ok (.iload_n 1, 1) := dk_27 (dk_at dksX8_factor_4 20 rfl rfl)
theorem dX8_factor_112 : decode cX8_factor 112 = .ok (.invokespecial 85, 3) := dk_183 0 85 (dk_at dksX8_factor_4 21 rfl rfl)
theorem dX8_factor_115 : decode cX8_factor 115 = .ok (.areturn, 1) := dk_176 (dk_at dksX8_factor_5 0 rfl rfl)
abbrev cX8_opens : ByteArray := prog_14_method_8_code
def yX8_opens : MethodName := ⟨RX8, "opens", "()V"⟩
def dkwX8_opens_1 : List UInt8 := [96, 181, 0, 54, 42, 89, 180, 0, 26, 4, 96, 181, 0, 26, 177]
abbrev dktX8_opens_1 : List UInt8 := dkwX8_opens_1 ++ []
def dkwX8_opens_0 : List UInt8 := [42, 180, 0, 54, 16, 6, 160, 0, 12, 42, 8, 42, 180, 0, 26, 182, 0, 50, 42, 89, 180, 0, 54, 4]
abbrev dktX8_opens_0 : List UInt8 := dkwX8_opens_0 ++ dktX8_opens_1
theorem dksX8_opens_0 : cX8_opens.data.toList.drop 0 = dktX8_opens_0 := by decide +kernel
theorem dksX8_opens_1 : cX8_opens.data.toList.drop 24 = dktX8_opens_1 := dk_seg dksX8_opens_0 24 rfl rfl
theorem dX8_opens_0 : decode cX8_opens 0 = .ok (.aload_n 0, 1) := dk_42 (dk_at dksX8_opens_0 0 rfl rfl)
theorem dX8_opens_1 : decode cX8_opens 1 = .ok (.getfield 54, 3) := dk_180 0 54 (dk_at dksX8_opens_0 1 rfl rfl)
theorem dX8_opens_4 : decode cX8_opens 4 = .ok (.bipush 6, 2) := dk_16 6 (dk_at dksX8_opens_0 4 rfl rfl)
theorem dX8_opens_6 : decode cX8_opens 6 = .ok (.if_icmp .ne 12, 3) := dk_160 0 12 (dk_at dksX8_opens_0 6 rfl rfl)
theorem dX8_opens_9 : decode cX8_opens 9 = .ok (.aload_n 0, 1) := dk_42 (dk_at dksX8_opens_0 9 rfl rfl)
theorem dX8_opens_10 : decode cX8_opens 10 = .ok (.iconst 5, 1) := dk_8 (dk_at dksX8_opens_0 10 rfl rfl)
theorem dX8_opens_11 : decode cX8_opens 11 = .ok (.aload_n 0, 1) := dk_42 (dk_at dksX8_opens_0 11 rfl rfl)
theorem dX8_opens_12 : decode cX8_opens 12 = .ok (.getfield 26, 3) := dk_180 0 26 (dk_at dksX8_opens_0 12 rfl rfl)
theorem dX8_opens_15 : decode cX8_opens 15 = .ok (.invokevirtual 50, 3) := dk_182 0 50 (dk_at dksX8_opens_0 15 rfl rfl)
theorem dX8_opens_18 : decode cX8_opens 18 = .ok (.aload_n 0, 1) := dk_42 (dk_at dksX8_opens_0 18 rfl rfl)
theorem dX8_opens_19 : decode cX8_opens 19 = .ok (.dup, 1) := dk_89 (dk_at dksX8_opens_0 19 rfl rfl)
theorem dX8_opens_20 : decode cX8_opens 20 = .ok (.getfield 54, 3) := dk_180 0 54 (dk_at dksX8_opens_0 20 rfl rfl)
theorem dX8_opens_23 : decode cX8_opens 23 = .ok (.iconst 1, 1) := dk_4 (dk_at dksX8_opens_0 23 rfl rfl)
theorem dX8_opens_24 : decode cX8_opens 24 = .ok (.iadd, 1) := dk_96 (dk_at dksX8_opens_1 0 rfl rfl)
theorem dX8_opens_25 : decode cX8_opens 25 = .ok (.putfield 54, 3) := dk_181 0 54 (dk_at dksX8_opens_1 1 rfl rfl)
theorem dX8_opens_28 : decode cX8_opens 28 = .ok (.aload_n 0, 1) := dk_42 (dk_at dksX8_opens_1 4 rfl rfl)
theorem dX8_opens_29 : decode cX8_opens 29 = .ok (.dup, 1) := dk_89 (dk_at dksX8_opens_1 5 rfl rfl)
theorem dX8_opens_30 : decode cX8_opens 30 = .ok (.getfield 26, 3) := dk_180 0 26 (dk_at dksX8_opens_1 6 rfl rfl)
theorem dX8_opens_33 : decode cX8_opens 33 = .ok (.iconst 1, 1) := dk_4 (dk_at dksX8_opens_1 9 rfl rfl)
theorem dX8_opens_34 : decode cX8_opens 34 = .ok (.iadd, 1) := dk_96 (dk_at dksX8_opens_1 10 rfl rfl)
theorem dX8_opens_35 : decode cX8_opens 35 = .ok (.putfield 26, 3) := dk_181 0 26 (dk_at dksX8_opens_1 11 rfl rfl)
theorem dX8_opens_38 : decode cX8_opens 38 = .ok (.return_, 1) := dk_177 (dk_at dksX8_opens_1 14 rfl rfl)
abbrev cX8_must : ByteArray := prog_14_method_7_code
def yX8_must : MethodName := ⟨RX8, "must", "(I)V"⟩
def dkwX8_must_1 : List UInt8 := [181, 0, 26, 177]
abbrev dktX8_must_1 : List UInt8 := dkwX8_must_1 ++ []
def dkwX8_must_0 : List UInt8 := [42, 182, 0, 39, 27, 159, 0, 12, 42, 4, 42, 180, 0, 26, 182, 0, 50, 42, 89, 180, 0, 26, 4, 96]
abbrev dktX8_must_0 : List UInt8 := dkwX8_must_0 ++ dktX8_must_1
theorem dksX8_must_0 : cX8_must.data.toList.drop 0 = dktX8_must_0 := by decide +kernel
theorem dksX8_must_1 : cX8_must.data.toList.drop 24 = dktX8_must_1 := dk_seg dksX8_must_0 24 rfl rfl
theorem dX8_must_0 : decode cX8_must 0 = .ok (.aload_n 0, 1) := dk_42 (dk_at dksX8_must_0 0 rfl rfl)
theorem dX8_must_1 : decode cX8_must 1 = .ok (.invokevirtual 39, 3) := dk_182 0 39 (dk_at dksX8_must_0 1 rfl rfl)
theorem dX8_must_4 : decode cX8_must 4 = .ok (.iload_n 1, 1) := dk_27 (dk_at dksX8_must_0 4 rfl rfl)
theorem dX8_must_5 : decode cX8_must 5 = .ok (.if_icmp .eq 12, 3) := dk_159 0 12 (dk_at dksX8_must_0 5 rfl rfl)
theorem dX8_must_8 : decode cX8_must 8 = .ok (.aload_n 0, 1) := dk_42 (dk_at dksX8_must_0 8 rfl rfl)
theorem dX8_must_9 : decode cX8_must 9 = .ok (.iconst 1, 1) := dk_4 (dk_at dksX8_must_0 9 rfl rfl)
theorem dX8_must_10 : decode cX8_must 10 = .ok (.aload_n 0, 1) := dk_42 (dk_at dksX8_must_0 10 rfl rfl)
theorem dX8_must_11 : decode cX8_must 11 = .ok (.getfield 26, 3) := dk_180 0 26 (dk_at dksX8_must_0 11 rfl rfl)
theorem dX8_must_14 : decode cX8_must 14 = .ok (.invokevirtual 50, 3) := dk_182 0 50 (dk_at dksX8_must_0 14 rfl rfl)
theorem dX8_must_17 : decode cX8_must 17 = .ok (.aload_n 0, 1) := dk_42 (dk_at dksX8_must_0 17 rfl rfl)
theorem dX8_must_18 : decode cX8_must 18 = .ok (.dup, 1) := dk_89 (dk_at dksX8_must_0 18 rfl rfl)
theorem dX8_must_19 : decode cX8_must 19 = .ok (.getfield 26, 3) := dk_180 0 26 (dk_at dksX8_must_0 19 rfl rfl)
theorem dX8_must_22 : decode cX8_must 22 = .ok (.iconst 1, 1) := dk_4 (dk_at dksX8_must_0 22 rfl rfl)
theorem dX8_must_23 : decode cX8_must 23 = .ok (.iadd, 1) := dk_96 (dk_at dksX8_must_0 23 rfl rfl)
theorem dX8_must_24 : decode cX8_must 24 = .ok (.putfield 26, 3) := dk_181 0 26 (dk_at dksX8_must_1 0 rfl rfl)
theorem dX8_must_27 : decode cX8_must 27 = .ok (.return_, 1) := dk_177 (dk_at dksX8_must_1 3 rfl rfl)
abbrev cX8_seesDigit : ByteArray := prog_14_method_5_code
def yX8_seesDigit : MethodName := ⟨RX8, "seesDigit", "()Z"⟩
def dkwX8_seesDigit_0 : List UInt8 := [42, 182, 0, 39, 16, 48, 161, 0, 16, 42, 182, 0, 39, 16, 57, 163, 0, 7, 4, 167, 0, 4, 3, 172]
abbrev dktX8_seesDigit_0 : List UInt8 := dkwX8_seesDigit_0 ++ []
theorem dksX8_seesDigit_0 : cX8_seesDigit.data.toList.drop 0 = dktX8_seesDigit_0 := by decide +kernel
theorem dX8_seesDigit_0 : decode cX8_seesDigit 0 = .ok (.aload_n 0, 1) := dk_42 (dk_at dksX8_seesDigit_0 0 rfl rfl)
theorem dX8_seesDigit_1 : decode cX8_seesDigit 1 = .ok (.invokevirtual 39, 3) := dk_182 0 39 (dk_at dksX8_seesDigit_0 1 rfl rfl)
theorem dX8_seesDigit_4 : decode cX8_seesDigit 4 = .ok (.bipush 48, 2) := dk_16 48 (dk_at dksX8_seesDigit_0 4 rfl rfl)
theorem dX8_seesDigit_6 : decode cX8_seesDigit 6 = .ok (.if_icmp .lt 16, 3) := dk_161 0 16 (dk_at dksX8_seesDigit_0 6 rfl rfl)
theorem dX8_seesDigit_9 : decode cX8_seesDigit 9 = .ok (.aload_n 0, 1) := dk_42 (dk_at dksX8_seesDigit_0 9 rfl rfl)
theorem dX8_seesDigit_10 : decode cX8_seesDigit 10 = .ok (.invokevirtual 39, 3) := dk_182 0 39 (dk_at dksX8_seesDigit_0 10 rfl rfl)
theorem dX8_seesDigit_13 : decode cX8_seesDigit 13 = .ok (.bipush 57, 2) := dk_16 57 (dk_at dksX8_seesDigit_0 13 rfl rfl)
theorem dX8_seesDigit_15 : decode cX8_seesDigit 15 = .ok (.if_icmp .gt 7, 3) := dk_163 0 7 (dk_at dksX8_seesDigit_0 15 rfl rfl)
theorem dX8_seesDigit_18 : decode cX8_seesDigit 18 = .ok (.iconst 1, 1) := dk_4 (dk_at dksX8_seesDigit_0 18 rfl rfl)
theorem dX8_seesDigit_19 : decode cX8_seesDigit 19 = .ok (.goto 4, 3) := dk_167 0 4 (dk_at dksX8_seesDigit_0 19 rfl rfl)
theorem dX8_seesDigit_22 : decode cX8_seesDigit 22 = .ok (.iconst 0, 1) := dk_3 (dk_at dksX8_seesDigit_0 22 rfl rfl)
theorem dX8_seesDigit_23 : decode cX8_seesDigit 23 = .ok (.ireturn, 1) := dk_172 (dk_at dksX8_seesDigit_0 23 rfl rfl)
abbrev cX8_number : ByteArray := prog_14_method_6_code
def yX8_number : MethodName := ⟨RX8, "number", "()I"⟩
def dkwX8_number_2 : List UInt8 := [182, 0, 39, 96, 16, 48, 100, 61, 42, 89, 180, 0, 26, 4, 96, 181, 0, 26, 167, 255, 200, 28, 172]
abbrev dktX8_number_2 : List UInt8 := dkwX8_number_2 ++ []
def dkwX8_number_1 : List UInt8 := [180, 0, 26, 27, 8, 96, 160, 0, 12, 42, 5, 42, 180, 0, 26, 182, 0, 50, 16, 10, 28, 104, 42]
abbrev dktX8_number_1 : List UInt8 := dkwX8_number_1 ++ dktX8_number_2
def dkwX8_number_0 : List UInt8 := [42, 180, 0, 26, 60, 3, 61, 42, 182, 0, 43, 153, 0, 55, 42, 182, 0, 47, 153, 0, 48, 42]
abbrev dktX8_number_0 : List UInt8 := dkwX8_number_0 ++ dktX8_number_1
theorem dksX8_number_0 : cX8_number.data.toList.drop 0 = dktX8_number_0 := by decide +kernel
theorem dksX8_number_1 : cX8_number.data.toList.drop 22 = dktX8_number_1 := dk_seg dksX8_number_0 22 rfl rfl
theorem dksX8_number_2 : cX8_number.data.toList.drop 45 = dktX8_number_2 := dk_seg dksX8_number_1 23 rfl rfl
theorem dX8_number_0 : decode cX8_number 0 = .ok (.aload_n 0, 1) := dk_42 (dk_at dksX8_number_0 0 rfl rfl)
theorem dX8_number_1 : decode cX8_number 1 = .ok (.getfield 26, 3) := dk_180 0 26 (dk_at dksX8_number_0 1 rfl rfl)
theorem dX8_number_4 : decode cX8_number 4 = .ok (.istore_n 1, 1) := dk_60 (dk_at dksX8_number_0 4 rfl rfl)
theorem dX8_number_5 : decode cX8_number 5 = .ok (.iconst 0, 1) := dk_3 (dk_at dksX8_number_0 5 rfl rfl)
theorem dX8_number_6 : decode cX8_number 6 = .ok (.istore_n 2, 1) := dk_61 (dk_at dksX8_number_0 6 rfl rfl)
theorem dX8_number_7 : decode cX8_number 7 = .ok (.aload_n 0, 1) := dk_42 (dk_at dksX8_number_0 7 rfl rfl)
theorem dX8_number_8 : decode cX8_number 8 = .ok (.invokevirtual 43, 3) := dk_182 0 43 (dk_at dksX8_number_0 8 rfl rfl)
theorem dX8_number_11 : decode cX8_number 11 = .ok (.ifCond .eq 55, 3) := dk_153 0 55 (dk_at dksX8_number_0 11 rfl rfl)
theorem dX8_number_14 : decode cX8_number 14 = .ok (.aload_n 0, 1) := dk_42 (dk_at dksX8_number_0 14 rfl rfl)
theorem dX8_number_15 : decode cX8_number 15 = .ok (.invokevirtual 47, 3) := dk_182 0 47 (dk_at dksX8_number_0 15 rfl rfl)
theorem dX8_number_18 : decode cX8_number 18 = .ok (.ifCond .eq 48, 3) := dk_153 0 48 (dk_at dksX8_number_0 18 rfl rfl)
theorem dX8_number_21 : decode cX8_number 21 = .ok (.aload_n 0, 1) := dk_42 (dk_at dksX8_number_0 21 rfl rfl)
theorem dX8_number_22 : decode cX8_number 22 = .ok (.getfield 26, 3) := dk_180 0 26 (dk_at dksX8_number_1 0 rfl rfl)
theorem dX8_number_25 : decode cX8_number 25 = .ok (.iload_n 1, 1) := dk_27 (dk_at dksX8_number_1 3 rfl rfl)
theorem dX8_number_26 : decode cX8_number 26 = .ok (.iconst 5, 1) := dk_8 (dk_at dksX8_number_1 4 rfl rfl)
theorem dX8_number_27 : decode cX8_number 27 = .ok (.iadd, 1) := dk_96 (dk_at dksX8_number_1 5 rfl rfl)
theorem dX8_number_28 : decode cX8_number 28 = .ok (.if_icmp .ne 12, 3) := dk_160 0 12 (dk_at dksX8_number_1 6 rfl rfl)
theorem dX8_number_31 : decode cX8_number 31 = .ok (.aload_n 0, 1) := dk_42 (dk_at dksX8_number_1 9 rfl rfl)
theorem dX8_number_32 : decode cX8_number 32 = .ok (.iconst 2, 1) := dk_5 (dk_at dksX8_number_1 10 rfl rfl)
theorem dX8_number_33 : decode cX8_number 33 = .ok (.aload_n 0, 1) := dk_42 (dk_at dksX8_number_1 11 rfl rfl)
theorem dX8_number_34 : decode cX8_number 34 = .ok (.getfield 26, 3) := dk_180 0 26 (dk_at dksX8_number_1 12 rfl rfl)
theorem dX8_number_37 : decode cX8_number 37 = .ok (.invokevirtual 50, 3) := dk_182 0 50 (dk_at dksX8_number_1 15 rfl rfl)
theorem dX8_number_40 : decode cX8_number 40 = .ok (.bipush 10, 2) := dk_16 10 (dk_at dksX8_number_1 18 rfl rfl)
theorem dX8_number_42 : decode cX8_number 42 = .ok (.iload_n 2, 1) := dk_28 (dk_at dksX8_number_1 20 rfl rfl)
theorem dX8_number_43 : decode cX8_number 43 = .ok (.imul, 1) := dk_104 (dk_at dksX8_number_1 21 rfl rfl)
theorem dX8_number_44 : decode cX8_number 44 = .ok (.aload_n 0, 1) := dk_42 (dk_at dksX8_number_1 22 rfl rfl)
theorem dX8_number_45 : decode cX8_number 45 = .ok (.invokevirtual 39, 3) := dk_182 0 39 (dk_at dksX8_number_2 0 rfl rfl)
theorem dX8_number_48 : decode cX8_number 48 = .ok (.iadd, 1) := dk_96 (dk_at dksX8_number_2 3 rfl rfl)
theorem dX8_number_49 : decode cX8_number 49 = .ok (.bipush 48, 2) := dk_16 48 (dk_at dksX8_number_2 4 rfl rfl)
theorem dX8_number_51 : decode cX8_number 51 = .ok (.isub, 1) := dk_100 (dk_at dksX8_number_2 6 rfl rfl)
theorem dX8_number_52 : decode cX8_number 52 = .ok (.istore_n 2, 1) := dk_61 (dk_at dksX8_number_2 7 rfl rfl)
theorem dX8_number_53 : decode cX8_number 53 = .ok (.aload_n 0, 1) := dk_42 (dk_at dksX8_number_2 8 rfl rfl)
theorem dX8_number_54 : decode cX8_number 54 = .ok (.dup, 1) := dk_89 (dk_at dksX8_number_2 9 rfl rfl)
theorem dX8_number_55 : decode cX8_number 55 = .ok (.getfield 26, 3) := dk_180 0 26 (dk_at dksX8_number_2 10 rfl rfl)
theorem dX8_number_58 : decode cX8_number 58 = .ok (.iconst 1, 1) := dk_4 (dk_at dksX8_number_2 13 rfl rfl)
theorem dX8_number_59 : decode cX8_number 59 = .ok (.iadd, 1) := dk_96 (dk_at dksX8_number_2 14 rfl rfl)
theorem dX8_number_60 : decode cX8_number 60 = .ok (.putfield 26, 3) := dk_181 0 26 (dk_at dksX8_number_2 15 rfl rfl)
theorem dX8_number_63 : decode cX8_number 63 = .ok (.goto (-56), 3) := dk_167 255 200 (dk_at dksX8_number_2 18 rfl rfl)
theorem dX8_number_66 : decode cX8_number 66 = .ok (.iload_n 2, 1) := dk_28 (dk_at dksX8_number_2 21 rfl rfl)
theorem dX8_number_67 : decode cX8_number 67 = .ok (.ireturn, 1) := dk_172 (dk_at dksX8_number_2 22 rfl rfl)
abbrev cX8_condition : ByteArray := prog_14_method_14_code
def yX8_condition : MethodName := ⟨RX8, "condition", "()LPuzzleWed$Condition;"⟩
def dkwX8_condition_4 : List UInt8 := [42, 89, 180, 0, 54, 4, 100, 181, 0, 54, 43, 176]
abbrev dktX8_condition_4 : List UInt8 := dkwX8_condition_4 ++ []
def dkwX8_condition_3 : List UInt8 := [181, 0, 123, 44, 180, 0, 123, 77, 167, 255, 209, 42, 182, 0, 43, 153, 0, 9, 42, 16, 41, 182, 0, 64]
abbrev dktX8_condition_3 : List UInt8 := dkwX8_condition_3 ++ dktX8_condition_4
def dkwX8_condition_2 : List UInt8 := [89, 180, 0, 26, 4, 96, 181, 0, 26, 44, 187, 0, 118, 89, 42, 182, 0, 126, 4, 183, 0, 120]
abbrev dktX8_condition_2 : List UInt8 := dkwX8_condition_2 ++ dktX8_condition_3
def dkwX8_condition_1 : List UInt8 := [167, 0, 4, 1, 76, 43, 77, 42, 182, 0, 43, 153, 0, 46, 42, 182, 0, 39, 16, 124, 160, 0, 37, 42]
abbrev dktX8_condition_1 : List UInt8 := dkwX8_condition_1 ++ dktX8_condition_2
def dkwX8_condition_0 : List UInt8 := [42, 182, 0, 57, 42, 182, 0, 43, 153, 0, 18, 187, 0, 118, 89, 42, 182, 0, 126, 4, 183, 0, 120]
abbrev dktX8_condition_0 : List UInt8 := dkwX8_condition_0 ++ dktX8_condition_1
theorem dksX8_condition_0 : cX8_condition.data.toList.drop 0 = dktX8_condition_0 := by decide +kernel
theorem dksX8_condition_1 : cX8_condition.data.toList.drop 23 = dktX8_condition_1 := dk_seg dksX8_condition_0 23 rfl rfl
theorem dksX8_condition_2 : cX8_condition.data.toList.drop 47 = dktX8_condition_2 := dk_seg dksX8_condition_1 24 rfl rfl
theorem dksX8_condition_3 : cX8_condition.data.toList.drop 69 = dktX8_condition_3 := dk_seg dksX8_condition_2 22 rfl rfl
theorem dksX8_condition_4 : cX8_condition.data.toList.drop 93 = dktX8_condition_4 := dk_seg dksX8_condition_3 24 rfl rfl
theorem dX8_condition_0 : decode cX8_condition 0 = .ok (.aload_n 0, 1) := dk_42 (dk_at dksX8_condition_0 0 rfl rfl)
theorem dX8_condition_1 : decode cX8_condition 1 = .ok (.invokevirtual 57, 3) := dk_182 0 57 (dk_at dksX8_condition_0 1 rfl rfl)
theorem dX8_condition_4 : decode cX8_condition 4 = .ok (.aload_n 0, 1) := dk_42 (dk_at dksX8_condition_0 4 rfl rfl)
theorem dX8_condition_5 : decode cX8_condition 5 = .ok (.invokevirtual 43, 3) := dk_182 0 43 (dk_at dksX8_condition_0 5 rfl rfl)
theorem dX8_condition_8 : decode cX8_condition 8 = .ok (.ifCond .eq 18, 3) := dk_153 0 18 (dk_at dksX8_condition_0 8 rfl rfl)
theorem dX8_condition_11 : decode cX8_condition 11 = .ok (.new 118, 3) := dk_187 0 118 (dk_at dksX8_condition_0 11 rfl rfl)
theorem dX8_condition_14 : decode cX8_condition 14 = .ok (.dup, 1) := dk_89 (dk_at dksX8_condition_0 14 rfl rfl)
theorem dX8_condition_15 : decode cX8_condition 15 = .ok (.aload_n 0, 1) := dk_42 (dk_at dksX8_condition_0 15 rfl rfl)
theorem dX8_condition_16 : decode cX8_condition 16 = .ok (.invokevirtual 126, 3) := dk_182 0 126 (dk_at dksX8_condition_0 16 rfl rfl)
theorem dX8_condition_19 : decode cX8_condition 19 = .ok (.iconst 1, 1) := dk_4 (dk_at dksX8_condition_0 19 rfl rfl)
theorem dX8_condition_20 : decode cX8_condition 20 = .ok (.invokespecial 120, 3) := dk_183 0 120 (dk_at dksX8_condition_0 20 rfl rfl)
theorem dX8_condition_23 : decode cX8_condition 23 = .ok (.goto 4, 3) := dk_167 0 4 (dk_at dksX8_condition_1 0 rfl rfl)
theorem dX8_condition_26 : decode cX8_condition 26 = .ok (.aconst_null, 1) := dk_1 (dk_at dksX8_condition_1 3 rfl rfl)
theorem dX8_condition_27 : decode cX8_condition 27 = .ok (.astore_n 1, 1) := dk_76 (dk_at dksX8_condition_1 4 rfl rfl)
theorem dX8_condition_28 : decode cX8_condition 28 = .ok (.aload_n 1, 1) := dk_43 (dk_at dksX8_condition_1 5 rfl rfl)
theorem dX8_condition_29 : decode cX8_condition 29 = .ok (.astore_n 2, 1) := dk_77 (dk_at dksX8_condition_1 6 rfl rfl)
theorem dX8_condition_30 : decode cX8_condition 30 = .ok (.aload_n 0, 1) := dk_42 (dk_at dksX8_condition_1 7 rfl rfl)
theorem dX8_condition_31 : decode cX8_condition 31 = .ok (.invokevirtual 43, 3) := dk_182 0 43 (dk_at dksX8_condition_1 8 rfl rfl)
theorem dX8_condition_34 : decode cX8_condition 34 = .ok (.ifCond .eq 46, 3) := dk_153 0 46 (dk_at dksX8_condition_1 11 rfl rfl)
theorem dX8_condition_37 : decode cX8_condition 37 = .ok (.aload_n 0, 1) := dk_42 (dk_at dksX8_condition_1 14 rfl rfl)
theorem dX8_condition_38 : decode cX8_condition 38 = .ok (.invokevirtual 39, 3) := dk_182 0 39 (dk_at dksX8_condition_1 15 rfl rfl)
theorem dX8_condition_41 : decode cX8_condition 41 = .ok (.bipush 124, 2) := dk_16 124 (dk_at dksX8_condition_1 18 rfl rfl)
theorem dX8_condition_43 : decode cX8_condition 43 = .ok (.if_icmp .ne 37, 3) := dk_160 0 37 (dk_at dksX8_condition_1 20 rfl rfl)
theorem dX8_condition_46 : decode cX8_condition 46 = .ok (.aload_n 0, 1) := dk_42 (dk_at dksX8_condition_1 23 rfl rfl)
theorem dX8_condition_47 : decode cX8_condition 47 = .ok (.dup, 1) := dk_89 (dk_at dksX8_condition_2 0 rfl rfl)
theorem dX8_condition_48 : decode cX8_condition 48 = .ok (.getfield 26, 3) := dk_180 0 26 (dk_at dksX8_condition_2 1 rfl rfl)
theorem dX8_condition_51 : decode cX8_condition 51 = .ok (.iconst 1, 1) := dk_4 (dk_at dksX8_condition_2 4 rfl rfl)
theorem dX8_condition_52 : decode cX8_condition 52 = .ok (.iadd, 1) := dk_96 (dk_at dksX8_condition_2 5 rfl rfl)
theorem dX8_condition_53 : decode cX8_condition 53 = .ok (.putfield 26, 3) := dk_181 0 26 (dk_at dksX8_condition_2 6 rfl rfl)
theorem dX8_condition_56 : decode cX8_condition 56 = .ok (.aload_n 2, 1) := dk_44 (dk_at dksX8_condition_2 9 rfl rfl)
theorem dX8_condition_57 : decode cX8_condition 57 = .ok (.new 118, 3) := dk_187 0 118 (dk_at dksX8_condition_2 10 rfl rfl)
theorem dX8_condition_60 : decode cX8_condition 60 = .ok (.dup, 1) := dk_89 (dk_at dksX8_condition_2 13 rfl rfl)
theorem dX8_condition_61 : decode cX8_condition 61 = .ok (.aload_n 0, 1) := dk_42 (dk_at dksX8_condition_2 14 rfl rfl)
theorem dX8_condition_62 : decode cX8_condition 62 = .ok (.invokevirtual 126, 3) := dk_182 0 126 (dk_at dksX8_condition_2 15 rfl rfl)
theorem dX8_condition_65 : decode cX8_condition 65 = .ok (.iconst 1, 1) := dk_4 (dk_at dksX8_condition_2 18 rfl rfl)
theorem dX8_condition_66 : decode cX8_condition 66 = .ok (.invokespecial 120, 3) := dk_183 0 120 (dk_at dksX8_condition_2 19 rfl rfl)
theorem dX8_condition_69 : decode cX8_condition 69 = .ok (.putfield 123, 3) := dk_181 0 123 (dk_at dksX8_condition_3 0 rfl rfl)
theorem dX8_condition_72 : decode cX8_condition 72 = .ok (.aload_n 2, 1) := dk_44 (dk_at dksX8_condition_3 3 rfl rfl)
theorem dX8_condition_73 : decode cX8_condition 73 = .ok (.getfield 123, 3) := dk_180 0 123 (dk_at dksX8_condition_3 4 rfl rfl)
theorem dX8_condition_76 : decode cX8_condition 76 = .ok (.astore_n 2, 1) := dk_77 (dk_at dksX8_condition_3 7 rfl rfl)
theorem dX8_condition_77 : decode cX8_condition 77 = .ok (.goto (-47), 3) := dk_167 255 209 (dk_at dksX8_condition_3 8 rfl rfl)
theorem dX8_condition_80 : decode cX8_condition 80 = .ok (.aload_n 0, 1) := dk_42 (dk_at dksX8_condition_3 11 rfl rfl)
theorem dX8_condition_81 : decode cX8_condition 81 = .ok (.invokevirtual 43, 3) := dk_182 0 43 (dk_at dksX8_condition_3 12 rfl rfl)
theorem dX8_condition_84 : decode cX8_condition 84 = .ok (.ifCond .eq 9, 3) := dk_153 0 9 (dk_at dksX8_condition_3 15 rfl rfl)
theorem dX8_condition_87 : decode cX8_condition 87 = .ok (.aload_n 0, 1) := dk_42 (dk_at dksX8_condition_3 18 rfl rfl)
theorem dX8_condition_88 : decode cX8_condition 88 = .ok (.bipush 41, 2) := dk_16 41 (dk_at dksX8_condition_3 19 rfl rfl)
theorem dX8_condition_90 : decode cX8_condition 90 = .ok (.invokevirtual 64, 3) := dk_182 0 64 (dk_at dksX8_condition_3 21 rfl rfl)
theorem dX8_condition_93 : decode cX8_condition 93 = .ok (.aload_n 0, 1) := dk_42 (dk_at dksX8_condition_4 0 rfl rfl)
theorem dX8_condition_94 : decode cX8_condition 94 = .ok (.dup, 1) := dk_89 (dk_at dksX8_condition_4 1 rfl rfl)
theorem dX8_condition_95 : decode cX8_condition 95 = .ok (.getfield 54, 3) := dk_180 0 54 (dk_at dksX8_condition_4 2 rfl rfl)
theorem dX8_condition_98 : decode cX8_condition 98 = .ok (.iconst 1, 1) := dk_4 (dk_at dksX8_condition_4 5 rfl rfl)
theorem dX8_condition_99 : decode cX8_condition 99 = .ok (.isub, 1) := dk_100 (dk_at dksX8_condition_4 6 rfl rfl)
theorem dX8_condition_100 : decode cX8_condition 100 = .ok (.putfield 54, 3) := dk_181 0 54 (dk_at dksX8_condition_4 7 rfl rfl)
theorem dX8_condition_103 : decode cX8_condition 103 = .ok (.aload_n 1, 1) := dk_43 (dk_at dksX8_condition_4 10 rfl rfl)
theorem dX8_condition_104 : decode cX8_condition 104 = .ok (.areturn, 1) := dk_176 (dk_at dksX8_condition_4 11 rfl rfl)
abbrev cX8_pieces : ByteArray := prog_14_method_13_code
def yX8_pieces : MethodName := ⟨RX8, "pieces", "()LPuzzleWed$Condition;"⟩
def dkwX8_pieces_2 : List UInt8 := [182, 0, 101, 3, 183, 0, 120, 181, 0, 123, 44, 180, 0, 123, 77, 167, 255, 209, 43, 176]
abbrev dktX8_pieces_2 : List UInt8 := dkwX8_pieces_2 ++ []
def dkwX8_pieces_1 : List UInt8 := [182, 0, 39, 16, 38, 160, 0, 37, 42, 89, 180, 0, 26, 4, 96, 181, 0, 26, 44, 187, 0, 118, 89, 42]
abbrev dktX8_pieces_1 : List UInt8 := dkwX8_pieces_1 ++ dktX8_pieces_2
def dkwX8_pieces_0 : List UInt8 := [187, 0, 118, 89, 42, 182, 0, 101, 3, 183, 0, 120, 76, 43, 77, 42, 182, 0, 43, 153, 0, 46, 42]
abbrev dktX8_pieces_0 : List UInt8 := dkwX8_pieces_0 ++ dktX8_pieces_1
theorem dksX8_pieces_0 : cX8_pieces.data.toList.drop 0 = dktX8_pieces_0 := by decide +kernel
theorem dksX8_pieces_1 : cX8_pieces.data.toList.drop 23 = dktX8_pieces_1 := dk_seg dksX8_pieces_0 23 rfl rfl
theorem dksX8_pieces_2 : cX8_pieces.data.toList.drop 47 = dktX8_pieces_2 := dk_seg dksX8_pieces_1 24 rfl rfl
theorem dX8_pieces_0 : decode cX8_pieces 0 = .ok (.new 118, 3) := dk_187 0 118 (dk_at dksX8_pieces_0 0 rfl rfl)
theorem dX8_pieces_3 : decode cX8_pieces 3 = .ok (.dup, 1) := dk_89 (dk_at dksX8_pieces_0 3 rfl rfl)
theorem dX8_pieces_4 : decode cX8_pieces 4 = .ok (.aload_n 0, 1) := dk_42 (dk_at dksX8_pieces_0 4 rfl rfl)
theorem dX8_pieces_5 : decode cX8_pieces 5 = .ok (.invokevirtual 101, 3) := dk_182 0 101 (dk_at dksX8_pieces_0 5 rfl rfl)
theorem dX8_pieces_8 : decode cX8_pieces 8 = .ok (.iconst 0, 1) := dk_3 (dk_at dksX8_pieces_0 8 rfl rfl)
theorem dX8_pieces_9 : decode cX8_pieces 9 = .ok (.invokespecial 120, 3) := dk_183 0 120 (dk_at dksX8_pieces_0 9 rfl rfl)
theorem dX8_pieces_12 : decode cX8_pieces 12 = .ok (.astore_n 1, 1) := dk_76 (dk_at dksX8_pieces_0 12 rfl rfl)
theorem dX8_pieces_13 : decode cX8_pieces 13 = .ok (.aload_n 1, 1) := dk_43 (dk_at dksX8_pieces_0 13 rfl rfl)
theorem dX8_pieces_14 : decode cX8_pieces 14 = .ok (.astore_n 2, 1) := dk_77 (dk_at dksX8_pieces_0 14 rfl rfl)
theorem dX8_pieces_15 : decode cX8_pieces 15 = .ok (.aload_n 0, 1) := dk_42 (dk_at dksX8_pieces_0 15 rfl rfl)
theorem dX8_pieces_16 : decode cX8_pieces 16 = .ok (.invokevirtual 43, 3) := dk_182 0 43 (dk_at dksX8_pieces_0 16 rfl rfl)
theorem dX8_pieces_19 : decode cX8_pieces 19 = .ok (.ifCond .eq 46, 3) := dk_153 0 46 (dk_at dksX8_pieces_0 19 rfl rfl)
theorem dX8_pieces_22 : decode cX8_pieces 22 = .ok (.aload_n 0, 1) := dk_42 (dk_at dksX8_pieces_0 22 rfl rfl)
theorem dX8_pieces_23 : decode cX8_pieces 23 = .ok (.invokevirtual 39, 3) := dk_182 0 39 (dk_at dksX8_pieces_1 0 rfl rfl)
theorem dX8_pieces_26 : decode cX8_pieces 26 = .ok (.bipush 38, 2) := dk_16 38 (dk_at dksX8_pieces_1 3 rfl rfl)
theorem dX8_pieces_28 : decode cX8_pieces 28 = .ok (.if_icmp .ne 37, 3) := dk_160 0 37 (dk_at dksX8_pieces_1 5 rfl rfl)
theorem dX8_pieces_31 : decode cX8_pieces 31 = .ok (.aload_n 0, 1) := dk_42 (dk_at dksX8_pieces_1 8 rfl rfl)
theorem dX8_pieces_32 : decode cX8_pieces 32 = .ok (.dup, 1) := dk_89 (dk_at dksX8_pieces_1 9 rfl rfl)
theorem dX8_pieces_33 : decode cX8_pieces 33 = .ok (.getfield 26, 3) := dk_180 0 26 (dk_at dksX8_pieces_1 10 rfl rfl)
theorem dX8_pieces_36 : decode cX8_pieces 36 = .ok (.iconst 1, 1) := dk_4 (dk_at dksX8_pieces_1 13 rfl rfl)
theorem dX8_pieces_37 : decode cX8_pieces 37 = .ok (.iadd, 1) := dk_96 (dk_at dksX8_pieces_1 14 rfl rfl)
theorem dX8_pieces_38 : decode cX8_pieces 38 = .ok (.putfield 26, 3) := dk_181 0 26 (dk_at dksX8_pieces_1 15 rfl rfl)
theorem dX8_pieces_41 : decode cX8_pieces 41 = .ok (.aload_n 2, 1) := dk_44 (dk_at dksX8_pieces_1 18 rfl rfl)
theorem dX8_pieces_42 : decode cX8_pieces 42 = .ok (.new 118, 3) := dk_187 0 118 (dk_at dksX8_pieces_1 19 rfl rfl)
theorem dX8_pieces_45 : decode cX8_pieces 45 = .ok (.dup, 1) := dk_89 (dk_at dksX8_pieces_1 22 rfl rfl)
theorem dX8_pieces_46 : decode cX8_pieces 46 = .ok (.aload_n 0, 1) := dk_42 (dk_at dksX8_pieces_1 23 rfl rfl)
theorem dX8_pieces_47 : decode cX8_pieces 47 = .ok (.invokevirtual 101, 3) := dk_182 0 101 (dk_at dksX8_pieces_2 0 rfl rfl)
theorem dX8_pieces_50 : decode cX8_pieces 50 = .ok (.iconst 0, 1) := dk_3 (dk_at dksX8_pieces_2 3 rfl rfl)
theorem dX8_pieces_51 : decode cX8_pieces 51 = .ok (.invokespecial 120, 3) := dk_183 0 120 (dk_at dksX8_pieces_2 4 rfl rfl)
theorem dX8_pieces_54 : decode cX8_pieces 54 = .ok (.putfield 123, 3) := dk_181 0 123 (dk_at dksX8_pieces_2 7 rfl rfl)
theorem dX8_pieces_57 : decode cX8_pieces 57 = .ok (.aload_n 2, 1) := dk_44 (dk_at dksX8_pieces_2 10 rfl rfl)
theorem dX8_pieces_58 : decode cX8_pieces 58 = .ok (.getfield 123, 3) := dk_180 0 123 (dk_at dksX8_pieces_2 11 rfl rfl)
theorem dX8_pieces_61 : decode cX8_pieces 61 = .ok (.astore_n 2, 1) := dk_77 (dk_at dksX8_pieces_2 14 rfl rfl)
theorem dX8_pieces_62 : decode cX8_pieces 62 = .ok (.goto (-47), 3) := dk_167 255 209 (dk_at dksX8_pieces_2 15 rfl rfl)
theorem dX8_pieces_65 : decode cX8_pieces 65 = .ok (.aload_n 1, 1) := dk_43 (dk_at dksX8_pieces_2 18 rfl rfl)
theorem dX8_pieces_66 : decode cX8_pieces 66 = .ok (.areturn, 1) := dk_176 (dk_at dksX8_pieces_2 19 rfl rfl)
abbrev cX8_piece : ByteArray := prog_14_method_12_code
def yX8_piece : MethodName := ⟨RX8, "piece", "()LPuzzleWed$Condition;"⟩
def dkwX8_piece_5 : List UInt8 := [182, 0, 43, 153, 0, 10, 42, 182, 0, 60, 167, 0, 4, 1, 183, 0, 115, 176]
abbrev dktX8_piece_5 : List UInt8 := dkwX8_piece_5 ++ []
def dkwX8_piece_4 : List UInt8 := [180, 0, 26, 182, 0, 50, 42, 89, 180, 0, 26, 4, 96, 181, 0, 26, 187, 0, 113, 89, 44, 29, 42]
abbrev dktX8_piece_4 : List UInt8 := dkwX8_piece_4 ++ dktX8_piece_5
def dkwX8_piece_3 : List UInt8 := [62, 29, 16, 60, 159, 0, 24, 29, 16, 62, 159, 0, 18, 29, 16, 61, 159, 0, 12, 42, 4, 42]
abbrev dktX8_piece_3 : List UInt8 := dkwX8_piece_3 ++ dktX8_piece_4
def dkwX8_piece_2 : List UInt8 := [183, 0, 107, 176, 27, 16, 40, 160, 0, 8, 42, 182, 0, 110, 176, 42, 182, 0, 60, 77, 42, 182, 0, 39]
abbrev dktX8_piece_2 : List UInt8 := dkwX8_piece_2 ++ dktX8_piece_3
def dkwX8_piece_1 : List UInt8 := [182, 0, 101, 167, 0, 4, 1, 77, 42, 89, 180, 0, 54, 4, 100, 181, 0, 54, 187, 0, 105, 89, 44]
abbrev dktX8_piece_1 : List UInt8 := dkwX8_piece_1 ++ dktX8_piece_2
def dkwX8_piece_0 : List UInt8 := [42, 182, 0, 39, 60, 27, 16, 33, 160, 0, 42, 42, 182, 0, 57, 42, 182, 0, 43, 153, 0, 10, 42]
abbrev dktX8_piece_0 : List UInt8 := dkwX8_piece_0 ++ dktX8_piece_1
theorem dksX8_piece_0 : cX8_piece.data.toList.drop 0 = dktX8_piece_0 := by decide +kernel
theorem dksX8_piece_1 : cX8_piece.data.toList.drop 23 = dktX8_piece_1 := dk_seg dksX8_piece_0 23 rfl rfl
theorem dksX8_piece_2 : cX8_piece.data.toList.drop 46 = dktX8_piece_2 := dk_seg dksX8_piece_1 23 rfl rfl
theorem dksX8_piece_3 : cX8_piece.data.toList.drop 70 = dktX8_piece_3 := dk_seg dksX8_piece_2 24 rfl rfl
theorem dksX8_piece_4 : cX8_piece.data.toList.drop 92 = dktX8_piece_4 := dk_seg dksX8_piece_3 22 rfl rfl
theorem dksX8_piece_5 : cX8_piece.data.toList.drop 115 = dktX8_piece_5 := dk_seg dksX8_piece_4 23 rfl rfl
theorem dX8_piece_0 : decode cX8_piece 0 = .ok (.aload_n 0, 1) := dk_42 (dk_at dksX8_piece_0 0 rfl rfl)
theorem dX8_piece_1 : decode cX8_piece 1 = .ok (.invokevirtual 39, 3) := dk_182 0 39 (dk_at dksX8_piece_0 1 rfl rfl)
theorem dX8_piece_4 : decode cX8_piece 4 = .ok (.istore_n 1, 1) := dk_60 (dk_at dksX8_piece_0 4 rfl rfl)
theorem dX8_piece_5 : decode cX8_piece 5 = .ok (.iload_n 1, 1) := dk_27 (dk_at dksX8_piece_0 5 rfl rfl)
theorem dX8_piece_6 : decode cX8_piece 6 = .ok (.bipush 33, 2) := dk_16 33 (dk_at dksX8_piece_0 6 rfl rfl)
theorem dX8_piece_8 : decode cX8_piece 8 = .ok (.if_icmp .ne 42, 3) := dk_160 0 42 (dk_at dksX8_piece_0 8 rfl rfl)
theorem dX8_piece_11 : decode cX8_piece 11 = .ok (.aload_n 0, 1) := dk_42 (dk_at dksX8_piece_0 11 rfl rfl)
theorem dX8_piece_12 : decode cX8_piece 12 = .ok (.invokevirtual 57, 3) := dk_182 0 57 (dk_at dksX8_piece_0 12 rfl rfl)
theorem dX8_piece_15 : decode cX8_piece 15 = .ok (.aload_n 0, 1) := dk_42 (dk_at dksX8_piece_0 15 rfl rfl)
theorem dX8_piece_16 : decode cX8_piece 16 = .ok (.invokevirtual 43, 3) := dk_182 0 43 (dk_at dksX8_piece_0 16 rfl rfl)
theorem dX8_piece_19 : decode cX8_piece 19 = .ok (.ifCond .eq 10, 3) := dk_153 0 10 (dk_at dksX8_piece_0 19 rfl rfl)
theorem dX8_piece_22 : decode cX8_piece 22 = .ok (.aload_n 0, 1) := dk_42 (dk_at dksX8_piece_0 22 rfl rfl)
theorem dX8_piece_23 : decode cX8_piece 23 = .ok (.invokevirtual 101, 3) := dk_182 0 101 (dk_at dksX8_piece_1 0 rfl rfl)
theorem dX8_piece_26 : decode cX8_piece 26 = .ok (.goto 4, 3) := dk_167 0 4 (dk_at dksX8_piece_1 3 rfl rfl)
theorem dX8_piece_29 : decode cX8_piece 29 = .ok (.aconst_null, 1) := dk_1 (dk_at dksX8_piece_1 6 rfl rfl)
theorem dX8_piece_30 : decode cX8_piece 30 = .ok (.astore_n 2, 1) := dk_77 (dk_at dksX8_piece_1 7 rfl rfl)
theorem dX8_piece_31 : decode cX8_piece 31 = .ok (.aload_n 0, 1) := dk_42 (dk_at dksX8_piece_1 8 rfl rfl)
theorem dX8_piece_32 : decode cX8_piece 32 = .ok (.dup, 1) := dk_89 (dk_at dksX8_piece_1 9 rfl rfl)
theorem dX8_piece_33 : decode cX8_piece 33 = .ok (.getfield 54, 3) := dk_180 0 54 (dk_at dksX8_piece_1 10 rfl rfl)
theorem dX8_piece_36 : decode cX8_piece 36 = .ok (.iconst 1, 1) := dk_4 (dk_at dksX8_piece_1 13 rfl rfl)
theorem dX8_piece_37 : decode cX8_piece 37 = .ok (.isub, 1) := dk_100 (dk_at dksX8_piece_1 14 rfl rfl)
theorem dX8_piece_38 : decode cX8_piece 38 = .ok (.putfield 54, 3) := dk_181 0 54 (dk_at dksX8_piece_1 15 rfl rfl)
theorem dX8_piece_41 : decode cX8_piece 41 = .ok (.new 105, 3) := dk_187 0 105 (dk_at dksX8_piece_1 18 rfl rfl)
theorem dX8_piece_44 : decode cX8_piece 44 = .ok (.dup, 1) := dk_89 (dk_at dksX8_piece_1 21 rfl rfl)
theorem dX8_piece_45 : decode cX8_piece 45 = .ok (.aload_n 2, 1) := dk_44 (dk_at dksX8_piece_1 22 rfl rfl)
theorem dX8_piece_46 : decode cX8_piece 46 = .ok (.invokespecial 107, 3) := dk_183 0 107 (dk_at dksX8_piece_2 0 rfl rfl)
theorem dX8_piece_49 : decode cX8_piece 49 = .ok (.areturn, 1) := dk_176 (dk_at dksX8_piece_2 3 rfl rfl)
theorem dX8_piece_50 : decode cX8_piece 50 = .ok (.iload_n 1, 1) := dk_27 (dk_at dksX8_piece_2 4 rfl rfl)
theorem dX8_piece_51 : decode cX8_piece 51 = .ok (.bipush 40, 2) := dk_16 40 (dk_at dksX8_piece_2 5 rfl rfl)
theorem dX8_piece_53 : decode cX8_piece 53 = .ok (.if_icmp .ne 8, 3) := dk_160 0 8 (dk_at dksX8_piece_2 7 rfl rfl)
theorem dX8_piece_56 : decode cX8_piece 56 = .ok (.aload_n 0, 1) := dk_42 (dk_at dksX8_piece_2 10 rfl rfl)
theorem dX8_piece_57 : decode cX8_piece 57 = .ok (.invokevirtual 110, 3) := dk_182 0 110 (dk_at dksX8_piece_2 11 rfl rfl)
theorem dX8_piece_60 : decode cX8_piece 60 = .ok (.areturn, 1) := dk_176 (dk_at dksX8_piece_2 14 rfl rfl)
theorem dX8_piece_61 : decode cX8_piece 61 = .ok (.aload_n 0, 1) := dk_42 (dk_at dksX8_piece_2 15 rfl rfl)
theorem dX8_piece_62 : decode cX8_piece 62 = .ok (.invokevirtual 60, 3) := dk_182 0 60 (dk_at dksX8_piece_2 16 rfl rfl)
theorem dX8_piece_65 : decode cX8_piece 65 = .ok (.astore_n 2, 1) := dk_77 (dk_at dksX8_piece_2 19 rfl rfl)
theorem dX8_piece_66 : decode cX8_piece 66 = .ok (.aload_n 0, 1) := dk_42 (dk_at dksX8_piece_2 20 rfl rfl)
theorem dX8_piece_67 : decode cX8_piece 67 = .ok (.invokevirtual 39, 3) := dk_182 0 39 (dk_at dksX8_piece_2 21 rfl rfl)
theorem dX8_piece_70 : decode cX8_piece 70 = .ok (.istore_n 3, 1) := dk_62 (dk_at dksX8_piece_3 0 rfl rfl)
theorem dX8_piece_71 : decode cX8_piece 71 = .ok (.iload_n 3, 1) := dk_29 (dk_at dksX8_piece_3 1 rfl rfl)
theorem dX8_piece_72 : decode cX8_piece 72 = .ok (.bipush 60, 2) := dk_16 60 (dk_at dksX8_piece_3 2 rfl rfl)
theorem dX8_piece_74 : decode cX8_piece 74 = .ok (.if_icmp .eq 24, 3) := dk_159 0 24 (dk_at dksX8_piece_3 4 rfl rfl)
theorem dX8_piece_77 : decode cX8_piece 77 = .ok (.iload_n 3, 1) := dk_29 (dk_at dksX8_piece_3 7 rfl rfl)
theorem dX8_piece_78 : decode cX8_piece 78 = .ok (.bipush 62, 2) := dk_16 62 (dk_at dksX8_piece_3 8 rfl rfl)
theorem dX8_piece_80 : decode cX8_piece 80 = .ok (.if_icmp .eq 18, 3) := dk_159 0 18 (dk_at dksX8_piece_3 10 rfl rfl)
theorem dX8_piece_83 : decode cX8_piece 83 = .ok (.iload_n 3, 1) := dk_29 (dk_at dksX8_piece_3 13 rfl rfl)
theorem dX8_piece_84 : decode cX8_piece 84 = .ok (.bipush 61, 2) := dk_16 61 (dk_at dksX8_piece_3 14 rfl rfl)
theorem dX8_piece_86 : decode cX8_piece 86 = .ok (.if_icmp .eq 12, 3) := dk_159 0 12 (dk_at dksX8_piece_3 16 rfl rfl)
theorem dX8_piece_89 : decode cX8_piece 89 = .ok (.aload_n 0, 1) := dk_42 (dk_at dksX8_piece_3 19 rfl rfl)
theorem dX8_piece_90 : decode cX8_piece 90 = .ok (.iconst 1, 1) := dk_4 (dk_at dksX8_piece_3 20 rfl rfl)
theorem dX8_piece_91 : decode cX8_piece 91 = .ok (.aload_n 0, 1) := dk_42 (dk_at dksX8_piece_3 21 rfl rfl)
theorem dX8_piece_92 : decode cX8_piece 92 = .ok (.getfield 26, 3) := dk_180 0 26 (dk_at dksX8_piece_4 0 rfl rfl)
theorem dX8_piece_95 : decode cX8_piece 95 = .ok (.invokevirtual 50, 3) := dk_182 0 50 (dk_at dksX8_piece_4 3 rfl rfl)
theorem dX8_piece_98 : decode cX8_piece 98 = .ok (.aload_n 0, 1) := dk_42 (dk_at dksX8_piece_4 6 rfl rfl)
theorem dX8_piece_99 : decode cX8_piece 99 = .ok (.dup, 1) := dk_89 (dk_at dksX8_piece_4 7 rfl rfl)
theorem dX8_piece_100 : decode cX8_piece 100 = .ok (.getfield 26, 3) := dk_180 0 26 (dk_at dksX8_piece_4 8 rfl rfl)
theorem dX8_piece_103 : decode cX8_piece 103 = .ok (.iconst 1, 1) := dk_4 (dk_at dksX8_piece_4 11 rfl rfl)
theorem dX8_piece_104 : decode cX8_piece 104 = .ok (.iadd, 1) := dk_96 (dk_at dksX8_piece_4 12 rfl rfl)
theorem dX8_piece_105 : decode cX8_piece 105 = .ok (.putfield 26, 3) := dk_181 0 26 (dk_at dksX8_piece_4 13 rfl rfl)
theorem dX8_piece_108 : decode cX8_piece 108 = .ok (.new 113, 3) := dk_187 0 113 (dk_at dksX8_piece_4 16 rfl rfl)
theorem dX8_piece_111 : decode cX8_piece 111 = .ok (.dup, 1) := dk_89 (dk_at dksX8_piece_4 19 rfl rfl)
theorem dX8_piece_112 : decode cX8_piece 112 = .ok (.aload_n 2, 1) := dk_44 (dk_at dksX8_piece_4 20 rfl rfl)
theorem dX8_piece_113 : decode cX8_piece 113 = .ok (.iload_n 3, 1) := dk_29 (dk_at dksX8_piece_4 21 rfl rfl)
theorem dX8_piece_114 : decode cX8_piece 114 = .ok (.aload_n 0, 1) := dk_42 (dk_at dksX8_piece_4 22 rfl rfl)
theorem dX8_piece_115 : decode cX8_piece 115 = .ok (.invokevirtual 43, 3) := dk_182 0 43 (dk_at dksX8_piece_5 0 rfl rfl)
theorem dX8_piece_118 : decode cX8_piece 118 = .ok (.ifCond .eq 10, 3) := dk_153 0 10 (dk_at dksX8_piece_5 3 rfl rfl)
theorem dX8_piece_121 : decode cX8_piece 121 = .ok (.aload_n 0, 1) := dk_42 (dk_at dksX8_piece_5 6 rfl rfl)
theorem dX8_piece_122 : decode cX8_piece 122 = .ok (.invokevirtual 60, 3) := dk_182 0 60 (dk_at dksX8_piece_5 7 rfl rfl)
theorem dX8_piece_125 : decode cX8_piece 125 = .ok (.goto 4, 3) := dk_167 0 4 (dk_at dksX8_piece_5 10 rfl rfl)
theorem dX8_piece_128 : decode cX8_piece 128 = .ok (.aconst_null, 1) := dk_1 (dk_at dksX8_piece_5 13 rfl rfl)
theorem dX8_piece_129 : decode cX8_piece 129 = .ok (.invokespecial 115, 3) := dk_183 0 115 (dk_at dksX8_piece_5 14 rfl rfl)
theorem dX8_piece_132 : decode cX8_piece 132 = .ok (.areturn, 1) := dk_176 (dk_at dksX8_piece_5 17 rfl rfl)
theorem q116 : (Jvm.Cond.initialized "PuzzleWed$Reader") ∈ lw_all := lw_g (lw_at lw_m1 9 rfl) rfl
theorem q306 : (Jvm.Cond.fieldLinkNest "PuzzleWed$Reader" (134 : Nat) "PuzzleWed$Text" "letters" "[I" "PuzzleWed") ∈ lw_tbl := lw_at lw_m1 199 rfl
theorem q308 : (Jvm.Cond.fieldLinkNest "PuzzleWed$Reader" (138 : Nat) "PuzzleWed$Text" "sums" "[LPuzzleWed$Sum;" "PuzzleWed") ∈ lw_tbl := lw_at lw_m1 201 rfl
theorem q310 : (Jvm.Cond.fieldLinkNest "PuzzleWed$Reader" (142 : Nat) "PuzzleWed$Text" "conditions" "[LPuzzleWed$Condition;" "PuzzleWed") ∈ lw_tbl := lw_at lw_m1 203 rfl
theorem q312 : (Jvm.Cond.fieldLinkNest "PuzzleWed$Reader" (131 : Nat) "PuzzleWed$Text" "many" "I" "PuzzleWed") ∈ lw_tbl := lw_at lw_m1 205 rfl
theorem q335 : (Jvm.Cond.fieldLinkNest "PuzzleWed$Reader" (29 : Nat) "PuzzleWed" "tape" "[B" "PuzzleWed") ∈ lw_tbl := lw_at lw_m1 228 rfl
theorem q453 : (Jvm.Cond.instantiable "PuzzleWed$Reader" (7 : Nat)) ∈ lw_all := lw_g (lw_at lw_m2 106 rfl) rfl
theorem q455 : (Jvm.Cond.instanceMethod ({ cls := "PuzzleWed$Reader", name := "<init>", desc := "(LPuzzleWed;I)V" } : Jvm.MethodName)) ∈ lw_all := lw_g (lw_at lw_m2 108 rfl) rfl
theorem q456 : (Jvm.Cond.code ({ cls := "PuzzleWed$Reader", name := "<init>", desc := "(LPuzzleWed;I)V" } : Jvm.MethodName) prog_14_method_1_code (3 : Nat) (Option.none : Option Jvm.ClassFile.FieldType)) ∈ lw_all := lw_g (lw_at lw_m2 109 rfl) rfl
theorem q457 : (Jvm.Cond.methodLink "PuzzleWed$Reader" (9 : Nat) ({ cls := "java/lang/Object", name := "<init>", desc := "()V" } : Jvm.MethodName)) ∈ lw_all := lw_g (lw_at lw_m2 110 rfl) rfl
theorem q458 : (Jvm.Cond.classLink "PuzzleWed$Reader" (15 : Nat) "PuzzleWed$Text") ∈ lw_all := lw_g (lw_at lw_m2 111 rfl) rfl
theorem q459 : (Jvm.Cond.methodLinkNest "PuzzleWed$Reader" (17 : Nat) ({ cls := "PuzzleWed$Text", name := "<init>", desc := "()V" } : Jvm.MethodName) "PuzzleWed") ∈ lw_tbl := lw_at lw_m2 112 rfl
theorem q460 : (Jvm.Cond.fieldLink "PuzzleWed$Reader" (22 : Nat) "PuzzleWed$Reader" "n" "I") ∈ lw_all := lw_g (lw_at lw_m2 113 rfl) rfl
theorem q461 : (Jvm.Cond.fieldLink "PuzzleWed$Reader" (18 : Nat) "PuzzleWed$Reader" "text" "LPuzzleWed$Text;") ∈ lw_all := lw_g (lw_at lw_m2 114 rfl) rfl
theorem q463 : (Jvm.Cond.fieldLink "PuzzleWed$Reader" (26 : Nat) "PuzzleWed$Reader" "at" "I") ∈ lw_all := lw_g (lw_at lw_m2 116 rfl) rfl
theorem q464 : (Jvm.Cond.fieldLink "PuzzleWed$Reader" (54 : Nat) "PuzzleWed$Reader" "open" "I") ∈ lw_all := lw_g (lw_at lw_m2 117 rfl) rfl
theorem q465 : (Jvm.Cond.fieldLink "PuzzleWed$Reader" (33 : Nat) "PuzzleWed$Reader" "fault" "I") ∈ lw_all := lw_g (lw_at lw_m2 118 rfl) rfl
theorem q466 : (Jvm.Cond.fieldLink "PuzzleWed$Reader" (36 : Nat) "PuzzleWed$Reader" "place" "I") ∈ lw_all := lw_g (lw_at lw_m2 119 rfl) rfl
theorem q467 : (Jvm.Cond.fieldLink "PuzzleWed$Reader" (3 : Nat) "PuzzleWed$Reader" "this$0" "LPuzzleWed;") ∈ lw_all := lw_g (lw_at lw_m2 120 rfl) rfl
theorem q468 : (Jvm.Cond.laysFinal "PuzzleWed$Reader" "PuzzleWed$Reader" "n" "I") ∈ lw_all := lw_g (lw_at lw_m2 121 rfl) rfl
theorem q469 : (Jvm.Cond.soleField "PuzzleWed$Reader" "n") ∈ lw_all := lw_g (lw_at lw_m2 122 rfl) rfl
theorem q470 : (Jvm.Cond.laysFinal "PuzzleWed$Reader" "PuzzleWed$Reader" "text" "LPuzzleWed$Text;") ∈ lw_all := lw_g (lw_at lw_m2 123 rfl) rfl
theorem q471 : (Jvm.Cond.soleField "PuzzleWed$Reader" "text") ∈ lw_all := lw_g (lw_at lw_m2 124 rfl) rfl
theorem q472 : (Jvm.Cond.lays "PuzzleWed$Reader" "PuzzleWed$Reader" "at" "I") ∈ lw_all := lw_g (lw_at lw_m2 125 rfl) rfl
theorem q473 : (Jvm.Cond.soleField "PuzzleWed$Reader" "at") ∈ lw_all := lw_g (lw_at lw_m2 126 rfl) rfl
theorem q474 : (Jvm.Cond.lays "PuzzleWed$Reader" "PuzzleWed$Reader" "open" "I") ∈ lw_all := lw_g (lw_at lw_m2 127 rfl) rfl
theorem q475 : (Jvm.Cond.soleField "PuzzleWed$Reader" "open") ∈ lw_all := lw_g (lw_at lw_m2 128 rfl) rfl
theorem q476 : (Jvm.Cond.lays "PuzzleWed$Reader" "PuzzleWed$Reader" "fault" "I") ∈ lw_all := lw_g (lw_at lw_m2 129 rfl) rfl
theorem q477 : (Jvm.Cond.soleField "PuzzleWed$Reader" "fault") ∈ lw_all := lw_g (lw_at lw_m2 130 rfl) rfl
theorem q478 : (Jvm.Cond.lays "PuzzleWed$Reader" "PuzzleWed$Reader" "place" "I") ∈ lw_all := lw_g (lw_at lw_m2 131 rfl) rfl
theorem q479 : (Jvm.Cond.soleField "PuzzleWed$Reader" "place") ∈ lw_all := lw_g (lw_at lw_m2 132 rfl) rfl
theorem q480 : (Jvm.Cond.laysFinal "PuzzleWed$Reader" "PuzzleWed$Reader" "this$0" "LPuzzleWed;") ∈ lw_all := lw_g (lw_at lw_m2 133 rfl) rfl
theorem q481 : (Jvm.Cond.soleField "PuzzleWed$Reader" "this$0") ∈ lw_all := lw_g (lw_at lw_m2 134 rfl) rfl
theorem q482 : (Jvm.Cond.superclass "PuzzleWed$Reader" "java/lang/Object") ∈ lw_all := lw_g (lw_at lw_m2 135 rfl) rfl
theorem q484 : (Jvm.Cond.instanceMethod ({ cls := "PuzzleWed$Reader", name := "read", desc := "()I" } : Jvm.MethodName)) ∈ lw_all := lw_g (lw_at lw_m2 137 rfl) rfl
theorem q485 : (Jvm.Cond.selects "PuzzleWed$Reader" ({ cls := "PuzzleWed$Reader", name := "read", desc := "()I" } : Jvm.MethodName) ({ cls := "PuzzleWed$Reader", name := "read", desc := "()I" } : Jvm.MethodName)) ∈ lw_all := lw_g (lw_at lw_m2 138 rfl) rfl
theorem q486 : (Jvm.Cond.code ({ cls := "PuzzleWed$Reader", name := "read", desc := "()I" } : Jvm.MethodName) prog_14_method_16_code (2 : Nat) (Option.some Jvm.ClassFile.FieldType.int)) ∈ lw_all := lw_g (lw_at lw_m2 139 rfl) rfl
theorem q487 : (Jvm.Cond.methodLink "PuzzleWed$Reader" (43 : Nat) ({ cls := "PuzzleWed$Reader", name := "isGood", desc := "()Z" } : Jvm.MethodName)) ∈ lw_all := lw_g (lw_at lw_m2 140 rfl) rfl
theorem q488 : (Jvm.Cond.privateMethod ({ cls := "PuzzleWed$Reader", name := "isGood", desc := "()Z" } : Jvm.MethodName)) ∈ lw_tbl := lw_at lw_m2 141 rfl
theorem q489 : (Jvm.Cond.instanceMethod ({ cls := "PuzzleWed$Reader", name := "isGood", desc := "()Z" } : Jvm.MethodName)) ∈ lw_all := lw_g (lw_at lw_m2 142 rfl) rfl
theorem q490 : (Jvm.Cond.code ({ cls := "PuzzleWed$Reader", name := "isGood", desc := "()Z" } : Jvm.MethodName) prog_14_method_3_code (1 : Nat) (Option.some Jvm.ClassFile.FieldType.boolean)) ∈ lw_all := lw_g (lw_at lw_m2 143 rfl) rfl
theorem q491 : (Jvm.Cond.methodLink "PuzzleWed$Reader" (146 : Nat) ({ cls := "PuzzleWed$Reader", name := "clause", desc := "()V" } : Jvm.MethodName)) ∈ lw_all := lw_g (lw_at lw_m2 144 rfl) rfl
theorem q492 : (Jvm.Cond.privateMethod ({ cls := "PuzzleWed$Reader", name := "clause", desc := "()V" } : Jvm.MethodName)) ∈ lw_tbl := lw_at lw_m2 145 rfl
theorem q493 : (Jvm.Cond.instanceMethod ({ cls := "PuzzleWed$Reader", name := "clause", desc := "()V" } : Jvm.MethodName)) ∈ lw_all := lw_g (lw_at lw_m2 146 rfl) rfl
theorem q494 : (Jvm.Cond.code ({ cls := "PuzzleWed$Reader", name := "clause", desc := "()V" } : Jvm.MethodName) prog_14_method_15_code (4 : Nat) (Option.none : Option Jvm.ClassFile.FieldType)) ∈ lw_all := lw_g (lw_at lw_m2 147 rfl) rfl
theorem q495 : (Jvm.Cond.methodLink "PuzzleWed$Reader" (39 : Nat) ({ cls := "PuzzleWed$Reader", name := "here", desc := "()I" } : Jvm.MethodName)) ∈ lw_all := lw_g (lw_at lw_m2 148 rfl) rfl
theorem q496 : (Jvm.Cond.privateMethod ({ cls := "PuzzleWed$Reader", name := "here", desc := "()I" } : Jvm.MethodName)) ∈ lw_tbl := lw_at lw_m2 149 rfl
theorem q497 : (Jvm.Cond.instanceMethod ({ cls := "PuzzleWed$Reader", name := "here", desc := "()I" } : Jvm.MethodName)) ∈ lw_all := lw_g (lw_at lw_m2 150 rfl) rfl
theorem q498 : (Jvm.Cond.code ({ cls := "PuzzleWed$Reader", name := "here", desc := "()I" } : Jvm.MethodName) prog_14_method_2_code (1 : Nat) (Option.some Jvm.ClassFile.FieldType.int)) ∈ lw_all := lw_g (lw_at lw_m2 151 rfl) rfl
theorem q499 : (Jvm.Cond.stringRef "PuzzleWed$Reader" (129 : Nat) "flwcb") ∈ lw_tbl := lw_at lw_m2 152 rfl
theorem q500 : (Jvm.Cond.methodLink "PuzzleWed$Reader" (77 : Nat) ({ cls := "java/lang/String", name := "indexOf", desc := "(I)I" } : Jvm.MethodName)) ∈ lw_all := lw_g (lw_at lw_m2 153 rfl) rfl
theorem q586 : (Jvm.Cond.methodLink "PuzzleWed$Reader" (50 : Nat) ({ cls := "PuzzleWed$Reader", name := "bad", desc := "(II)V" } : Jvm.MethodName)) ∈ lw_all := lw_g (lw_at lw_m2 239 rfl) rfl
theorem q587 : (Jvm.Cond.privateMethod ({ cls := "PuzzleWed$Reader", name := "bad", desc := "(II)V" } : Jvm.MethodName)) ∈ lw_tbl := lw_at lw_m3 0 rfl
theorem q588 : (Jvm.Cond.instanceMethod ({ cls := "PuzzleWed$Reader", name := "bad", desc := "(II)V" } : Jvm.MethodName)) ∈ lw_all := lw_g (lw_at lw_m3 1 rfl) rfl
theorem q589 : (Jvm.Cond.code ({ cls := "PuzzleWed$Reader", name := "bad", desc := "(II)V" } : Jvm.MethodName) prog_14_method_4_code (3 : Nat) (Option.none : Option Jvm.ClassFile.FieldType)) ∈ lw_all := lw_g (lw_at lw_m3 2 rfl) rfl
theorem q590 : (Jvm.Cond.methodLink "PuzzleWed$Reader" (60 : Nat) ({ cls := "PuzzleWed$Reader", name := "sum", desc := "()LPuzzleWed$Sum;" } : Jvm.MethodName)) ∈ lw_all := lw_g (lw_at lw_m3 3 rfl) rfl
theorem q591 : (Jvm.Cond.privateMethod ({ cls := "PuzzleWed$Reader", name := "sum", desc := "()LPuzzleWed$Sum;" } : Jvm.MethodName)) ∈ lw_tbl := lw_at lw_m3 4 rfl
theorem q592 : (Jvm.Cond.instanceMethod ({ cls := "PuzzleWed$Reader", name := "sum", desc := "()LPuzzleWed$Sum;" } : Jvm.MethodName)) ∈ lw_all := lw_g (lw_at lw_m3 5 rfl) rfl
theorem q593 : (Jvm.Cond.code ({ cls := "PuzzleWed$Reader", name := "sum", desc := "()LPuzzleWed$Sum;" } : Jvm.MethodName) prog_14_method_11_code (4 : Nat) (Option.some (Jvm.ClassFile.FieldType.object "PuzzleWed$Sum"))) ∈ lw_all := lw_g (lw_at lw_m3 6 rfl) rfl
theorem q594 : (Jvm.Cond.classLink "PuzzleWed$Reader" (86 : Nat) "PuzzleWed$Row") ∈ lw_all := lw_g (lw_at lw_m3 7 rfl) rfl
theorem q596 : (Jvm.Cond.methodLink "PuzzleWed$Reader" (98 : Nat) ({ cls := "PuzzleWed$Reader", name := "product", desc := "()LPuzzleWed$Sum;" } : Jvm.MethodName)) ∈ lw_all := lw_g (lw_at lw_m3 9 rfl) rfl
theorem q597 : (Jvm.Cond.privateMethod ({ cls := "PuzzleWed$Reader", name := "product", desc := "()LPuzzleWed$Sum;" } : Jvm.MethodName)) ∈ lw_tbl := lw_at lw_m3 10 rfl
theorem q598 : (Jvm.Cond.instanceMethod ({ cls := "PuzzleWed$Reader", name := "product", desc := "()LPuzzleWed$Sum;" } : Jvm.MethodName)) ∈ lw_all := lw_g (lw_at lw_m3 11 rfl) rfl
theorem q599 : (Jvm.Cond.code ({ cls := "PuzzleWed$Reader", name := "product", desc := "()LPuzzleWed$Sum;" } : Jvm.MethodName) prog_14_method_10_code (4 : Nat) (Option.some (Jvm.ClassFile.FieldType.object "PuzzleWed$Sum"))) ∈ lw_all := lw_g (lw_at lw_m3 12 rfl) rfl
theorem q600 : (Jvm.Cond.methodLink "PuzzleWed$Reader" (88 : Nat) ({ cls := "PuzzleWed$Reader", name := "factor", desc := "()LPuzzleWed$Sum;" } : Jvm.MethodName)) ∈ lw_all := lw_g (lw_at lw_m3 13 rfl) rfl
theorem q601 : (Jvm.Cond.privateMethod ({ cls := "PuzzleWed$Reader", name := "factor", desc := "()LPuzzleWed$Sum;" } : Jvm.MethodName)) ∈ lw_tbl := lw_at lw_m3 14 rfl
theorem q602 : (Jvm.Cond.instanceMethod ({ cls := "PuzzleWed$Reader", name := "factor", desc := "()LPuzzleWed$Sum;" } : Jvm.MethodName)) ∈ lw_all := lw_g (lw_at lw_m3 15 rfl) rfl
theorem q603 : (Jvm.Cond.code ({ cls := "PuzzleWed$Reader", name := "factor", desc := "()LPuzzleWed$Sum;" } : Jvm.MethodName) prog_14_method_9_code (3 : Nat) (Option.some (Jvm.ClassFile.FieldType.object "PuzzleWed$Sum"))) ∈ lw_all := lw_g (lw_at lw_m3 16 rfl) rfl
theorem q604 : (Jvm.Cond.methodLink "PuzzleWed$Reader" (57 : Nat) ({ cls := "PuzzleWed$Reader", name := "opens", desc := "()V" } : Jvm.MethodName)) ∈ lw_all := lw_g (lw_at lw_m3 17 rfl) rfl
theorem q605 : (Jvm.Cond.privateMethod ({ cls := "PuzzleWed$Reader", name := "opens", desc := "()V" } : Jvm.MethodName)) ∈ lw_tbl := lw_at lw_m3 18 rfl
theorem q606 : (Jvm.Cond.instanceMethod ({ cls := "PuzzleWed$Reader", name := "opens", desc := "()V" } : Jvm.MethodName)) ∈ lw_all := lw_g (lw_at lw_m3 19 rfl) rfl
theorem q607 : (Jvm.Cond.code ({ cls := "PuzzleWed$Reader", name := "opens", desc := "()V" } : Jvm.MethodName) prog_14_method_8_code (1 : Nat) (Option.none : Option Jvm.ClassFile.FieldType)) ∈ lw_all := lw_g (lw_at lw_m3 20 rfl) rfl
theorem q608 : (Jvm.Cond.methodLink "PuzzleWed$Reader" (64 : Nat) ({ cls := "PuzzleWed$Reader", name := "must", desc := "(I)V" } : Jvm.MethodName)) ∈ lw_all := lw_g (lw_at lw_m3 21 rfl) rfl
theorem q609 : (Jvm.Cond.privateMethod ({ cls := "PuzzleWed$Reader", name := "must", desc := "(I)V" } : Jvm.MethodName)) ∈ lw_tbl := lw_at lw_m3 22 rfl
theorem q610 : (Jvm.Cond.instanceMethod ({ cls := "PuzzleWed$Reader", name := "must", desc := "(I)V" } : Jvm.MethodName)) ∈ lw_all := lw_g (lw_at lw_m3 23 rfl) rfl
theorem q611 : (Jvm.Cond.code ({ cls := "PuzzleWed$Reader", name := "must", desc := "(I)V" } : Jvm.MethodName) prog_14_method_7_code (2 : Nat) (Option.none : Option Jvm.ClassFile.FieldType)) ∈ lw_all := lw_g (lw_at lw_m3 24 rfl) rfl
theorem q612 : (Jvm.Cond.methodLink "PuzzleWed$Reader" (47 : Nat) ({ cls := "PuzzleWed$Reader", name := "seesDigit", desc := "()Z" } : Jvm.MethodName)) ∈ lw_all := lw_g (lw_at lw_m3 25 rfl) rfl
theorem q613 : (Jvm.Cond.privateMethod ({ cls := "PuzzleWed$Reader", name := "seesDigit", desc := "()Z" } : Jvm.MethodName)) ∈ lw_tbl := lw_at lw_m3 26 rfl
theorem q614 : (Jvm.Cond.instanceMethod ({ cls := "PuzzleWed$Reader", name := "seesDigit", desc := "()Z" } : Jvm.MethodName)) ∈ lw_all := lw_g (lw_at lw_m3 27 rfl) rfl
theorem q615 : (Jvm.Cond.code ({ cls := "PuzzleWed$Reader", name := "seesDigit", desc := "()Z" } : Jvm.MethodName) prog_14_method_5_code (1 : Nat) (Option.some Jvm.ClassFile.FieldType.boolean)) ∈ lw_all := lw_g (lw_at lw_m3 28 rfl) rfl
theorem q616 : (Jvm.Cond.classLink "PuzzleWed$Reader" (68 : Nat) "PuzzleWed$Number") ∈ lw_all := lw_g (lw_at lw_m3 29 rfl) rfl
theorem q618 : (Jvm.Cond.methodLink "PuzzleWed$Reader" (70 : Nat) ({ cls := "PuzzleWed$Reader", name := "number", desc := "()I" } : Jvm.MethodName)) ∈ lw_all := lw_g (lw_at lw_m3 31 rfl) rfl
theorem q619 : (Jvm.Cond.privateMethod ({ cls := "PuzzleWed$Reader", name := "number", desc := "()I" } : Jvm.MethodName)) ∈ lw_tbl := lw_at lw_m3 32 rfl
theorem q620 : (Jvm.Cond.instanceMethod ({ cls := "PuzzleWed$Reader", name := "number", desc := "()I" } : Jvm.MethodName)) ∈ lw_all := lw_g (lw_at lw_m3 33 rfl) rfl
theorem q621 : (Jvm.Cond.code ({ cls := "PuzzleWed$Reader", name := "number", desc := "()I" } : Jvm.MethodName) prog_14_method_6_code (3 : Nat) (Option.some Jvm.ClassFile.FieldType.int)) ∈ lw_all := lw_g (lw_at lw_m3 34 rfl) rfl
theorem q622 : (Jvm.Cond.methodLink "PuzzleWed$Reader" (73 : Nat) ({ cls := "PuzzleWed$Number", name := "<init>", desc := "(I)V" } : Jvm.MethodName)) ∈ lw_all := lw_g (lw_at lw_m3 35 rfl) rfl
theorem q633 : (Jvm.Cond.stringRef "PuzzleWed$Reader" (75 : Nat) "ijsxyuvdapq") ∈ lw_tbl := lw_at lw_m3 46 rfl
theorem q634 : (Jvm.Cond.classLink "PuzzleWed$Reader" (83 : Nat) "PuzzleWed$Letter") ∈ lw_all := lw_g (lw_at lw_m3 47 rfl) rfl
theorem q636 : (Jvm.Cond.methodLink "PuzzleWed$Reader" (85 : Nat) ({ cls := "PuzzleWed$Letter", name := "<init>", desc := "(I)V" } : Jvm.MethodName)) ∈ lw_all := lw_g (lw_at lw_m3 49 rfl) rfl
theorem q644 : (Jvm.Cond.methodLink "PuzzleWed$Reader" (91 : Nat) ({ cls := "PuzzleWed$Row", name := "<init>", desc := "(ILPuzzleWed$Sum;)V" } : Jvm.MethodName)) ∈ lw_all := lw_g (lw_at lw_m3 57 rfl) rfl
theorem q651 : (Jvm.Cond.fieldLinkNest "PuzzleWed$Reader" (94 : Nat) "PuzzleWed$Row" "next" "LPuzzleWed$Row;" "PuzzleWed") ∈ lw_tbl := lw_at lw_m3 64 rfl
theorem q659 : (Jvm.Cond.methodLink "PuzzleWed$Reader" (110 : Nat) ({ cls := "PuzzleWed$Reader", name := "condition", desc := "()LPuzzleWed$Condition;" } : Jvm.MethodName)) ∈ lw_all := lw_g (lw_at lw_m3 72 rfl) rfl
theorem q660 : (Jvm.Cond.privateMethod ({ cls := "PuzzleWed$Reader", name := "condition", desc := "()LPuzzleWed$Condition;" } : Jvm.MethodName)) ∈ lw_tbl := lw_at lw_m3 73 rfl
theorem q661 : (Jvm.Cond.instanceMethod ({ cls := "PuzzleWed$Reader", name := "condition", desc := "()LPuzzleWed$Condition;" } : Jvm.MethodName)) ∈ lw_all := lw_g (lw_at lw_m3 74 rfl) rfl
theorem q662 : (Jvm.Cond.code ({ cls := "PuzzleWed$Reader", name := "condition", desc := "()LPuzzleWed$Condition;" } : Jvm.MethodName) prog_14_method_14_code (3 : Nat) (Option.some (Jvm.ClassFile.FieldType.object "PuzzleWed$Condition"))) ∈ lw_all := lw_g (lw_at lw_m3 75 rfl) rfl
theorem q663 : (Jvm.Cond.classLink "PuzzleWed$Reader" (118 : Nat) "PuzzleWed$Some") ∈ lw_all := lw_g (lw_at lw_m3 76 rfl) rfl
theorem q665 : (Jvm.Cond.methodLink "PuzzleWed$Reader" (126 : Nat) ({ cls := "PuzzleWed$Reader", name := "pieces", desc := "()LPuzzleWed$Condition;" } : Jvm.MethodName)) ∈ lw_all := lw_g (lw_at lw_m3 78 rfl) rfl
theorem q666 : (Jvm.Cond.privateMethod ({ cls := "PuzzleWed$Reader", name := "pieces", desc := "()LPuzzleWed$Condition;" } : Jvm.MethodName)) ∈ lw_tbl := lw_at lw_m3 79 rfl
theorem q667 : (Jvm.Cond.instanceMethod ({ cls := "PuzzleWed$Reader", name := "pieces", desc := "()LPuzzleWed$Condition;" } : Jvm.MethodName)) ∈ lw_all := lw_g (lw_at lw_m3 80 rfl) rfl
theorem q668 : (Jvm.Cond.code ({ cls := "PuzzleWed$Reader", name := "pieces", desc := "()LPuzzleWed$Condition;" } : Jvm.MethodName) prog_14_method_13_code (3 : Nat) (Option.some (Jvm.ClassFile.FieldType.object "PuzzleWed$Condition"))) ∈ lw_all := lw_g (lw_at lw_m3 81 rfl) rfl
theorem q669 : (Jvm.Cond.methodLink "PuzzleWed$Reader" (101 : Nat) ({ cls := "PuzzleWed$Reader", name := "piece", desc := "()LPuzzleWed$Condition;" } : Jvm.MethodName)) ∈ lw_all := lw_g (lw_at lw_m3 82 rfl) rfl
theorem q670 : (Jvm.Cond.privateMethod ({ cls := "PuzzleWed$Reader", name := "piece", desc := "()LPuzzleWed$Condition;" } : Jvm.MethodName)) ∈ lw_tbl := lw_at lw_m3 83 rfl
theorem q671 : (Jvm.Cond.instanceMethod ({ cls := "PuzzleWed$Reader", name := "piece", desc := "()LPuzzleWed$Condition;" } : Jvm.MethodName)) ∈ lw_all := lw_g (lw_at lw_m3 84 rfl) rfl
theorem q672 : (Jvm.Cond.code ({ cls := "PuzzleWed$Reader", name := "piece", desc := "()LPuzzleWed$Condition;" } : Jvm.MethodName) prog_14_method_12_code (4 : Nat) (Option.some (Jvm.ClassFile.FieldType.object "PuzzleWed$Condition"))) ∈ lw_all := lw_g (lw_at lw_m3 85 rfl) rfl
theorem q673 : (Jvm.Cond.classLink "PuzzleWed$Reader" (105 : Nat) "PuzzleWed$Not") ∈ lw_all := lw_g (lw_at lw_m3 86 rfl) rfl
theorem q675 : (Jvm.Cond.methodLink "PuzzleWed$Reader" (107 : Nat) ({ cls := "PuzzleWed$Not", name := "<init>", desc := "(LPuzzleWed$Condition;)V" } : Jvm.MethodName)) ∈ lw_all := lw_g (lw_at lw_m3 88 rfl) rfl
theorem q686 : (Jvm.Cond.classLink "PuzzleWed$Reader" (113 : Nat) "PuzzleWed$Compared") ∈ lw_all := lw_g (lw_at lw_m3 99 rfl) rfl
theorem q688 : (Jvm.Cond.methodLink "PuzzleWed$Reader" (115 : Nat) ({ cls := "PuzzleWed$Compared", name := "<init>", desc := "(LPuzzleWed$Sum;ILPuzzleWed$Sum;)V" } : Jvm.MethodName)) ∈ lw_all := lw_g (lw_at lw_m3 101 rfl) rfl
theorem q702 : (Jvm.Cond.methodLink "PuzzleWed$Reader" (120 : Nat) ({ cls := "PuzzleWed$Some", name := "<init>", desc := "(LPuzzleWed$Condition;I)V" } : Jvm.MethodName)) ∈ lw_all := lw_g (lw_at lw_m3 115 rfl) rfl
theorem q709 : (Jvm.Cond.fieldLinkNest "PuzzleWed$Reader" (123 : Nat) "PuzzleWed$Some" "next" "LPuzzleWed$Some;" "PuzzleWed") ∈ lw_tbl := lw_at lw_m3 122 rfl
theorem in_X8 : ∀ w ∈ wsX80, w ∈ lw_all := lw_in wsX80 [468, 470, 472, 474, 476, 478, 480] (by decide +kernel) (by decide +kernel)
