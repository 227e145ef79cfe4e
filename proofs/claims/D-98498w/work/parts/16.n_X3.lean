/-! PuzzleWed$Land -/
set_option maxRecDepth 100000
def RX3 : String := "PuzzleWed$Land"
def TX3 : u_T := fun k => match k with
  | 0 => ("PuzzleWed$Land", "people", "[LPuzzleWed$Person;", true)
  | 1 => ("PuzzleWed$Land", "pieces", "[LPuzzleWed$Piece;", true)
  | 2 => ("PuzzleWed$Land", "day", "I", false)
  | 3 => ("PuzzleWed$Land", "x", "I", false)
  | 4 => ("PuzzleWed$Land", "weddings", "I", false)
  | 5 => ("PuzzleWed$Land", "tries", "I", false)
  | 6 => ("PuzzleWed$Land", "partings", "I", false)
  | _ => ("PuzzleWed$Land", "this$0", "LPuzzleWed;", true)
def tyX3 : Nat → FieldType := fun k => match k with
  | 0 => .array (.object "PuzzleWed$Person")
  | 1 => .array (.object "PuzzleWed$Piece")
  | 2 => .int
  | 3 => .int
  | 4 => .int
  | 5 => .int
  | 6 => .int
  | _ => .object "PuzzleWed"
abbrev wsX30 : List Cond := u_ws RX3 TX3 8
theorem nmX3 : ∀ a, a < 8 → ∀ b, b < 8 → a ≠ b → (TX3 a).2.1 ≠ (TX3 b).2.1 := by decide +kernel
theorem tyX3_ok : ∀ k, k < 8 → parseFieldDescriptor (TX3 k).2.2.1 = some (tyX3 k) := by decide +kernel
abbrev cX3_init : ByteArray := prog_7_method_1_code
def yX3_init : MethodName := ⟨RX3, "<init>", "(LPuzzleWed;)V"⟩
def dkwX3_init_3 : List UInt8 := [132, 2, 1, 167, 255, 211, 177]
abbrev dktX3_init_3 : List UInt8 := dkwX3_init_3 ++ []
def dkwX3_init_2 : List UInt8 := [42, 180, 0, 23, 28, 187, 0, 21, 89, 183, 0, 28, 83, 42, 180, 0, 23, 28, 50, 2, 181, 0, 29]
abbrev dktX3_init_2 : List UInt8 := dkwX3_init_2 ++ dktX3_init_3
def dkwX3_init_1 : List UInt8 := [181, 0, 23, 3, 61, 28, 16, 12, 162, 0, 45, 42, 180, 0, 17, 28, 187, 0, 15, 89, 183, 0, 27, 83]
abbrev dktX3_init_1 : List UInt8 := dkwX3_init_1 ++ dktX3_init_2
def dkwX3_init_0 : List UInt8 := [42, 43, 181, 0, 3, 42, 183, 0, 9, 42, 16, 12, 189, 0, 15, 181, 0, 17, 42, 16, 12, 189, 0, 21]
abbrev dktX3_init_0 : List UInt8 := dkwX3_init_0 ++ dktX3_init_1
theorem dksX3_init_0 : cX3_init.data.toList.drop 0 = dktX3_init_0 := by decide +kernel
theorem dksX3_init_1 : cX3_init.data.toList.drop 24 = dktX3_init_1 := dk_seg dksX3_init_0 24 rfl rfl
theorem dksX3_init_2 : cX3_init.data.toList.drop 48 = dktX3_init_2 := dk_seg dksX3_init_1 24 rfl rfl
theorem dksX3_init_3 : cX3_init.data.toList.drop 71 = dktX3_init_3 := dk_seg dksX3_init_2 23 rfl rfl
theorem dX3_init_0 : decode cX3_init 0 = .ok (.aload_n 0, 1) := dk_42 (dk_at dksX3_init_0 0 rfl rfl)
theorem dX3_init_1 : decode cX3_init 1 = .ok (.aload_n 1, 1) := dk_43 (dk_at dksX3_init_0 1 rfl rfl)
theorem dX3_init_2 : decode cX3_init 2 = .ok (.putfield 3, 3) := dk_181 0 3 (dk_at dksX3_init_0 2 rfl rfl)
theorem dX3_init_5 : decode cX3_init 5 = .ok (.aload_n 0, 1) := dk_42 (dk_at dksX3_init_0 5 rfl rfl)
theorem dX3_init_6 : decode cX3_init 6 = .ok (.invokespecial 9, 3) := dk_183 0 9 (dk_at dksX3_init_0 6 rfl rfl)
theorem dX3_init_9 : decode cX3_init 9 = .ok (.aload_n 0, 1) := dk_42 (dk_at dksX3_init_0 9 rfl rfl)
theorem dX3_init_10 : decode cX3_init 10 = .ok (.bipush 12, 2) := dk_16 12 (dk_at dksX3_init_0 10 rfl rfl)
theorem dX3_init_12 : decode cX3_init 12 = .ok (.anewarray 15, 3) := dk_189 0 15 (dk_at dksX3_init_0 12 rfl rfl)
theorem dX3_init_15 : decode cX3_init 15 = .ok (.putfield 17, 3) := dk_181 0 17 (dk_at dksX3_init_0 15 rfl rfl)
theorem dX3_init_18 : decode cX3_init 18 = .ok (.aload_n 0, 1) := dk_42 (dk_at dksX3_init_0 18 rfl rfl)
theorem dX3_init_19 : decode cX3_init 19 = .ok (.bipush 12, 2) := dk_16 12 (dk_at dksX3_init_0 19 rfl rfl)
theorem dX3_init_21 : decode cX3_init 21 = .ok (.anewarray 21, 3) := dk_189 0 21 (dk_at dksX3_init_0 21 rfl rfl)
theorem dX3_init_24 : decode cX3_init 24 = .ok (.putfield 23, 3) := dk_181 0 23 (dk_at dksX3_init_1 0 rfl rfl)
theorem dX3_init_27 : decode cX3_init 27 = .ok (.iconst 0, 1) := dk_3 (dk_at dksX3_init_1 3 rfl rfl)
theorem dX3_init_28 : decode cX3_init 28 = .ok (.istore_n 2, 1) := dk_61 (dk_at dksX3_init_1 4 rfl rfl)
theorem dX3_init_29 : decode cX3_init 29 = .ok (.iload_n 2, 1) := dk_28 (dk_at dksX3_init_1 5 rfl rfl)
theorem dX3_init_30 : decode cX3_init 30 = .ok (.bipush 12, 2) := dk_16 12 (dk_at dksX3_init_1 6 rfl rfl)
theorem dX3_init_32 : decode cX3_init 32 = .ok (.if_icmp .ge 45, 3) := dk_162 0 45 (dk_at dksX3_init_1 8 rfl rfl)
theorem dX3_init_35 : decode cX3_init 35 = .ok (.aload_n 0, 1) := dk_42 (dk_at dksX3_init_1 11 rfl rfl)
theorem dX3_init_36 : decode cX3_init 36 = .ok (.getfield 17, 3) := dk_180 0 17 (dk_at dksX3_init_1 12 rfl rfl)
theorem dX3_init_39 : decode cX3_init 39 = .ok (.iload_n 2, 1) := dk_28 (dk_at dksX3_init_1 15 rfl rfl)
theorem dX3_init_40 : decode cX3_init 40 = .ok (.new 15, 3) := dk_187 0 15 (dk_at dksX3_init_1 16 rfl rfl)
theorem dX3_init_43 : decode cX3_init 43 = .ok (.dup, 1) := dk_89 (dk_at dksX3_init_1 19 rfl rfl)
theorem dX3_init_44 : decode cX3_init 44 = .ok (.invokespecial 27, 3) := dk_183 0 27 (dk_at dksX3_init_1 20 rfl rfl)
theorem dX3_init_47 : decode cX3_init 47 = .ok (.aastore, 1) := dk_83 (dk_at dksX3_init_1 23 rfl rfl)
theorem dX3_init_48 : decode cX3_init 48 = .ok (.aload_n 0, 1) := dk_42 (dk_at dksX3_init_2 0 rfl rfl)
theorem dX3_init_49 : decode cX3_init 49 = .ok (.getfield 23, 3) := dk_180 0 23 (dk_at dksX3_init_2 1 rfl rfl)
theorem dX3_init_52 : decode cX3_init 52 = .ok (.iload_n 2, 1) := dk_28 (dk_at dksX3_init_2 4 rfl rfl)
theorem dX3_init_53 : decode cX3_init 53 = .ok (.new 21, 3) := dk_187 0 21 (dk_at dksX3_init_2 5 rfl rfl)
theorem dX3_init_56 : decode cX3_init 56 = .ok (.dup, 1) := dk_89 (dk_at dksX3_init_2 8 rfl rfl)
theorem dX3_init_57 : decode cX3_init 57 = .ok (.invokespecial 28, 3) := dk_183 0 28 (dk_at dksX3_init_2 9 rfl rfl)
theorem dX3_init_60 : decode cX3_init 60 = .ok (.aastore, 1) := dk_83 (dk_at dksX3_init_2 12 rfl rfl)
theorem dX3_init_61 : decode cX3_init 61 = .ok (.aload_n 0, 1) := dk_42 (dk_at dksX3_init_2 13 rfl rfl)
theorem dX3_init_62 : decode cX3_init 62 = .ok (.getfield 23, 3) := dk_180 0 23 (dk_at dksX3_init_2 14 rfl rfl)
theorem dX3_init_65 : decode cX3_init 65 = .ok (.iload_n 2, 1) := dk_28 (dk_at dksX3_init_2 17 rfl rfl)
theorem dX3_init_66 : decode cX3_init 66 = .ok (.aaload, 1) := dk_50 (dk_at dksX3_init_2 18 rfl rfl)
theorem dX3_init_67 : decode cX3_init 67 = .ok (.iconst (-1), 1) := dk_2 (dk_at dksX3_init_2 19 rfl rfl)
theorem dX3_init_68 : decode cX3_init 68 = .ok (.putfield 29, 3) := dk_181 0 29 (dk_at dksX3_init_2 20 rfl rfl)
theorem dX3_init_71 : decode cX3_init 71 = .ok (.iinc 2 1, 3) := dk_132 2 1 (dk_at dksX3_init_3 0 rfl rfl)
theorem dX3_init_74 : decode cX3_init 74 = .ok (.goto (-45), 3) := dk_167 255 211 (dk_at dksX3_init_3 3 rfl rfl)
theorem dX3_init_77 : decode cX3_init 77 = .ok (.return_, 1) := dk_177 (dk_at dksX3_init_3 6 rfl rfl)
abbrev cX3_lives : ByteArray := prog_7_method_3_code
def yX3_lives : MethodName := ⟨RX3, "lives", "(I)Z"⟩
def dkwX3_lives_1 : List UInt8 := [167, 0, 4, 3, 172]
abbrev dktX3_lives_1 : List UInt8 := dkwX3_lives_1 ++ []
def dkwX3_lives_0 : List UInt8 := [27, 16, 12, 184, 0, 46, 153, 0, 19, 42, 180, 0, 17, 27, 50, 182, 0, 50, 153, 0, 7, 4]
abbrev dktX3_lives_0 : List UInt8 := dkwX3_lives_0 ++ dktX3_lives_1
theorem dksX3_lives_0 : cX3_lives.data.toList.drop 0 = dktX3_lives_0 := by decide +kernel
theorem dksX3_lives_1 : cX3_lives.data.toList.drop 22 = dktX3_lives_1 := dk_seg dksX3_lives_0 22 rfl rfl
theorem dX3_lives_0 : decode cX3_lives 0 = .ok (.iload_n 1, 1) := dk_27 (dk_at dksX3_lives_0 0 rfl rfl)
theorem dX3_lives_1 : decode cX3_lives 1 = .ok (.bipush 12, 2) := dk_16 12 (dk_at dksX3_lives_0 1 rfl rfl)
theorem dX3_lives_3 : decode cX3_lives 3 = .ok (.invokestatic 46, 3) := dk_184 0 46 (dk_at dksX3_lives_0 3 rfl rfl)
theorem dX3_lives_6 : decode cX3_lives 6 = .ok (.ifCond .eq 19, 3) := dk_153 0 19 (dk_at dksX3_lives_0 6 rfl rfl)
theorem dX3_lives_9 : decode cX3_lives 9 = .ok (.aload_n 0, 1) := dk_42 (dk_at dksX3_lives_0 9 rfl rfl)
theorem dX3_lives_10 : decode cX3_lives 10 = .ok (.getfield 17, 3) := dk_180 0 17 (dk_at dksX3_lives_0 10 rfl rfl)
theorem dX3_lives_13 : decode cX3_lives 13 = .ok (.iload_n 1, 1) := dk_27 (dk_at dksX3_lives_0 13 rfl rfl)
theorem dX3_lives_14 : decode cX3_lives 14 = .ok (.aaload, 1) := dk_50 (dk_at dksX3_lives_0 14 rfl rfl)
theorem dX3_lives_15 : decode cX3_lives 15 = .ok (.invokevirtual 50, 3) := dk_182 0 50 (dk_at dksX3_lives_0 15 rfl rfl)
theorem dX3_lives_18 : decode cX3_lives 18 = .ok (.ifCond .eq 7, 3) := dk_153 0 7 (dk_at dksX3_lives_0 18 rfl rfl)
theorem dX3_lives_21 : decode cX3_lives 21 = .ok (.iconst 1, 1) := dk_4 (dk_at dksX3_lives_0 21 rfl rfl)
theorem dX3_lives_22 : decode cX3_lives 22 = .ok (.goto 4, 3) := dk_167 0 4 (dk_at dksX3_lives_1 0 rfl rfl)
theorem dX3_lives_25 : decode cX3_lives 25 = .ok (.iconst 0, 1) := dk_3 (dk_at dksX3_lives_1 3 rfl rfl)
theorem dX3_lives_26 : decode cX3_lives 26 = .ok (.ireturn, 1) := dk_172 (dk_at dksX3_lives_1 4 rfl rfl)
abbrev cX3_dies : ByteArray := prog_7_method_20_code
def yX3_dies : MethodName := ⟨RX3, "dies", "(I)V"⟩
def dkwX3_dies_3 : List UInt8 := [42, 27, 28, 182, 0, 140, 177]
abbrev dktX3_dies_3 : List UInt8 := dkwX3_dies_3 ++ []
def dkwX3_dies_2 : List UInt8 := [180, 0, 29, 27, 160, 0, 9, 25, 6, 28, 181, 0, 29, 132, 5, 1, 167, 255, 225, 28, 2, 159, 0, 9]
abbrev dktX3_dies_2 : List UInt8 := dkwX3_dies_2 ++ dktX3_dies_3
def dkwX3_dies_1 : List UInt8 := [78, 45, 190, 54, 4, 3, 54, 5, 21, 5, 21, 4, 162, 0, 30, 45, 21, 5, 50, 58, 6, 25, 6]
abbrev dktX3_dies_1 : List UInt8 := dkwX3_dies_1 ++ dktX3_dies_2
def dkwX3_dies_0 : List UInt8 := [42, 180, 0, 17, 27, 50, 180, 0, 86, 61, 42, 180, 0, 17, 27, 50, 4, 181, 0, 157, 42, 180, 0, 23]
abbrev dktX3_dies_0 : List UInt8 := dkwX3_dies_0 ++ dktX3_dies_1
theorem dksX3_dies_0 : cX3_dies.data.toList.drop 0 = dktX3_dies_0 := by decide +kernel
theorem dksX3_dies_1 : cX3_dies.data.toList.drop 24 = dktX3_dies_1 := dk_seg dksX3_dies_0 24 rfl rfl
theorem dksX3_dies_2 : cX3_dies.data.toList.drop 47 = dktX3_dies_2 := dk_seg dksX3_dies_1 23 rfl rfl
theorem dksX3_dies_3 : cX3_dies.data.toList.drop 71 = dktX3_dies_3 := dk_seg dksX3_dies_2 24 rfl rfl
theorem dX3_dies_0 : decode cX3_dies 0 = .ok (.aload_n 0, 1) := dk_42 (dk_at dksX3_dies_0 0 rfl rfl)
theorem dX3_dies_1 : decode cX3_dies 1 = .ok (.getfield 17, 3) := dk_180 0 17 (dk_at dksX3_dies_0 1 rfl rfl)
theorem dX3_dies_4 : decode cX3_dies 4 = .ok (.iload_n 1, 1) := dk_27 (dk_at dksX3_dies_0 4 rfl rfl)
theorem dX3_dies_5 : decode cX3_dies 5 = .ok (.aaload, 1) := dk_50 (dk_at dksX3_dies_0 5 rfl rfl)
theorem dX3_dies_6 : decode cX3_dies 6 = .ok (.getfield 86, 3) := dk_180 0 86 (dk_at dksX3_dies_0 6 rfl rfl)
theorem dX3_dies_9 : decode cX3_dies 9 = .ok (.istore_n 2, 1) := dk_61 (dk_at dksX3_dies_0 9 rfl rfl)
theorem dX3_dies_10 : decode cX3_dies 10 = .ok (.aload_n 0, 1) := dk_42 (dk_at dksX3_dies_0 10 rfl rfl)
theorem dX3_dies_11 : decode cX3_dies 11 = .ok (.getfield 17, 3) := dk_180 0 17 (dk_at dksX3_dies_0 11 rfl rfl)
theorem dX3_dies_14 : decode cX3_dies 14 = .ok (.iload_n 1, 1) := dk_27 (dk_at dksX3_dies_0 14 rfl rfl)
theorem dX3_dies_15 : decode cX3_dies 15 = .ok (.aaload, 1) := dk_50 (dk_at dksX3_dies_0 15 rfl rfl)
theorem dX3_dies_16 : decode cX3_dies 16 = .ok (.iconst 1, 1) := dk_4 (dk_at dksX3_dies_0 16 rfl rfl)
theorem dX3_dies_17 : decode cX3_dies 17 = .ok (.putfield 157, 3) := dk_181 0 157 (dk_at dksX3_dies_0 17 rfl rfl)
theorem dX3_dies_20 : decode cX3_dies 20 = .ok (.aload_n 0, 1) := dk_42 (dk_at dksX3_dies_0 20 rfl rfl)
theorem dX3_dies_21 : decode cX3_dies 21 = .ok (.getfield 23, 3) := dk_180 0 23 (dk_at dksX3_dies_0 21 rfl rfl)
theorem dX3_dies_24 : decode cX3_dies 24 = .ok (.astore_n 3, 1) := dk_78 (dk_at dksX3_dies_1 0 rfl rfl)
theorem dX3_dies_25 : decode cX3_dies 25 = .ok (.aload_n 3, 1) := dk_45 (dk_at dksX3_dies_1 1 rfl rfl)
theorem dX3_dies_26 : decode cX3_dies 26 = .ok (.arraylength, 1) := dk_190 (dk_at dksX3_dies_1 2 rfl rfl)
theorem dX3_dies_27 : decode cX3_dies 27 = .ok (.istore 4, 2) := dk_54 4 (dk_at dksX3_dies_1 3 rfl rfl)
theorem dX3_dies_29 : decode cX3_dies 29 = .ok (.iconst 0, 1) := dk_3 (dk_at dksX3_dies_1 5 rfl rfl)
theorem dX3_dies_30 : decode cX3_dies 30 = .ok (.istore 5, 2) := dk_54 5 (dk_at dksX3_dies_1 6 rfl rfl)
theorem dX3_dies_32 : decode cX3_dies 32 = .ok (.iload 5, 2) := dk_21 5 (dk_at dksX3_dies_1 8 rfl rfl)
theorem dX3_dies_34 : decode cX3_dies 34 = .ok (.iload 4, 2) := dk_21 4 (dk_at dksX3_dies_1 10 rfl rfl)
theorem dX3_dies_36 : decode cX3_dies 36 = .ok (.if_icmp .ge 30, 3) := dk_162 0 30 (dk_at dksX3_dies_1 12 rfl rfl)
theorem dX3_dies_39 : decode cX3_dies 39 = .ok (.aload_n 3, 1) := dk_45 (dk_at dksX3_dies_1 15 rfl rfl)
theorem dX3_dies_40 : decode cX3_dies 40 = .ok (.iload 5, 2) := dk_21 5 (dk_at dksX3_dies_1 16 rfl rfl)
theorem dX3_dies_42 : decode cX3_dies 42 = .ok (.aaload, 1) := dk_50 (dk_at dksX3_dies_1 18 rfl rfl)
theorem dX3_dies_43 : decode cX3_dies 43 = .ok (.astore 6, 2) := dk_58 6 (dk_at dksX3_dies_1 19 rfl rfl)
theorem dX3_dies_45 : decode cX3_dies 45 = .ok (.aload 6, 2) := dk_25 6 (dk_at dksX3_dies_1 21 rfl rfl)
theorem dX3_dies_47 : decode cX3_dies 47 = .ok (.getfield 29, 3) := dk_180 0 29 (dk_at dksX3_dies_2 0 rfl rfl)
theorem dX3_dies_50 : decode cX3_dies 50 = .ok (.iload_n 1, 1) := dk_27 (dk_at dksX3_dies_2 3 rfl rfl)
theorem dX3_dies_51 : decode cX3_dies 51 = .ok (.if_icmp .ne 9, 3) := dk_160 0 9 (dk_at dksX3_dies_2 4 rfl rfl)
theorem dX3_dies_54 : decode cX3_dies 54 = .ok (.aload 6, 2) := dk_25 6 (dk_at dksX3_dies_2 7 rfl rfl)
theorem dX3_dies_56 : decode cX3_dies 56 = .ok (.iload_n 2, 1) := dk_28 (dk_at dksX3_dies_2 9 rfl rfl)
theorem dX3_dies_57 : decode cX3_dies 57 = .ok (.putfield 29, 3) := dk_181 0 29 (dk_at dksX3_dies_2 10 rfl rfl)
theorem dX3_dies_60 : decode cX3_dies 60 = .ok (.iinc 5 1, 3) := dk_132 5 1 (dk_at dksX3_dies_2 13 rfl rfl)
theorem dX3_dies_63 : decode cX3_dies 63 = .ok (.goto (-31), 3) := dk_167 255 225 (dk_at dksX3_dies_2 16 rfl rfl)
theorem dX3_dies_66 : decode cX3_dies 66 = .ok (.iload_n 2, 1) := dk_28 (dk_at dksX3_dies_2 19 rfl rfl)
theorem dX3_dies_67 : decode cX3_dies 67 = .ok (.iconst (-1), 1) := dk_2 (dk_at dksX3_dies_2 20 rfl rfl)
theorem dX3_dies_68 : decode cX3_dies 68 = .ok (.if_icmp .eq 9, 3) := dk_159 0 9 (dk_at dksX3_dies_2 21 rfl rfl)
theorem dX3_dies_71 : decode cX3_dies 71 = .ok (.aload_n 0, 1) := dk_42 (dk_at dksX3_dies_3 0 rfl rfl)
theorem dX3_dies_72 : decode cX3_dies 72 = .ok (.iload_n 1, 1) := dk_27 (dk_at dksX3_dies_3 1 rfl rfl)
theorem dX3_dies_73 : decode cX3_dies 73 = .ok (.iload_n 2, 1) := dk_28 (dk_at dksX3_dies_3 2 rfl rfl)
theorem dX3_dies_74 : decode cX3_dies 74 = .ok (.invokevirtual 140, 3) := dk_182 0 140 (dk_at dksX3_dies_3 3 rfl rfl)
theorem dX3_dies_77 : decode cX3_dies 77 = .ok (.return_, 1) := dk_177 (dk_at dksX3_dies_3 6 rfl rfl)
abbrev cX3_part : ByteArray := prog_7_method_10_code
def yX3_part : MethodName := ⟨RX3, "part", "(II)V"⟩
def dkwX3_part_0 : List UInt8 := [42, 180, 0, 17, 27, 50, 2, 181, 0, 86, 42, 180, 0, 17, 28, 50, 2, 181, 0, 86, 177]
abbrev dktX3_part_0 : List UInt8 := dkwX3_part_0 ++ []
theorem dksX3_part_0 : cX3_part.data.toList.drop 0 = dktX3_part_0 := by decide +kernel
theorem dX3_part_0 : decode cX3_part 0 = .ok (.aload_n 0, 1) := dk_42 (dk_at dksX3_part_0 0 rfl rfl)
theorem dX3_part_1 : decode cX3_part 1 = .ok (.getfield 17, 3) := dk_180 0 17 (dk_at dksX3_part_0 1 rfl rfl)
theorem dX3_part_4 : decode cX3_part 4 = .ok (.iload_n 1, 1) := dk_27 (dk_at dksX3_part_0 4 rfl rfl)
theorem dX3_part_5 : decode cX3_part 5 = .ok (.aaload, 1) := dk_50 (dk_at dksX3_part_0 5 rfl rfl)
theorem dX3_part_6 : decode cX3_part 6 = .ok (.iconst (-1), 1) := dk_2 (dk_at dksX3_part_0 6 rfl rfl)
theorem dX3_part_7 : decode cX3_part 7 = .ok (.putfield 86, 3) := dk_181 0 86 (dk_at dksX3_part_0 7 rfl rfl)
theorem dX3_part_10 : decode cX3_part 10 = .ok (.aload_n 0, 1) := dk_42 (dk_at dksX3_part_0 10 rfl rfl)
theorem dX3_part_11 : decode cX3_part 11 = .ok (.getfield 17, 3) := dk_180 0 17 (dk_at dksX3_part_0 11 rfl rfl)
theorem dX3_part_14 : decode cX3_part 14 = .ok (.iload_n 2, 1) := dk_28 (dk_at dksX3_part_0 14 rfl rfl)
theorem dX3_part_15 : decode cX3_part 15 = .ok (.aaload, 1) := dk_50 (dk_at dksX3_part_0 15 rfl rfl)
theorem dX3_part_16 : decode cX3_part 16 = .ok (.iconst (-1), 1) := dk_2 (dk_at dksX3_part_0 16 rfl rfl)
theorem dX3_part_17 : decode cX3_part 17 = .ok (.putfield 86, 3) := dk_181 0 86 (dk_at dksX3_part_0 17 rfl rfl)
theorem dX3_part_20 : decode cX3_part 20 = .ok (.return_, 1) := dk_177 (dk_at dksX3_part_0 20 rfl rfl)
abbrev cX3_wed : ByteArray := prog_7_method_9_code
def yX3_wed : MethodName := ⟨RX3, "wed", "(II)V"⟩
def dkwX3_wed_1 : List UInt8 := [27, 50, 3, 181, 0, 89, 42, 180, 0, 17, 28, 50, 3, 181, 0, 89, 177]
abbrev dktX3_wed_1 : List UInt8 := dkwX3_wed_1 ++ []
def dkwX3_wed_0 : List UInt8 := [42, 180, 0, 17, 27, 50, 28, 181, 0, 86, 42, 180, 0, 17, 28, 50, 27, 181, 0, 86, 42, 180, 0, 17]
abbrev dktX3_wed_0 : List UInt8 := dkwX3_wed_0 ++ dktX3_wed_1
theorem dksX3_wed_0 : cX3_wed.data.toList.drop 0 = dktX3_wed_0 := by decide +kernel
theorem dksX3_wed_1 : cX3_wed.data.toList.drop 24 = dktX3_wed_1 := dk_seg dksX3_wed_0 24 rfl rfl
theorem dX3_wed_0 : decode cX3_wed 0 = .ok (.aload_n 0, 1) := dk_42 (dk_at dksX3_wed_0 0 rfl rfl)
theorem dX3_wed_1 : decode cX3_wed 1 = .ok (.getfield 17, 3) := dk_180 0 17 (dk_at dksX3_wed_0 1 rfl rfl)
theorem dX3_wed_4 : decode cX3_wed 4 = .ok (.iload_n 1, 1) := dk_27 (dk_at dksX3_wed_0 4 rfl rfl)
theorem dX3_wed_5 : decode cX3_wed 5 = .ok (.aaload, 1) := dk_50 (dk_at dksX3_wed_0 5 rfl rfl)
theorem dX3_wed_6 : decode cX3_wed 6 = .ok (.iload_n 2, 1) := dk_28 (dk_at dksX3_wed_0 6 rfl rfl)
theorem dX3_wed_7 : decode cX3_wed 7 = .ok (.putfield 86, 3) := dk_181 0 86 (dk_at dksX3_wed_0 7 rfl rfl)
theorem dX3_wed_10 : decode cX3_wed 10 = .ok (.aload_n 0, 1) := dk_42 (dk_at dksX3_wed_0 10 rfl rfl)
theorem dX3_wed_11 : decode cX3_wed 11 = .ok (.getfield 17, 3) := dk_180 0 17 (dk_at dksX3_wed_0 11 rfl rfl)
theorem dX3_wed_14 : decode cX3_wed 14 = .ok (.iload_n 2, 1) := dk_28 (dk_at dksX3_wed_0 14 rfl rfl)
theorem dX3_wed_15 : decode cX3_wed 15 = .ok (.aaload, 1) := dk_50 (dk_at dksX3_wed_0 15 rfl rfl)
theorem dX3_wed_16 : decode cX3_wed 16 = .ok (.iload_n 1, 1) := dk_27 (dk_at dksX3_wed_0 16 rfl rfl)
theorem dX3_wed_17 : decode cX3_wed 17 = .ok (.putfield 86, 3) := dk_181 0 86 (dk_at dksX3_wed_0 17 rfl rfl)
theorem dX3_wed_20 : decode cX3_wed 20 = .ok (.aload_n 0, 1) := dk_42 (dk_at dksX3_wed_0 20 rfl rfl)
theorem dX3_wed_21 : decode cX3_wed 21 = .ok (.getfield 17, 3) := dk_180 0 17 (dk_at dksX3_wed_0 21 rfl rfl)
theorem dX3_wed_24 : decode cX3_wed 24 = .ok (.iload_n 1, 1) := dk_27 (dk_at dksX3_wed_1 0 rfl rfl)
theorem dX3_wed_25 : decode cX3_wed 25 = .ok (.aaload, 1) := dk_50 (dk_at dksX3_wed_1 1 rfl rfl)
theorem dX3_wed_26 : decode cX3_wed 26 = .ok (.iconst 0, 1) := dk_3 (dk_at dksX3_wed_1 2 rfl rfl)
theorem dX3_wed_27 : decode cX3_wed 27 = .ok (.putfield 89, 3) := dk_181 0 89 (dk_at dksX3_wed_1 3 rfl rfl)
theorem dX3_wed_30 : decode cX3_wed 30 = .ok (.aload_n 0, 1) := dk_42 (dk_at dksX3_wed_1 6 rfl rfl)
theorem dX3_wed_31 : decode cX3_wed 31 = .ok (.getfield 17, 3) := dk_180 0 17 (dk_at dksX3_wed_1 7 rfl rfl)
theorem dX3_wed_34 : decode cX3_wed 34 = .ok (.iload_n 2, 1) := dk_28 (dk_at dksX3_wed_1 10 rfl rfl)
theorem dX3_wed_35 : decode cX3_wed 35 = .ok (.aaload, 1) := dk_50 (dk_at dksX3_wed_1 11 rfl rfl)
theorem dX3_wed_36 : decode cX3_wed 36 = .ok (.iconst 0, 1) := dk_3 (dk_at dksX3_wed_1 12 rfl rfl)
theorem dX3_wed_37 : decode cX3_wed 37 = .ok (.putfield 89, 3) := dk_181 0 89 (dk_at dksX3_wed_1 13 rfl rfl)
theorem dX3_wed_40 : decode cX3_wed 40 = .ok (.return_, 1) := dk_177 (dk_at dksX3_wed_1 16 rfl rfl)
abbrev cX3_goes : ByteArray := prog_7_method_18_code
def yX3_goes : MethodName := ⟨RX3, "goes", "(I)LPuzzleWed$Land;"⟩
def dkwX3_goes_1 : List UInt8 := [180, 0, 40, 17, 39, 15, 162, 0, 13, 42, 182, 0, 154, 132, 2, 1, 167, 255, 234, 42, 176]
abbrev dktX3_goes_1 : List UInt8 := dkwX3_goes_1 ++ []
def dkwX3_goes_0 : List UInt8 := [42, 3, 181, 0, 107, 42, 3, 181, 0, 95, 42, 3, 181, 0, 143, 3, 61, 28, 27, 162, 0, 23, 42]
abbrev dktX3_goes_0 : List UInt8 := dkwX3_goes_0 ++ dktX3_goes_1
theorem dksX3_goes_0 : cX3_goes.data.toList.drop 0 = dktX3_goes_0 := by decide +kernel
theorem dksX3_goes_1 : cX3_goes.data.toList.drop 23 = dktX3_goes_1 := dk_seg dksX3_goes_0 23 rfl rfl
theorem dX3_goes_0 : decode cX3_goes 0 = .ok (.aload_n 0, 1) := dk_42 (dk_at dksX3_goes_0 0 rfl rfl)
theorem dX3_goes_1 : decode cX3_goes 1 = .ok (.iconst 0, 1) := dk_3 (dk_at dksX3_goes_0 1 rfl rfl)
theorem dX3_goes_2 : decode cX3_goes 2 = .ok (.putfield 107, 3) := dk_181 0 107 (dk_at dksX3_goes_0 2 rfl rfl)
theorem dX3_goes_5 : decode cX3_goes 5 = .ok (.aload_n 0, 1) := dk_42 (dk_at dksX3_goes_0 5 rfl rfl)
theorem dX3_goes_6 : decode cX3_goes 6 = .ok (.iconst 0, 1) := dk_3 (dk_at dksX3_goes_0 6 rfl rfl)
theorem dX3_goes_7 : decode cX3_goes 7 = .ok (.putfield 95, 3) := dk_181 0 95 (dk_at dksX3_goes_0 7 rfl rfl)
theorem dX3_goes_10 : decode cX3_goes 10 = .ok (.aload_n 0, 1) := dk_42 (dk_at dksX3_goes_0 10 rfl rfl)
theorem dX3_goes_11 : decode cX3_goes 11 = .ok (.iconst 0, 1) := dk_3 (dk_at dksX3_goes_0 11 rfl rfl)
theorem dX3_goes_12 : decode cX3_goes 12 = .ok (.putfield 143, 3) := dk_181 0 143 (dk_at dksX3_goes_0 12 rfl rfl)
theorem dX3_goes_15 : decode cX3_goes 15 = .ok (.iconst 0, 1) := dk_3 (dk_at dksX3_goes_0 15 rfl rfl)
theorem dX3_goes_16 : decode cX3_goes 16 = .ok (.istore_n 2, 1) := dk_61 (dk_at dksX3_goes_0 16 rfl rfl)
theorem dX3_goes_17 : decode cX3_goes 17 = .ok (.iload_n 2, 1) := dk_28 (dk_at dksX3_goes_0 17 rfl rfl)
theorem dX3_goes_18 : decode cX3_goes 18 = .ok (.iload_n 1, 1) := dk_27 (dk_at dksX3_goes_0 18 rfl rfl)
theorem dX3_goes_19 : decode cX3_goes 19 = .ok (.if_icmp .ge 23, 3) := dk_162 0 23 (dk_at dksX3_goes_0 19 rfl rfl)
theorem dX3_goes_22 : decode cX3_goes 22 = .ok (.aload_n 0, 1) := dk_42 (dk_at dksX3_goes_0 22 rfl rfl)
theorem dX3_goes_23 : decode cX3_goes 23 = .ok (.getfield 40, 3) := dk_180 0 40 (dk_at dksX3_goes_1 0 rfl rfl)
theorem dX3_goes_26 : decode cX3_goes 26 = .ok (.sipush 9999, 3) := dk_17 39 15 (dk_at dksX3_goes_1 3 rfl rfl)
theorem dX3_goes_29 : decode cX3_goes 29 = .ok (.if_icmp .ge 13, 3) := dk_162 0 13 (dk_at dksX3_goes_1 6 rfl rfl)
theorem dX3_goes_32 : decode cX3_goes 32 = .ok (.aload_n 0, 1) := dk_42 (dk_at dksX3_goes_1 9 rfl rfl)
theorem dX3_goes_33 : decode cX3_goes 33 = .ok (.invokevirtual 154, 3) := dk_182 0 154 (dk_at dksX3_goes_1 10 rfl rfl)
theorem dX3_goes_36 : decode cX3_goes 36 = .ok (.iinc 2 1, 3) := dk_132 2 1 (dk_at dksX3_goes_1 13 rfl rfl)
theorem dX3_goes_39 : decode cX3_goes 39 = .ok (.goto (-22), 3) := dk_167 255 234 (dk_at dksX3_goes_1 16 rfl rfl)
theorem dX3_goes_42 : decode cX3_goes 42 = .ok (.aload_n 0, 1) := dk_42 (dk_at dksX3_goes_1 19 rfl rfl)
theorem dX3_goes_43 : decode cX3_goes 43 = .ok (.areturn, 1) := dk_176 (dk_at dksX3_goes_1 20 rfl rfl)
abbrev cX3_dayGoes : ByteArray := prog_7_method_17_code
def yX3_dayGoes : MethodName := ⟨RX3, "dayGoes", "()V"⟩
def dkwX3_dayGoes_7 : List UInt8 := [181, 0, 40, 177]
abbrev dktX3_dayGoes_7 : List UInt8 := dkwX3_dayGoes_7 ++ []
def dkwX3_dayGoes_6 : List UInt8 := [180, 0, 17, 27, 50, 180, 0, 86, 182, 0, 152, 132, 1, 1, 167, 255, 208, 42, 89, 180, 0, 40, 4, 96]
abbrev dktX3_dayGoes_6 : List UInt8 := dkwX3_dayGoes_6 ++ dktX3_dayGoes_7
def dkwX3_dayGoes_5 : List UInt8 := [27, 50, 182, 0, 50, 153, 0, 30, 42, 180, 0, 17, 27, 50, 180, 0, 86, 27, 164, 0, 17, 42, 27, 42]
abbrev dktX3_dayGoes_5 : List UInt8 := dkwX3_dayGoes_5 ++ dktX3_dayGoes_6
def dkwX3_dayGoes_4 : List UInt8 := [132, 2, 1, 167, 255, 204, 132, 1, 1, 167, 255, 190, 3, 60, 27, 16, 12, 162, 0, 48, 42, 180, 0, 17]
abbrev dktX3_dayGoes_4 : List UInt8 := dkwX3_dayGoes_4 ++ dktX3_dayGoes_5
def dkwX3_dayGoes_3 : List UInt8 := [154, 0, 22, 42, 180, 0, 17, 28, 50, 180, 0, 128, 27, 160, 0, 9, 42, 27, 28, 182, 0, 149]
abbrev dktX3_dayGoes_3 : List UInt8 := dkwX3_dayGoes_3 ++ dktX3_dayGoes_4
def dkwX3_dayGoes_2 : List UInt8 := [162, 0, 52, 42, 180, 0, 17, 28, 50, 182, 0, 115, 153, 0, 34, 42, 180, 0, 17, 28, 50, 180, 0, 65]
abbrev dktX3_dayGoes_2 : List UInt8 := dkwX3_dayGoes_2 ++ dktX3_dayGoes_3
def dkwX3_dayGoes_1 : List UInt8 := [182, 0, 146, 132, 3, 1, 167, 255, 237, 3, 60, 27, 16, 6, 162, 0, 66, 3, 61, 28, 16, 12]
abbrev dktX3_dayGoes_1 : List UInt8 := dkwX3_dayGoes_1 ++ dktX3_dayGoes_2
def dkwX3_dayGoes_0 : List UInt8 := [42, 180, 0, 17, 76, 43, 190, 61, 3, 62, 29, 28, 162, 0, 20, 43, 29, 50, 58, 4, 42, 25, 4]
abbrev dktX3_dayGoes_0 : List UInt8 := dkwX3_dayGoes_0 ++ dktX3_dayGoes_1
theorem dksX3_dayGoes_0 : cX3_dayGoes.data.toList.drop 0 = dktX3_dayGoes_0 := by decide +kernel
theorem dksX3_dayGoes_1 : cX3_dayGoes.data.toList.drop 23 = dktX3_dayGoes_1 := dk_seg dksX3_dayGoes_0 23 rfl rfl
theorem dksX3_dayGoes_2 : cX3_dayGoes.data.toList.drop 45 = dktX3_dayGoes_2 := dk_seg dksX3_dayGoes_1 22 rfl rfl
theorem dksX3_dayGoes_3 : cX3_dayGoes.data.toList.drop 69 = dktX3_dayGoes_3 := dk_seg dksX3_dayGoes_2 24 rfl rfl
theorem dksX3_dayGoes_4 : cX3_dayGoes.data.toList.drop 91 = dktX3_dayGoes_4 := dk_seg dksX3_dayGoes_3 22 rfl rfl
theorem dksX3_dayGoes_5 : cX3_dayGoes.data.toList.drop 115 = dktX3_dayGoes_5 := dk_seg dksX3_dayGoes_4 24 rfl rfl
theorem dksX3_dayGoes_6 : cX3_dayGoes.data.toList.drop 139 = dktX3_dayGoes_6 := dk_seg dksX3_dayGoes_5 24 rfl rfl
theorem dksX3_dayGoes_7 : cX3_dayGoes.data.toList.drop 163 = dktX3_dayGoes_7 := dk_seg dksX3_dayGoes_6 24 rfl rfl
theorem dX3_dayGoes_0 : decode cX3_dayGoes 0 = .ok (.aload_n 0, 1) := dk_42 (dk_at dksX3_dayGoes_0 0 rfl rfl)
theorem dX3_dayGoes_1 : decode cX3_dayGoes 1 = .ok (.getfield 17, 3) := dk_180 0 17 (dk_at dksX3_dayGoes_0 1 rfl rfl)
theorem dX3_dayGoes_4 : decode cX3_dayGoes 4 = .ok (.astore_n 1, 1) := dk_76 (dk_at dksX3_dayGoes_0 4 rfl rfl)
theorem dX3_dayGoes_5 : decode cX3_dayGoes 5 = .ok (.aload_n 1, 1) := dk_43 (dk_at dksX3_dayGoes_0 5 rfl rfl)
theorem dX3_dayGoes_6 : decode cX3_dayGoes 6 = .ok (.arraylength, 1) := dk_190 (dk_at dksX3_dayGoes_0 6 rfl rfl)
theorem dX3_dayGoes_7 : decode cX3_dayGoes 7 = .ok (.istore_n 2, 1) := dk_61 (dk_at dksX3_dayGoes_0 7 rfl rfl)
theorem dX3_dayGoes_8 : decode cX3_dayGoes 8 = .ok (.iconst 0, 1) := dk_3 (dk_at dksX3_dayGoes_0 8 rfl rfl)
theorem dX3_dayGoes_9 : decode cX3_dayGoes 9 = .ok (.istore_n 3, 1) := dk_62 (dk_at dksX3_dayGoes_0 9 rfl rfl)
theorem dX3_dayGoes_10 : decode cX3_dayGoes 10 = .ok (.iload_n 3, 1) := dk_29 (dk_at dksX3_dayGoes_0 10 rfl rfl)
theorem dX3_dayGoes_11 : decode cX3_dayGoes 11 = .ok (.iload_n 2, 1) := dk_28 (dk_at dksX3_dayGoes_0 11 rfl rfl)
theorem dX3_dayGoes_12 : decode cX3_dayGoes 12 = .ok (.if_icmp .ge 20, 3) := dk_162 0 20 (dk_at dksX3_dayGoes_0 12 rfl rfl)
theorem dX3_dayGoes_15 : decode cX3_dayGoes 15 = .ok (.aload_n 1, 1) := dk_43 (dk_at dksX3_dayGoes_0 15 rfl rfl)
theorem dX3_dayGoes_16 : decode cX3_dayGoes 16 = .ok (.iload_n 3, 1) := dk_29 (dk_at dksX3_dayGoes_0 16 rfl rfl)
theorem dX3_dayGoes_17 : decode cX3_dayGoes 17 = .ok (.aaload, 1) := dk_50 (dk_at dksX3_dayGoes_0 17 rfl rfl)
theorem dX3_dayGoes_18 : decode cX3_dayGoes 18 = .ok (.astore 4, 2) := dk_58 4 (dk_at dksX3_dayGoes_0 18 rfl rfl)
theorem dX3_dayGoes_20 : decode cX3_dayGoes 20 = .ok (.aload_n 0, 1) := dk_42 (dk_at dksX3_dayGoes_0 20 rfl rfl)
theorem dX3_dayGoes_21 : decode cX3_dayGoes 21 = .ok (.aload 4, 2) := dk_25 4 (dk_at dksX3_dayGoes_0 21 rfl rfl)
theorem dX3_dayGoes_23 : decode cX3_dayGoes 23 = .ok (.invokevirtual 146, 3) := dk_182 0 146 (dk_at dksX3_dayGoes_1 0 rfl rfl)
theorem dX3_dayGoes_26 : decode cX3_dayGoes 26 = .ok (.iinc 3 1, 3) := dk_132 3 1 (dk_at dksX3_dayGoes_1 3 rfl rfl)
theorem dX3_dayGoes_29 : decode cX3_dayGoes 29 = .ok (.goto (-19), 3) := dk_167 255 237 (dk_at dksX3_dayGoes_1 6 rfl rfl)
theorem dX3_dayGoes_32 : decode cX3_dayGoes 32 = .ok (.iconst 0, 1) := dk_3 (dk_at dksX3_dayGoes_1 9 rfl rfl)
theorem dX3_dayGoes_33 : decode cX3_dayGoes 33 = .ok (.istore_n 1, 1) := dk_60 (dk_at dksX3_dayGoes_1 10 rfl rfl)
theorem dX3_dayGoes_34 : decode cX3_dayGoes 34 = .ok (.iload_n 1, 1) := dk_27 (dk_at dksX3_dayGoes_1 11 rfl rfl)
theorem dX3_dayGoes_35 : decode cX3_dayGoes 35 = .ok (.bipush 6, 2) := dk_16 6 (dk_at dksX3_dayGoes_1 12 rfl rfl)
theorem dX3_dayGoes_37 : decode cX3_dayGoes 37 = .ok (.if_icmp .ge 66, 3) := dk_162 0 66 (dk_at dksX3_dayGoes_1 14 rfl rfl)
theorem dX3_dayGoes_40 : decode cX3_dayGoes 40 = .ok (.iconst 0, 1) := dk_3 (dk_at dksX3_dayGoes_1 17 rfl rfl)
theorem dX3_dayGoes_41 : decode cX3_dayGoes 41 = .ok (.istore_n 2, 1) := dk_61 (dk_at dksX3_dayGoes_1 18 rfl rfl)
theorem dX3_dayGoes_42 : decode cX3_dayGoes 42 = .ok (.iload_n 2, 1) := dk_28 (dk_at dksX3_dayGoes_1 19 rfl rfl)
theorem dX3_dayGoes_43 : decode cX3_dayGoes 43 = .ok (.bipush 12, 2) := dk_16 12 (dk_at dksX3_dayGoes_1 20 rfl rfl)
theorem dX3_dayGoes_45 : decode cX3_dayGoes 45 = .ok (.if_icmp .ge 52, 3) := dk_162 0 52 (dk_at dksX3_dayGoes_2 0 rfl rfl)
theorem dX3_dayGoes_48 : decode cX3_dayGoes 48 = .ok (.aload_n 0, 1) := dk_42 (dk_at dksX3_dayGoes_2 3 rfl rfl)
theorem dX3_dayGoes_49 : decode cX3_dayGoes 49 = .ok (.getfield 17, 3) := dk_180 0 17 (dk_at dksX3_dayGoes_2 4 rfl rfl)
theorem dX3_dayGoes_52 : decode cX3_dayGoes 52 = .ok (.iload_n 2, 1) := dk_28 (dk_at dksX3_dayGoes_2 7 rfl rfl)
theorem dX3_dayGoes_53 : decode cX3_dayGoes 53 = .ok (.aaload, 1) := dk_50 (dk_at dksX3_dayGoes_2 8 rfl rfl)
theorem dX3_dayGoes_54 : decode cX3_dayGoes 54 = .ok (.invokevirtual 115, 3) := dk_182 0 115 (dk_at dksX3_dayGoes_2 9 rfl rfl)
theorem dX3_dayGoes_57 : decode cX3_dayGoes 57 = .ok (.ifCond .eq 34, 3) := dk_153 0 34 (dk_at dksX3_dayGoes_2 12 rfl rfl)
theorem dX3_dayGoes_60 : decode cX3_dayGoes 60 = .ok (.aload_n 0, 1) := dk_42 (dk_at dksX3_dayGoes_2 15 rfl rfl)
theorem dX3_dayGoes_61 : decode cX3_dayGoes 61 = .ok (.getfield 17, 3) := dk_180 0 17 (dk_at dksX3_dayGoes_2 16 rfl rfl)
theorem dX3_dayGoes_64 : decode cX3_dayGoes 64 = .ok (.iload_n 2, 1) := dk_28 (dk_at dksX3_dayGoes_2 19 rfl rfl)
theorem dX3_dayGoes_65 : decode cX3_dayGoes 65 = .ok (.aaload, 1) := dk_50 (dk_at dksX3_dayGoes_2 20 rfl rfl)
theorem dX3_dayGoes_66 : decode cX3_dayGoes 66 = .ok (.getfield 65, 3) := dk_180 0 65 (dk_at dksX3_dayGoes_2 21 rfl rfl)
theorem dX3_dayGoes_69 : decode cX3_dayGoes 69 = .ok (.ifCond .ne 22, 3) := dk_154 0 22 (dk_at dksX3_dayGoes_3 0 rfl rfl)
theorem dX3_dayGoes_72 : decode cX3_dayGoes 72 = .ok (.aload_n 0, 1) := dk_42 (dk_at dksX3_dayGoes_3 3 rfl rfl)
theorem dX3_dayGoes_73 : decode cX3_dayGoes 73 = .ok (.getfield 17, 3) := dk_180 0 17 (dk_at dksX3_dayGoes_3 4 rfl rfl)
theorem dX3_dayGoes_76 : decode cX3_dayGoes 76 = .ok (.iload_n 2, 1) := dk_28 (dk_at dksX3_dayGoes_3 7 rfl rfl)
theorem dX3_dayGoes_77 : decode cX3_dayGoes 77 = .ok (.aaload, 1) := dk_50 (dk_at dksX3_dayGoes_3 8 rfl rfl)
theorem dX3_dayGoes_78 : decode cX3_dayGoes 78 = .ok (.getfield 128, 3) := dk_180 0 128 (dk_at dksX3_dayGoes_3 9 rfl rfl)
theorem dX3_dayGoes_81 : decode cX3_dayGoes 81 = .ok (.iload_n 1, 1) := dk_27 (dk_at dksX3_dayGoes_3 12 rfl rfl)
theorem dX3_dayGoes_82 : decode cX3_dayGoes 82 = .ok (.if_icmp .ne 9, 3) := dk_160 0 9 (dk_at dksX3_dayGoes_3 13 rfl rfl)
theorem dX3_dayGoes_85 : decode cX3_dayGoes 85 = .ok (.aload_n 0, 1) := dk_42 (dk_at dksX3_dayGoes_3 16 rfl rfl)
theorem dX3_dayGoes_86 : decode cX3_dayGoes 86 = .ok (.iload_n 1, 1) := dk_27 (dk_at dksX3_dayGoes_3 17 rfl rfl)
theorem dX3_dayGoes_87 : decode cX3_dayGoes 87 = .ok (.iload_n 2, 1) := dk_28 (dk_at dksX3_dayGoes_3 18 rfl rfl)
theorem dX3_dayGoes_88 : decode cX3_dayGoes 88 = .ok (.invokevirtual 149, 3) := dk_182 0 149 (dk_at dksX3_dayGoes_3 19 rfl rfl)
theorem dX3_dayGoes_91 : decode cX3_dayGoes 91 = .ok (.iinc 2 1, 3) := dk_132 2 1 (dk_at dksX3_dayGoes_4 0 rfl rfl)
theorem dX3_dayGoes_94 : decode cX3_dayGoes 94 = .ok (.goto (-52), 3) := dk_167 255 204 (dk_at dksX3_dayGoes_4 3 rfl rfl)
theorem dX3_dayGoes_97 : decode cX3_dayGoes 97 = .ok (.iinc 1 1, 3) := dk_132 1 1 (dk_at dksX3_dayGoes_4 6 rfl rfl)
theorem dX3_dayGoes_100 : decode cX3_dayGoes 100 = .ok (.goto (-66), 3) := dk_167 255 190 (dk_at dksX3_dayGoes_4 9 rfl rfl)
theorem dX3_dayGoes_103 : decode cX3_dayGoes 103 = .ok (.iconst 0, 1) := dk_3 (dk_at dksX3_dayGoes_4 12 rfl rfl)
theorem dX3_dayGoes_104 : decode cX3_dayGoes 104 = .ok (.istore_n 1, 1) := dk_60 (dk_at dksX3_dayGoes_4 13 rfl rfl)
theorem dX3_dayGoes_105 : decode cX3_dayGoes 105 = .ok (.iload_n 1, 1) := dk_27 (dk_at dksX3_dayGoes_4 14 rfl rfl)
theorem dX3_dayGoes_106 : decode cX3_dayGoes 106 = .ok (.bipush 12, 2) := dk_16 12 (dk_at dksX3_dayGoes_4 15 rfl rfl)
theorem dX3_dayGoes_108 : decode cX3_dayGoes 108 = .ok (.if_icmp .ge 48, 3) := dk_162 0 48 (dk_at dksX3_dayGoes_4 17 rfl rfl)
theorem dX3_dayGoes_111 : decode cX3_dayGoes 111 = .ok (.aload_n 0, 1) := dk_42 (dk_at dksX3_dayGoes_4 20 rfl rfl)
theorem dX3_dayGoes_112 : decode cX3_dayGoes 112 = .ok (.getfield 17, 3) := dk_180 0 17 (dk_at dksX3_dayGoes_4 21 rfl rfl)
theorem dX3_dayGoes_115 : decode cX3_dayGoes 115 = .ok (.iload_n 1, 1) := dk_27 (dk_at dksX3_dayGoes_5 0 rfl rfl)
theorem dX3_dayGoes_116 : decode cX3_dayGoes 116 = .ok (.aaload, 1) := dk_50 (dk_at dksX3_dayGoes_5 1 rfl rfl)
theorem dX3_dayGoes_117 : decode cX3_dayGoes 117 = .ok (.invokevirtual 50, 3) := dk_182 0 50 (dk_at dksX3_dayGoes_5 2 rfl rfl)
theorem dX3_dayGoes_120 : decode cX3_dayGoes 120 = .ok (.ifCond .eq 30, 3) := dk_153 0 30 (dk_at dksX3_dayGoes_5 5 rfl rfl)
theorem dX3_dayGoes_123 : decode cX3_dayGoes 123 = .ok (.aload_n 0, 1) := dk_42 (dk_at dksX3_dayGoes_5 8 rfl rfl)
theorem dX3_dayGoes_124 : decode cX3_dayGoes 124 = .ok (.getfield 17, 3) := dk_180 0 17 (dk_at dksX3_dayGoes_5 9 rfl rfl)
theorem dX3_dayGoes_127 : decode cX3_dayGoes 127 = .ok (.iload_n 1, 1) := dk_27 (dk_at dksX3_dayGoes_5 12 rfl rfl)
theorem dX3_dayGoes_128 : decode cX3_dayGoes 128 = .ok (.aaload, 1) := dk_50 (dk_at dksX3_dayGoes_5 13 rfl rfl)
theorem dX3_dayGoes_129 : decode cX3_dayGoes 129 = .ok (.getfield 86, 3) := dk_180 0 86 (dk_at dksX3_dayGoes_5 14 rfl rfl)
theorem dX3_dayGoes_132 : decode cX3_dayGoes 132 = .ok (.iload_n 1, 1) := dk_27 (dk_at dksX3_dayGoes_5 17 rfl rfl)
theorem dX3_dayGoes_133 : decode cX3_dayGoes 133 = .ok (.if_icmp .le 17, 3) := dk_164 0 17 (dk_at dksX3_dayGoes_5 18 rfl rfl)
theorem dX3_dayGoes_136 : decode cX3_dayGoes 136 = .ok (.aload_n 0, 1) := dk_42 (dk_at dksX3_dayGoes_5 21 rfl rfl)
theorem dX3_dayGoes_137 : decode cX3_dayGoes 137 = .ok (.iload_n 1, 1) := dk_27 (dk_at dksX3_dayGoes_5 22 rfl rfl)
theorem dX3_dayGoes_138 : decode cX3_dayGoes 138 = .ok (.aload_n 0, 1) := dk_42 (dk_at dksX3_dayGoes_5 23 rfl rfl)
theorem dX3_dayGoes_139 : decode cX3_dayGoes 139 = .ok (.getfield 17, 3) := dk_180 0 17 (dk_at dksX3_dayGoes_6 0 rfl rfl)
theorem dX3_dayGoes_142 : decode cX3_dayGoes 142 = .ok (.iload_n 1, 1) := dk_27 (dk_at dksX3_dayGoes_6 3 rfl rfl)
theorem dX3_dayGoes_143 : decode cX3_dayGoes 143 = .ok (.aaload, 1) := dk_50 (dk_at dksX3_dayGoes_6 4 rfl rfl)
theorem dX3_dayGoes_144 : decode cX3_dayGoes 144 = .ok (.getfield 86, 3) := dk_180 0 86 (dk_at dksX3_dayGoes_6 5 rfl rfl)
theorem dX3_dayGoes_147 : decode cX3_dayGoes 147 = .ok (.invokevirtual 152, 3) := dk_182 0 152 (dk_at dksX3_dayGoes_6 8 rfl rfl)
theorem dX3_dayGoes_150 : decode cX3_dayGoes 150 = .ok (.iinc 1 1, 3) := dk_132 1 1 (dk_at dksX3_dayGoes_6 11 rfl rfl)
theorem dX3_dayGoes_153 : decode cX3_dayGoes 153 = .ok (.goto (-48), 3) := dk_167 255 208 (dk_at dksX3_dayGoes_6 14 rfl rfl)
theorem dX3_dayGoes_156 : decode cX3_dayGoes 156 = .ok (.aload_n 0, 1) := dk_42 (dk_at dksX3_dayGoes_6 17 rfl rfl)
theorem dX3_dayGoes_157 : decode cX3_dayGoes 157 = .ok (.dup, 1) := dk_89 (dk_at dksX3_dayGoes_6 18 rfl rfl)
theorem dX3_dayGoes_158 : decode cX3_dayGoes 158 = .ok (.getfield 40, 3) := dk_180 0 40 (dk_at dksX3_dayGoes_6 19 rfl rfl)
theorem dX3_dayGoes_161 : decode cX3_dayGoes 161 = .ok (.iconst 1, 1) := dk_4 (dk_at dksX3_dayGoes_6 22 rfl rfl)
theorem dX3_dayGoes_162 : decode cX3_dayGoes 162 = .ok (.iadd, 1) := dk_96 (dk_at dksX3_dayGoes_6 23 rfl rfl)
theorem dX3_dayGoes_163 : decode cX3_dayGoes 163 = .ok (.putfield 40, 3) := dk_181 0 40 (dk_at dksX3_dayGoes_7 0 rfl rfl)
theorem dX3_dayGoes_166 : decode cX3_dayGoes 166 = .ok (.return_, 1) := dk_177 (dk_at dksX3_dayGoes_7 3 rfl rfl)
abbrev cX3_travels : ByteArray := prog_7_method_14_code
def yX3_travels : MethodName := ⟨RX3, "travels", "(LPuzzleWed$Person;)V"⟩
def dkwX3_travels_1 : List UInt8 := [43, 180, 0, 118, 46, 181, 0, 128, 43, 89, 180, 0, 118, 4, 96, 181, 0, 118, 177]
abbrev dktX3_travels_1 : List UInt8 := dkwX3_travels_1 ++ []
def dkwX3_travels_0 : List UInt8 := [43, 182, 0, 115, 153, 0, 14, 43, 180, 0, 118, 43, 180, 0, 121, 160, 0, 4, 177, 43, 43, 180, 0, 124]
abbrev dktX3_travels_0 : List UInt8 := dkwX3_travels_0 ++ dktX3_travels_1
theorem dksX3_travels_0 : cX3_travels.data.toList.drop 0 = dktX3_travels_0 := by decide +kernel
theorem dksX3_travels_1 : cX3_travels.data.toList.drop 24 = dktX3_travels_1 := dk_seg dksX3_travels_0 24 rfl rfl
theorem dX3_travels_0 : decode cX3_travels 0 = .ok (.aload_n 1, 1) := dk_43 (dk_at dksX3_travels_0 0 rfl rfl)
theorem dX3_travels_1 : decode cX3_travels 1 = .ok (.invokevirtual 115, 3) := dk_182 0 115 (dk_at dksX3_travels_0 1 rfl rfl)
theorem dX3_travels_4 : decode cX3_travels 4 = .ok (.ifCond .eq 14, 3) := dk_153 0 14 (dk_at dksX3_travels_0 4 rfl rfl)
theorem dX3_travels_7 : decode cX3_travels 7 = .ok (.aload_n 1, 1) := dk_43 (dk_at dksX3_travels_0 7 rfl rfl)
theorem dX3_travels_8 : decode cX3_travels 8 = .ok (.getfield 118, 3) := dk_180 0 118 (dk_at dksX3_travels_0 8 rfl rfl)
theorem dX3_travels_11 : decode cX3_travels 11 = .ok (.aload_n 1, 1) := dk_43 (dk_at dksX3_travels_0 11 rfl rfl)
theorem dX3_travels_12 : decode cX3_travels 12 = .ok (.getfield 121, 3) := dk_180 0 121 (dk_at dksX3_travels_0 12 rfl rfl)
theorem dX3_travels_15 : decode cX3_travels 15 = .ok (.if_icmp .ne 4, 3) := dk_160 0 4 (dk_at dksX3_travels_0 15 rfl rfl)
theorem dX3_travels_18 : decode cX3_travels 18 = .ok (.return_, 1) := dk_177 (dk_at dksX3_travels_0 18 rfl rfl)
theorem dX3_travels_19 : decode cX3_travels 19 = .ok (.aload_n 1, 1) := dk_43 (dk_at dksX3_travels_0 19 rfl rfl)
theorem dX3_travels_20 : decode cX3_travels 20 = .ok (.aload_n 1, 1) := dk_43 (dk_at dksX3_travels_0 20 rfl rfl)
theorem dX3_travels_21 : decode cX3_travels 21 = .ok (.getfield 124, 3) := dk_180 0 124 (dk_at dksX3_travels_0 21 rfl rfl)
theorem dX3_travels_24 : decode cX3_travels 24 = .ok (.aload_n 1, 1) := dk_43 (dk_at dksX3_travels_1 0 rfl rfl)
theorem dX3_travels_25 : decode cX3_travels 25 = .ok (.getfield 118, 3) := dk_180 0 118 (dk_at dksX3_travels_1 1 rfl rfl)
theorem dX3_travels_28 : decode cX3_travels 28 = .ok (.iaload, 1) := dk_46 (dk_at dksX3_travels_1 4 rfl rfl)
theorem dX3_travels_29 : decode cX3_travels 29 = .ok (.putfield 128, 3) := dk_181 0 128 (dk_at dksX3_travels_1 5 rfl rfl)
theorem dX3_travels_32 : decode cX3_travels 32 = .ok (.aload_n 1, 1) := dk_43 (dk_at dksX3_travels_1 8 rfl rfl)
theorem dX3_travels_33 : decode cX3_travels 33 = .ok (.dup, 1) := dk_89 (dk_at dksX3_travels_1 9 rfl rfl)
theorem dX3_travels_34 : decode cX3_travels 34 = .ok (.getfield 118, 3) := dk_180 0 118 (dk_at dksX3_travels_1 10 rfl rfl)
theorem dX3_travels_37 : decode cX3_travels 37 = .ok (.iconst 1, 1) := dk_4 (dk_at dksX3_travels_1 13 rfl rfl)
theorem dX3_travels_38 : decode cX3_travels 38 = .ok (.iadd, 1) := dk_96 (dk_at dksX3_travels_1 14 rfl rfl)
theorem dX3_travels_39 : decode cX3_travels 39 = .ok (.putfield 118, 3) := dk_181 0 118 (dk_at dksX3_travels_1 15 rfl rfl)
theorem dX3_travels_42 : decode cX3_travels 42 = .ok (.return_, 1) := dk_177 (dk_at dksX3_travels_1 18 rfl rfl)
abbrev cX3_meets : ByteArray := prog_7_method_15_code
def yX3_meets : MethodName := ⟨RX3, "meets", "(II)V"⟩
def dkwX3_meets_3 : List UInt8 := [177, 132, 3, 1, 167, 255, 183, 177]
abbrev dktX3_meets_3 : List UInt8 := dkwX3_meets_3 ++ []
def dkwX3_meets_2 : List UInt8 := [180, 0, 17, 28, 50, 180, 0, 92, 29, 184, 0, 131, 153, 0, 6, 167, 0, 10, 42, 28, 29, 182, 0, 134]
abbrev dktX3_meets_2 : List UInt8 := dkwX3_meets_2 ++ dktX3_meets_3
def dkwX3_meets_1 : List UInt8 := [29, 50, 180, 0, 65, 4, 160, 0, 42, 42, 180, 0, 17, 29, 50, 180, 0, 128, 27, 160, 0, 29, 42]
abbrev dktX3_meets_1 : List UInt8 := dkwX3_meets_1 ++ dktX3_meets_2
def dkwX3_meets_0 : List UInt8 := [3, 62, 29, 16, 12, 162, 0, 73, 42, 180, 0, 17, 29, 50, 182, 0, 115, 153, 0, 55, 42, 180, 0, 17]
abbrev dktX3_meets_0 : List UInt8 := dkwX3_meets_0 ++ dktX3_meets_1
theorem dksX3_meets_0 : cX3_meets.data.toList.drop 0 = dktX3_meets_0 := by decide +kernel
theorem dksX3_meets_1 : cX3_meets.data.toList.drop 24 = dktX3_meets_1 := dk_seg dksX3_meets_0 24 rfl rfl
theorem dksX3_meets_2 : cX3_meets.data.toList.drop 47 = dktX3_meets_2 := dk_seg dksX3_meets_1 23 rfl rfl
theorem dksX3_meets_3 : cX3_meets.data.toList.drop 71 = dktX3_meets_3 := dk_seg dksX3_meets_2 24 rfl rfl
theorem dX3_meets_0 : decode cX3_meets 0 = .ok (.iconst 0, 1) := dk_3 (dk_at dksX3_meets_0 0 rfl rfl)
theorem dX3_meets_1 : decode cX3_meets 1 = .ok (.istore_n 3, 1) := dk_62 (dk_at dksX3_meets_0 1 rfl rfl)
theorem dX3_meets_2 : decode cX3_meets 2 = .ok (.iload_n 3, 1) := dk_29 (dk_at dksX3_meets_0 2 rfl rfl)
theorem dX3_meets_3 : decode cX3_meets 3 = .ok (.bipush 12, 2) := dk_16 12 (dk_at dksX3_meets_0 3 rfl rfl)
theorem dX3_meets_5 : decode cX3_meets 5 = .ok (.if_icmp .ge 73, 3) := dk_162 0 73 (dk_at dksX3_meets_0 5 rfl rfl)
theorem dX3_meets_8 : decode cX3_meets 8 = .ok (.aload_n 0, 1) := dk_42 (dk_at dksX3_meets_0 8 rfl rfl)
theorem dX3_meets_9 : decode cX3_meets 9 = .ok (.getfield 17, 3) := dk_180 0 17 (dk_at dksX3_meets_0 9 rfl rfl)
theorem dX3_meets_12 : decode cX3_meets 12 = .ok (.iload_n 3, 1) := dk_29 (dk_at dksX3_meets_0 12 rfl rfl)
theorem dX3_meets_13 : decode cX3_meets 13 = .ok (.aaload, 1) := dk_50 (dk_at dksX3_meets_0 13 rfl rfl)
theorem dX3_meets_14 : decode cX3_meets 14 = .ok (.invokevirtual 115, 3) := dk_182 0 115 (dk_at dksX3_meets_0 14 rfl rfl)
theorem dX3_meets_17 : decode cX3_meets 17 = .ok (.ifCond .eq 55, 3) := dk_153 0 55 (dk_at dksX3_meets_0 17 rfl rfl)
theorem dX3_meets_20 : decode cX3_meets 20 = .ok (.aload_n 0, 1) := dk_42 (dk_at dksX3_meets_0 20 rfl rfl)
theorem dX3_meets_21 : decode cX3_meets 21 = .ok (.getfield 17, 3) := dk_180 0 17 (dk_at dksX3_meets_0 21 rfl rfl)
theorem dX3_meets_24 : decode cX3_meets 24 = .ok (.iload_n 3, 1) := dk_29 (dk_at dksX3_meets_1 0 rfl rfl)
theorem dX3_meets_25 : decode cX3_meets 25 = .ok (.aaload, 1) := dk_50 (dk_at dksX3_meets_1 1 rfl rfl)
theorem dX3_meets_26 : decode cX3_meets 26 = .ok (.getfield 65, 3) := dk_180 0 65 (dk_at dksX3_meets_1 2 rfl rfl)
theorem dX3_meets_29 : decode cX3_meets 29 = .ok (.iconst 1, 1) := dk_4 (dk_at dksX3_meets_1 5 rfl rfl)
theorem dX3_meets_30 : decode cX3_meets 30 = .ok (.if_icmp .ne 42, 3) := dk_160 0 42 (dk_at dksX3_meets_1 6 rfl rfl)
theorem dX3_meets_33 : decode cX3_meets 33 = .ok (.aload_n 0, 1) := dk_42 (dk_at dksX3_meets_1 9 rfl rfl)
theorem dX3_meets_34 : decode cX3_meets 34 = .ok (.getfield 17, 3) := dk_180 0 17 (dk_at dksX3_meets_1 10 rfl rfl)
theorem dX3_meets_37 : decode cX3_meets 37 = .ok (.iload_n 3, 1) := dk_29 (dk_at dksX3_meets_1 13 rfl rfl)
theorem dX3_meets_38 : decode cX3_meets 38 = .ok (.aaload, 1) := dk_50 (dk_at dksX3_meets_1 14 rfl rfl)
theorem dX3_meets_39 : decode cX3_meets 39 = .ok (.getfield 128, 3) := dk_180 0 128 (dk_at dksX3_meets_1 15 rfl rfl)
theorem dX3_meets_42 : decode cX3_meets 42 = .ok (.iload_n 1, 1) := dk_27 (dk_at dksX3_meets_1 18 rfl rfl)
theorem dX3_meets_43 : decode cX3_meets 43 = .ok (.if_icmp .ne 29, 3) := dk_160 0 29 (dk_at dksX3_meets_1 19 rfl rfl)
theorem dX3_meets_46 : decode cX3_meets 46 = .ok (.aload_n 0, 1) := dk_42 (dk_at dksX3_meets_1 22 rfl rfl)
theorem dX3_meets_47 : decode cX3_meets 47 = .ok (.getfield 17, 3) := dk_180 0 17 (dk_at dksX3_meets_2 0 rfl rfl)
theorem dX3_meets_50 : decode cX3_meets 50 = .ok (.iload_n 2, 1) := dk_28 (dk_at dksX3_meets_2 3 rfl rfl)
theorem dX3_meets_51 : decode cX3_meets 51 = .ok (.aaload, 1) := dk_50 (dk_at dksX3_meets_2 4 rfl rfl)
theorem dX3_meets_52 : decode cX3_meets 52 = .ok (.getfield 92, 3) := dk_180 0 92 (dk_at dksX3_meets_2 5 rfl rfl)
theorem dX3_meets_55 : decode cX3_meets 55 = .ok (.iload_n 3, 1) := dk_29 (dk_at dksX3_meets_2 8 rfl rfl)
theorem dX3_meets_56 : decode cX3_meets 56 = .ok (.invokestatic 131, 3) := dk_184 0 131 (dk_at dksX3_meets_2 9 rfl rfl)
theorem dX3_meets_59 : decode cX3_meets 59 = .ok (.ifCond .eq 6, 3) := dk_153 0 6 (dk_at dksX3_meets_2 12 rfl rfl)
theorem dX3_meets_62 : decode cX3_meets 62 = .ok (.goto 10, 3) := dk_167 0 10 (dk_at dksX3_meets_2 15 rfl rfl)
theorem dX3_meets_65 : decode cX3_meets 65 = .ok (.aload_n 0, 1) := dk_42 (dk_at dksX3_meets_2 18 rfl rfl)
theorem dX3_meets_66 : decode cX3_meets 66 = .ok (.iload_n 2, 1) := dk_28 (dk_at dksX3_meets_2 19 rfl rfl)
theorem dX3_meets_67 : decode cX3_meets 67 = .ok (.iload_n 3, 1) := dk_29 (dk_at dksX3_meets_2 20 rfl rfl)
theorem dX3_meets_68 : decode cX3_meets 68 = .ok (.invokevirtual 134, 3) := dk_182 0 134 (dk_at dksX3_meets_2 21 rfl rfl)
theorem dX3_meets_71 : decode cX3_meets 71 = .ok (.return_, 1) := dk_177 (dk_at dksX3_meets_3 0 rfl rfl)
theorem dX3_meets_72 : decode cX3_meets 72 = .ok (.iinc 3 1, 3) := dk_132 3 1 (dk_at dksX3_meets_3 1 rfl rfl)
theorem dX3_meets_75 : decode cX3_meets 75 = .ok (.goto (-73), 3) := dk_167 255 183 (dk_at dksX3_meets_3 4 rfl rfl)
theorem dX3_meets_78 : decode cX3_meets 78 = .ok (.return_, 1) := dk_177 (dk_at dksX3_meets_3 7 rfl rfl)
abbrev cX3_tries : ByteArray := prog_7_method_12_code
def yX3_tries : MethodName := ⟨RX3, "tries", "(II)V"⟩
def dkwX3_tries_5 : List UInt8 := [182, 0, 110, 132, 6, 1, 167, 255, 215, 177]
abbrev dktX3_tries_5 : List UInt8 := dkwX3_tries_5 ++ []
def dkwX3_tries_4 : List UInt8 := [50, 58, 7, 25, 7, 180, 0, 29, 27, 159, 0, 12, 25, 7, 180, 0, 29, 28, 160, 0, 9, 25, 7, 29]
abbrev dktX3_tries_4 : List UInt8 := dkwX3_tries_4 ++ dktX3_tries_5
def dkwX3_tries_3 : List UInt8 := [180, 0, 23, 58, 4, 25, 4, 190, 54, 5, 3, 54, 6, 21, 6, 21, 5, 162, 0, 40, 25, 4, 21, 6]
abbrev dktX3_tries_3 : List UInt8 := dkwX3_tries_3 ++ dktX3_tries_4
def dkwX3_tries_2 : List UInt8 := [180, 0, 73, 42, 27, 28, 42, 27, 28, 182, 0, 68, 182, 0, 77, 16, 119, 16, 9, 182, 0, 83, 62, 42]
abbrev dktX3_tries_2 : List UInt8 := dkwX3_tries_2 ++ dktX3_tries_3
def dkwX3_tries_1 : List UInt8 := [153, 0, 20, 42, 27, 28, 182, 0, 105, 42, 89, 180, 0, 107, 4, 96, 181, 0, 107, 177, 42, 180, 0, 3]
abbrev dktX3_tries_1 : List UInt8 := dkwX3_tries_1 ++ dktX3_tries_2
def dkwX3_tries_0 : List UInt8 := [42, 89, 180, 0, 95, 4, 96, 181, 0, 95, 42, 27, 28, 182, 0, 98, 42, 27, 28, 182, 0, 102]
abbrev dktX3_tries_0 : List UInt8 := dkwX3_tries_0 ++ dktX3_tries_1
theorem dksX3_tries_0 : cX3_tries.data.toList.drop 0 = dktX3_tries_0 := by decide +kernel
theorem dksX3_tries_1 : cX3_tries.data.toList.drop 22 = dktX3_tries_1 := dk_seg dksX3_tries_0 22 rfl rfl
theorem dksX3_tries_2 : cX3_tries.data.toList.drop 46 = dktX3_tries_2 := dk_seg dksX3_tries_1 24 rfl rfl
theorem dksX3_tries_3 : cX3_tries.data.toList.drop 70 = dktX3_tries_3 := dk_seg dksX3_tries_2 24 rfl rfl
theorem dksX3_tries_4 : cX3_tries.data.toList.drop 94 = dktX3_tries_4 := dk_seg dksX3_tries_3 24 rfl rfl
theorem dksX3_tries_5 : cX3_tries.data.toList.drop 118 = dktX3_tries_5 := dk_seg dksX3_tries_4 24 rfl rfl
theorem dX3_tries_0 : decode cX3_tries 0 = .ok (.aload_n 0, 1) := dk_42 (dk_at dksX3_tries_0 0 rfl rfl)
theorem dX3_tries_1 : decode cX3_tries 1 = .ok (.dup, 1) := dk_89 (dk_at dksX3_tries_0 1 rfl rfl)
theorem dX3_tries_2 : decode cX3_tries 2 = .ok (.getfield 95, 3) := dk_180 0 95 (dk_at dksX3_tries_0 2 rfl rfl)
theorem dX3_tries_5 : decode cX3_tries 5 = .ok (.iconst 1, 1) := dk_4 (dk_at dksX3_tries_0 5 rfl rfl)
theorem dX3_tries_6 : decode cX3_tries 6 = .ok (.iadd, 1) := dk_96 (dk_at dksX3_tries_0 6 rfl rfl)
theorem dX3_tries_7 : decode cX3_tries 7 = .ok (.putfield 95, 3) := dk_181 0 95 (dk_at dksX3_tries_0 7 rfl rfl)
theorem dX3_tries_10 : decode cX3_tries 10 = .ok (.aload_n 0, 1) := dk_42 (dk_at dksX3_tries_0 10 rfl rfl)
theorem dX3_tries_11 : decode cX3_tries 11 = .ok (.iload_n 1, 1) := dk_27 (dk_at dksX3_tries_0 11 rfl rfl)
theorem dX3_tries_12 : decode cX3_tries 12 = .ok (.iload_n 2, 1) := dk_28 (dk_at dksX3_tries_0 12 rfl rfl)
theorem dX3_tries_13 : decode cX3_tries 13 = .ok (.invokevirtual 98, 3) := dk_182 0 98 (dk_at dksX3_tries_0 13 rfl rfl)
theorem dX3_tries_16 : decode cX3_tries 16 = .ok (.aload_n 0, 1) := dk_42 (dk_at dksX3_tries_0 16 rfl rfl)
theorem dX3_tries_17 : decode cX3_tries 17 = .ok (.iload_n 1, 1) := dk_27 (dk_at dksX3_tries_0 17 rfl rfl)
theorem dX3_tries_18 : decode cX3_tries 18 = .ok (.iload_n 2, 1) := dk_28 (dk_at dksX3_tries_0 18 rfl rfl)
theorem dX3_tries_19 : decode cX3_tries 19 = .ok (.invokevirtual 102, 3) := dk_182 0 102 (dk_at dksX3_tries_0 19 rfl rfl)
theorem dX3_tries_22 : decode cX3_tries 22 = .ok (.ifCond .eq 20, 3) := dk_153 0 20 (dk_at dksX3_tries_1 0 rfl rfl)
theorem dX3_tries_25 : decode cX3_tries 25 = .ok (.aload_n 0, 1) := dk_42 (dk_at dksX3_tries_1 3 rfl rfl)
theorem dX3_tries_26 : decode cX3_tries 26 = .ok (.iload_n 1, 1) := dk_27 (dk_at dksX3_tries_1 4 rfl rfl)
theorem dX3_tries_27 : decode cX3_tries 27 = .ok (.iload_n 2, 1) := dk_28 (dk_at dksX3_tries_1 5 rfl rfl)
theorem dX3_tries_28 : decode cX3_tries 28 = .ok (.invokevirtual 105, 3) := dk_182 0 105 (dk_at dksX3_tries_1 6 rfl rfl)
theorem dX3_tries_31 : decode cX3_tries 31 = .ok (.aload_n 0, 1) := dk_42 (dk_at dksX3_tries_1 9 rfl rfl)
theorem dX3_tries_32 : decode cX3_tries 32 = .ok (.dup, 1) := dk_89 (dk_at dksX3_tries_1 10 rfl rfl)
theorem dX3_tries_33 : decode cX3_tries 33 = .ok (.getfield 107, 3) := dk_180 0 107 (dk_at dksX3_tries_1 11 rfl rfl)
theorem dX3_tries_36 : decode cX3_tries 36 = .ok (.iconst 1, 1) := dk_4 (dk_at dksX3_tries_1 14 rfl rfl)
theorem dX3_tries_37 : decode cX3_tries 37 = .ok (.iadd, 1) := dk_96 (dk_at dksX3_tries_1 15 rfl rfl)
theorem dX3_tries_38 : decode cX3_tries 38 = .ok (.putfield 107, 3) := dk_181 0 107 (dk_at dksX3_tries_1 16 rfl rfl)
theorem dX3_tries_41 : decode cX3_tries 41 = .ok (.return_, 1) := dk_177 (dk_at dksX3_tries_1 19 rfl rfl)
theorem dX3_tries_42 : decode cX3_tries 42 = .ok (.aload_n 0, 1) := dk_42 (dk_at dksX3_tries_1 20 rfl rfl)
theorem dX3_tries_43 : decode cX3_tries 43 = .ok (.getfield 3, 3) := dk_180 0 3 (dk_at dksX3_tries_1 21 rfl rfl)
theorem dX3_tries_46 : decode cX3_tries 46 = .ok (.getfield 73, 3) := dk_180 0 73 (dk_at dksX3_tries_2 0 rfl rfl)
theorem dX3_tries_49 : decode cX3_tries 49 = .ok (.aload_n 0, 1) := dk_42 (dk_at dksX3_tries_2 3 rfl rfl)
theorem dX3_tries_50 : decode cX3_tries 50 = .ok (.iload_n 1, 1) := dk_27 (dk_at dksX3_tries_2 4 rfl rfl)
theorem dX3_tries_51 : decode cX3_tries 51 = .ok (.iload_n 2, 1) := dk_28 (dk_at dksX3_tries_2 5 rfl rfl)
theorem dX3_tries_52 : decode cX3_tries 52 = .ok (.aload_n 0, 1) := dk_42 (dk_at dksX3_tries_2 6 rfl rfl)
theorem dX3_tries_53 : decode cX3_tries 53 = .ok (.iload_n 1, 1) := dk_27 (dk_at dksX3_tries_2 7 rfl rfl)
theorem dX3_tries_54 : decode cX3_tries 54 = .ok (.iload_n 2, 1) := dk_28 (dk_at dksX3_tries_2 8 rfl rfl)
theorem dX3_tries_55 : decode cX3_tries 55 = .ok (.invokevirtual 68, 3) := dk_182 0 68 (dk_at dksX3_tries_2 9 rfl rfl)
theorem dX3_tries_58 : decode cX3_tries 58 = .ok (.invokevirtual 77, 3) := dk_182 0 77 (dk_at dksX3_tries_2 12 rfl rfl)
theorem dX3_tries_61 : decode cX3_tries 61 = .ok (.bipush 119, 2) := dk_16 119 (dk_at dksX3_tries_2 15 rfl rfl)
theorem dX3_tries_63 : decode cX3_tries 63 = .ok (.bipush 9, 2) := dk_16 9 (dk_at dksX3_tries_2 17 rfl rfl)
theorem dX3_tries_65 : decode cX3_tries 65 = .ok (.invokevirtual 83, 3) := dk_182 0 83 (dk_at dksX3_tries_2 19 rfl rfl)
theorem dX3_tries_68 : decode cX3_tries 68 = .ok (.istore_n 3, 1) := dk_62 (dk_at dksX3_tries_2 22 rfl rfl)
theorem dX3_tries_69 : decode cX3_tries 69 = .ok (.aload_n 0, 1) := dk_42 (dk_at dksX3_tries_2 23 rfl rfl)
theorem dX3_tries_70 : decode cX3_tries 70 = .ok (.getfield 23, 3) := dk_180 0 23 (dk_at dksX3_tries_3 0 rfl rfl)
theorem dX3_tries_73 : decode cX3_tries 73 = .ok (.astore 4, 2) := dk_58 4 (dk_at dksX3_tries_3 3 rfl rfl)
theorem dX3_tries_75 : decode cX3_tries 75 = .ok (.aload 4, 2) := dk_25 4 (dk_at dksX3_tries_3 5 rfl rfl)
theorem dX3_tries_77 : decode cX3_tries 77 = .ok (.arraylength, 1) := dk_190 (dk_at dksX3_tries_3 7 rfl rfl)
theorem dX3_tries_78 : decode cX3_tries 78 = .ok (.istore 5, 2) := dk_54 5 (dk_at dksX3_tries_3 8 rfl rfl)
theorem dX3_tries_80 : decode cX3_tries 80 = .ok (.iconst 0, 1) := dk_3 (dk_at dksX3_tries_3 10 rfl rfl)
theorem dX3_tries_81 : decode cX3_tries 81 = .ok (.istore 6, 2) := dk_54 6 (dk_at dksX3_tries_3 11 rfl rfl)
theorem dX3_tries_83 : decode cX3_tries 83 = .ok (.iload 6, 2) := dk_21 6 (dk_at dksX3_tries_3 13 rfl rfl)
theorem dX3_tries_85 : decode cX3_tries 85 = .ok (.iload 5, 2) := dk_21 5 (dk_at dksX3_tries_3 15 rfl rfl)
theorem dX3_tries_87 : decode cX3_tries 87 = .ok (.if_icmp .ge 40, 3) := dk_162 0 40 (dk_at dksX3_tries_3 17 rfl rfl)
theorem dX3_tries_90 : decode cX3_tries 90 = .ok (.aload 4, 2) := dk_25 4 (dk_at dksX3_tries_3 20 rfl rfl)
theorem dX3_tries_92 : decode cX3_tries 92 = .ok (.iload 6, 2) := dk_21 6 (dk_at dksX3_tries_3 22 rfl rfl)
theorem dX3_tries_94 : decode cX3_tries 94 = .ok (.aaload, 1) := dk_50 (dk_at dksX3_tries_4 0 rfl rfl)
theorem dX3_tries_95 : decode cX3_tries 95 = .ok (.astore 7, 2) := dk_58 7 (dk_at dksX3_tries_4 1 rfl rfl)
theorem dX3_tries_97 : decode cX3_tries 97 = .ok (.aload 7, 2) := dk_25 7 (dk_at dksX3_tries_4 3 rfl rfl)
theorem dX3_tries_99 : decode cX3_tries 99 = .ok (.getfield 29, 3) := dk_180 0 29 (dk_at dksX3_tries_4 5 rfl rfl)
theorem dX3_tries_102 : decode cX3_tries 102 = .ok (.iload_n 1, 1) := dk_27 (dk_at dksX3_tries_4 8 rfl rfl)
theorem dX3_tries_103 : decode cX3_tries 103 = .ok (.if_icmp .eq 12, 3) := dk_159 0 12 (dk_at dksX3_tries_4 9 rfl rfl)
theorem dX3_tries_106 : decode cX3_tries 106 = .ok (.aload 7, 2) := dk_25 7 (dk_at dksX3_tries_4 12 rfl rfl)
theorem dX3_tries_108 : decode cX3_tries 108 = .ok (.getfield 29, 3) := dk_180 0 29 (dk_at dksX3_tries_4 14 rfl rfl)
theorem dX3_tries_111 : decode cX3_tries 111 = .ok (.iload_n 2, 1) := dk_28 (dk_at dksX3_tries_4 17 rfl rfl)
theorem dX3_tries_112 : decode cX3_tries 112 = .ok (.if_icmp .ne 9, 3) := dk_160 0 9 (dk_at dksX3_tries_4 18 rfl rfl)
theorem dX3_tries_115 : decode cX3_tries 115 = .ok (.aload 7, 2) := dk_25 7 (dk_at dksX3_tries_4 21 rfl rfl)
theorem dX3_tries_117 : decode cX3_tries 117 = .ok (.iload_n 3, 1) := dk_29 (dk_at dksX3_tries_4 23 rfl rfl)
theorem dX3_tries_118 : decode cX3_tries 118 = .ok (.invokevirtual 110, 3) := dk_182 0 110 (dk_at dksX3_tries_5 0 rfl rfl)
theorem dX3_tries_121 : decode cX3_tries 121 = .ok (.iinc 6 1, 3) := dk_132 6 1 (dk_at dksX3_tries_5 3 rfl rfl)
theorem dX3_tries_124 : decode cX3_tries 124 = .ok (.goto (-41), 3) := dk_167 255 215 (dk_at dksX3_tries_5 6 rfl rfl)
theorem dX3_tries_127 : decode cX3_tries 127 = .ok (.return_, 1) := dk_177 (dk_at dksX3_tries_5 9 rfl rfl)
abbrev cX3_haveTried : ByteArray := prog_7_method_11_code
def yX3_haveTried : MethodName := ⟨RX3, "haveTried", "(II)V"⟩
def dkwX3_haveTried_1 : List UInt8 := [180, 0, 92, 4, 27, 120, 128, 181, 0, 92, 177]
abbrev dktX3_haveTried_1 : List UInt8 := dkwX3_haveTried_1 ++ []
def dkwX3_haveTried_0 : List UInt8 := [42, 180, 0, 17, 27, 50, 89, 180, 0, 92, 4, 28, 120, 128, 181, 0, 92, 42, 180, 0, 17, 28, 50, 89]
abbrev dktX3_haveTried_0 : List UInt8 := dkwX3_haveTried_0 ++ dktX3_haveTried_1
theorem dksX3_haveTried_0 : cX3_haveTried.data.toList.drop 0 = dktX3_haveTried_0 := by decide +kernel
theorem dksX3_haveTried_1 : cX3_haveTried.data.toList.drop 24 = dktX3_haveTried_1 := dk_seg dksX3_haveTried_0 24 rfl rfl
theorem dX3_haveTried_0 : decode cX3_haveTried 0 = .ok (.aload_n 0, 1) := dk_42 (dk_at dksX3_haveTried_0 0 rfl rfl)
theorem dX3_haveTried_1 : decode cX3_haveTried 1 = .ok (.getfield 17, 3) := dk_180 0 17 (dk_at dksX3_haveTried_0 1 rfl rfl)
theorem dX3_haveTried_4 : decode cX3_haveTried 4 = .ok (.iload_n 1, 1) := dk_27 (dk_at dksX3_haveTried_0 4 rfl rfl)
theorem dX3_haveTried_5 : decode cX3_haveTried 5 = .ok (.aaload, 1) := dk_50 (dk_at dksX3_haveTried_0 5 rfl rfl)
theorem dX3_haveTried_6 : decode cX3_haveTried 6 = .ok (.dup, 1) := dk_89 (dk_at dksX3_haveTried_0 6 rfl rfl)
theorem dX3_haveTried_7 : decode cX3_haveTried 7 = .ok (.getfield 92, 3) := dk_180 0 92 (dk_at dksX3_haveTried_0 7 rfl rfl)
theorem dX3_haveTried_10 : decode cX3_haveTried 10 = .ok (.iconst 1, 1) := dk_4 (dk_at dksX3_haveTried_0 10 rfl rfl)
theorem dX3_haveTried_11 : decode cX3_haveTried 11 = .ok (.iload_n 2, 1) := dk_28 (dk_at dksX3_haveTried_0 11 rfl rfl)
theorem dX3_haveTried_12 : decode cX3_haveTried 12 = .ok (.ishl, 1) := dk_120 (dk_at dksX3_haveTried_0 12 rfl rfl)
theorem dX3_haveTried_13 : decode cX3_haveTried 13 = .ok (.ior, 1) := dk_128 (dk_at dksX3_haveTried_0 13 rfl rfl)
theorem dX3_haveTried_14 : decode cX3_haveTried 14 = .ok (.putfield 92, 3) := dk_181 0 92 (dk_at dksX3_haveTried_0 14 rfl rfl)
theorem dX3_haveTried_17 : decode cX3_haveTried 17 = .ok (.aload_n 0, 1) := dk_42 (dk_at dksX3_haveTried_0 17 rfl rfl)
theorem dX3_haveTried_18 : decode cX3_haveTried 18 = .ok (.getfield 17, 3) := dk_180 0 17 (dk_at dksX3_haveTried_0 18 rfl rfl)
theorem dX3_haveTried_21 : decode cX3_haveTried 21 = .ok (.iload_n 2, 1) := dk_28 (dk_at dksX3_haveTried_0 21 rfl rfl)
theorem dX3_haveTried_22 : decode cX3_haveTried 22 = .ok (.aaload, 1) := dk_50 (dk_at dksX3_haveTried_0 22 rfl rfl)
theorem dX3_haveTried_23 : decode cX3_haveTried 23 = .ok (.dup, 1) := dk_89 (dk_at dksX3_haveTried_0 23 rfl rfl)
theorem dX3_haveTried_24 : decode cX3_haveTried 24 = .ok (.getfield 92, 3) := dk_180 0 92 (dk_at dksX3_haveTried_1 0 rfl rfl)
theorem dX3_haveTried_27 : decode cX3_haveTried 27 = .ok (.iconst 1, 1) := dk_4 (dk_at dksX3_haveTried_1 3 rfl rfl)
theorem dX3_haveTried_28 : decode cX3_haveTried 28 = .ok (.iload_n 1, 1) := dk_27 (dk_at dksX3_haveTried_1 4 rfl rfl)
theorem dX3_haveTried_29 : decode cX3_haveTried 29 = .ok (.ishl, 1) := dk_120 (dk_at dksX3_haveTried_1 5 rfl rfl)
theorem dX3_haveTried_30 : decode cX3_haveTried 30 = .ok (.ior, 1) := dk_128 (dk_at dksX3_haveTried_1 6 rfl rfl)
theorem dX3_haveTried_31 : decode cX3_haveTried 31 = .ok (.putfield 92, 3) := dk_181 0 92 (dk_at dksX3_haveTried_1 7 rfl rfl)
theorem dX3_haveTried_34 : decode cX3_haveTried 34 = .ok (.return_, 1) := dk_177 (dk_at dksX3_haveTried_1 10 rfl rfl)
abbrev cX3_fit : ByteArray := prog_7_method_7_code
def yX3_fit : MethodName := ⟨RX3, "fit", "(II)Z"⟩
def dkwX3_fit_2 : List UInt8 := [42, 28, 27, 3, 182, 0, 77, 16, 102, 16, 99, 182, 0, 83, 163, 0, 7, 4, 167, 0, 4, 3, 172]
abbrev dktX3_fit_2 : List UInt8 := dkwX3_fit_2 ++ []
def dkwX3_fit_1 : List UInt8 := [42, 180, 0, 3, 180, 0, 73, 42, 27, 28, 3, 182, 0, 77, 167, 0, 17, 42, 180, 0, 3, 180, 0, 73]
abbrev dktX3_fit_1 : List UInt8 := dkwX3_fit_1 ++ dktX3_fit_2
def dkwX3_fit_0 : List UInt8 := [42, 27, 28, 182, 0, 68, 62, 29, 2, 160, 0, 5, 3, 172, 29, 42, 27, 28, 182, 0, 70, 153, 0, 20]
abbrev dktX3_fit_0 : List UInt8 := dkwX3_fit_0 ++ dktX3_fit_1
theorem dksX3_fit_0 : cX3_fit.data.toList.drop 0 = dktX3_fit_0 := by decide +kernel
theorem dksX3_fit_1 : cX3_fit.data.toList.drop 24 = dktX3_fit_1 := dk_seg dksX3_fit_0 24 rfl rfl
theorem dksX3_fit_2 : cX3_fit.data.toList.drop 48 = dktX3_fit_2 := dk_seg dksX3_fit_1 24 rfl rfl
theorem dX3_fit_0 : decode cX3_fit 0 = .ok (.aload_n 0, 1) := dk_42 (dk_at dksX3_fit_0 0 rfl rfl)
theorem dX3_fit_1 : decode cX3_fit 1 = .ok (.iload_n 1, 1) := dk_27 (dk_at dksX3_fit_0 1 rfl rfl)
theorem dX3_fit_2 : decode cX3_fit 2 = .ok (.iload_n 2, 1) := dk_28 (dk_at dksX3_fit_0 2 rfl rfl)
theorem dX3_fit_3 : decode cX3_fit 3 = .ok (.invokevirtual 68, 3) := dk_182 0 68 (dk_at dksX3_fit_0 3 rfl rfl)
theorem dX3_fit_6 : decode cX3_fit 6 = .ok (.istore_n 3, 1) := dk_62 (dk_at dksX3_fit_0 6 rfl rfl)
theorem dX3_fit_7 : decode cX3_fit 7 = .ok (.iload_n 3, 1) := dk_29 (dk_at dksX3_fit_0 7 rfl rfl)
theorem dX3_fit_8 : decode cX3_fit 8 = .ok (.iconst (-1), 1) := dk_2 (dk_at dksX3_fit_0 8 rfl rfl)
theorem dX3_fit_9 : decode cX3_fit 9 = .ok (.if_icmp .ne 5, 3) := dk_160 0 5 (dk_at dksX3_fit_0 9 rfl rfl)
theorem dX3_fit_12 : decode cX3_fit 12 = .ok (.iconst 0, 1) := dk_3 (dk_at dksX3_fit_0 12 rfl rfl)
theorem dX3_fit_13 : decode cX3_fit 13 = .ok (.ireturn, 1) := dk_172 (dk_at dksX3_fit_0 13 rfl rfl)
theorem dX3_fit_14 : decode cX3_fit 14 = .ok (.iload_n 3, 1) := dk_29 (dk_at dksX3_fit_0 14 rfl rfl)
theorem dX3_fit_15 : decode cX3_fit 15 = .ok (.aload_n 0, 1) := dk_42 (dk_at dksX3_fit_0 15 rfl rfl)
theorem dX3_fit_16 : decode cX3_fit 16 = .ok (.iload_n 1, 1) := dk_27 (dk_at dksX3_fit_0 16 rfl rfl)
theorem dX3_fit_17 : decode cX3_fit 17 = .ok (.iload_n 2, 1) := dk_28 (dk_at dksX3_fit_0 17 rfl rfl)
theorem dX3_fit_18 : decode cX3_fit 18 = .ok (.invokevirtual 70, 3) := dk_182 0 70 (dk_at dksX3_fit_0 18 rfl rfl)
theorem dX3_fit_21 : decode cX3_fit 21 = .ok (.ifCond .eq 20, 3) := dk_153 0 20 (dk_at dksX3_fit_0 21 rfl rfl)
theorem dX3_fit_24 : decode cX3_fit 24 = .ok (.aload_n 0, 1) := dk_42 (dk_at dksX3_fit_1 0 rfl rfl)
theorem dX3_fit_25 : decode cX3_fit 25 = .ok (.getfield 3, 3) := dk_180 0 3 (dk_at dksX3_fit_1 1 rfl rfl)
theorem dX3_fit_28 : decode cX3_fit 28 = .ok (.getfield 73, 3) := dk_180 0 73 (dk_at dksX3_fit_1 4 rfl rfl)
theorem dX3_fit_31 : decode cX3_fit 31 = .ok (.aload_n 0, 1) := dk_42 (dk_at dksX3_fit_1 7 rfl rfl)
theorem dX3_fit_32 : decode cX3_fit 32 = .ok (.iload_n 1, 1) := dk_27 (dk_at dksX3_fit_1 8 rfl rfl)
theorem dX3_fit_33 : decode cX3_fit 33 = .ok (.iload_n 2, 1) := dk_28 (dk_at dksX3_fit_1 9 rfl rfl)
theorem dX3_fit_34 : decode cX3_fit 34 = .ok (.iconst 0, 1) := dk_3 (dk_at dksX3_fit_1 10 rfl rfl)
theorem dX3_fit_35 : decode cX3_fit 35 = .ok (.invokevirtual 77, 3) := dk_182 0 77 (dk_at dksX3_fit_1 11 rfl rfl)
theorem dX3_fit_38 : decode cX3_fit 38 = .ok (.goto 17, 3) := dk_167 0 17 (dk_at dksX3_fit_1 14 rfl rfl)
theorem dX3_fit_41 : decode cX3_fit 41 = .ok (.aload_n 0, 1) := dk_42 (dk_at dksX3_fit_1 17 rfl rfl)
theorem dX3_fit_42 : decode cX3_fit 42 = .ok (.getfield 3, 3) := dk_180 0 3 (dk_at dksX3_fit_1 18 rfl rfl)
theorem dX3_fit_45 : decode cX3_fit 45 = .ok (.getfield 73, 3) := dk_180 0 73 (dk_at dksX3_fit_1 21 rfl rfl)
theorem dX3_fit_48 : decode cX3_fit 48 = .ok (.aload_n 0, 1) := dk_42 (dk_at dksX3_fit_2 0 rfl rfl)
theorem dX3_fit_49 : decode cX3_fit 49 = .ok (.iload_n 2, 1) := dk_28 (dk_at dksX3_fit_2 1 rfl rfl)
theorem dX3_fit_50 : decode cX3_fit 50 = .ok (.iload_n 1, 1) := dk_27 (dk_at dksX3_fit_2 2 rfl rfl)
theorem dX3_fit_51 : decode cX3_fit 51 = .ok (.iconst 0, 1) := dk_3 (dk_at dksX3_fit_2 3 rfl rfl)
theorem dX3_fit_52 : decode cX3_fit 52 = .ok (.invokevirtual 77, 3) := dk_182 0 77 (dk_at dksX3_fit_2 4 rfl rfl)
theorem dX3_fit_55 : decode cX3_fit 55 = .ok (.bipush 102, 2) := dk_16 102 (dk_at dksX3_fit_2 7 rfl rfl)
theorem dX3_fit_57 : decode cX3_fit 57 = .ok (.bipush 99, 2) := dk_16 99 (dk_at dksX3_fit_2 9 rfl rfl)
theorem dX3_fit_59 : decode cX3_fit 59 = .ok (.invokevirtual 83, 3) := dk_182 0 83 (dk_at dksX3_fit_2 11 rfl rfl)
theorem dX3_fit_62 : decode cX3_fit 62 = .ok (.if_icmp .gt 7, 3) := dk_163 0 7 (dk_at dksX3_fit_2 14 rfl rfl)
theorem dX3_fit_65 : decode cX3_fit 65 = .ok (.iconst 1, 1) := dk_4 (dk_at dksX3_fit_2 17 rfl rfl)
theorem dX3_fit_66 : decode cX3_fit 66 = .ok (.goto 4, 3) := dk_167 0 4 (dk_at dksX3_fit_2 18 rfl rfl)
theorem dX3_fit_69 : decode cX3_fit 69 = .ok (.iconst 0, 1) := dk_3 (dk_at dksX3_fit_2 21 rfl rfl)
theorem dX3_fit_70 : decode cX3_fit 70 = .ok (.ireturn, 1) := dk_172 (dk_at dksX3_fit_2 22 rfl rfl)
abbrev cX3_slack : ByteArray := prog_7_method_5_code
def yX3_slack : MethodName := ⟨RX3, "slack", "(II)I"⟩
def dkwX3_slack_4 : List UInt8 := [172]
abbrev dktX3_slack_4 : List UInt8 := dkwX3_slack_4 ++ []
def dkwX3_slack_3 : List UInt8 := [62, 132, 5, 1, 167, 255, 196, 132, 4, 1, 167, 255, 180, 29, 18, 54, 160, 0, 7, 2, 167, 0, 4, 29]
abbrev dktX3_slack_3 : List UInt8 := dkwX3_slack_3 ++ dktX3_slack_4
def dkwX3_slack_2 : List UInt8 := [160, 0, 25, 29, 42, 180, 0, 23, 21, 4, 50, 42, 180, 0, 23, 21, 5, 50, 182, 0, 55, 184, 0, 59]
abbrev dktX3_slack_2 : List UInt8 := dkwX3_slack_2 ++ dktX3_slack_3
def dkwX3_slack_1 : List UInt8 := [180, 0, 23, 21, 4, 50, 180, 0, 29, 27, 160, 0, 45, 42, 180, 0, 23, 21, 5, 50, 180, 0, 29, 28]
abbrev dktX3_slack_1 : List UInt8 := dkwX3_slack_1 ++ dktX3_slack_2
def dkwX3_slack_0 : List UInt8 := [18, 54, 62, 3, 54, 4, 21, 4, 16, 12, 162, 0, 75, 3, 54, 5, 21, 5, 16, 12, 162, 0, 59, 42]
abbrev dktX3_slack_0 : List UInt8 := dkwX3_slack_0 ++ dktX3_slack_1
theorem dksX3_slack_0 : cX3_slack.data.toList.drop 0 = dktX3_slack_0 := by decide +kernel
theorem dksX3_slack_1 : cX3_slack.data.toList.drop 24 = dktX3_slack_1 := dk_seg dksX3_slack_0 24 rfl rfl
theorem dksX3_slack_2 : cX3_slack.data.toList.drop 48 = dktX3_slack_2 := dk_seg dksX3_slack_1 24 rfl rfl
theorem dksX3_slack_3 : cX3_slack.data.toList.drop 72 = dktX3_slack_3 := dk_seg dksX3_slack_2 24 rfl rfl
theorem dksX3_slack_4 : cX3_slack.data.toList.drop 96 = dktX3_slack_4 := dk_seg dksX3_slack_3 24 rfl rfl
theorem dX3_slack_0 : decode cX3_slack 0 = .ok (.ldc 54, 2) := dk_18 54 (dk_at dksX3_slack_0 0 rfl rfl)
theorem dX3_slack_2 : decode cX3_slack 2 = .ok (.istore_n 3, 1) := dk_62 (dk_at dksX3_slack_0 2 rfl rfl)
theorem dX3_slack_3 : decode cX3_slack 3 = .ok (.iconst 0, 1) := dk_3 (dk_at dksX3_slack_0 3 rfl rfl)
theorem dX3_slack_4 : decode cX3_slack 4 = .ok (.istore 4, 2) := dk_54 4 (dk_at dksX3_slack_0 4 rfl rfl)
theorem dX3_slack_6 : decode cX3_slack 6 = .ok (.iload 4, 2) := dk_21 4 (dk_at dksX3_slack_0 6 rfl rfl)
theorem dX3_slack_8 : decode cX3_slack 8 = .ok (.bipush 12, 2) := dk_16 12 (dk_at dksX3_slack_0 8 rfl rfl)
theorem dX3_slack_10 : decode cX3_slack 10 = .ok (.if_icmp .ge 75, 3) := dk_162 0 75 (dk_at dksX3_slack_0 10 rfl rfl)
theorem dX3_slack_13 : decode cX3_slack 13 = .ok (.iconst 0, 1) := dk_3 (dk_at dksX3_slack_0 13 rfl rfl)
theorem dX3_slack_14 : decode cX3_slack 14 = .ok (.istore 5, 2) := dk_54 5 (dk_at dksX3_slack_0 14 rfl rfl)
theorem dX3_slack_16 : decode cX3_slack 16 = .ok (.iload 5, 2) := dk_21 5 (dk_at dksX3_slack_0 16 rfl rfl)
theorem dX3_slack_18 : decode cX3_slack 18 = .ok (.bipush 12, 2) := dk_16 12 (dk_at dksX3_slack_0 18 rfl rfl)
theorem dX3_slack_20 : decode cX3_slack 20 = .ok (.if_icmp .ge 59, 3) := dk_162 0 59 (dk_at dksX3_slack_0 20 rfl rfl)
theorem dX3_slack_23 : decode cX3_slack 23 = .ok (.aload_n 0, 1) := dk_42 (dk_at dksX3_slack_0 23 rfl rfl)
theorem dX3_slack_24 : decode cX3_slack 24 = .ok (.getfield 23, 3) := dk_180 0 23 (dk_at dksX3_slack_1 0 rfl rfl)
theorem dX3_slack_27 : decode cX3_slack 27 = .ok (.iload 4, 2) := dk_21 4 (dk_at dksX3_slack_1 3 rfl rfl)
theorem dX3_slack_29 : decode cX3_slack 29 = .ok (.aaload, 1) := dk_50 (dk_at dksX3_slack_1 5 rfl rfl)
theorem dX3_slack_30 : decode cX3_slack 30 = .ok (.getfield 29, 3) := dk_180 0 29 (dk_at dksX3_slack_1 6 rfl rfl)
theorem dX3_slack_33 : decode cX3_slack 33 = .ok (.iload_n 1, 1) := dk_27 (dk_at dksX3_slack_1 9 rfl rfl)
theorem dX3_slack_34 : decode cX3_slack 34 = .ok (.if_icmp .ne 45, 3) := dk_160 0 45 (dk_at dksX3_slack_1 10 rfl rfl)
theorem dX3_slack_37 : decode cX3_slack 37 = .ok (.aload_n 0, 1) := dk_42 (dk_at dksX3_slack_1 13 rfl rfl)
theorem dX3_slack_38 : decode cX3_slack 38 = .ok (.getfield 23, 3) := dk_180 0 23 (dk_at dksX3_slack_1 14 rfl rfl)
theorem dX3_slack_41 : decode cX3_slack 41 = .ok (.iload 5, 2) := dk_21 5 (dk_at dksX3_slack_1 17 rfl rfl)
theorem dX3_slack_43 : decode cX3_slack 43 = .ok (.aaload, 1) := dk_50 (dk_at dksX3_slack_1 19 rfl rfl)
theorem dX3_slack_44 : decode cX3_slack 44 = .ok (.getfield 29, 3) := dk_180 0 29 (dk_at dksX3_slack_1 20 rfl rfl)
theorem dX3_slack_47 : decode cX3_slack 47 = .ok (.iload_n 2, 1) := dk_28 (dk_at dksX3_slack_1 23 rfl rfl)
theorem dX3_slack_48 : decode cX3_slack 48 = .ok (.if_icmp .ne 25, 3) := dk_160 0 25 (dk_at dksX3_slack_2 0 rfl rfl)
theorem dX3_slack_51 : decode cX3_slack 51 = .ok (.iload_n 3, 1) := dk_29 (dk_at dksX3_slack_2 3 rfl rfl)
theorem dX3_slack_52 : decode cX3_slack 52 = .ok (.aload_n 0, 1) := dk_42 (dk_at dksX3_slack_2 4 rfl rfl)
theorem dX3_slack_53 : decode cX3_slack 53 = .ok (.getfield 23, 3) := dk_180 0 23 (dk_at dksX3_slack_2 5 rfl rfl)
theorem dX3_slack_56 : decode cX3_slack 56 = .ok (.iload 4, 2) := dk_21 4 (dk_at dksX3_slack_2 8 rfl rfl)
theorem dX3_slack_58 : decode cX3_slack 58 = .ok (.aaload, 1) := dk_50 (dk_at dksX3_slack_2 10 rfl rfl)
theorem dX3_slack_59 : decode cX3_slack 59 = .ok (.aload_n 0, 1) := dk_42 (dk_at dksX3_slack_2 11 rfl rfl)
theorem dX3_slack_60 : decode cX3_slack 60 = .ok (.getfield 23, 3) := dk_180 0 23 (dk_at dksX3_slack_2 12 rfl rfl)
theorem dX3_slack_63 : decode cX3_slack 63 = .ok (.iload 5, 2) := dk_21 5 (dk_at dksX3_slack_2 15 rfl rfl)
theorem dX3_slack_65 : decode cX3_slack 65 = .ok (.aaload, 1) := dk_50 (dk_at dksX3_slack_2 17 rfl rfl)
theorem dX3_slack_66 : decode cX3_slack 66 = .ok (.invokevirtual 55, 3) := dk_182 0 55 (dk_at dksX3_slack_2 18 rfl rfl)
theorem dX3_slack_69 : decode cX3_slack 69 = .ok (.invokestatic 59, 3) := dk_184 0 59 (dk_at dksX3_slack_2 21 rfl rfl)
theorem dX3_slack_72 : decode cX3_slack 72 = .ok (.istore_n 3, 1) := dk_62 (dk_at dksX3_slack_3 0 rfl rfl)
theorem dX3_slack_73 : decode cX3_slack 73 = .ok (.iinc 5 1, 3) := dk_132 5 1 (dk_at dksX3_slack_3 1 rfl rfl)
theorem dX3_slack_76 : decode cX3_slack 76 = .ok (.goto (-60), 3) := dk_167 255 196 (dk_at dksX3_slack_3 4 rfl rfl)
theorem dX3_slack_79 : decode cX3_slack 79 = .ok (.iinc 4 1, 3) := dk_132 4 1 (dk_at dksX3_slack_3 7 rfl rfl)
theorem dX3_slack_82 : decode cX3_slack 82 = .ok (.goto (-76), 3) := dk_167 255 180 (dk_at dksX3_slack_3 10 rfl rfl)
theorem dX3_slack_85 : decode cX3_slack 85 = .ok (.iload_n 3, 1) := dk_29 (dk_at dksX3_slack_3 13 rfl rfl)
theorem dX3_slack_86 : decode cX3_slack 86 = .ok (.ldc 54, 2) := dk_18 54 (dk_at dksX3_slack_3 14 rfl rfl)
theorem dX3_slack_88 : decode cX3_slack 88 = .ok (.if_icmp .ne 7, 3) := dk_160 0 7 (dk_at dksX3_slack_3 16 rfl rfl)
theorem dX3_slack_91 : decode cX3_slack 91 = .ok (.iconst (-1), 1) := dk_2 (dk_at dksX3_slack_3 19 rfl rfl)
theorem dX3_slack_92 : decode cX3_slack 92 = .ok (.goto 4, 3) := dk_167 0 4 (dk_at dksX3_slack_3 20 rfl rfl)
theorem dX3_slack_95 : decode cX3_slack 95 = .ok (.iload_n 3, 1) := dk_29 (dk_at dksX3_slack_3 23 rfl rfl)
theorem dX3_slack_96 : decode cX3_slack 96 = .ok (.ireturn, 1) := dk_172 (dk_at dksX3_slack_4 0 rfl rfl)
abbrev cX3_isFirst : ByteArray := prog_7_method_6_code
def yX3_isFirst : MethodName := ⟨RX3, "isFirst", "(II)Z"⟩
def dkwX3_isFirst_2 : List UInt8 := [4, 167, 0, 4, 3, 172]
abbrev dktX3_isFirst_2 : List UInt8 := dkwX3_isFirst_2 ++ []
def dkwX3_isFirst_1 : List UInt8 := [180, 0, 17, 27, 50, 180, 0, 65, 154, 0, 7, 4, 167, 0, 17, 3, 167, 0, 13, 27, 28, 162, 0, 7]
abbrev dktX3_isFirst_1 : List UInt8 := dkwX3_isFirst_1 ++ dktX3_isFirst_2
def dkwX3_isFirst_0 : List UInt8 := [42, 180, 0, 17, 27, 50, 180, 0, 65, 42, 180, 0, 17, 28, 50, 180, 0, 65, 159, 0, 23, 42]
abbrev dktX3_isFirst_0 : List UInt8 := dkwX3_isFirst_0 ++ dktX3_isFirst_1
theorem dksX3_isFirst_0 : cX3_isFirst.data.toList.drop 0 = dktX3_isFirst_0 := by decide +kernel
theorem dksX3_isFirst_1 : cX3_isFirst.data.toList.drop 22 = dktX3_isFirst_1 := dk_seg dksX3_isFirst_0 22 rfl rfl
theorem dksX3_isFirst_2 : cX3_isFirst.data.toList.drop 46 = dktX3_isFirst_2 := dk_seg dksX3_isFirst_1 24 rfl rfl
theorem dX3_isFirst_0 : decode cX3_isFirst 0 = .ok (.aload_n 0, 1) := dk_42 (dk_at dksX3_isFirst_0 0 rfl rfl)
theorem dX3_isFirst_1 : decode cX3_isFirst 1 = .ok (.getfield 17, 3) := dk_180 0 17 (dk_at dksX3_isFirst_0 1 rfl rfl)
theorem dX3_isFirst_4 : decode cX3_isFirst 4 = .ok (.iload_n 1, 1) := dk_27 (dk_at dksX3_isFirst_0 4 rfl rfl)
theorem dX3_isFirst_5 : decode cX3_isFirst 5 = .ok (.aaload, 1) := dk_50 (dk_at dksX3_isFirst_0 5 rfl rfl)
theorem dX3_isFirst_6 : decode cX3_isFirst 6 = .ok (.getfield 65, 3) := dk_180 0 65 (dk_at dksX3_isFirst_0 6 rfl rfl)
theorem dX3_isFirst_9 : decode cX3_isFirst 9 = .ok (.aload_n 0, 1) := dk_42 (dk_at dksX3_isFirst_0 9 rfl rfl)
theorem dX3_isFirst_10 : decode cX3_isFirst 10 = .ok (.getfield 17, 3) := dk_180 0 17 (dk_at dksX3_isFirst_0 10 rfl rfl)
theorem dX3_isFirst_13 : decode cX3_isFirst 13 = .ok (.iload_n 2, 1) := dk_28 (dk_at dksX3_isFirst_0 13 rfl rfl)
theorem dX3_isFirst_14 : decode cX3_isFirst 14 = .ok (.aaload, 1) := dk_50 (dk_at dksX3_isFirst_0 14 rfl rfl)
theorem dX3_isFirst_15 : decode cX3_isFirst 15 = .ok (.getfield 65, 3) := dk_180 0 65 (dk_at dksX3_isFirst_0 15 rfl rfl)
theorem dX3_isFirst_18 : decode cX3_isFirst 18 = .ok (.if_icmp .eq 23, 3) := dk_159 0 23 (dk_at dksX3_isFirst_0 18 rfl rfl)
theorem dX3_isFirst_21 : decode cX3_isFirst 21 = .ok (.aload_n 0, 1) := dk_42 (dk_at dksX3_isFirst_0 21 rfl rfl)
theorem dX3_isFirst_22 : decode cX3_isFirst 22 = .ok (.getfield 17, 3) := dk_180 0 17 (dk_at dksX3_isFirst_1 0 rfl rfl)
theorem dX3_isFirst_25 : decode cX3_isFirst 25 = .ok (.iload_n 1, 1) := dk_27 (dk_at dksX3_isFirst_1 3 rfl rfl)
theorem dX3_isFirst_26 : decode cX3_isFirst 26 = .ok (.aaload, 1) := dk_50 (dk_at dksX3_isFirst_1 4 rfl rfl)
theorem dX3_isFirst_27 : decode cX3_isFirst 27 = .ok (.getfield 65, 3) := dk_180 0 65 (dk_at dksX3_isFirst_1 5 rfl rfl)
theorem dX3_isFirst_30 : decode cX3_isFirst 30 = .ok (.ifCond .ne 7, 3) := dk_154 0 7 (dk_at dksX3_isFirst_1 8 rfl rfl)
theorem dX3_isFirst_33 : decode cX3_isFirst 33 = .ok (.iconst 1, 1) := dk_4 (dk_at dksX3_isFirst_1 11 rfl rfl)
theorem dX3_isFirst_34 : decode cX3_isFirst 34 = .ok (.goto 17, 3) := dk_167 0 17 (dk_at dksX3_isFirst_1 12 rfl rfl)
theorem dX3_isFirst_37 : decode cX3_isFirst 37 = .ok (.iconst 0, 1) := dk_3 (dk_at dksX3_isFirst_1 15 rfl rfl)
theorem dX3_isFirst_38 : decode cX3_isFirst 38 = .ok (.goto 13, 3) := dk_167 0 13 (dk_at dksX3_isFirst_1 16 rfl rfl)
theorem dX3_isFirst_41 : decode cX3_isFirst 41 = .ok (.iload_n 1, 1) := dk_27 (dk_at dksX3_isFirst_1 19 rfl rfl)
theorem dX3_isFirst_42 : decode cX3_isFirst 42 = .ok (.iload_n 2, 1) := dk_28 (dk_at dksX3_isFirst_1 20 rfl rfl)
theorem dX3_isFirst_43 : decode cX3_isFirst 43 = .ok (.if_icmp .ge 7, 3) := dk_162 0 7 (dk_at dksX3_isFirst_1 21 rfl rfl)
theorem dX3_isFirst_46 : decode cX3_isFirst 46 = .ok (.iconst 1, 1) := dk_4 (dk_at dksX3_isFirst_2 0 rfl rfl)
theorem dX3_isFirst_47 : decode cX3_isFirst 47 = .ok (.goto 4, 3) := dk_167 0 4 (dk_at dksX3_isFirst_2 1 rfl rfl)
theorem dX3_isFirst_50 : decode cX3_isFirst 50 = .ok (.iconst 0, 1) := dk_3 (dk_at dksX3_isFirst_2 4 rfl rfl)
theorem dX3_isFirst_51 : decode cX3_isFirst 51 = .ok (.ireturn, 1) := dk_172 (dk_at dksX3_isFirst_2 5 rfl rfl)
abbrev cX3_holds : ByteArray := prog_7_method_4_code
def yX3_holds : MethodName := ⟨RX3, "holds", "(I)I"⟩
def dkwX3_holds_1 : List UInt8 := [4, 29, 120, 167, 0, 4, 3, 128, 61, 132, 3, 1, 167, 255, 224, 28, 172]
abbrev dktX3_holds_1 : List UInt8 := dkwX3_holds_1 ++ []
def dkwX3_holds_0 : List UInt8 := [3, 61, 3, 62, 29, 16, 12, 162, 0, 32, 28, 42, 180, 0, 23, 29, 50, 180, 0, 29, 27, 160, 0, 9]
abbrev dktX3_holds_0 : List UInt8 := dkwX3_holds_0 ++ dktX3_holds_1
theorem dksX3_holds_0 : cX3_holds.data.toList.drop 0 = dktX3_holds_0 := by decide +kernel
theorem dksX3_holds_1 : cX3_holds.data.toList.drop 24 = dktX3_holds_1 := dk_seg dksX3_holds_0 24 rfl rfl
theorem dX3_holds_0 : decode cX3_holds 0 = .ok (.iconst 0, 1) := dk_3 (dk_at dksX3_holds_0 0 rfl rfl)
theorem dX3_holds_1 : decode cX3_holds 1 = .ok (.istore_n 2, 1) := dk_61 (dk_at dksX3_holds_0 1 rfl rfl)
theorem dX3_holds_2 : decode cX3_holds 2 = .ok (.iconst 0, 1) := dk_3 (dk_at dksX3_holds_0 2 rfl rfl)
theorem dX3_holds_3 : decode cX3_holds 3 = .ok (.istore_n 3, 1) := dk_62 (dk_at dksX3_holds_0 3 rfl rfl)
theorem dX3_holds_4 : decode cX3_holds 4 = .ok (.iload_n 3, 1) := dk_29 (dk_at dksX3_holds_0 4 rfl rfl)
theorem dX3_holds_5 : decode cX3_holds 5 = .ok (.bipush 12, 2) := dk_16 12 (dk_at dksX3_holds_0 5 rfl rfl)
theorem dX3_holds_7 : decode cX3_holds 7 = .ok (.if_icmp .ge 32, 3) := dk_162 0 32 (dk_at dksX3_holds_0 7 rfl rfl)
theorem dX3_holds_10 : decode cX3_holds 10 = .ok (.iload_n 2, 1) := dk_28 (dk_at dksX3_holds_0 10 rfl rfl)
theorem dX3_holds_11 : decode cX3_holds 11 = .ok (.aload_n 0, 1) := dk_42 (dk_at dksX3_holds_0 11 rfl rfl)
theorem dX3_holds_12 : decode cX3_holds 12 = .ok (.getfield 23, 3) := dk_180 0 23 (dk_at dksX3_holds_0 12 rfl rfl)
theorem dX3_holds_15 : decode cX3_holds 15 = .ok (.iload_n 3, 1) := dk_29 (dk_at dksX3_holds_0 15 rfl rfl)
theorem dX3_holds_16 : decode cX3_holds 16 = .ok (.aaload, 1) := dk_50 (dk_at dksX3_holds_0 16 rfl rfl)
theorem dX3_holds_17 : decode cX3_holds 17 = .ok (.getfield 29, 3) := dk_180 0 29 (dk_at dksX3_holds_0 17 rfl rfl)
theorem dX3_holds_20 : decode cX3_holds 20 = .ok (.iload_n 1, 1) := dk_27 (dk_at dksX3_holds_0 20 rfl rfl)
theorem dX3_holds_21 : decode cX3_holds 21 = .ok (.if_icmp .ne 9, 3) := dk_160 0 9 (dk_at dksX3_holds_0 21 rfl rfl)
theorem dX3_holds_24 : decode cX3_holds 24 = .ok (.iconst 1, 1) := dk_4 (dk_at dksX3_holds_1 0 rfl rfl)
theorem dX3_holds_25 : decode cX3_holds 25 = .ok (.iload_n 3, 1) := dk_29 (dk_at dksX3_holds_1 1 rfl rfl)
theorem dX3_holds_26 : decode cX3_holds 26 = .ok (.ishl, 1) := dk_120 (dk_at dksX3_holds_1 2 rfl rfl)
theorem dX3_holds_27 : decode cX3_holds 27 = .ok (.goto 4, 3) := dk_167 0 4 (dk_at dksX3_holds_1 3 rfl rfl)
theorem dX3_holds_30 : decode cX3_holds 30 = .ok (.iconst 0, 1) := dk_3 (dk_at dksX3_holds_1 6 rfl rfl)
theorem dX3_holds_31 : decode cX3_holds 31 = .ok (.ior, 1) := dk_128 (dk_at dksX3_holds_1 7 rfl rfl)
theorem dX3_holds_32 : decode cX3_holds 32 = .ok (.istore_n 2, 1) := dk_61 (dk_at dksX3_holds_1 8 rfl rfl)
theorem dX3_holds_33 : decode cX3_holds 33 = .ok (.iinc 3 1, 3) := dk_132 3 1 (dk_at dksX3_holds_1 9 rfl rfl)
theorem dX3_holds_36 : decode cX3_holds 36 = .ok (.goto (-32), 3) := dk_167 255 224 (dk_at dksX3_holds_1 12 rfl rfl)
theorem dX3_holds_39 : decode cX3_holds 39 = .ok (.iload_n 2, 1) := dk_28 (dk_at dksX3_holds_1 15 rfl rfl)
theorem dX3_holds_40 : decode cX3_holds 40 = .ok (.ireturn, 1) := dk_172 (dk_at dksX3_holds_1 16 rfl rfl)
abbrev cX3_creaks : ByteArray := prog_7_method_16_code
def yX3_creaks : MethodName := ⟨RX3, "creaks", "(II)V"⟩
def dkwX3_creaks_7 : List UInt8 := [181, 0, 143, 177]
abbrev dktX3_creaks_7 : List UInt8 := dkwX3_creaks_7 ++ []
def dkwX3_creaks_6 : List UInt8 := [163, 0, 4, 177, 42, 27, 28, 182, 0, 140, 42, 27, 28, 182, 0, 98, 42, 89, 180, 0, 143, 4, 96]
abbrev dktX3_creaks_6 : List UInt8 := dkwX3_creaks_6 ++ dktX3_creaks_7
def dkwX3_creaks_5 : List UInt8 := [180, 0, 89, 42, 180, 0, 3, 180, 0, 73, 42, 27, 28, 29, 182, 0, 77, 16, 98, 16, 99, 182, 0, 83]
abbrev dktX3_creaks_5 : List UInt8 := dkwX3_creaks_5 ++ dktX3_creaks_6
def dkwX3_creaks_4 : List UInt8 := [21, 4, 153, 0, 7, 4, 167, 0, 4, 3, 96, 184, 0, 59, 181, 0, 89, 42, 180, 0, 17, 27, 50]
abbrev dktX3_creaks_4 : List UInt8 := dkwX3_creaks_4 ++ dktX3_creaks_5
def dkwX3_creaks_3 : List UInt8 := [184, 0, 59, 181, 0, 89, 42, 180, 0, 17, 28, 50, 16, 99, 42, 180, 0, 17, 28, 50, 180, 0, 89]
abbrev dktX3_creaks_3 : List UInt8 := dkwX3_creaks_3 ++ dktX3_creaks_4
def dkwX3_creaks_2 : List UInt8 := [27, 50, 16, 99, 42, 180, 0, 17, 27, 50, 180, 0, 89, 21, 4, 153, 0, 7, 4, 167, 0, 4, 3, 96]
abbrev dktX3_creaks_2 : List UInt8 := dkwX3_creaks_2 ++ dktX3_creaks_3
def dkwX3_creaks_1 : List UInt8 := [182, 0, 77, 16, 99, 16, 10, 182, 0, 83, 162, 0, 7, 4, 167, 0, 4, 3, 54, 4, 42, 180, 0, 17]
abbrev dktX3_creaks_1 : List UInt8 := dkwX3_creaks_1 ++ dktX3_creaks_2
def dkwX3_creaks_0 : List UInt8 := [42, 27, 28, 182, 0, 68, 62, 42, 182, 0, 136, 42, 180, 0, 3, 180, 0, 73, 42, 27, 28, 29]
abbrev dktX3_creaks_0 : List UInt8 := dkwX3_creaks_0 ++ dktX3_creaks_1
theorem dksX3_creaks_0 : cX3_creaks.data.toList.drop 0 = dktX3_creaks_0 := by decide +kernel
theorem dksX3_creaks_1 : cX3_creaks.data.toList.drop 22 = dktX3_creaks_1 := dk_seg dksX3_creaks_0 22 rfl rfl
theorem dksX3_creaks_2 : cX3_creaks.data.toList.drop 46 = dktX3_creaks_2 := dk_seg dksX3_creaks_1 24 rfl rfl
theorem dksX3_creaks_3 : cX3_creaks.data.toList.drop 70 = dktX3_creaks_3 := dk_seg dksX3_creaks_2 24 rfl rfl
theorem dksX3_creaks_4 : cX3_creaks.data.toList.drop 93 = dktX3_creaks_4 := dk_seg dksX3_creaks_3 23 rfl rfl
theorem dksX3_creaks_5 : cX3_creaks.data.toList.drop 116 = dktX3_creaks_5 := dk_seg dksX3_creaks_4 23 rfl rfl
theorem dksX3_creaks_6 : cX3_creaks.data.toList.drop 140 = dktX3_creaks_6 := dk_seg dksX3_creaks_5 24 rfl rfl
theorem dksX3_creaks_7 : cX3_creaks.data.toList.drop 163 = dktX3_creaks_7 := dk_seg dksX3_creaks_6 23 rfl rfl
theorem dX3_creaks_0 : decode cX3_creaks 0 = .ok (.aload_n 0, 1) := dk_42 (dk_at dksX3_creaks_0 0 rfl rfl)
theorem dX3_creaks_1 : decode cX3_creaks 1 = .ok (.iload_n 1, 1) := dk_27 (dk_at dksX3_creaks_0 1 rfl rfl)
theorem dX3_creaks_2 : decode cX3_creaks 2 = .ok (.iload_n 2, 1) := dk_28 (dk_at dksX3_creaks_0 2 rfl rfl)
theorem dX3_creaks_3 : decode cX3_creaks 3 = .ok (.invokevirtual 68, 3) := dk_182 0 68 (dk_at dksX3_creaks_0 3 rfl rfl)
theorem dX3_creaks_6 : decode cX3_creaks 6 = .ok (.istore_n 3, 1) := dk_62 (dk_at dksX3_creaks_0 6 rfl rfl)
theorem dX3_creaks_7 : decode cX3_creaks 7 = .ok (.aload_n 0, 1) := dk_42 (dk_at dksX3_creaks_0 7 rfl rfl)
theorem dX3_creaks_8 : decode cX3_creaks 8 = .ok (.invokevirtual 136, 3) := dk_182 0 136 (dk_at dksX3_creaks_0 8 rfl rfl)
theorem dX3_creaks_11 : decode cX3_creaks 11 = .ok (.aload_n 0, 1) := dk_42 (dk_at dksX3_creaks_0 11 rfl rfl)
theorem dX3_creaks_12 : decode cX3_creaks 12 = .ok (.getfield 3, 3) := dk_180 0 3 (dk_at dksX3_creaks_0 12 rfl rfl)
theorem dX3_creaks_15 : decode cX3_creaks 15 = .ok (.getfield 73, 3) := dk_180 0 73 (dk_at dksX3_creaks_0 15 rfl rfl)
theorem dX3_creaks_18 : decode cX3_creaks 18 = .ok (.aload_n 0, 1) := dk_42 (dk_at dksX3_creaks_0 18 rfl rfl)
theorem dX3_creaks_19 : decode cX3_creaks 19 = .ok (.iload_n 1, 1) := dk_27 (dk_at dksX3_creaks_0 19 rfl rfl)
theorem dX3_creaks_20 : decode cX3_creaks 20 = .ok (.iload_n 2, 1) := dk_28 (dk_at dksX3_creaks_0 20 rfl rfl)
theorem dX3_creaks_21 : decode cX3_creaks 21 = .ok (.iload_n 3, 1) := dk_29 (dk_at dksX3_creaks_0 21 rfl rfl)
theorem dX3_creaks_22 : decode cX3_creaks 22 = .ok (.invokevirtual 77, 3) := dk_182 0 77 (dk_at dksX3_creaks_1 0 rfl rfl)
theorem dX3_creaks_25 : decode cX3_creaks 25 = .ok (.bipush 99, 2) := dk_16 99 (dk_at dksX3_creaks_1 3 rfl rfl)
theorem dX3_creaks_27 : decode cX3_creaks 27 = .ok (.bipush 10, 2) := dk_16 10 (dk_at dksX3_creaks_1 5 rfl rfl)
theorem dX3_creaks_29 : decode cX3_creaks 29 = .ok (.invokevirtual 83, 3) := dk_182 0 83 (dk_at dksX3_creaks_1 7 rfl rfl)
theorem dX3_creaks_32 : decode cX3_creaks 32 = .ok (.if_icmp .ge 7, 3) := dk_162 0 7 (dk_at dksX3_creaks_1 10 rfl rfl)
theorem dX3_creaks_35 : decode cX3_creaks 35 = .ok (.iconst 1, 1) := dk_4 (dk_at dksX3_creaks_1 13 rfl rfl)
theorem dX3_creaks_36 : decode cX3_creaks 36 = .ok (.goto 4, 3) := dk_167 0 4 (dk_at dksX3_creaks_1 14 rfl rfl)
theorem dX3_creaks_39 : decode cX3_creaks 39 = .ok (.iconst 0, 1) := dk_3 (dk_at dksX3_creaks_1 17 rfl rfl)
theorem dX3_creaks_40 : decode cX3_creaks 40 = .ok (.istore 4, 2) := dk_54 4 (dk_at dksX3_creaks_1 18 rfl rfl)
theorem dX3_creaks_42 : decode cX3_creaks 42 = .ok (.aload_n 0, 1) := dk_42 (dk_at dksX3_creaks_1 20 rfl rfl)
theorem dX3_creaks_43 : decode cX3_creaks 43 = .ok (.getfield 17, 3) := dk_180 0 17 (dk_at dksX3_creaks_1 21 rfl rfl)
theorem dX3_creaks_46 : decode cX3_creaks 46 = .ok (.iload_n 1, 1) := dk_27 (dk_at dksX3_creaks_2 0 rfl rfl)
theorem dX3_creaks_47 : decode cX3_creaks 47 = .ok (.aaload, 1) := dk_50 (dk_at dksX3_creaks_2 1 rfl rfl)
theorem dX3_creaks_48 : decode cX3_creaks 48 = .ok (.bipush 99, 2) := dk_16 99 (dk_at dksX3_creaks_2 2 rfl rfl)
theorem dX3_creaks_50 : decode cX3_creaks 50 = .ok (.aload_n 0, 1) := dk_42 (dk_at dksX3_creaks_2 4 rfl rfl)
theorem dX3_creaks_51 : decode cX3_creaks 51 = .ok (.getfield 17, 3) := dk_180 0 17 (dk_at dksX3_creaks_2 5 rfl rfl)
theorem dX3_creaks_54 : decode cX3_creaks 54 = .ok (.iload_n 1, 1) := dk_27 (dk_at dksX3_creaks_2 8 rfl rfl)
theorem dX3_creaks_55 : decode cX3_creaks 55 = .ok (.aaload, 1) := dk_50 (dk_at dksX3_creaks_2 9 rfl rfl)
theorem dX3_creaks_56 : decode cX3_creaks 56 = .ok (.getfield 89, 3) := dk_180 0 89 (dk_at dksX3_creaks_2 10 rfl rfl)
theorem dX3_creaks_59 : decode cX3_creaks 59 = .ok (.iload 4, 2) := dk_21 4 (dk_at dksX3_creaks_2 13 rfl rfl)
theorem dX3_creaks_61 : decode cX3_creaks 61 = .ok (.ifCond .eq 7, 3) := dk_153 0 7 (dk_at dksX3_creaks_2 15 rfl rfl)
theorem dX3_creaks_64 : decode cX3_creaks 64 = .ok (.iconst 1, 1) := dk_4 (dk_at dksX3_creaks_2 18 rfl rfl)
theorem dX3_creaks_65 : decode cX3_creaks 65 = .ok (.goto 4, 3) := dk_167 0 4 (dk_at dksX3_creaks_2 19 rfl rfl)
theorem dX3_creaks_68 : decode cX3_creaks 68 = .ok (.iconst 0, 1) := dk_3 (dk_at dksX3_creaks_2 22 rfl rfl)
theorem dX3_creaks_69 : decode cX3_creaks 69 = .ok (.iadd, 1) := dk_96 (dk_at dksX3_creaks_2 23 rfl rfl)
theorem dX3_creaks_70 : decode cX3_creaks 70 = .ok (.invokestatic 59, 3) := dk_184 0 59 (dk_at dksX3_creaks_3 0 rfl rfl)
theorem dX3_creaks_73 : decode cX3_creaks 73 = .ok (.putfield 89, 3) := dk_181 0 89 (dk_at dksX3_creaks_3 3 rfl rfl)
theorem dX3_creaks_76 : decode cX3_creaks 76 = .ok (.aload_n 0, 1) := dk_42 (dk_at dksX3_creaks_3 6 rfl rfl)
theorem dX3_creaks_77 : decode cX3_creaks 77 = .ok (.getfield 17, 3) := dk_180 0 17 (dk_at dksX3_creaks_3 7 rfl rfl)
theorem dX3_creaks_80 : decode cX3_creaks 80 = .ok (.iload_n 2, 1) := dk_28 (dk_at dksX3_creaks_3 10 rfl rfl)
theorem dX3_creaks_81 : decode cX3_creaks 81 = .ok (.aaload, 1) := dk_50 (dk_at dksX3_creaks_3 11 rfl rfl)
theorem dX3_creaks_82 : decode cX3_creaks 82 = .ok (.bipush 99, 2) := dk_16 99 (dk_at dksX3_creaks_3 12 rfl rfl)
theorem dX3_creaks_84 : decode cX3_creaks 84 = .ok (.aload_n 0, 1) := dk_42 (dk_at dksX3_creaks_3 14 rfl rfl)
theorem dX3_creaks_85 : decode cX3_creaks 85 = .ok (.getfield 17, 3) := dk_180 0 17 (dk_at dksX3_creaks_3 15 rfl rfl)
theorem dX3_creaks_88 : decode cX3_creaks 88 = .ok (.iload_n 2, 1) := dk_28 (dk_at dksX3_creaks_3 18 rfl rfl)
theorem dX3_creaks_89 : decode cX3_creaks 89 = .ok (.aaload, 1) := dk_50 (dk_at dksX3_creaks_3 19 rfl rfl)
theorem dX3_creaks_90 : decode cX3_creaks 90 = .ok (.getfield 89, 3) := dk_180 0 89 (dk_at dksX3_creaks_3 20 rfl rfl)
theorem dX3_creaks_93 : decode cX3_creaks 93 = .ok (.iload 4, 2) := dk_21 4 (dk_at dksX3_creaks_4 0 rfl rfl)
theorem dX3_creaks_95 : decode cX3_creaks 95 = .ok (.ifCond .eq 7, 3) := dk_153 0 7 (dk_at dksX3_creaks_4 2 rfl rfl)
theorem dX3_creaks_98 : decode cX3_creaks 98 = .ok (.iconst 1, 1) := dk_4 (dk_at dksX3_creaks_4 5 rfl rfl)
theorem dX3_creaks_99 : decode cX3_creaks 99 = .ok (.goto 4, 3) := dk_167 0 4 (dk_at dksX3_creaks_4 6 rfl rfl)
theorem dX3_creaks_102 : decode cX3_creaks 102 = .ok (.iconst 0, 1) := dk_3 (dk_at dksX3_creaks_4 9 rfl rfl)
theorem dX3_creaks_103 : decode cX3_creaks 103 = .ok (.iadd, 1) := dk_96 (dk_at dksX3_creaks_4 10 rfl rfl)
theorem dX3_creaks_104 : decode cX3_creaks 104 = .ok (.invokestatic 59, 3) := dk_184 0 59 (dk_at dksX3_creaks_4 11 rfl rfl)
theorem dX3_creaks_107 : decode cX3_creaks 107 = .ok (.putfield 89, 3) := dk_181 0 89 (dk_at dksX3_creaks_4 14 rfl rfl)
theorem dX3_creaks_110 : decode cX3_creaks 110 = .ok (.aload_n 0, 1) := dk_42 (dk_at dksX3_creaks_4 17 rfl rfl)
theorem dX3_creaks_111 : decode cX3_creaks 111 = .ok (.getfield 17, 3) := dk_180 0 17 (dk_at dksX3_creaks_4 18 rfl rfl)
theorem dX3_creaks_114 : decode cX3_creaks 114 = .ok (.iload_n 1, 1) := dk_27 (dk_at dksX3_creaks_4 21 rfl rfl)
theorem dX3_creaks_115 : decode cX3_creaks 115 = .ok (.aaload, 1) := dk_50 (dk_at dksX3_creaks_4 22 rfl rfl)
theorem dX3_creaks_116 : decode cX3_creaks 116 = .ok (.getfield 89, 3) := dk_180 0 89 (dk_at dksX3_creaks_5 0 rfl rfl)
theorem dX3_creaks_119 : decode cX3_creaks 119 = .ok (.aload_n 0, 1) := dk_42 (dk_at dksX3_creaks_5 3 rfl rfl)
theorem dX3_creaks_120 : decode cX3_creaks 120 = .ok (.getfield 3, 3) := dk_180 0 3 (dk_at dksX3_creaks_5 4 rfl rfl)
theorem dX3_creaks_123 : decode cX3_creaks 123 = .ok (.getfield 73, 3) := dk_180 0 73 (dk_at dksX3_creaks_5 7 rfl rfl)
theorem dX3_creaks_126 : decode cX3_creaks 126 = .ok (.aload_n 0, 1) := dk_42 (dk_at dksX3_creaks_5 10 rfl rfl)
theorem dX3_creaks_127 : decode cX3_creaks 127 = .ok (.iload_n 1, 1) := dk_27 (dk_at dksX3_creaks_5 11 rfl rfl)
theorem dX3_creaks_128 : decode cX3_creaks 128 = .ok (.iload_n 2, 1) := dk_28 (dk_at dksX3_creaks_5 12 rfl rfl)
theorem dX3_creaks_129 : decode cX3_creaks 129 = .ok (.iload_n 3, 1) := dk_29 (dk_at dksX3_creaks_5 13 rfl rfl)
theorem dX3_creaks_130 : decode cX3_creaks 130 = .ok (.invokevirtual 77, 3) := dk_182 0 77 (dk_at dksX3_creaks_5 14 rfl rfl)
theorem dX3_creaks_133 : decode cX3_creaks 133 = .ok (.bipush 98, 2) := dk_16 98 (dk_at dksX3_creaks_5 17 rfl rfl)
theorem dX3_creaks_135 : decode cX3_creaks 135 = .ok (.bipush 99, 2) := dk_16 99 (dk_at dksX3_creaks_5 19 rfl rfl)
theorem dX3_creaks_137 : decode cX3_creaks 137 = .ok (.invokevirtual 83, 3) := dk_182 0 83 (dk_at dksX3_creaks_5 21 rfl rfl)
theorem dX3_creaks_140 : decode cX3_creaks 140 = .ok (.if_icmp .gt 4, 3) := dk_163 0 4 (dk_at dksX3_creaks_6 0 rfl rfl)
theorem dX3_creaks_143 : decode cX3_creaks 143 = .ok (.return_, 1) := dk_177 (dk_at dksX3_creaks_6 3 rfl rfl)
theorem dX3_creaks_144 : decode cX3_creaks 144 = .ok (.aload_n 0, 1) := dk_42 (dk_at dksX3_creaks_6 4 rfl rfl)
theorem dX3_creaks_145 : decode cX3_creaks 145 = .ok (.iload_n 1, 1) := dk_27 (dk_at dksX3_creaks_6 5 rfl rfl)
theorem dX3_creaks_146 : decode cX3_creaks 146 = .ok (.iload_n 2, 1) := dk_28 (dk_at dksX3_creaks_6 6 rfl rfl)
theorem dX3_creaks_147 : decode cX3_creaks 147 = .ok (.invokevirtual 140, 3) := dk_182 0 140 (dk_at dksX3_creaks_6 7 rfl rfl)
theorem dX3_creaks_150 : decode cX3_creaks 150 = .ok (.aload_n 0, 1) := dk_42 (dk_at dksX3_creaks_6 10 rfl rfl)
theorem dX3_creaks_151 : decode cX3_creaks 151 = .ok (.iload_n 1, 1) := dk_27 (dk_at dksX3_creaks_6 11 rfl rfl)
theorem dX3_creaks_152 : decode cX3_creaks 152 = .ok (.iload_n 2, 1) := dk_28 (dk_at dksX3_creaks_6 12 rfl rfl)
theorem dX3_creaks_153 : decode cX3_creaks 153 = .ok (.invokevirtual 98, 3) := dk_182 0 98 (dk_at dksX3_creaks_6 13 rfl rfl)
theorem dX3_creaks_156 : decode cX3_creaks 156 = .ok (.aload_n 0, 1) := dk_42 (dk_at dksX3_creaks_6 16 rfl rfl)
theorem dX3_creaks_157 : decode cX3_creaks 157 = .ok (.dup, 1) := dk_89 (dk_at dksX3_creaks_6 17 rfl rfl)
theorem dX3_creaks_158 : decode cX3_creaks 158 = .ok (.getfield 143, 3) := dk_180 0 143 (dk_at dksX3_creaks_6 18 rfl rfl)
theorem dX3_creaks_161 : decode cX3_creaks 161 = .ok (.iconst 1, 1) := dk_4 (dk_at dksX3_creaks_6 21 rfl rfl)
theorem dX3_creaks_162 : decode cX3_creaks 162 = .ok (.iadd, 1) := dk_96 (dk_at dksX3_creaks_6 22 rfl rfl)
theorem dX3_creaks_163 : decode cX3_creaks 163 = .ok (.putfield 143, 3) := dk_181 0 143 (dk_at dksX3_creaks_7 0 rfl rfl)
theorem dX3_creaks_166 : decode cX3_creaks 166 = .ok (.return_, 1) := dk_177 (dk_at dksX3_creaks_7 3 rfl rfl)
abbrev cX3_draw : ByteArray := prog_7_method_13_code
def yX3_draw : MethodName := ⟨RX3, "draw", "()I"⟩
def dkwX3_draw_1 : List UInt8 := [16, 10, 112, 172]
abbrev dktX3_draw_1 : List UInt8 := dkwX3_draw_1 ++ []
def dkwX3_draw_0 : List UInt8 := [42, 17, 98, 85, 42, 180, 0, 43, 104, 17, 54, 25, 96, 18, 114, 112, 181, 0, 43, 42, 180, 0, 43]
abbrev dktX3_draw_0 : List UInt8 := dkwX3_draw_0 ++ dktX3_draw_1
theorem dksX3_draw_0 : cX3_draw.data.toList.drop 0 = dktX3_draw_0 := by decide +kernel
theorem dksX3_draw_1 : cX3_draw.data.toList.drop 23 = dktX3_draw_1 := dk_seg dksX3_draw_0 23 rfl rfl
theorem dX3_draw_0 : decode cX3_draw 0 = .ok (.aload_n 0, 1) := dk_42 (dk_at dksX3_draw_0 0 rfl rfl)
theorem dX3_draw_1 : decode cX3_draw 1 = .ok (.sipush 25173, 3) := dk_17 98 85 (dk_at dksX3_draw_0 1 rfl rfl)
theorem dX3_draw_4 : decode cX3_draw 4 = .ok (.aload_n 0, 1) := dk_42 (dk_at dksX3_draw_0 4 rfl rfl)
theorem dX3_draw_5 : decode cX3_draw 5 = .ok (.getfield 43, 3) := dk_180 0 43 (dk_at dksX3_draw_0 5 rfl rfl)
theorem dX3_draw_8 : decode cX3_draw 8 = .ok (.imul, 1) := dk_104 (dk_at dksX3_draw_0 8 rfl rfl)
theorem dX3_draw_9 : decode cX3_draw 9 = .ok (.sipush 13849, 3) := dk_17 54 25 (dk_at dksX3_draw_0 9 rfl rfl)
theorem dX3_draw_12 : decode cX3_draw 12 = .ok (.iadd, 1) := dk_96 (dk_at dksX3_draw_0 12 rfl rfl)
theorem dX3_draw_13 : decode cX3_draw 13 = .ok (.ldc 114, 2) := dk_18 114 (dk_at dksX3_draw_0 13 rfl rfl)
theorem dX3_draw_15 : decode cX3_draw 15 = .ok (.irem, 1) := dk_112 (dk_at dksX3_draw_0 15 rfl rfl)
theorem dX3_draw_16 : decode cX3_draw 16 = .ok (.putfield 43, 3) := dk_181 0 43 (dk_at dksX3_draw_0 16 rfl rfl)
theorem dX3_draw_19 : decode cX3_draw 19 = .ok (.aload_n 0, 1) := dk_42 (dk_at dksX3_draw_0 19 rfl rfl)
theorem dX3_draw_20 : decode cX3_draw 20 = .ok (.getfield 43, 3) := dk_180 0 43 (dk_at dksX3_draw_0 20 rfl rfl)
theorem dX3_draw_23 : decode cX3_draw 23 = .ok (.bipush 10, 2) := dk_16 10 (dk_at dksX3_draw_1 0 rfl rfl)
theorem dX3_draw_25 : decode cX3_draw 25 = .ok (.irem, 1) := dk_112 (dk_at dksX3_draw_1 2 rfl rfl)
theorem dX3_draw_26 : decode cX3_draw 26 = .ok (.ireturn, 1) := dk_172 (dk_at dksX3_draw_1 3 rfl rfl)
abbrev cX3_takes : ByteArray := prog_7_method_2_code
def yX3_takes : MethodName := ⟨RX3, "takes", "(LPuzzleWed$Land;)LPuzzleWed$Land;"⟩
def dkwX3_takes_2 : List UInt8 := [180, 0, 40, 181, 0, 40, 42, 43, 180, 0, 43, 181, 0, 43, 42, 176]
abbrev dktX3_takes_2 : List UInt8 := dkwX3_takes_2 ++ []
def dkwX3_takes_1 : List UInt8 := [180, 0, 23, 28, 50, 43, 180, 0, 23, 28, 50, 182, 0, 37, 132, 2, 1, 167, 255, 217, 42, 43]
abbrev dktX3_takes_1 : List UInt8 := dkwX3_takes_1 ++ dktX3_takes_2
def dkwX3_takes_0 : List UInt8 := [3, 61, 28, 16, 12, 162, 0, 39, 42, 180, 0, 17, 28, 50, 43, 180, 0, 17, 28, 50, 182, 0, 33, 42]
abbrev dktX3_takes_0 : List UInt8 := dkwX3_takes_0 ++ dktX3_takes_1
theorem dksX3_takes_0 : cX3_takes.data.toList.drop 0 = dktX3_takes_0 := by decide +kernel
theorem dksX3_takes_1 : cX3_takes.data.toList.drop 24 = dktX3_takes_1 := dk_seg dksX3_takes_0 24 rfl rfl
theorem dksX3_takes_2 : cX3_takes.data.toList.drop 46 = dktX3_takes_2 := dk_seg dksX3_takes_1 22 rfl rfl
theorem dX3_takes_0 : decode cX3_takes 0 = .ok (.iconst 0, 1) := dk_3 (dk_at dksX3_takes_0 0 rfl rfl)
theorem dX3_takes_1 : decode cX3_takes 1 = .ok (.istore_n 2, 1) := dk_61 (dk_at dksX3_takes_0 1 rfl rfl)
theorem dX3_takes_2 : decode cX3_takes 2 = .ok (.iload_n 2, 1) := dk_28 (dk_at dksX3_takes_0 2 rfl rfl)
theorem dX3_takes_3 : decode cX3_takes 3 = .ok (.bipush 12, 2) := dk_16 12 (dk_at dksX3_takes_0 3 rfl rfl)
theorem dX3_takes_5 : decode cX3_takes 5 = .ok (.if_icmp .ge 39, 3) := dk_162 0 39 (dk_at dksX3_takes_0 5 rfl rfl)
theorem dX3_takes_8 : decode cX3_takes 8 = .ok (.aload_n 0, 1) := dk_42 (dk_at dksX3_takes_0 8 rfl rfl)
theorem dX3_takes_9 : decode cX3_takes 9 = .ok (.getfield 17, 3) := dk_180 0 17 (dk_at dksX3_takes_0 9 rfl rfl)
theorem dX3_takes_12 : decode cX3_takes 12 = .ok (.iload_n 2, 1) := dk_28 (dk_at dksX3_takes_0 12 rfl rfl)
theorem dX3_takes_13 : decode cX3_takes 13 = .ok (.aaload, 1) := dk_50 (dk_at dksX3_takes_0 13 rfl rfl)
theorem dX3_takes_14 : decode cX3_takes 14 = .ok (.aload_n 1, 1) := dk_43 (dk_at dksX3_takes_0 14 rfl rfl)
theorem dX3_takes_15 : decode cX3_takes 15 = .ok (.getfield 17, 3) := dk_180 0 17 (dk_at dksX3_takes_0 15 rfl rfl)
theorem dX3_takes_18 : decode cX3_takes 18 = .ok (.iload_n 2, 1) := dk_28 (dk_at dksX3_takes_0 18 rfl rfl)
theorem dX3_takes_19 : decode cX3_takes 19 = .ok (.aaload, 1) := dk_50 (dk_at dksX3_takes_0 19 rfl rfl)
theorem dX3_takes_20 : decode cX3_takes 20 = .ok (.invokevirtual 33, 3) := dk_182 0 33 (dk_at dksX3_takes_0 20 rfl rfl)
theorem dX3_takes_23 : decode cX3_takes 23 = .ok (.aload_n 0, 1) := dk_42 (dk_at dksX3_takes_0 23 rfl rfl)
theorem dX3_takes_24 : decode cX3_takes 24 = .ok (.getfield 23, 3) := dk_180 0 23 (dk_at dksX3_takes_1 0 rfl rfl)
theorem dX3_takes_27 : decode cX3_takes 27 = .ok (.iload_n 2, 1) := dk_28 (dk_at dksX3_takes_1 3 rfl rfl)
theorem dX3_takes_28 : decode cX3_takes 28 = .ok (.aaload, 1) := dk_50 (dk_at dksX3_takes_1 4 rfl rfl)
theorem dX3_takes_29 : decode cX3_takes 29 = .ok (.aload_n 1, 1) := dk_43 (dk_at dksX3_takes_1 5 rfl rfl)
theorem dX3_takes_30 : decode cX3_takes 30 = .ok (.getfield 23, 3) := dk_180 0 23 (dk_at dksX3_takes_1 6 rfl rfl)
theorem dX3_takes_33 : decode cX3_takes 33 = .ok (.iload_n 2, 1) := dk_28 (dk_at dksX3_takes_1 9 rfl rfl)
theorem dX3_takes_34 : decode cX3_takes 34 = .ok (.aaload, 1) := dk_50 (dk_at dksX3_takes_1 10 rfl rfl)
theorem dX3_takes_35 : decode cX3_takes 35 = .ok (.invokevirtual 37, 3) := dk_182 0 37 (dk_at dksX3_takes_1 11 rfl rfl)
theorem dX3_takes_38 : decode cX3_takes 38 = .ok (.iinc 2 1, 3) := dk_132 2 1 (dk_at dksX3_takes_1 14 rfl rfl)
theorem dX3_takes_41 : decode cX3_takes 41 = .ok (.goto (-39), 3) := dk_167 255 217 (dk_at dksX3_takes_1 17 rfl rfl)
theorem dX3_takes_44 : decode cX3_takes 44 = .ok (.aload_n 0, 1) := dk_42 (dk_at dksX3_takes_1 20 rfl rfl)
theorem dX3_takes_45 : decode cX3_takes 45 = .ok (.aload_n 1, 1) := dk_43 (dk_at dksX3_takes_1 21 rfl rfl)
theorem dX3_takes_46 : decode cX3_takes 46 = .ok (.getfield 40, 3) := dk_180 0 40 (dk_at dksX3_takes_2 0 rfl rfl)
theorem dX3_takes_49 : decode cX3_takes 49 = .ok (.putfield 40, 3) := dk_181 0 40 (dk_at dksX3_takes_2 3 rfl rfl)
theorem dX3_takes_52 : decode cX3_takes 52 = .ok (.aload_n 0, 1) := dk_42 (dk_at dksX3_takes_2 6 rfl rfl)
theorem dX3_takes_53 : decode cX3_takes 53 = .ok (.aload_n 1, 1) := dk_43 (dk_at dksX3_takes_2 7 rfl rfl)
theorem dX3_takes_54 : decode cX3_takes 54 = .ok (.getfield 43, 3) := dk_180 0 43 (dk_at dksX3_takes_2 8 rfl rfl)
theorem dX3_takes_57 : decode cX3_takes 57 = .ok (.putfield 43, 3) := dk_181 0 43 (dk_at dksX3_takes_2 11 rfl rfl)
theorem dX3_takes_60 : decode cX3_takes 60 = .ok (.aload_n 0, 1) := dk_42 (dk_at dksX3_takes_2 14 rfl rfl)
theorem dX3_takes_61 : decode cX3_takes 61 = .ok (.areturn, 1) := dk_176 (dk_at dksX3_takes_2 15 rfl rfl)
abbrev cX3_couples : ByteArray := prog_7_method_19_code
def yX3_couples : MethodName := ⟨RX3, "couples", "()I"⟩
def dkwX3_couples_2 : List UInt8 := [167, 255, 214, 27, 172]
abbrev dktX3_couples_2 : List UInt8 := dkwX3_couples_2 ++ []
def dkwX3_couples_1 : List UInt8 := [180, 0, 17, 28, 50, 180, 0, 86, 28, 164, 0, 7, 4, 167, 0, 4, 3, 96, 60, 132, 2, 1]
abbrev dktX3_couples_1 : List UInt8 := dkwX3_couples_1 ++ dktX3_couples_2
def dkwX3_couples_0 : List UInt8 := [3, 60, 3, 61, 28, 16, 12, 162, 0, 42, 27, 42, 180, 0, 17, 28, 50, 182, 0, 50, 153, 0, 20, 42]
abbrev dktX3_couples_0 : List UInt8 := dkwX3_couples_0 ++ dktX3_couples_1
theorem dksX3_couples_0 : cX3_couples.data.toList.drop 0 = dktX3_couples_0 := by decide +kernel
theorem dksX3_couples_1 : cX3_couples.data.toList.drop 24 = dktX3_couples_1 := dk_seg dksX3_couples_0 24 rfl rfl
theorem dksX3_couples_2 : cX3_couples.data.toList.drop 46 = dktX3_couples_2 := dk_seg dksX3_couples_1 22 rfl rfl
theorem dX3_couples_0 : decode cX3_couples 0 = .ok (.iconst 0, 1) := dk_3 (dk_at dksX3_couples_0 0 rfl rfl)
theorem dX3_couples_1 : decode cX3_couples 1 = .ok (.istore_n 1, 1) := dk_60 (dk_at dksX3_couples_0 1 rfl rfl)
theorem dX3_couples_2 : decode cX3_couples 2 = .ok (.iconst 0, 1) := dk_3 (dk_at dksX3_couples_0 2 rfl rfl)
theorem dX3_couples_3 : decode cX3_couples 3 = .ok (.istore_n 2, 1) := dk_61 (dk_at dksX3_couples_0 3 rfl rfl)
theorem dX3_couples_4 : decode cX3_couples 4 = .ok (.iload_n 2, 1) := dk_28 (dk_at dksX3_couples_0 4 rfl rfl)
theorem dX3_couples_5 : decode cX3_couples 5 = .ok (.bipush 12, 2) := dk_16 12 (dk_at dksX3_couples_0 5 rfl rfl)
theorem dX3_couples_7 : decode cX3_couples 7 = .ok (.if_icmp .ge 42, 3) := dk_162 0 42 (dk_at dksX3_couples_0 7 rfl rfl)
theorem dX3_couples_10 : decode cX3_couples 10 = .ok (.iload_n 1, 1) := dk_27 (dk_at dksX3_couples_0 10 rfl rfl)
theorem dX3_couples_11 : decode cX3_couples 11 = .ok (.aload_n 0, 1) := dk_42 (dk_at dksX3_couples_0 11 rfl rfl)
theorem dX3_couples_12 : decode cX3_couples 12 = .ok (.getfield 17, 3) := dk_180 0 17 (dk_at dksX3_couples_0 12 rfl rfl)
theorem dX3_couples_15 : decode cX3_couples 15 = .ok (.iload_n 2, 1) := dk_28 (dk_at dksX3_couples_0 15 rfl rfl)
theorem dX3_couples_16 : decode cX3_couples 16 = .ok (.aaload, 1) := dk_50 (dk_at dksX3_couples_0 16 rfl rfl)
theorem dX3_couples_17 : decode cX3_couples 17 = .ok (.invokevirtual 50, 3) := dk_182 0 50 (dk_at dksX3_couples_0 17 rfl rfl)
theorem dX3_couples_20 : decode cX3_couples 20 = .ok (.ifCond .eq 20, 3) := dk_153 0 20 (dk_at dksX3_couples_0 20 rfl rfl)
theorem dX3_couples_23 : decode cX3_couples 23 = .ok (.aload_n 0, 1) := dk_42 (dk_at dksX3_couples_0 23 rfl rfl)
theorem dX3_couples_24 : decode cX3_couples 24 = .ok (.getfield 17, 3) := dk_180 0 17 (dk_at dksX3_couples_1 0 rfl rfl)
theorem dX3_couples_27 : decode cX3_couples 27 = .ok (.iload_n 2, 1) := dk_28 (dk_at dksX3_couples_1 3 rfl rfl)
theorem dX3_couples_28 : decode cX3_couples 28 = .ok (.aaload, 1) := dk_50 (dk_at dksX3_couples_1 4 rfl rfl)
theorem dX3_couples_29 : decode cX3_couples 29 = .ok (.getfield 86, 3) := dk_180 0 86 (dk_at dksX3_couples_1 5 rfl rfl)
theorem dX3_couples_32 : decode cX3_couples 32 = .ok (.iload_n 2, 1) := dk_28 (dk_at dksX3_couples_1 8 rfl rfl)
theorem dX3_couples_33 : decode cX3_couples 33 = .ok (.if_icmp .le 7, 3) := dk_164 0 7 (dk_at dksX3_couples_1 9 rfl rfl)
theorem dX3_couples_36 : decode cX3_couples 36 = .ok (.iconst 1, 1) := dk_4 (dk_at dksX3_couples_1 12 rfl rfl)
theorem dX3_couples_37 : decode cX3_couples 37 = .ok (.goto 4, 3) := dk_167 0 4 (dk_at dksX3_couples_1 13 rfl rfl)
theorem dX3_couples_40 : decode cX3_couples 40 = .ok (.iconst 0, 1) := dk_3 (dk_at dksX3_couples_1 16 rfl rfl)
theorem dX3_couples_41 : decode cX3_couples 41 = .ok (.iadd, 1) := dk_96 (dk_at dksX3_couples_1 17 rfl rfl)
theorem dX3_couples_42 : decode cX3_couples 42 = .ok (.istore_n 1, 1) := dk_60 (dk_at dksX3_couples_1 18 rfl rfl)
theorem dX3_couples_43 : decode cX3_couples 43 = .ok (.iinc 2 1, 3) := dk_132 2 1 (dk_at dksX3_couples_1 19 rfl rfl)
theorem dX3_couples_46 : decode cX3_couples 46 = .ok (.goto (-42), 3) := dk_167 255 214 (dk_at dksX3_couples_2 0 rfl rfl)
theorem dX3_couples_49 : decode cX3_couples 49 = .ok (.iload_n 1, 1) := dk_27 (dk_at dksX3_couples_2 3 rfl rfl)
theorem dX3_couples_50 : decode cX3_couples 50 = .ok (.ireturn, 1) := dk_172 (dk_at dksX3_couples_2 4 rfl rfl)
abbrev cX3_likes : ByteArray := prog_7_method_8_code
def yX3_likes : MethodName := ⟨RX3, "likes", "(II)I"⟩
def dkwX3_likes_1 : List UInt8 := [182, 0, 83, 172]
abbrev dktX3_likes_1 : List UInt8 := dkwX3_likes_1 ++ []
def dkwX3_likes_0 : List UInt8 := [42, 180, 0, 3, 180, 0, 73, 42, 27, 28, 42, 27, 28, 182, 0, 68, 182, 0, 77, 16, 108, 16, 99]
abbrev dktX3_likes_0 : List UInt8 := dkwX3_likes_0 ++ dktX3_likes_1
theorem dksX3_likes_0 : cX3_likes.data.toList.drop 0 = dktX3_likes_0 := by decide +kernel
theorem dksX3_likes_1 : cX3_likes.data.toList.drop 23 = dktX3_likes_1 := dk_seg dksX3_likes_0 23 rfl rfl
theorem dX3_likes_0 : decode cX3_likes 0 = .ok (.aload_n 0, 1) := dk_42 (dk_at dksX3_likes_0 0 rfl rfl)
theorem dX3_likes_1 : decode cX3_likes 1 = .ok (.getfield 3, 3) := dk_180 0 3 (dk_at dksX3_likes_0 1 rfl rfl)
theorem dX3_likes_4 : decode cX3_likes 4 = .ok (.getfield 73, 3) := dk_180 0 73 (dk_at dksX3_likes_0 4 rfl rfl)
theorem dX3_likes_7 : decode cX3_likes 7 = .ok (.aload_n 0, 1) := dk_42 (dk_at dksX3_likes_0 7 rfl rfl)
theorem dX3_likes_8 : decode cX3_likes 8 = .ok (.iload_n 1, 1) := dk_27 (dk_at dksX3_likes_0 8 rfl rfl)
theorem dX3_likes_9 : decode cX3_likes 9 = .ok (.iload_n 2, 1) := dk_28 (dk_at dksX3_likes_0 9 rfl rfl)
theorem dX3_likes_10 : decode cX3_likes 10 = .ok (.aload_n 0, 1) := dk_42 (dk_at dksX3_likes_0 10 rfl rfl)
theorem dX3_likes_11 : decode cX3_likes 11 = .ok (.iload_n 1, 1) := dk_27 (dk_at dksX3_likes_0 11 rfl rfl)
theorem dX3_likes_12 : decode cX3_likes 12 = .ok (.iload_n 2, 1) := dk_28 (dk_at dksX3_likes_0 12 rfl rfl)
theorem dX3_likes_13 : decode cX3_likes 13 = .ok (.invokevirtual 68, 3) := dk_182 0 68 (dk_at dksX3_likes_0 13 rfl rfl)
theorem dX3_likes_16 : decode cX3_likes 16 = .ok (.invokevirtual 77, 3) := dk_182 0 77 (dk_at dksX3_likes_0 16 rfl rfl)
theorem dX3_likes_19 : decode cX3_likes 19 = .ok (.bipush 108, 2) := dk_16 108 (dk_at dksX3_likes_0 19 rfl rfl)
theorem dX3_likes_21 : decode cX3_likes 21 = .ok (.bipush 99, 2) := dk_16 99 (dk_at dksX3_likes_0 21 rfl rfl)
theorem dX3_likes_23 : decode cX3_likes 23 = .ok (.invokevirtual 83, 3) := dk_182 0 83 (dk_at dksX3_likes_1 0 rfl rfl)
theorem dX3_likes_26 : decode cX3_likes 26 = .ok (.ireturn, 1) := dk_172 (dk_at dksX3_likes_1 3 rfl rfl)
theorem q111 : (Jvm.Cond.initialized "PuzzleWed$Land") ∈ lw_all := lw_g (lw_at lw_m1 4 rfl) rfl
theorem q174 : (Jvm.Cond.instantiable "PuzzleWed$Land" (8 : Nat)) ∈ lw_all := lw_g (lw_at lw_m1 67 rfl) rfl
theorem q176 : (Jvm.Cond.instanceMethod ({ cls := "PuzzleWed$Land", name := "<init>", desc := "(LPuzzleWed;)V" } : Jvm.MethodName)) ∈ lw_all := lw_g (lw_at lw_m1 69 rfl) rfl
theorem q177 : (Jvm.Cond.code ({ cls := "PuzzleWed$Land", name := "<init>", desc := "(LPuzzleWed;)V" } : Jvm.MethodName) prog_7_method_1_code (3 : Nat) (Option.none : Option Jvm.ClassFile.FieldType)) ∈ lw_all := lw_g (lw_at lw_m1 70 rfl) rfl
theorem q178 : (Jvm.Cond.methodLink "PuzzleWed$Land" (9 : Nat) ({ cls := "java/lang/Object", name := "<init>", desc := "()V" } : Jvm.MethodName)) ∈ lw_all := lw_g (lw_at lw_m1 71 rfl) rfl
theorem q179 : (Jvm.Cond.classLink "PuzzleWed$Land" (15 : Nat) "PuzzleWed$Person") ∈ lw_all := lw_g (lw_at lw_m1 72 rfl) rfl
theorem q181 : (Jvm.Cond.classLink "PuzzleWed$Land" (21 : Nat) "PuzzleWed$Piece") ∈ lw_all := lw_g (lw_at lw_m1 74 rfl) rfl
theorem q184 : (Jvm.Cond.methodLinkNest "PuzzleWed$Land" (27 : Nat) ({ cls := "PuzzleWed$Person", name := "<init>", desc := "()V" } : Jvm.MethodName) "PuzzleWed") ∈ lw_tbl := lw_at lw_m1 77 rfl
theorem q189 : (Jvm.Cond.fieldLinkNest "PuzzleWed$Land" (124 : Nat) "PuzzleWed$Person" "towns" "[I" "PuzzleWed") ∈ lw_tbl := lw_at lw_m1 82 rfl
theorem q193 : (Jvm.Cond.fieldLinkNest "PuzzleWed$Land" (65 : Nat) "PuzzleWed$Person" "side" "I" "PuzzleWed") ∈ lw_tbl := lw_at lw_m1 86 rfl
theorem q198 : (Jvm.Cond.fieldLinkNest "PuzzleWed$Land" (128 : Nat) "PuzzleWed$Person" "town" "I" "PuzzleWed") ∈ lw_tbl := lw_at lw_m1 91 rfl
theorem q201 : (Jvm.Cond.fieldLinkNest "PuzzleWed$Land" (86 : Nat) "PuzzleWed$Person" "wed" "I" "PuzzleWed") ∈ lw_tbl := lw_at lw_m1 94 rfl
theorem q204 : (Jvm.Cond.fieldLinkNest "PuzzleWed$Land" (89 : Nat) "PuzzleWed$Person" "creaks" "I" "PuzzleWed") ∈ lw_tbl := lw_at lw_m1 97 rfl
theorem q207 : (Jvm.Cond.fieldLinkNest "PuzzleWed$Land" (92 : Nat) "PuzzleWed$Person" "tried" "I" "PuzzleWed") ∈ lw_tbl := lw_at lw_m1 100 rfl
theorem q210 : (Jvm.Cond.fieldLinkNest "PuzzleWed$Land" (118 : Nat) "PuzzleWed$Person" "next" "I" "PuzzleWed") ∈ lw_tbl := lw_at lw_m1 103 rfl
theorem q213 : (Jvm.Cond.fieldLinkNest "PuzzleWed$Land" (121 : Nat) "PuzzleWed$Person" "days" "I" "PuzzleWed") ∈ lw_tbl := lw_at lw_m1 106 rfl
theorem q218 : (Jvm.Cond.fieldLinkNest "PuzzleWed$Land" (157 : Nat) "PuzzleWed$Person" "isDead" "Z" "PuzzleWed") ∈ lw_tbl := lw_at lw_m1 111 rfl
theorem q243 : (Jvm.Cond.methodLinkNest "PuzzleWed$Land" (28 : Nat) ({ cls := "PuzzleWed$Piece", name := "<init>", desc := "()V" } : Jvm.MethodName) "PuzzleWed") ∈ lw_tbl := lw_at lw_m1 136 rfl
theorem q251 : (Jvm.Cond.fieldLinkNest "PuzzleWed$Land" (29 : Nat) "PuzzleWed$Piece" "holder" "I" "PuzzleWed") ∈ lw_tbl := lw_at lw_m1 144 rfl
theorem q261 : (Jvm.Cond.fieldLink "PuzzleWed$Land" (17 : Nat) "PuzzleWed$Land" "people" "[LPuzzleWed$Person;") ∈ lw_all := lw_g (lw_at lw_m1 154 rfl) rfl
theorem q264 : (Jvm.Cond.fieldLink "PuzzleWed$Land" (23 : Nat) "PuzzleWed$Land" "pieces" "[LPuzzleWed$Piece;") ∈ lw_all := lw_g (lw_at lw_m1 157 rfl) rfl
theorem q266 : (Jvm.Cond.fieldLink "PuzzleWed$Land" (40 : Nat) "PuzzleWed$Land" "day" "I") ∈ lw_all := lw_g (lw_at lw_m1 159 rfl) rfl
theorem q269 : (Jvm.Cond.fieldLink "PuzzleWed$Land" (43 : Nat) "PuzzleWed$Land" "x" "I") ∈ lw_all := lw_g (lw_at lw_m1 162 rfl) rfl
theorem q271 : (Jvm.Cond.fieldLink "PuzzleWed$Land" (107 : Nat) "PuzzleWed$Land" "weddings" "I") ∈ lw_all := lw_g (lw_at lw_m1 164 rfl) rfl
theorem q273 : (Jvm.Cond.fieldLink "PuzzleWed$Land" (95 : Nat) "PuzzleWed$Land" "tries" "I") ∈ lw_all := lw_g (lw_at lw_m1 166 rfl) rfl
theorem q275 : (Jvm.Cond.fieldLink "PuzzleWed$Land" (143 : Nat) "PuzzleWed$Land" "partings" "I") ∈ lw_all := lw_g (lw_at lw_m1 168 rfl) rfl
theorem q277 : (Jvm.Cond.fieldLink "PuzzleWed$Land" (3 : Nat) "PuzzleWed$Land" "this$0" "LPuzzleWed;") ∈ lw_all := lw_g (lw_at lw_m1 170 rfl) rfl
theorem q278 : (Jvm.Cond.laysFinal "PuzzleWed$Land" "PuzzleWed$Land" "people" "[LPuzzleWed$Person;") ∈ lw_all := lw_g (lw_at lw_m1 171 rfl) rfl
theorem q279 : (Jvm.Cond.soleField "PuzzleWed$Land" "people") ∈ lw_all := lw_g (lw_at lw_m1 172 rfl) rfl
theorem q280 : (Jvm.Cond.laysFinal "PuzzleWed$Land" "PuzzleWed$Land" "pieces" "[LPuzzleWed$Piece;") ∈ lw_all := lw_g (lw_at lw_m1 173 rfl) rfl
theorem q281 : (Jvm.Cond.soleField "PuzzleWed$Land" "pieces") ∈ lw_all := lw_g (lw_at lw_m1 174 rfl) rfl
theorem q282 : (Jvm.Cond.lays "PuzzleWed$Land" "PuzzleWed$Land" "day" "I") ∈ lw_all := lw_g (lw_at lw_m1 175 rfl) rfl
theorem q283 : (Jvm.Cond.soleField "PuzzleWed$Land" "day") ∈ lw_all := lw_g (lw_at lw_m1 176 rfl) rfl
theorem q284 : (Jvm.Cond.lays "PuzzleWed$Land" "PuzzleWed$Land" "x" "I") ∈ lw_all := lw_g (lw_at lw_m1 177 rfl) rfl
theorem q285 : (Jvm.Cond.soleField "PuzzleWed$Land" "x") ∈ lw_all := lw_g (lw_at lw_m1 178 rfl) rfl
theorem q286 : (Jvm.Cond.lays "PuzzleWed$Land" "PuzzleWed$Land" "weddings" "I") ∈ lw_all := lw_g (lw_at lw_m1 179 rfl) rfl
theorem q287 : (Jvm.Cond.soleField "PuzzleWed$Land" "weddings") ∈ lw_all := lw_g (lw_at lw_m1 180 rfl) rfl
theorem q288 : (Jvm.Cond.lays "PuzzleWed$Land" "PuzzleWed$Land" "tries" "I") ∈ lw_all := lw_g (lw_at lw_m1 181 rfl) rfl
theorem q289 : (Jvm.Cond.soleField "PuzzleWed$Land" "tries") ∈ lw_all := lw_g (lw_at lw_m1 182 rfl) rfl
theorem q290 : (Jvm.Cond.lays "PuzzleWed$Land" "PuzzleWed$Land" "partings" "I") ∈ lw_all := lw_g (lw_at lw_m1 183 rfl) rfl
theorem q291 : (Jvm.Cond.soleField "PuzzleWed$Land" "partings") ∈ lw_all := lw_g (lw_at lw_m1 184 rfl) rfl
theorem q292 : (Jvm.Cond.laysFinal "PuzzleWed$Land" "PuzzleWed$Land" "this$0" "LPuzzleWed;") ∈ lw_all := lw_g (lw_at lw_m1 185 rfl) rfl
theorem q293 : (Jvm.Cond.soleField "PuzzleWed$Land" "this$0") ∈ lw_all := lw_g (lw_at lw_m1 186 rfl) rfl
theorem q294 : (Jvm.Cond.superclass "PuzzleWed$Land" "java/lang/Object") ∈ lw_all := lw_g (lw_at lw_m1 187 rfl) rfl
theorem q331 : (Jvm.Cond.fieldLinkNest "PuzzleWed$Land" (73 : Nat) "PuzzleWed" "moment" "LPuzzleWed$Moment;" "PuzzleWed") ∈ lw_tbl := lw_at lw_m1 224 rfl
theorem q411 : (Jvm.Cond.instanceMethod ({ cls := "PuzzleWed$Land", name := "lives", desc := "(I)Z" } : Jvm.MethodName)) ∈ lw_all := lw_g (lw_at lw_m2 64 rfl) rfl
theorem q412 : (Jvm.Cond.selects "PuzzleWed$Land" ({ cls := "PuzzleWed$Land", name := "lives", desc := "(I)Z" } : Jvm.MethodName) ({ cls := "PuzzleWed$Land", name := "lives", desc := "(I)Z" } : Jvm.MethodName)) ∈ lw_all := lw_g (lw_at lw_m2 65 rfl) rfl
theorem q413 : (Jvm.Cond.code ({ cls := "PuzzleWed$Land", name := "lives", desc := "(I)Z" } : Jvm.MethodName) prog_7_method_3_code (2 : Nat) (Option.some Jvm.ClassFile.FieldType.boolean)) ∈ lw_all := lw_g (lw_at lw_m2 66 rfl) rfl
theorem q414 : (Jvm.Cond.methodLinkNest "PuzzleWed$Land" (46 : Nat) ({ cls := "PuzzleWed", name := "in", desc := "(II)Z" } : Jvm.MethodName) "PuzzleWed") ∈ lw_tbl := lw_at lw_m2 67 rfl
theorem q415 : (Jvm.Cond.methodLink "PuzzleWed$Land" (50 : Nat) ({ cls := "PuzzleWed$Person", name := "lives", desc := "()Z" } : Jvm.MethodName)) ∈ lw_all := lw_g (lw_at lw_m2 68 rfl) rfl
theorem q420 : (Jvm.Cond.instanceMethod ({ cls := "PuzzleWed$Land", name := "dies", desc := "(I)V" } : Jvm.MethodName)) ∈ lw_all := lw_g (lw_at lw_m2 73 rfl) rfl
theorem q421 : (Jvm.Cond.selects "PuzzleWed$Land" ({ cls := "PuzzleWed$Land", name := "dies", desc := "(I)V" } : Jvm.MethodName) ({ cls := "PuzzleWed$Land", name := "dies", desc := "(I)V" } : Jvm.MethodName)) ∈ lw_all := lw_g (lw_at lw_m2 74 rfl) rfl
theorem q422 : (Jvm.Cond.code ({ cls := "PuzzleWed$Land", name := "dies", desc := "(I)V" } : Jvm.MethodName) prog_7_method_20_code (7 : Nat) (Option.none : Option Jvm.ClassFile.FieldType)) ∈ lw_all := lw_g (lw_at lw_m2 75 rfl) rfl
theorem q423 : (Jvm.Cond.methodLink "PuzzleWed$Land" (140 : Nat) ({ cls := "PuzzleWed$Land", name := "part", desc := "(II)V" } : Jvm.MethodName)) ∈ lw_all := lw_g (lw_at lw_m2 76 rfl) rfl
theorem q424 : (Jvm.Cond.instanceMethod ({ cls := "PuzzleWed$Land", name := "part", desc := "(II)V" } : Jvm.MethodName)) ∈ lw_all := lw_g (lw_at lw_m2 77 rfl) rfl
theorem q425 : (Jvm.Cond.selects "PuzzleWed$Land" ({ cls := "PuzzleWed$Land", name := "part", desc := "(II)V" } : Jvm.MethodName) ({ cls := "PuzzleWed$Land", name := "part", desc := "(II)V" } : Jvm.MethodName)) ∈ lw_all := lw_g (lw_at lw_m2 78 rfl) rfl
theorem q426 : (Jvm.Cond.code ({ cls := "PuzzleWed$Land", name := "part", desc := "(II)V" } : Jvm.MethodName) prog_7_method_10_code (3 : Nat) (Option.none : Option Jvm.ClassFile.FieldType)) ∈ lw_all := lw_g (lw_at lw_m2 79 rfl) rfl
theorem q437 : (Jvm.Cond.instanceMethod ({ cls := "PuzzleWed$Land", name := "wed", desc := "(II)V" } : Jvm.MethodName)) ∈ lw_all := lw_g (lw_at lw_m2 90 rfl) rfl
theorem q438 : (Jvm.Cond.selects "PuzzleWed$Land" ({ cls := "PuzzleWed$Land", name := "wed", desc := "(II)V" } : Jvm.MethodName) ({ cls := "PuzzleWed$Land", name := "wed", desc := "(II)V" } : Jvm.MethodName)) ∈ lw_all := lw_g (lw_at lw_m2 91 rfl) rfl
theorem q439 : (Jvm.Cond.code ({ cls := "PuzzleWed$Land", name := "wed", desc := "(II)V" } : Jvm.MethodName) prog_7_method_9_code (3 : Nat) (Option.none : Option Jvm.ClassFile.FieldType)) ∈ lw_all := lw_g (lw_at lw_m2 92 rfl) rfl
theorem q906 : (Jvm.Cond.instanceMethod ({ cls := "PuzzleWed$Land", name := "goes", desc := "(I)LPuzzleWed$Land;" } : Jvm.MethodName)) ∈ lw_all := lw_g (lw_at lw_m4 79 rfl) rfl
theorem q907 : (Jvm.Cond.selects "PuzzleWed$Land" ({ cls := "PuzzleWed$Land", name := "goes", desc := "(I)LPuzzleWed$Land;" } : Jvm.MethodName) ({ cls := "PuzzleWed$Land", name := "goes", desc := "(I)LPuzzleWed$Land;" } : Jvm.MethodName)) ∈ lw_all := lw_g (lw_at lw_m4 80 rfl) rfl
theorem q908 : (Jvm.Cond.code ({ cls := "PuzzleWed$Land", name := "goes", desc := "(I)LPuzzleWed$Land;" } : Jvm.MethodName) prog_7_method_18_code (3 : Nat) (Option.some (Jvm.ClassFile.FieldType.object "PuzzleWed$Land"))) ∈ lw_all := lw_g (lw_at lw_m4 81 rfl) rfl
theorem q909 : (Jvm.Cond.methodLink "PuzzleWed$Land" (154 : Nat) ({ cls := "PuzzleWed$Land", name := "dayGoes", desc := "()V" } : Jvm.MethodName)) ∈ lw_all := lw_g (lw_at lw_m4 82 rfl) rfl
theorem q910 : (Jvm.Cond.privateMethod ({ cls := "PuzzleWed$Land", name := "dayGoes", desc := "()V" } : Jvm.MethodName)) ∈ lw_tbl := lw_at lw_m4 83 rfl
theorem q911 : (Jvm.Cond.instanceMethod ({ cls := "PuzzleWed$Land", name := "dayGoes", desc := "()V" } : Jvm.MethodName)) ∈ lw_all := lw_g (lw_at lw_m4 84 rfl) rfl
theorem q912 : (Jvm.Cond.code ({ cls := "PuzzleWed$Land", name := "dayGoes", desc := "()V" } : Jvm.MethodName) prog_7_method_17_code (5 : Nat) (Option.none : Option Jvm.ClassFile.FieldType)) ∈ lw_all := lw_g (lw_at lw_m4 85 rfl) rfl
theorem q913 : (Jvm.Cond.methodLink "PuzzleWed$Land" (146 : Nat) ({ cls := "PuzzleWed$Land", name := "travels", desc := "(LPuzzleWed$Person;)V" } : Jvm.MethodName)) ∈ lw_all := lw_g (lw_at lw_m4 86 rfl) rfl
theorem q914 : (Jvm.Cond.privateMethod ({ cls := "PuzzleWed$Land", name := "travels", desc := "(LPuzzleWed$Person;)V" } : Jvm.MethodName)) ∈ lw_tbl := lw_at lw_m4 87 rfl
theorem q915 : (Jvm.Cond.instanceMethod ({ cls := "PuzzleWed$Land", name := "travels", desc := "(LPuzzleWed$Person;)V" } : Jvm.MethodName)) ∈ lw_all := lw_g (lw_at lw_m4 88 rfl) rfl
theorem q916 : (Jvm.Cond.code ({ cls := "PuzzleWed$Land", name := "travels", desc := "(LPuzzleWed$Person;)V" } : Jvm.MethodName) prog_7_method_14_code (2 : Nat) (Option.none : Option Jvm.ClassFile.FieldType)) ∈ lw_all := lw_g (lw_at lw_m4 89 rfl) rfl
theorem q917 : (Jvm.Cond.methodLink "PuzzleWed$Land" (115 : Nat) ({ cls := "PuzzleWed$Person", name := "isFree", desc := "()Z" } : Jvm.MethodName)) ∈ lw_all := lw_g (lw_at lw_m4 90 rfl) rfl
theorem q918 : (Jvm.Cond.methodLink "PuzzleWed$Land" (149 : Nat) ({ cls := "PuzzleWed$Land", name := "meets", desc := "(II)V" } : Jvm.MethodName)) ∈ lw_all := lw_g (lw_at lw_m4 91 rfl) rfl
theorem q919 : (Jvm.Cond.privateMethod ({ cls := "PuzzleWed$Land", name := "meets", desc := "(II)V" } : Jvm.MethodName)) ∈ lw_tbl := lw_at lw_m4 92 rfl
theorem q920 : (Jvm.Cond.instanceMethod ({ cls := "PuzzleWed$Land", name := "meets", desc := "(II)V" } : Jvm.MethodName)) ∈ lw_all := lw_g (lw_at lw_m4 93 rfl) rfl
theorem q921 : (Jvm.Cond.code ({ cls := "PuzzleWed$Land", name := "meets", desc := "(II)V" } : Jvm.MethodName) prog_7_method_15_code (4 : Nat) (Option.none : Option Jvm.ClassFile.FieldType)) ∈ lw_all := lw_g (lw_at lw_m4 94 rfl) rfl
theorem q922 : (Jvm.Cond.methodLinkNest "PuzzleWed$Land" (131 : Nat) ({ cls := "PuzzleWed", name := "has", desc := "(II)Z" } : Jvm.MethodName) "PuzzleWed") ∈ lw_tbl := lw_at lw_m4 95 rfl
theorem q925 : (Jvm.Cond.methodLink "PuzzleWed$Land" (134 : Nat) ({ cls := "PuzzleWed$Land", name := "tries", desc := "(II)V" } : Jvm.MethodName)) ∈ lw_all := lw_g (lw_at lw_m4 98 rfl) rfl
theorem q926 : (Jvm.Cond.privateMethod ({ cls := "PuzzleWed$Land", name := "tries", desc := "(II)V" } : Jvm.MethodName)) ∈ lw_tbl := lw_at lw_m4 99 rfl
theorem q927 : (Jvm.Cond.instanceMethod ({ cls := "PuzzleWed$Land", name := "tries", desc := "(II)V" } : Jvm.MethodName)) ∈ lw_all := lw_g (lw_at lw_m4 100 rfl) rfl
theorem q928 : (Jvm.Cond.code ({ cls := "PuzzleWed$Land", name := "tries", desc := "(II)V" } : Jvm.MethodName) prog_7_method_12_code (8 : Nat) (Option.none : Option Jvm.ClassFile.FieldType)) ∈ lw_all := lw_g (lw_at lw_m4 101 rfl) rfl
theorem q929 : (Jvm.Cond.methodLink "PuzzleWed$Land" (98 : Nat) ({ cls := "PuzzleWed$Land", name := "haveTried", desc := "(II)V" } : Jvm.MethodName)) ∈ lw_all := lw_g (lw_at lw_m4 102 rfl) rfl
theorem q930 : (Jvm.Cond.instanceMethod ({ cls := "PuzzleWed$Land", name := "haveTried", desc := "(II)V" } : Jvm.MethodName)) ∈ lw_all := lw_g (lw_at lw_m4 103 rfl) rfl
theorem q931 : (Jvm.Cond.selects "PuzzleWed$Land" ({ cls := "PuzzleWed$Land", name := "haveTried", desc := "(II)V" } : Jvm.MethodName) ({ cls := "PuzzleWed$Land", name := "haveTried", desc := "(II)V" } : Jvm.MethodName)) ∈ lw_all := lw_g (lw_at lw_m4 104 rfl) rfl
theorem q932 : (Jvm.Cond.code ({ cls := "PuzzleWed$Land", name := "haveTried", desc := "(II)V" } : Jvm.MethodName) prog_7_method_11_code (3 : Nat) (Option.none : Option Jvm.ClassFile.FieldType)) ∈ lw_all := lw_g (lw_at lw_m4 105 rfl) rfl
theorem q933 : (Jvm.Cond.methodLink "PuzzleWed$Land" (102 : Nat) ({ cls := "PuzzleWed$Land", name := "fit", desc := "(II)Z" } : Jvm.MethodName)) ∈ lw_all := lw_g (lw_at lw_m4 106 rfl) rfl
theorem q934 : (Jvm.Cond.instanceMethod ({ cls := "PuzzleWed$Land", name := "fit", desc := "(II)Z" } : Jvm.MethodName)) ∈ lw_all := lw_g (lw_at lw_m4 107 rfl) rfl
theorem q935 : (Jvm.Cond.selects "PuzzleWed$Land" ({ cls := "PuzzleWed$Land", name := "fit", desc := "(II)Z" } : Jvm.MethodName) ({ cls := "PuzzleWed$Land", name := "fit", desc := "(II)Z" } : Jvm.MethodName)) ∈ lw_all := lw_g (lw_at lw_m4 108 rfl) rfl
theorem q936 : (Jvm.Cond.code ({ cls := "PuzzleWed$Land", name := "fit", desc := "(II)Z" } : Jvm.MethodName) prog_7_method_7_code (4 : Nat) (Option.some Jvm.ClassFile.FieldType.boolean)) ∈ lw_all := lw_g (lw_at lw_m4 109 rfl) rfl
theorem q937 : (Jvm.Cond.methodLink "PuzzleWed$Land" (68 : Nat) ({ cls := "PuzzleWed$Land", name := "slack", desc := "(II)I" } : Jvm.MethodName)) ∈ lw_all := lw_g (lw_at lw_m4 110 rfl) rfl
theorem q938 : (Jvm.Cond.instanceMethod ({ cls := "PuzzleWed$Land", name := "slack", desc := "(II)I" } : Jvm.MethodName)) ∈ lw_all := lw_g (lw_at lw_m4 111 rfl) rfl
theorem q939 : (Jvm.Cond.selects "PuzzleWed$Land" ({ cls := "PuzzleWed$Land", name := "slack", desc := "(II)I" } : Jvm.MethodName) ({ cls := "PuzzleWed$Land", name := "slack", desc := "(II)I" } : Jvm.MethodName)) ∈ lw_all := lw_g (lw_at lw_m4 112 rfl) rfl
theorem q940 : (Jvm.Cond.code ({ cls := "PuzzleWed$Land", name := "slack", desc := "(II)I" } : Jvm.MethodName) prog_7_method_5_code (6 : Nat) (Option.some Jvm.ClassFile.FieldType.int)) ∈ lw_all := lw_g (lw_at lw_m4 113 rfl) rfl
theorem q941 : (Jvm.Cond.constant "PuzzleWed$Land" (54 : Nat) (268435456 : Int32)) ∈ lw_all := lw_g (lw_at lw_m4 114 rfl) rfl
theorem q942 : (Jvm.Cond.methodLink "PuzzleWed$Land" (55 : Nat) ({ cls := "PuzzleWed$Piece", name := "slack", desc := "(LPuzzleWed$Piece;)I" } : Jvm.MethodName)) ∈ lw_all := lw_g (lw_at lw_m4 115 rfl) rfl
theorem q952 : (Jvm.Cond.methodLink "PuzzleWed$Land" (59 : Nat) ({ cls := "java/lang/Math", name := "min", desc := "(II)I" } : Jvm.MethodName)) ∈ lw_all := lw_g (lw_at lw_m4 125 rfl) rfl
theorem q953 : (Jvm.Cond.methodLink "PuzzleWed$Land" (70 : Nat) ({ cls := "PuzzleWed$Land", name := "isFirst", desc := "(II)Z" } : Jvm.MethodName)) ∈ lw_all := lw_g (lw_at lw_m4 126 rfl) rfl
theorem q954 : (Jvm.Cond.privateMethod ({ cls := "PuzzleWed$Land", name := "isFirst", desc := "(II)Z" } : Jvm.MethodName)) ∈ lw_tbl := lw_at lw_m4 127 rfl
theorem q955 : (Jvm.Cond.instanceMethod ({ cls := "PuzzleWed$Land", name := "isFirst", desc := "(II)Z" } : Jvm.MethodName)) ∈ lw_all := lw_g (lw_at lw_m4 128 rfl) rfl
theorem q956 : (Jvm.Cond.code ({ cls := "PuzzleWed$Land", name := "isFirst", desc := "(II)Z" } : Jvm.MethodName) prog_7_method_6_code (3 : Nat) (Option.some Jvm.ClassFile.FieldType.boolean)) ∈ lw_all := lw_g (lw_at lw_m4 129 rfl) rfl
theorem q957 : (Jvm.Cond.methodLink "PuzzleWed$Land" (77 : Nat) ({ cls := "PuzzleWed$Moment", name := "of", desc := "(LPuzzleWed$Land;III)LPuzzleWed$Moment;" } : Jvm.MethodName)) ∈ lw_all := lw_g (lw_at lw_m4 130 rfl) rfl
theorem q961 : (Jvm.Cond.methodLink "PuzzleWed$Land" (83 : Nat) ({ cls := "PuzzleWed$Moment", name := "tells", desc := "(II)I" } : Jvm.MethodName)) ∈ lw_all := lw_g (lw_at lw_m4 134 rfl) rfl
theorem q988 : (Jvm.Cond.instanceMethod ({ cls := "PuzzleWed$Land", name := "holds", desc := "(I)I" } : Jvm.MethodName)) ∈ lw_all := lw_g (lw_at lw_m4 161 rfl) rfl
theorem q989 : (Jvm.Cond.selects "PuzzleWed$Land" ({ cls := "PuzzleWed$Land", name := "holds", desc := "(I)I" } : Jvm.MethodName) ({ cls := "PuzzleWed$Land", name := "holds", desc := "(I)I" } : Jvm.MethodName)) ∈ lw_all := lw_g (lw_at lw_m4 162 rfl) rfl
theorem q990 : (Jvm.Cond.code ({ cls := "PuzzleWed$Land", name := "holds", desc := "(I)I" } : Jvm.MethodName) prog_7_method_4_code (4 : Nat) (Option.some Jvm.ClassFile.FieldType.int)) ∈ lw_all := lw_g (lw_at lw_m4 163 rfl) rfl
theorem q1028 : (Jvm.Cond.methodLink "PuzzleWed$Land" (105 : Nat) ({ cls := "PuzzleWed$Land", name := "wed", desc := "(II)V" } : Jvm.MethodName)) ∈ lw_all := lw_g (lw_at lw_m4 201 rfl) rfl
theorem q1029 : (Jvm.Cond.methodLink "PuzzleWed$Land" (110 : Nat) ({ cls := "PuzzleWed$Piece", name := "wears", desc := "(I)V" } : Jvm.MethodName)) ∈ lw_all := lw_g (lw_at lw_m4 202 rfl) rfl
theorem q1034 : (Jvm.Cond.methodLink "PuzzleWed$Land" (152 : Nat) ({ cls := "PuzzleWed$Land", name := "creaks", desc := "(II)V" } : Jvm.MethodName)) ∈ lw_all := lw_g (lw_at lw_m4 207 rfl) rfl
theorem q1035 : (Jvm.Cond.privateMethod ({ cls := "PuzzleWed$Land", name := "creaks", desc := "(II)V" } : Jvm.MethodName)) ∈ lw_tbl := lw_at lw_m4 208 rfl
theorem q1036 : (Jvm.Cond.instanceMethod ({ cls := "PuzzleWed$Land", name := "creaks", desc := "(II)V" } : Jvm.MethodName)) ∈ lw_all := lw_g (lw_at lw_m4 209 rfl) rfl
theorem q1037 : (Jvm.Cond.code ({ cls := "PuzzleWed$Land", name := "creaks", desc := "(II)V" } : Jvm.MethodName) prog_7_method_16_code (5 : Nat) (Option.none : Option Jvm.ClassFile.FieldType)) ∈ lw_all := lw_g (lw_at lw_m4 210 rfl) rfl
theorem q1038 : (Jvm.Cond.methodLink "PuzzleWed$Land" (136 : Nat) ({ cls := "PuzzleWed$Land", name := "draw", desc := "()I" } : Jvm.MethodName)) ∈ lw_all := lw_g (lw_at lw_m4 211 rfl) rfl
theorem q1039 : (Jvm.Cond.privateMethod ({ cls := "PuzzleWed$Land", name := "draw", desc := "()I" } : Jvm.MethodName)) ∈ lw_tbl := lw_at lw_m4 212 rfl
theorem q1040 : (Jvm.Cond.instanceMethod ({ cls := "PuzzleWed$Land", name := "draw", desc := "()I" } : Jvm.MethodName)) ∈ lw_all := lw_g (lw_at lw_m4 213 rfl) rfl
theorem q1041 : (Jvm.Cond.code ({ cls := "PuzzleWed$Land", name := "draw", desc := "()I" } : Jvm.MethodName) prog_7_method_13_code (1 : Nat) (Option.some Jvm.ClassFile.FieldType.int)) ∈ lw_all := lw_g (lw_at lw_m4 214 rfl) rfl
theorem q1042 : (Jvm.Cond.constant "PuzzleWed$Land" (114 : Nat) (65536 : Int32)) ∈ lw_all := lw_g (lw_at lw_m4 215 rfl) rfl
theorem q1048 : (Jvm.Cond.instanceMethod ({ cls := "PuzzleWed$Land", name := "takes", desc := "(LPuzzleWed$Land;)LPuzzleWed$Land;" } : Jvm.MethodName)) ∈ lw_all := lw_g (lw_at lw_m4 221 rfl) rfl
theorem q1049 : (Jvm.Cond.selects "PuzzleWed$Land" ({ cls := "PuzzleWed$Land", name := "takes", desc := "(LPuzzleWed$Land;)LPuzzleWed$Land;" } : Jvm.MethodName) ({ cls := "PuzzleWed$Land", name := "takes", desc := "(LPuzzleWed$Land;)LPuzzleWed$Land;" } : Jvm.MethodName)) ∈ lw_all := lw_g (lw_at lw_m4 222 rfl) rfl
theorem q1050 : (Jvm.Cond.code ({ cls := "PuzzleWed$Land", name := "takes", desc := "(LPuzzleWed$Land;)LPuzzleWed$Land;" } : Jvm.MethodName) prog_7_method_2_code (3 : Nat) (Option.some (Jvm.ClassFile.FieldType.object "PuzzleWed$Land"))) ∈ lw_all := lw_g (lw_at lw_m4 223 rfl) rfl
theorem q1051 : (Jvm.Cond.methodLink "PuzzleWed$Land" (33 : Nat) ({ cls := "PuzzleWed$Person", name := "takes", desc := "(LPuzzleWed$Person;)V" } : Jvm.MethodName)) ∈ lw_all := lw_g (lw_at lw_m4 224 rfl) rfl
theorem q1055 : (Jvm.Cond.methodLink "PuzzleWed$Land" (37 : Nat) ({ cls := "PuzzleWed$Piece", name := "takes", desc := "(LPuzzleWed$Piece;)V" } : Jvm.MethodName)) ∈ lw_all := lw_g (lw_at lw_m4 228 rfl) rfl
theorem q1060 : (Jvm.Cond.instanceMethod ({ cls := "PuzzleWed$Land", name := "couples", desc := "()I" } : Jvm.MethodName)) ∈ lw_all := lw_g (lw_at lw_m4 233 rfl) rfl
theorem q1061 : (Jvm.Cond.selects "PuzzleWed$Land" ({ cls := "PuzzleWed$Land", name := "couples", desc := "()I" } : Jvm.MethodName) ({ cls := "PuzzleWed$Land", name := "couples", desc := "()I" } : Jvm.MethodName)) ∈ lw_all := lw_g (lw_at lw_m4 234 rfl) rfl
theorem q1062 : (Jvm.Cond.code ({ cls := "PuzzleWed$Land", name := "couples", desc := "()I" } : Jvm.MethodName) prog_7_method_19_code (3 : Nat) (Option.some Jvm.ClassFile.FieldType.int)) ∈ lw_all := lw_g (lw_at lw_m4 235 rfl) rfl
theorem q1086 : (Jvm.Cond.instanceMethod ({ cls := "PuzzleWed$Land", name := "likes", desc := "(II)I" } : Jvm.MethodName)) ∈ lw_all := lw_g (lw_at lw_m5 19 rfl) rfl
theorem q1087 : (Jvm.Cond.selects "PuzzleWed$Land" ({ cls := "PuzzleWed$Land", name := "likes", desc := "(II)I" } : Jvm.MethodName) ({ cls := "PuzzleWed$Land", name := "likes", desc := "(II)I" } : Jvm.MethodName)) ∈ lw_all := lw_g (lw_at lw_m5 20 rfl) rfl
theorem q1088 : (Jvm.Cond.code ({ cls := "PuzzleWed$Land", name := "likes", desc := "(II)I" } : Jvm.MethodName) prog_7_method_8_code (3 : Nat) (Option.some Jvm.ClassFile.FieldType.int)) ∈ lw_all := lw_g (lw_at lw_m5 21 rfl) rfl
theorem in_X3 : ∀ w ∈ wsX30, w ∈ lw_all := lw_in wsX30 [278, 280, 282, 284, 286, 288, 290, 292] (by decide +kernel) (by decide +kernel)
