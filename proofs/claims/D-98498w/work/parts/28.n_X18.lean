/-! PuzzleWed$Carver -/
set_option maxRecDepth 100000
def RX18 : String := "PuzzleWed$Carver"
def TX18 : u_T := fun k => match k with
  | 0 => ("PuzzleWed$Scribe", "n", "I", true)
  | 1 => ("PuzzleWed$Scribe", "at", "I", false)
  | 2 => ("PuzzleWed$Scribe", "fault", "I", false)
  | 3 => ("PuzzleWed$Scribe", "place", "I", false)
  | 4 => ("PuzzleWed$Scribe", "this$0", "LPuzzleWed;", true)
  | 5 => ("PuzzleWed$Carver", "heights", "[I", true)
  | 6 => ("PuzzleWed$Carver", "many", "I", false)
  | _ => ("PuzzleWed$Carver", "this$0", "LPuzzleWed;", true)
def tyX18 : Nat → FieldType := fun k => match k with
  | 0 => .int
  | 1 => .int
  | 2 => .int
  | 3 => .int
  | 4 => .object "PuzzleWed"
  | 5 => .array .int
  | 6 => .int
  | _ => .object "PuzzleWed"
abbrev wsX180 : List Cond := u_ws RX18 TX18 8
-- two fields of one name: no nmX18
theorem tyX18_ok : ∀ k, k < 8 → parseFieldDescriptor (TX18 k).2.2.1 = some (tyX18 k) := by decide +kernel
abbrev cX18_init : ByteArray := prog_3_method_1_code
def yX18_init : MethodName := ⟨RX18, "<init>", "(LPuzzleWed;I)V"⟩
def dkwX18_init_0 : List UInt8 := [42, 43, 181, 0, 3, 42, 43, 28, 183, 0, 9, 42, 16, 8, 188, 10, 181, 0, 15, 177]
abbrev dktX18_init_0 : List UInt8 := dkwX18_init_0 ++ []
theorem dksX18_init_0 : cX18_init.data.toList.drop 0 = dktX18_init_0 := by decide +kernel
theorem dX18_init_0 : decode cX18_init 0 = .ok (.aload_n 0, 1) := dk_42 (dk_at dksX18_init_0 0 rfl rfl)
theorem dX18_init_1 : decode cX18_init 1 = .ok (.aload_n 1, 1) := dk_43 (dk_at dksX18_init_0 1 rfl rfl)
theorem dX18_init_2 : decode cX18_init 2 = .ok (.putfield 3, 3) := dk_181 0 3 (dk_at dksX18_init_0 2 rfl rfl)
theorem dX18_init_5 : decode cX18_init 5 = .ok (.aload_n 0, 1) := dk_42 (dk_at dksX18_init_0 5 rfl rfl)
theorem dX18_init_6 : decode cX18_init 6 = .ok (.aload_n 1, 1) := dk_43 (dk_at dksX18_init_0 6 rfl rfl)
theorem dX18_init_7 : decode cX18_init 7 = .ok (.iload_n 2, 1) := dk_28 (dk_at dksX18_init_0 7 rfl rfl)
theorem dX18_init_8 : decode cX18_init 8 = .ok (.invokespecial 9, 3) := dk_183 0 9 (dk_at dksX18_init_0 8 rfl rfl)
theorem dX18_init_11 : decode cX18_init 11 = .ok (.aload_n 0, 1) := dk_42 (dk_at dksX18_init_0 11 rfl rfl)
theorem dX18_init_12 : decode cX18_init 12 = .ok (.bipush 8, 2) := dk_16 8 (dk_at dksX18_init_0 12 rfl rfl)
theorem dX18_init_14 : decode cX18_init 14 = .ok (.newarray .int, 2) := dk_188_10 (dk_at dksX18_init_0 14 rfl rfl)
theorem dX18_init_16 : decode cX18_init 16 = .ok (.putfield 15, 3) := dk_181 0 15 (dk_at dksX18_init_0 16 rfl rfl)
theorem dX18_init_19 : decode cX18_init 19 = .ok (.return_, 1) := dk_177 (dk_at dksX18_init_0 19 rfl rfl)
abbrev cX18_read : ByteArray := prog_3_method_3_code
def yX18_read : MethodName := ⟨RX18, "read", "()I"⟩
def dkwX18_read_3 : List UInt8 := [132, 4, 1, 167, 255, 233, 27, 172]
abbrev dktX18_read_3 : List UInt8 := dkwX18_read_3 ++ []
def dkwX18_read_2 : List UInt8 := [62, 3, 54, 4, 21, 4, 29, 162, 0, 23, 44, 21, 4, 46, 54, 5, 27, 21, 5, 184, 0, 56, 96, 60]
abbrev dktX18_read_2 : List UInt8 := dkwX18_read_2 ++ dktX18_read_3
def dkwX18_read_1 : List UInt8 := [182, 0, 34, 42, 182, 0, 38, 154, 0, 8, 42, 182, 0, 53, 172, 3, 60, 42, 180, 0, 15, 77, 44, 190]
abbrev dktX18_read_1 : List UInt8 := dkwX18_read_1 ++ dktX18_read_2
def dkwX18_read_0 : List UInt8 := [42, 182, 0, 50, 153, 0, 21, 42, 180, 0, 46, 16, 8, 162, 0, 12, 42, 4, 42, 182, 0, 19]
abbrev dktX18_read_0 : List UInt8 := dkwX18_read_0 ++ dktX18_read_1
theorem dksX18_read_0 : cX18_read.data.toList.drop 0 = dktX18_read_0 := by decide +kernel
theorem dksX18_read_1 : cX18_read.data.toList.drop 22 = dktX18_read_1 := dk_seg dksX18_read_0 22 rfl rfl
theorem dksX18_read_2 : cX18_read.data.toList.drop 46 = dktX18_read_2 := dk_seg dksX18_read_1 24 rfl rfl
theorem dksX18_read_3 : cX18_read.data.toList.drop 70 = dktX18_read_3 := dk_seg dksX18_read_2 24 rfl rfl
theorem dX18_read_0 : decode cX18_read 0 = .ok (.aload_n 0, 1) := dk_42 (dk_at dksX18_read_0 0 rfl rfl)
theorem dX18_read_1 : decode cX18_read 1 = .ok (.invokevirtual 50, 3) := dk_182 0 50 (dk_at dksX18_read_0 1 rfl rfl)
theorem dX18_read_4 : decode cX18_read 4 = .ok (.ifCond .eq 21, 3) := dk_153 0 21 (dk_at dksX18_read_0 4 rfl rfl)
theorem dX18_read_7 : decode cX18_read 7 = .ok (.aload_n 0, 1) := dk_42 (dk_at dksX18_read_0 7 rfl rfl)
theorem dX18_read_8 : decode cX18_read 8 = .ok (.getfield 46, 3) := dk_180 0 46 (dk_at dksX18_read_0 8 rfl rfl)
theorem dX18_read_11 : decode cX18_read 11 = .ok (.bipush 8, 2) := dk_16 8 (dk_at dksX18_read_0 11 rfl rfl)
theorem dX18_read_13 : decode cX18_read 13 = .ok (.if_icmp .ge 12, 3) := dk_162 0 12 (dk_at dksX18_read_0 13 rfl rfl)
theorem dX18_read_16 : decode cX18_read 16 = .ok (.aload_n 0, 1) := dk_42 (dk_at dksX18_read_0 16 rfl rfl)
theorem dX18_read_17 : decode cX18_read 17 = .ok (.iconst 1, 1) := dk_4 (dk_at dksX18_read_0 17 rfl rfl)
theorem dX18_read_18 : decode cX18_read 18 = .ok (.aload_n 0, 1) := dk_42 (dk_at dksX18_read_0 18 rfl rfl)
theorem dX18_read_19 : decode cX18_read 19 = .ok (.invokevirtual 19, 3) := dk_182 0 19 (dk_at dksX18_read_0 19 rfl rfl)
theorem dX18_read_22 : decode cX18_read 22 = .ok (.invokevirtual 34, 3) := dk_182 0 34 (dk_at dksX18_read_1 0 rfl rfl)
theorem dX18_read_25 : decode cX18_read 25 = .ok (.aload_n 0, 1) := dk_42 (dk_at dksX18_read_1 3 rfl rfl)
theorem dX18_read_26 : decode cX18_read 26 = .ok (.invokevirtual 38, 3) := dk_182 0 38 (dk_at dksX18_read_1 4 rfl rfl)
theorem dX18_read_29 : decode cX18_read 29 = .ok (.ifCond .ne 8, 3) := dk_154 0 8 (dk_at dksX18_read_1 7 rfl rfl)
theorem dX18_read_32 : decode cX18_read 32 = .ok (.aload_n 0, 1) := dk_42 (dk_at dksX18_read_1 10 rfl rfl)
theorem dX18_read_33 : decode cX18_read 33 = .ok (.invokevirtual 53, 3) := dk_182 0 53 (dk_at dksX18_read_1 11 rfl rfl)
theorem dX18_read_36 : decode cX18_read 36 = .ok (.ireturn, 1) := dk_172 (dk_at dksX18_read_1 14 rfl rfl)
theorem dX18_read_37 : decode cX18_read 37 = .ok (.iconst 0, 1) := dk_3 (dk_at dksX18_read_1 15 rfl rfl)
theorem dX18_read_38 : decode cX18_read 38 = .ok (.istore_n 1, 1) := dk_60 (dk_at dksX18_read_1 16 rfl rfl)
theorem dX18_read_39 : decode cX18_read 39 = .ok (.aload_n 0, 1) := dk_42 (dk_at dksX18_read_1 17 rfl rfl)
theorem dX18_read_40 : decode cX18_read 40 = .ok (.getfield 15, 3) := dk_180 0 15 (dk_at dksX18_read_1 18 rfl rfl)
theorem dX18_read_43 : decode cX18_read 43 = .ok (.astore_n 2, 1) := dk_77 (dk_at dksX18_read_1 21 rfl rfl)
theorem dX18_read_44 : decode cX18_read 44 = .ok (.aload_n 2, 1) := dk_44 (dk_at dksX18_read_1 22 rfl rfl)
theorem dX18_read_45 : decode cX18_read 45 = .ok (.arraylength, 1) := dk_190 (dk_at dksX18_read_1 23 rfl rfl)
theorem dX18_read_46 : decode cX18_read 46 = .ok (.istore_n 3, 1) := dk_62 (dk_at dksX18_read_2 0 rfl rfl)
theorem dX18_read_47 : decode cX18_read 47 = .ok (.iconst 0, 1) := dk_3 (dk_at dksX18_read_2 1 rfl rfl)
theorem dX18_read_48 : decode cX18_read 48 = .ok (.istore 4, 2) := dk_54 4 (dk_at dksX18_read_2 2 rfl rfl)
theorem dX18_read_50 : decode cX18_read 50 = .ok (.iload 4, 2) := dk_21 4 (dk_at dksX18_read_2 4 rfl rfl)
theorem dX18_read_52 : decode cX18_read 52 = .ok (.iload_n 3, 1) := dk_29 (dk_at dksX18_read_2 6 rfl rfl)
theorem dX18_read_53 : decode cX18_read 53 = .ok (.if_icmp .ge 23, 3) := dk_162 0 23 (dk_at dksX18_read_2 7 rfl rfl)
theorem dX18_read_56 : decode cX18_read 56 = .ok (.aload_n 2, 1) := dk_44 (dk_at dksX18_read_2 10 rfl rfl)
theorem dX18_read_57 : decode cX18_read 57 = .ok (.iload 4, 2) := dk_21 4 (dk_at dksX18_read_2 11 rfl rfl)
theorem dX18_read_59 : decode cX18_read 59 = .ok (.iaload, 1) := dk_46 (dk_at dksX18_read_2 13 rfl rfl)
theorem dX18_read_60 : decode cX18_read 60 = .ok (.istore 5, 2) := dk_54 5 (dk_at dksX18_read_2 14 rfl rfl)
theorem dX18_read_62 : decode cX18_read 62 = .ok (.iload_n 1, 1) := dk_27 (dk_at dksX18_read_2 16 rfl rfl)
theorem dX18_read_63 : decode cX18_read 63 = .ok (.iload 5, 2) := dk_21 5 (dk_at dksX18_read_2 17 rfl rfl)
theorem dX18_read_65 : decode cX18_read 65 = .ok (.invokestatic 56, 3) := dk_184 0 56 (dk_at dksX18_read_2 19 rfl rfl)
theorem dX18_read_68 : decode cX18_read 68 = .ok (.iadd, 1) := dk_96 (dk_at dksX18_read_2 22 rfl rfl)
theorem dX18_read_69 : decode cX18_read 69 = .ok (.istore_n 1, 1) := dk_60 (dk_at dksX18_read_2 23 rfl rfl)
theorem dX18_read_70 : decode cX18_read 70 = .ok (.iinc 4 1, 3) := dk_132 4 1 (dk_at dksX18_read_3 0 rfl rfl)
theorem dX18_read_73 : decode cX18_read 73 = .ok (.goto (-23), 3) := dk_167 255 233 (dk_at dksX18_read_3 3 rfl rfl)
theorem dX18_read_76 : decode cX18_read 76 = .ok (.iload_n 1, 1) := dk_27 (dk_at dksX18_read_3 6 rfl rfl)
theorem dX18_read_77 : decode cX18_read 77 = .ok (.ireturn, 1) := dk_172 (dk_at dksX18_read_3 7 rfl rfl)
abbrev cX18_entry : ByteArray := prog_3_method_2_code
def yX18_entry : MethodName := ⟨RX18, "entry", "()V"⟩
def dkwX18_entry_7 : List UInt8 := [132, 5, 1, 167, 255, 219, 177]
abbrev dktX18_entry_7 : List UInt8 := dkwX18_entry_7 ++ []
def dkwX18_entry_6 : List UInt8 := [153, 0, 29, 42, 180, 0, 15, 42, 180, 0, 46, 29, 79, 42, 89, 180, 0, 46, 4, 96, 181, 0, 46]
abbrev dktX18_entry_6 : List UInt8 := dkwX18_entry_6 ++ dktX18_entry_7
def dkwX18_entry_5 : List UInt8 := [164, 0, 10, 42, 16, 6, 27, 182, 0, 34, 3, 54, 5, 21, 5, 21, 4, 162, 0, 36, 42, 182, 0, 38]
abbrev dktX18_entry_5 : List UInt8 := dkwX18_entry_5 ++ dktX18_entry_6
def dkwX18_entry_4 : List UInt8 := [167, 0, 4, 3, 54, 4, 42, 182, 0, 38, 153, 0, 22, 42, 180, 0, 46, 21, 4, 96, 16, 8]
abbrev dktX18_entry_4 : List UInt8 := dkwX18_entry_4 ++ dktX18_entry_5
def dkwX18_entry_3 : List UInt8 := [182, 0, 23, 16, 48, 100, 62, 42, 182, 0, 26, 42, 182, 0, 38, 153, 0, 12, 42, 16, 8, 182, 0, 42]
abbrev dktX18_entry_3 : List UInt8 := dkwX18_entry_3 ++ dktX18_entry_4
def dkwX18_entry_2 : List UInt8 := [42, 4, 42, 182, 0, 19, 182, 0, 34, 28, 153, 0, 13, 16, 48, 42, 182, 0, 23, 100, 167, 0, 10, 42]
abbrev dktX18_entry_2 : List UInt8 := dkwX18_entry_2 ++ dktX18_entry_3
def dkwX18_entry_1 : List UInt8 := [42, 182, 0, 26, 42, 28, 153, 0, 8, 16, 49, 167, 0, 5, 16, 48, 16, 57, 182, 0, 30, 154, 0, 12]
abbrev dktX18_entry_1 : List UInt8 := dkwX18_entry_1 ++ dktX18_entry_2
def dkwX18_entry_0 : List UInt8 := [42, 182, 0, 19, 60, 42, 182, 0, 23, 16, 45, 160, 0, 7, 4, 167, 0, 4, 3, 61, 28, 153, 0, 7]
abbrev dktX18_entry_0 : List UInt8 := dkwX18_entry_0 ++ dktX18_entry_1
theorem dksX18_entry_0 : cX18_entry.data.toList.drop 0 = dktX18_entry_0 := by decide +kernel
theorem dksX18_entry_1 : cX18_entry.data.toList.drop 24 = dktX18_entry_1 := dk_seg dksX18_entry_0 24 rfl rfl
theorem dksX18_entry_2 : cX18_entry.data.toList.drop 48 = dktX18_entry_2 := dk_seg dksX18_entry_1 24 rfl rfl
theorem dksX18_entry_3 : cX18_entry.data.toList.drop 72 = dktX18_entry_3 := dk_seg dksX18_entry_2 24 rfl rfl
theorem dksX18_entry_4 : cX18_entry.data.toList.drop 96 = dktX18_entry_4 := dk_seg dksX18_entry_3 24 rfl rfl
theorem dksX18_entry_5 : cX18_entry.data.toList.drop 118 = dktX18_entry_5 := dk_seg dksX18_entry_4 22 rfl rfl
theorem dksX18_entry_6 : cX18_entry.data.toList.drop 142 = dktX18_entry_6 := dk_seg dksX18_entry_5 24 rfl rfl
theorem dksX18_entry_7 : cX18_entry.data.toList.drop 165 = dktX18_entry_7 := dk_seg dksX18_entry_6 23 rfl rfl
theorem dX18_entry_0 : decode cX18_entry 0 = .ok (.aload_n 0, 1) := dk_42 (dk_at dksX18_entry_0 0 rfl rfl)
theorem dX18_entry_1 : decode cX18_entry 1 = .ok (.invokevirtual 19, 3) := dk_182 0 19 (dk_at dksX18_entry_0 1 rfl rfl)
theorem dX18_entry_4 : decode cX18_entry 4 = .ok (.istore_n 1, 1) := dk_60 (dk_at dksX18_entry_0 4 rfl rfl)
theorem dX18_entry_5 : decode cX18_entry 5 = .ok (.aload_n 0, 1) := dk_42 (dk_at dksX18_entry_0 5 rfl rfl)
theorem dX18_entry_6 : decode cX18_entry 6 = .ok (.invokevirtual 23, 3) := dk_182 0 23 (dk_at dksX18_entry_0 6 rfl rfl)
theorem dX18_entry_9 : decode cX18_entry 9 = .ok (.bipush 45, 2) := dk_16 45 (dk_at dksX18_entry_0 9 rfl rfl)
theorem dX18_entry_11 : decode cX18_entry 11 = .ok (.if_icmp .ne 7, 3) := dk_160 0 7 (dk_at dksX18_entry_0 11 rfl rfl)
theorem dX18_entry_14 : decode cX18_entry 14 = .ok (.iconst 1, 1) := dk_4 (dk_at dksX18_entry_0 14 rfl rfl)
theorem dX18_entry_15 : decode cX18_entry 15 = .ok (.goto 4, 3) := dk_167 0 4 (dk_at dksX18_entry_0 15 rfl rfl)
theorem dX18_entry_18 : decode cX18_entry 18 = .ok (.iconst 0, 1) := dk_3 (dk_at dksX18_entry_0 18 rfl rfl)
theorem dX18_entry_19 : decode cX18_entry 19 = .ok (.istore_n 2, 1) := dk_61 (dk_at dksX18_entry_0 19 rfl rfl)
theorem dX18_entry_20 : decode cX18_entry 20 = .ok (.iload_n 2, 1) := dk_28 (dk_at dksX18_entry_0 20 rfl rfl)
theorem dX18_entry_21 : decode cX18_entry 21 = .ok (.ifCond .eq 7, 3) := dk_153 0 7 (dk_at dksX18_entry_0 21 rfl rfl)
theorem dX18_entry_24 : decode cX18_entry 24 = .ok (.aload_n 0, 1) := dk_42 (dk_at dksX18_entry_1 0 rfl rfl)
theorem dX18_entry_25 : decode cX18_entry 25 = .ok (.invokevirtual 26, 3) := dk_182 0 26 (dk_at dksX18_entry_1 1 rfl rfl)
theorem dX18_entry_28 : decode cX18_entry 28 = .ok (.aload_n 0, 1) := dk_42 (dk_at dksX18_entry_1 4 rfl rfl)
theorem dX18_entry_29 : decode cX18_entry 29 = .ok (.iload_n 2, 1) := dk_28 (dk_at dksX18_entry_1 5 rfl rfl)
theorem dX18_entry_30 : decode cX18_entry 30 = .ok (.ifCond .eq 8, 3) := dk_153 0 8 (dk_at dksX18_entry_1 6 rfl rfl)
theorem dX18_entry_33 : decode cX18_entry 33 = .ok (.bipush 49, 2) := dk_16 49 (dk_at dksX18_entry_1 9 rfl rfl)
theorem dX18_entry_35 : decode cX18_entry 35 = .ok (.goto 5, 3) := dk_167 0 5 (dk_at dksX18_entry_1 11 rfl rfl)
theorem dX18_entry_38 : decode cX18_entry 38 = .ok (.bipush 48, 2) := dk_16 48 (dk_at dksX18_entry_1 14 rfl rfl)
theorem dX18_entry_40 : decode cX18_entry 40 = .ok (.bipush 57, 2) := dk_16 57 (dk_at dksX18_entry_1 16 rfl rfl)
theorem dX18_entry_42 : decode cX18_entry 42 = .ok (.invokevirtual 30, 3) := dk_182 0 30 (dk_at dksX18_entry_1 18 rfl rfl)
theorem dX18_entry_45 : decode cX18_entry 45 = .ok (.ifCond .ne 12, 3) := dk_154 0 12 (dk_at dksX18_entry_1 21 rfl rfl)
theorem dX18_entry_48 : decode cX18_entry 48 = .ok (.aload_n 0, 1) := dk_42 (dk_at dksX18_entry_2 0 rfl rfl)
theorem dX18_entry_49 : decode cX18_entry 49 = .ok (.iconst 1, 1) := dk_4 (dk_at dksX18_entry_2 1 rfl rfl)
theorem dX18_entry_50 : decode cX18_entry 50 = .ok (.aload_n 0, 1) := dk_42 (dk_at dksX18_entry_2 2 rfl rfl)
theorem dX18_entry_51 : decode cX18_entry 51 = .ok (.invokevirtual 19, 3) := dk_182 0 19 (dk_at dksX18_entry_2 3 rfl rfl)
theorem dX18_entry_54 : decode cX18_entry 54 = .ok (.invokevirtual 34, 3) := dk_182 0 34 (dk_at dksX18_entry_2 6 rfl rfl)
theorem dX18_entry_57 : decode cX18_entry 57 = .ok (.iload_n 2, 1) := dk_28 (dk_at dksX18_entry_2 9 rfl rfl)
theorem dX18_entry_58 : decode cX18_entry 58 = .ok (.ifCond .eq 13, 3) := dk_153 0 13 (dk_at dksX18_entry_2 10 rfl rfl)
theorem dX18_entry_61 : decode cX18_entry 61 = .ok (.bipush 48, 2) := dk_16 48 (dk_at dksX18_entry_2 13 rfl rfl)
theorem dX18_entry_63 : decode cX18_entry 63 = .ok (.aload_n 0, 1) := dk_42 (dk_at dksX18_entry_2 15 rfl rfl)
theorem dX18_entry_64 : decode cX18_entry 64 = .ok (.invokevirtual 23, 3) := dk_182 0 23 (dk_at dksX18_entry_2 16 rfl rfl)
theorem dX18_entry_67 : decode cX18_entry 67 = .ok (.isub, 1) := dk_100 (dk_at dksX18_entry_2 19 rfl rfl)
theorem dX18_entry_68 : decode cX18_entry 68 = .ok (.goto 10, 3) := dk_167 0 10 (dk_at dksX18_entry_2 20 rfl rfl)
theorem dX18_entry_71 : decode cX18_entry 71 = .ok (.aload_n 0, 1) := dk_42 (dk_at dksX18_entry_2 23 rfl rfl)
theorem dX18_entry_72 : decode cX18_entry 72 = .ok (.invokevirtual 23, 3) := dk_182 0 23 (dk_at dksX18_entry_3 0 rfl rfl)
theorem dX18_entry_75 : decode cX18_entry 75 = .ok (.bipush 48, 2) := dk_16 48 (dk_at dksX18_entry_3 3 rfl rfl)
theorem dX18_entry_77 : decode cX18_entry 77 = .ok (.isub, 1) := dk_100 (dk_at dksX18_entry_3 5 rfl rfl)
theorem dX18_entry_78 : decode cX18_entry 78 = .ok (.istore_n 3, 1) := dk_62 (dk_at dksX18_entry_3 6 rfl rfl)
theorem dX18_entry_79 : decode cX18_entry 79 = .ok (.aload_n 0, 1) := dk_42 (dk_at dksX18_entry_3 7 rfl rfl)
theorem dX18_entry_80 : decode cX18_entry 80 = .ok (.invokevirtual 26, 3) := dk_182 0 26 (dk_at dksX18_entry_3 8 rfl rfl)
theorem dX18_entry_83 : decode cX18_entry 83 = .ok (.aload_n 0, 1) := dk_42 (dk_at dksX18_entry_3 11 rfl rfl)
theorem dX18_entry_84 : decode cX18_entry 84 = .ok (.invokevirtual 38, 3) := dk_182 0 38 (dk_at dksX18_entry_3 12 rfl rfl)
theorem dX18_entry_87 : decode cX18_entry 87 = .ok (.ifCond .eq 12, 3) := dk_153 0 12 (dk_at dksX18_entry_3 15 rfl rfl)
theorem dX18_entry_90 : decode cX18_entry 90 = .ok (.aload_n 0, 1) := dk_42 (dk_at dksX18_entry_3 18 rfl rfl)
theorem dX18_entry_91 : decode cX18_entry 91 = .ok (.bipush 8, 2) := dk_16 8 (dk_at dksX18_entry_3 19 rfl rfl)
theorem dX18_entry_93 : decode cX18_entry 93 = .ok (.invokevirtual 42, 3) := dk_182 0 42 (dk_at dksX18_entry_3 21 rfl rfl)
theorem dX18_entry_96 : decode cX18_entry 96 = .ok (.goto 4, 3) := dk_167 0 4 (dk_at dksX18_entry_4 0 rfl rfl)
theorem dX18_entry_99 : decode cX18_entry 99 = .ok (.iconst 0, 1) := dk_3 (dk_at dksX18_entry_4 3 rfl rfl)
theorem dX18_entry_100 : decode cX18_entry 100 = .ok (.istore 4, 2) := dk_54 4 (dk_at dksX18_entry_4 4 rfl rfl)
theorem dX18_entry_102 : decode cX18_entry 102 = .ok (.aload_n 0, 1) := dk_42 (dk_at dksX18_entry_4 6 rfl rfl)
theorem dX18_entry_103 : decode cX18_entry 103 = .ok (.invokevirtual 38, 3) := dk_182 0 38 (dk_at dksX18_entry_4 7 rfl rfl)
theorem dX18_entry_106 : decode cX18_entry 106 = .ok (.ifCond .eq 22, 3) := dk_153 0 22 (dk_at dksX18_entry_4 10 rfl rfl)
theorem dX18_entry_109 : decode cX18_entry 109 = .ok (.aload_n 0, 1) := dk_42 (dk_at dksX18_entry_4 13 rfl rfl)
theorem dX18_entry_110 : decode cX18_entry 110 = .ok (.getfield 46, 3) := dk_180 0 46 (dk_at dksX18_entry_4 14 rfl rfl)
theorem dX18_entry_113 : decode cX18_entry 113 = .ok (.iload 4, 2) := dk_21 4 (dk_at dksX18_entry_4 17 rfl rfl)
theorem dX18_entry_115 : decode cX18_entry 115 = .ok (.iadd, 1) := dk_96 (dk_at dksX18_entry_4 19 rfl rfl)
theorem dX18_entry_116 : decode cX18_entry 116 = .ok (.bipush 8, 2) := dk_16 8 (dk_at dksX18_entry_4 20 rfl rfl)
theorem dX18_entry_118 : decode cX18_entry 118 = .ok (.if_icmp .le 10, 3) := dk_164 0 10 (dk_at dksX18_entry_5 0 rfl rfl)
theorem dX18_entry_121 : decode cX18_entry 121 = .ok (.aload_n 0, 1) := dk_42 (dk_at dksX18_entry_5 3 rfl rfl)
theorem dX18_entry_122 : decode cX18_entry 122 = .ok (.bipush 6, 2) := dk_16 6 (dk_at dksX18_entry_5 4 rfl rfl)
theorem dX18_entry_124 : decode cX18_entry 124 = .ok (.iload_n 1, 1) := dk_27 (dk_at dksX18_entry_5 6 rfl rfl)
theorem dX18_entry_125 : decode cX18_entry 125 = .ok (.invokevirtual 34, 3) := dk_182 0 34 (dk_at dksX18_entry_5 7 rfl rfl)
theorem dX18_entry_128 : decode cX18_entry 128 = .ok (.iconst 0, 1) := dk_3 (dk_at dksX18_entry_5 10 rfl rfl)
theorem dX18_entry_129 : decode cX18_entry 129 = .ok (.istore 5, 2) := dk_54 5 (dk_at dksX18_entry_5 11 rfl rfl)
theorem dX18_entry_131 : decode cX18_entry 131 = .ok (.iload 5, 2) := dk_21 5 (dk_at dksX18_entry_5 13 rfl rfl)
theorem dX18_entry_133 : decode cX18_entry 133 = .ok (.iload 4, 2) := dk_21 4 (dk_at dksX18_entry_5 15 rfl rfl)
theorem dX18_entry_135 : decode cX18_entry 135 = .ok (.if_icmp .ge 36, 3) := dk_162 0 36 (dk_at dksX18_entry_5 17 rfl rfl)
theorem dX18_entry_138 : decode cX18_entry 138 = .ok (.aload_n 0, 1) := dk_42 (dk_at dksX18_entry_5 20 rfl rfl)
theorem dX18_entry_139 : decode cX18_entry 139 = .ok (.invokevirtual 38, 3) := dk_182 0 38 (dk_at dksX18_entry_5 21 rfl rfl)
theorem dX18_entry_142 : decode cX18_entry 142 = .ok (.ifCond .eq 29, 3) := dk_153 0 29 (dk_at dksX18_entry_6 0 rfl rfl)
theorem dX18_entry_145 : decode cX18_entry 145 = .ok (.aload_n 0, 1) := dk_42 (dk_at dksX18_entry_6 3 rfl rfl)
theorem dX18_entry_146 : decode cX18_entry 146 = .ok (.getfield 15, 3) := dk_180 0 15 (dk_at dksX18_entry_6 4 rfl rfl)
theorem dX18_entry_149 : decode cX18_entry 149 = .ok (.aload_n 0, 1) := dk_42 (dk_at dksX18_entry_6 7 rfl rfl)
theorem dX18_entry_150 : decode cX18_entry 150 = .ok (.getfield 46, 3) := dk_180 0 46 (dk_at dksX18_entry_6 8 rfl rfl)
theorem dX18_entry_153 : decode cX18_entry 153 = .ok (.iload_n 3, 1) := dk_29 (dk_at dksX18_entry_6 11 rfl rfl)
theorem dX18_entry_154 : decode cX18_entry 154 = .ok (.iastore, 1) := dk_79 (dk_at dksX18_entry_6 12 rfl rfl)
theorem dX18_entry_155 : decode cX18_entry 155 = .ok (.aload_n 0, 1) := dk_42 (dk_at dksX18_entry_6 13 rfl rfl)
theorem dX18_entry_156 : decode cX18_entry 156 = .ok (.dup, 1) := dk_89 (dk_at dksX18_entry_6 14 rfl rfl)
theorem dX18_entry_157 : decode cX18_entry 157 = .ok (.getfield 46, 3) := dk_180 0 46 (dk_at dksX18_entry_6 15 rfl rfl)
theorem dX18_entry_160 : decode cX18_entry 160 = .ok (.iconst 1, 1) := dk_4 (dk_at dksX18_entry_6 18 rfl rfl)
theorem dX18_entry_161 : decode cX18_entry 161 = .ok (.iadd, 1) := dk_96 (dk_at dksX18_entry_6 19 rfl rfl)
theorem dX18_entry_162 : decode cX18_entry 162 = .ok (.putfield 46, 3) := dk_181 0 46 (dk_at dksX18_entry_6 20 rfl rfl)
theorem dX18_entry_165 : decode cX18_entry 165 = .ok (.iinc 5 1, 3) := dk_132 5 1 (dk_at dksX18_entry_7 0 rfl rfl)
theorem dX18_entry_168 : decode cX18_entry 168 = .ok (.goto (-37), 3) := dk_167 255 219 (dk_at dksX18_entry_7 3 rfl rfl)
theorem dX18_entry_171 : decode cX18_entry 171 = .ok (.return_, 1) := dk_177 (dk_at dksX18_entry_7 6 rfl rfl)
theorem q132 : (Jvm.Cond.initialized "PuzzleWed$Carver") ∈ lw_all := lw_g (lw_at lw_m1 25 rfl) rfl
theorem q722 : (Jvm.Cond.instantiable "PuzzleWed$Carver" (8 : Nat)) ∈ lw_all := lw_g (lw_at lw_m3 135 rfl) rfl
theorem q724 : (Jvm.Cond.instanceMethod ({ cls := "PuzzleWed$Carver", name := "<init>", desc := "(LPuzzleWed;I)V" } : Jvm.MethodName)) ∈ lw_all := lw_g (lw_at lw_m3 137 rfl) rfl
theorem q725 : (Jvm.Cond.code ({ cls := "PuzzleWed$Carver", name := "<init>", desc := "(LPuzzleWed;I)V" } : Jvm.MethodName) prog_3_method_1_code (3 : Nat) (Option.none : Option Jvm.ClassFile.FieldType)) ∈ lw_all := lw_g (lw_at lw_m3 138 rfl) rfl
theorem q726 : (Jvm.Cond.methodLink "PuzzleWed$Carver" (9 : Nat) ({ cls := "PuzzleWed$Scribe", name := "<init>", desc := "(LPuzzleWed;I)V" } : Jvm.MethodName)) ∈ lw_all := lw_g (lw_at lw_m3 139 rfl) rfl
theorem q730 : (Jvm.Cond.fieldLink "PuzzleWed$Carver" (15 : Nat) "PuzzleWed$Carver" "heights" "[I") ∈ lw_all := lw_g (lw_at lw_m3 143 rfl) rfl
theorem q732 : (Jvm.Cond.fieldLink "PuzzleWed$Carver" (46 : Nat) "PuzzleWed$Carver" "many" "I") ∈ lw_all := lw_g (lw_at lw_m3 145 rfl) rfl
theorem q733 : (Jvm.Cond.fieldLink "PuzzleWed$Carver" (3 : Nat) "PuzzleWed$Carver" "this$0" "LPuzzleWed;") ∈ lw_all := lw_g (lw_at lw_m3 146 rfl) rfl
theorem q739 : (Jvm.Cond.laysFinal "PuzzleWed$Carver" "PuzzleWed$Carver" "heights" "[I") ∈ lw_all := lw_g (lw_at lw_m3 152 rfl) rfl
theorem q740 : (Jvm.Cond.soleField "PuzzleWed$Carver" "heights") ∈ lw_all := lw_g (lw_at lw_m3 153 rfl) rfl
theorem q741 : (Jvm.Cond.lays "PuzzleWed$Carver" "PuzzleWed$Carver" "many" "I") ∈ lw_all := lw_g (lw_at lw_m3 154 rfl) rfl
theorem q742 : (Jvm.Cond.soleField "PuzzleWed$Carver" "many") ∈ lw_all := lw_g (lw_at lw_m3 155 rfl) rfl
theorem q743 : (Jvm.Cond.laysFinal "PuzzleWed$Carver" "PuzzleWed$Carver" "this$0" "LPuzzleWed;") ∈ lw_all := lw_g (lw_at lw_m3 156 rfl) rfl
theorem q744 : (Jvm.Cond.soleField "PuzzleWed$Carver" "this$0") ∈ lw_all := lw_g (lw_at lw_m3 157 rfl) rfl
theorem q745 : (Jvm.Cond.laysFinal "PuzzleWed$Carver" "PuzzleWed$Scribe" "n" "I") ∈ lw_all := lw_g (lw_at lw_m3 158 rfl) rfl
theorem q747 : (Jvm.Cond.lays "PuzzleWed$Carver" "PuzzleWed$Scribe" "at" "I") ∈ lw_all := lw_g (lw_at lw_m3 160 rfl) rfl
theorem q749 : (Jvm.Cond.lays "PuzzleWed$Carver" "PuzzleWed$Scribe" "fault" "I") ∈ lw_all := lw_g (lw_at lw_m3 162 rfl) rfl
theorem q751 : (Jvm.Cond.lays "PuzzleWed$Carver" "PuzzleWed$Scribe" "place" "I") ∈ lw_all := lw_g (lw_at lw_m3 164 rfl) rfl
theorem q753 : (Jvm.Cond.laysFinal "PuzzleWed$Carver" "PuzzleWed$Scribe" "this$0" "LPuzzleWed;") ∈ lw_all := lw_g (lw_at lw_m3 166 rfl) rfl
theorem q755 : (Jvm.Cond.superclass "PuzzleWed$Carver" "PuzzleWed$Scribe") ∈ lw_all := lw_g (lw_at lw_m3 168 rfl) rfl
theorem q757 : (Jvm.Cond.instanceMethod ({ cls := "PuzzleWed$Carver", name := "read", desc := "()I" } : Jvm.MethodName)) ∈ lw_all := lw_g (lw_at lw_m3 170 rfl) rfl
theorem q758 : (Jvm.Cond.selects "PuzzleWed$Carver" ({ cls := "PuzzleWed$Carver", name := "read", desc := "()I" } : Jvm.MethodName) ({ cls := "PuzzleWed$Carver", name := "read", desc := "()I" } : Jvm.MethodName)) ∈ lw_all := lw_g (lw_at lw_m3 171 rfl) rfl
theorem q759 : (Jvm.Cond.code ({ cls := "PuzzleWed$Carver", name := "read", desc := "()I" } : Jvm.MethodName) prog_3_method_3_code (6 : Nat) (Option.some Jvm.ClassFile.FieldType.int)) ∈ lw_all := lw_g (lw_at lw_m3 172 rfl) rfl
theorem q760 : (Jvm.Cond.methodLink "PuzzleWed$Carver" (50 : Nat) ({ cls := "PuzzleWed$Carver", name := "reads", desc := "()Z" } : Jvm.MethodName)) ∈ lw_all := lw_g (lw_at lw_m3 173 rfl) rfl
theorem q761 : (Jvm.Cond.sameMethod "PuzzleWed$Carver" "PuzzleWed$Scribe" "reads" "()Z") ∈ lw_all := lw_g (lw_at lw_m3 174 rfl) rfl
theorem q763 : (Jvm.Cond.selects "PuzzleWed$Carver" ({ cls := "PuzzleWed$Carver", name := "reads", desc := "()Z" } : Jvm.MethodName) ({ cls := "PuzzleWed$Scribe", name := "reads", desc := "()Z" } : Jvm.MethodName)) ∈ lw_all := lw_g (lw_at lw_m3 176 rfl) rfl
theorem q769 : (Jvm.Cond.selects "PuzzleWed$Carver" ({ cls := "PuzzleWed$Scribe", name := "entry", desc := "()V" } : Jvm.MethodName) ({ cls := "PuzzleWed$Carver", name := "entry", desc := "()V" } : Jvm.MethodName)) ∈ lw_all := lw_g (lw_at lw_m3 182 rfl) rfl
theorem q770 : (Jvm.Cond.instanceMethod ({ cls := "PuzzleWed$Carver", name := "entry", desc := "()V" } : Jvm.MethodName)) ∈ lw_all := lw_g (lw_at lw_m3 183 rfl) rfl
theorem q771 : (Jvm.Cond.code ({ cls := "PuzzleWed$Carver", name := "entry", desc := "()V" } : Jvm.MethodName) prog_3_method_2_code (6 : Nat) (Option.none : Option Jvm.ClassFile.FieldType)) ∈ lw_all := lw_g (lw_at lw_m3 184 rfl) rfl
theorem q772 : (Jvm.Cond.methodLink "PuzzleWed$Carver" (19 : Nat) ({ cls := "PuzzleWed$Carver", name := "place", desc := "()I" } : Jvm.MethodName)) ∈ lw_all := lw_g (lw_at lw_m3 185 rfl) rfl
theorem q773 : (Jvm.Cond.sameMethod "PuzzleWed$Carver" "PuzzleWed$Scribe" "place" "()I") ∈ lw_all := lw_g (lw_at lw_m3 186 rfl) rfl
theorem q775 : (Jvm.Cond.selects "PuzzleWed$Carver" ({ cls := "PuzzleWed$Carver", name := "place", desc := "()I" } : Jvm.MethodName) ({ cls := "PuzzleWed$Scribe", name := "place", desc := "()I" } : Jvm.MethodName)) ∈ lw_all := lw_g (lw_at lw_m3 188 rfl) rfl
theorem q778 : (Jvm.Cond.methodLink "PuzzleWed$Carver" (23 : Nat) ({ cls := "PuzzleWed$Carver", name := "here", desc := "()I" } : Jvm.MethodName)) ∈ lw_all := lw_g (lw_at lw_m3 191 rfl) rfl
theorem q779 : (Jvm.Cond.sameMethod "PuzzleWed$Carver" "PuzzleWed$Scribe" "here" "()I") ∈ lw_all := lw_g (lw_at lw_m3 192 rfl) rfl
theorem q781 : (Jvm.Cond.selects "PuzzleWed$Carver" ({ cls := "PuzzleWed$Carver", name := "here", desc := "()I" } : Jvm.MethodName) ({ cls := "PuzzleWed$Scribe", name := "here", desc := "()I" } : Jvm.MethodName)) ∈ lw_all := lw_g (lw_at lw_m3 194 rfl) rfl
theorem q784 : (Jvm.Cond.methodLink "PuzzleWed$Carver" (26 : Nat) ({ cls := "PuzzleWed$Carver", name := "goes", desc := "()V" } : Jvm.MethodName)) ∈ lw_all := lw_g (lw_at lw_m3 197 rfl) rfl
theorem q785 : (Jvm.Cond.sameMethod "PuzzleWed$Carver" "PuzzleWed$Scribe" "goes" "()V") ∈ lw_all := lw_g (lw_at lw_m3 198 rfl) rfl
theorem q787 : (Jvm.Cond.selects "PuzzleWed$Carver" ({ cls := "PuzzleWed$Carver", name := "goes", desc := "()V" } : Jvm.MethodName) ({ cls := "PuzzleWed$Scribe", name := "goes", desc := "()V" } : Jvm.MethodName)) ∈ lw_all := lw_g (lw_at lw_m3 200 rfl) rfl
theorem q790 : (Jvm.Cond.methodLink "PuzzleWed$Carver" (30 : Nat) ({ cls := "PuzzleWed$Carver", name := "sees", desc := "(II)Z" } : Jvm.MethodName)) ∈ lw_all := lw_g (lw_at lw_m3 203 rfl) rfl
theorem q791 : (Jvm.Cond.sameMethod "PuzzleWed$Carver" "PuzzleWed$Scribe" "sees" "(II)Z") ∈ lw_all := lw_g (lw_at lw_m3 204 rfl) rfl
theorem q793 : (Jvm.Cond.selects "PuzzleWed$Carver" ({ cls := "PuzzleWed$Carver", name := "sees", desc := "(II)Z" } : Jvm.MethodName) ({ cls := "PuzzleWed$Scribe", name := "sees", desc := "(II)Z" } : Jvm.MethodName)) ∈ lw_all := lw_g (lw_at lw_m3 206 rfl) rfl
theorem q797 : (Jvm.Cond.methodLink "PuzzleWed$Carver" (34 : Nat) ({ cls := "PuzzleWed$Carver", name := "bad", desc := "(II)V" } : Jvm.MethodName)) ∈ lw_all := lw_g (lw_at lw_m3 210 rfl) rfl
theorem q798 : (Jvm.Cond.sameMethod "PuzzleWed$Carver" "PuzzleWed$Scribe" "bad" "(II)V") ∈ lw_all := lw_g (lw_at lw_m3 211 rfl) rfl
theorem q800 : (Jvm.Cond.selects "PuzzleWed$Carver" ({ cls := "PuzzleWed$Carver", name := "bad", desc := "(II)V" } : Jvm.MethodName) ({ cls := "PuzzleWed$Scribe", name := "bad", desc := "(II)V" } : Jvm.MethodName)) ∈ lw_all := lw_g (lw_at lw_m3 213 rfl) rfl
theorem q803 : (Jvm.Cond.methodLink "PuzzleWed$Carver" (38 : Nat) ({ cls := "PuzzleWed$Carver", name := "isGood", desc := "()Z" } : Jvm.MethodName)) ∈ lw_all := lw_g (lw_at lw_m3 216 rfl) rfl
theorem q804 : (Jvm.Cond.sameMethod "PuzzleWed$Carver" "PuzzleWed$Scribe" "isGood" "()Z") ∈ lw_all := lw_g (lw_at lw_m3 217 rfl) rfl
theorem q806 : (Jvm.Cond.selects "PuzzleWed$Carver" ({ cls := "PuzzleWed$Carver", name := "isGood", desc := "()Z" } : Jvm.MethodName) ({ cls := "PuzzleWed$Scribe", name := "isGood", desc := "()Z" } : Jvm.MethodName)) ∈ lw_all := lw_g (lw_at lw_m3 219 rfl) rfl
theorem q809 : (Jvm.Cond.methodLink "PuzzleWed$Carver" (42 : Nat) ({ cls := "PuzzleWed$Carver", name := "times", desc := "(I)I" } : Jvm.MethodName)) ∈ lw_all := lw_g (lw_at lw_m3 222 rfl) rfl
theorem q810 : (Jvm.Cond.sameMethod "PuzzleWed$Carver" "PuzzleWed$Scribe" "times" "(I)I") ∈ lw_all := lw_g (lw_at lw_m3 223 rfl) rfl
theorem q812 : (Jvm.Cond.selects "PuzzleWed$Carver" ({ cls := "PuzzleWed$Carver", name := "times", desc := "(I)I" } : Jvm.MethodName) ({ cls := "PuzzleWed$Scribe", name := "times", desc := "(I)I" } : Jvm.MethodName)) ∈ lw_all := lw_g (lw_at lw_m3 225 rfl) rfl
theorem q846 : (Jvm.Cond.selects "PuzzleWed$Carver" ({ cls := "PuzzleWed$Scribe", name := "isEnd", desc := "()Z" } : Jvm.MethodName) ({ cls := "PuzzleWed$Scribe", name := "isEnd", desc := "()Z" } : Jvm.MethodName)) ∈ lw_all := lw_g (lw_at lw_m4 19 rfl) rfl
theorem q849 : (Jvm.Cond.methodLink "PuzzleWed$Carver" (53 : Nat) ({ cls := "PuzzleWed$Carver", name := "faulty", desc := "()I" } : Jvm.MethodName)) ∈ lw_all := lw_g (lw_at lw_m4 22 rfl) rfl
theorem q850 : (Jvm.Cond.sameMethod "PuzzleWed$Carver" "PuzzleWed$Scribe" "faulty" "()I") ∈ lw_all := lw_g (lw_at lw_m4 23 rfl) rfl
theorem q852 : (Jvm.Cond.selects "PuzzleWed$Carver" ({ cls := "PuzzleWed$Carver", name := "faulty", desc := "()I" } : Jvm.MethodName) ({ cls := "PuzzleWed$Scribe", name := "faulty", desc := "()I" } : Jvm.MethodName)) ∈ lw_all := lw_g (lw_at lw_m4 25 rfl) rfl
theorem q855 : (Jvm.Cond.methodLink "PuzzleWed$Carver" (56 : Nat) ({ cls := "java/lang/Math", name := "abs", desc := "(I)I" } : Jvm.MethodName)) ∈ lw_all := lw_g (lw_at lw_m4 28 rfl) rfl
theorem q1815 : (Jvm.Cond.selects "PuzzleWed$Carver" ({ cls := "PuzzleWed$Scribe", name := "here", desc := "()I" } : Jvm.MethodName) ({ cls := "PuzzleWed$Scribe", name := "here", desc := "()I" } : Jvm.MethodName)) ∈ lw_all := lw_g (lw_at lw_m8 28 rfl) rfl
theorem q1818 : (Jvm.Cond.selects "PuzzleWed$Carver" ({ cls := "PuzzleWed$Scribe", name := "goes", desc := "()V" } : Jvm.MethodName) ({ cls := "PuzzleWed$Scribe", name := "goes", desc := "()V" } : Jvm.MethodName)) ∈ lw_all := lw_g (lw_at lw_m8 31 rfl) rfl
theorem q1821 : (Jvm.Cond.selects "PuzzleWed$Carver" ({ cls := "PuzzleWed$Scribe", name := "sees", desc := "(II)Z" } : Jvm.MethodName) ({ cls := "PuzzleWed$Scribe", name := "sees", desc := "(II)Z" } : Jvm.MethodName)) ∈ lw_all := lw_g (lw_at lw_m8 34 rfl) rfl
theorem q1824 : (Jvm.Cond.selects "PuzzleWed$Carver" ({ cls := "PuzzleWed$Scribe", name := "bad", desc := "(II)V" } : Jvm.MethodName) ({ cls := "PuzzleWed$Scribe", name := "bad", desc := "(II)V" } : Jvm.MethodName)) ∈ lw_all := lw_g (lw_at lw_m8 37 rfl) rfl
theorem q1827 : (Jvm.Cond.selects "PuzzleWed$Carver" ({ cls := "PuzzleWed$Scribe", name := "isGood", desc := "()Z" } : Jvm.MethodName) ({ cls := "PuzzleWed$Scribe", name := "isGood", desc := "()Z" } : Jvm.MethodName)) ∈ lw_all := lw_g (lw_at lw_m8 40 rfl) rfl
theorem in_X18 : ∀ w ∈ wsX180, w ∈ lw_all := lw_in wsX180 [745, 747, 749, 751, 753, 739, 741, 743] (by decide +kernel) (by decide +kernel)
