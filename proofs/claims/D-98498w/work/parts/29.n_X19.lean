/-! PuzzleWed$Guide -/
set_option maxRecDepth 100000
def RX19 : String := "PuzzleWed$Guide"
def TX19 : u_T := fun k => match k with
  | 0 => ("PuzzleWed$Scribe", "n", "I", true)
  | 1 => ("PuzzleWed$Scribe", "at", "I", false)
  | 2 => ("PuzzleWed$Scribe", "fault", "I", false)
  | 3 => ("PuzzleWed$Scribe", "place", "I", false)
  | 4 => ("PuzzleWed$Scribe", "this$0", "LPuzzleWed;", true)
  | 5 => ("PuzzleWed$Guide", "towns", "[I", true)
  | 6 => ("PuzzleWed$Guide", "stops", "I", false)
  | 7 => ("PuzzleWed$Guide", "days", "I", false)
  | _ => ("PuzzleWed$Guide", "this$0", "LPuzzleWed;", true)
def tyX19 : Nat → FieldType := fun k => match k with
  | 0 => .int
  | 1 => .int
  | 2 => .int
  | 3 => .int
  | 4 => .object "PuzzleWed"
  | 5 => .array .int
  | 6 => .int
  | 7 => .int
  | _ => .object "PuzzleWed"
abbrev wsX190 : List Cond := u_ws RX19 TX19 9
-- two fields of one name: no nmX19
theorem tyX19_ok : ∀ k, k < 9 → parseFieldDescriptor (TX19 k).2.2.1 = some (tyX19 k) := by decide +kernel
abbrev cX19_entry : ByteArray := prog_6_method_2_code
def yX19_entry : MethodName := ⟨RX19, "entry", "()V"⟩
def dkwX19_entry_6 : List UInt8 := [181, 0, 31, 177]
abbrev dktX19_entry_6 : List UInt8 := dkwX19_entry_6 ++ []
def dkwX19_entry_5 : List UInt8 := [42, 89, 180, 0, 50, 4, 96, 181, 0, 50, 132, 3, 1, 167, 255, 228, 42, 89, 180, 0, 31, 4, 96]
abbrev dktX19_entry_5 : List UInt8 := dkwX19_entry_5 ++ dktX19_entry_6
def dkwX19_entry_4 : List UInt8 := [182, 0, 42, 154, 0, 4, 177, 3, 62, 29, 28, 162, 0, 29, 42, 180, 0, 15, 42, 180, 0, 50, 27, 79]
abbrev dktX19_entry_4 : List UInt8 := dkwX19_entry_4 ++ dktX19_entry_5
def dkwX19_entry_3 : List UInt8 := [60, 42, 182, 0, 38, 42, 182, 0, 42, 153, 0, 12, 42, 16, 9, 182, 0, 46, 167, 0, 4, 3, 61, 42]
abbrev dktX19_entry_3 : List UInt8 := dkwX19_entry_3 ++ dktX19_entry_4
def dkwX19_entry_2 : List UInt8 := [16, 53, 182, 0, 19, 154, 0, 12, 42, 6, 42, 182, 0, 23, 182, 0, 27, 42, 182, 0, 35, 16, 48, 100]
abbrev dktX19_entry_2 : List UInt8 := dkwX19_entry_2 ++ dktX19_entry_3
def dkwX19_entry_1 : List UInt8 := [180, 0, 31, 16, 16, 160, 0, 15, 42, 7, 42, 182, 0, 23, 182, 0, 27, 167, 0, 23, 42, 16, 48]
abbrev dktX19_entry_1 : List UInt8 := dkwX19_entry_1 ++ dktX19_entry_2
def dkwX19_entry_0 : List UInt8 := [42, 16, 48, 16, 57, 182, 0, 19, 154, 0, 15, 42, 4, 42, 182, 0, 23, 182, 0, 27, 167, 0, 44, 42]
abbrev dktX19_entry_0 : List UInt8 := dkwX19_entry_0 ++ dktX19_entry_1
theorem dksX19_entry_0 : cX19_entry.data.toList.drop 0 = dktX19_entry_0 := by decide +kernel
theorem dksX19_entry_1 : cX19_entry.data.toList.drop 24 = dktX19_entry_1 := dk_seg dksX19_entry_0 24 rfl rfl
theorem dksX19_entry_2 : cX19_entry.data.toList.drop 47 = dktX19_entry_2 := dk_seg dksX19_entry_1 23 rfl rfl
theorem dksX19_entry_3 : cX19_entry.data.toList.drop 71 = dktX19_entry_3 := dk_seg dksX19_entry_2 24 rfl rfl
theorem dksX19_entry_4 : cX19_entry.data.toList.drop 95 = dktX19_entry_4 := dk_seg dksX19_entry_3 24 rfl rfl
theorem dksX19_entry_5 : cX19_entry.data.toList.drop 119 = dktX19_entry_5 := dk_seg dksX19_entry_4 24 rfl rfl
theorem dksX19_entry_6 : cX19_entry.data.toList.drop 142 = dktX19_entry_6 := dk_seg dksX19_entry_5 23 rfl rfl
theorem dX19_entry_0 : decode cX19_entry 0 = .ok (.aload_n 0, 1) := dk_42 (dk_at dksX19_entry_0 0 rfl rfl)
theorem dX19_entry_1 : decode cX19_entry 1 = .ok (.bipush 48, 2) := dk_16 48 (dk_at dksX19_entry_0 1 rfl rfl)
theorem dX19_entry_3 : decode cX19_entry 3 = .ok (.bipush 57, 2) := dk_16 57 (dk_at dksX19_entry_0 3 rfl rfl)
theorem dX19_entry_5 : decode cX19_entry 5 = .ok (.invokevirtual 19, 3) := dk_182 0 19 (dk_at dksX19_entry_0 5 rfl rfl)
theorem dX19_entry_8 : decode cX19_entry 8 = .ok (.ifCond .ne 15, 3) := dk_154 0 15 (dk_at dksX19_entry_0 8 rfl rfl)
theorem dX19_entry_11 : decode cX19_entry 11 = .ok (.aload_n 0, 1) := dk_42 (dk_at dksX19_entry_0 11 rfl rfl)
theorem dX19_entry_12 : decode cX19_entry 12 = .ok (.iconst 1, 1) := dk_4 (dk_at dksX19_entry_0 12 rfl rfl)
theorem dX19_entry_13 : decode cX19_entry 13 = .ok (.aload_n 0, 1) := dk_42 (dk_at dksX19_entry_0 13 rfl rfl)
theorem dX19_entry_14 : decode cX19_entry 14 = .ok (.invokevirtual 23, 3) := dk_182 0 23 (dk_at dksX19_entry_0 14 rfl rfl)
theorem dX19_entry_17 : decode cX19_entry 17 = .ok (.invokevirtual 27, 3) := dk_182 0 27 (dk_at dksX19_entry_0 17 rfl rfl)
theorem dX19_entry_20 : decode cX19_entry 20 = .ok (.goto 44, 3) := dk_167 0 44 (dk_at dksX19_entry_0 20 rfl rfl)
theorem dX19_entry_23 : decode cX19_entry 23 = .ok (.aload_n 0, 1) := dk_42 (dk_at dksX19_entry_0 23 rfl rfl)
theorem dX19_entry_24 : decode cX19_entry 24 = .ok (.getfield 31, 3) := dk_180 0 31 (dk_at dksX19_entry_1 0 rfl rfl)
theorem dX19_entry_27 : decode cX19_entry 27 = .ok (.bipush 16, 2) := dk_16 16 (dk_at dksX19_entry_1 3 rfl rfl)
theorem dX19_entry_29 : decode cX19_entry 29 = .ok (.if_icmp .ne 15, 3) := dk_160 0 15 (dk_at dksX19_entry_1 5 rfl rfl)
theorem dX19_entry_32 : decode cX19_entry 32 = .ok (.aload_n 0, 1) := dk_42 (dk_at dksX19_entry_1 8 rfl rfl)
theorem dX19_entry_33 : decode cX19_entry 33 = .ok (.iconst 4, 1) := dk_7 (dk_at dksX19_entry_1 9 rfl rfl)
theorem dX19_entry_34 : decode cX19_entry 34 = .ok (.aload_n 0, 1) := dk_42 (dk_at dksX19_entry_1 10 rfl rfl)
theorem dX19_entry_35 : decode cX19_entry 35 = .ok (.invokevirtual 23, 3) := dk_182 0 23 (dk_at dksX19_entry_1 11 rfl rfl)
theorem dX19_entry_38 : decode cX19_entry 38 = .ok (.invokevirtual 27, 3) := dk_182 0 27 (dk_at dksX19_entry_1 14 rfl rfl)
theorem dX19_entry_41 : decode cX19_entry 41 = .ok (.goto 23, 3) := dk_167 0 23 (dk_at dksX19_entry_1 17 rfl rfl)
theorem dX19_entry_44 : decode cX19_entry 44 = .ok (.aload_n 0, 1) := dk_42 (dk_at dksX19_entry_1 20 rfl rfl)
theorem dX19_entry_45 : decode cX19_entry 45 = .ok (.bipush 48, 2) := dk_16 48 (dk_at dksX19_entry_1 21 rfl rfl)
theorem dX19_entry_47 : decode cX19_entry 47 = .ok (.bipush 53, 2) := dk_16 53 (dk_at dksX19_entry_2 0 rfl rfl)
theorem dX19_entry_49 : decode cX19_entry 49 = .ok (.invokevirtual 19, 3) := dk_182 0 19 (dk_at dksX19_entry_2 2 rfl rfl)
theorem dX19_entry_52 : decode cX19_entry 52 = .ok (.ifCond .ne 12, 3) := dk_154 0 12 (dk_at dksX19_entry_2 5 rfl rfl)
theorem dX19_entry_55 : decode cX19_entry 55 = .ok (.aload_n 0, 1) := dk_42 (dk_at dksX19_entry_2 8 rfl rfl)
theorem dX19_entry_56 : decode cX19_entry 56 = .ok (.iconst 3, 1) := dk_6 (dk_at dksX19_entry_2 9 rfl rfl)
theorem dX19_entry_57 : decode cX19_entry 57 = .ok (.aload_n 0, 1) := dk_42 (dk_at dksX19_entry_2 10 rfl rfl)
theorem dX19_entry_58 : decode cX19_entry 58 = .ok (.invokevirtual 23, 3) := dk_182 0 23 (dk_at dksX19_entry_2 11 rfl rfl)
theorem dX19_entry_61 : decode cX19_entry 61 = .ok (.invokevirtual 27, 3) := dk_182 0 27 (dk_at dksX19_entry_2 14 rfl rfl)
theorem dX19_entry_64 : decode cX19_entry 64 = .ok (.aload_n 0, 1) := dk_42 (dk_at dksX19_entry_2 17 rfl rfl)
theorem dX19_entry_65 : decode cX19_entry 65 = .ok (.invokevirtual 35, 3) := dk_182 0 35 (dk_at dksX19_entry_2 18 rfl rfl)
theorem dX19_entry_68 : decode cX19_entry 68 = .ok (.bipush 48, 2) := dk_16 48 (dk_at dksX19_entry_2 21 rfl rfl)
theorem dX19_entry_70 : decode cX19_entry 70 = .ok (.isub, 1) := dk_100 (dk_at dksX19_entry_2 23 rfl rfl)
theorem dX19_entry_71 : decode cX19_entry 71 = .ok (.istore_n 1, 1) := dk_60 (dk_at dksX19_entry_3 0 rfl rfl)
theorem dX19_entry_72 : decode cX19_entry 72 = .ok (.aload_n 0, 1) := dk_42 (dk_at dksX19_entry_3 1 rfl rfl)
theorem dX19_entry_73 : decode cX19_entry 73 = .ok (.invokevirtual 38, 3) := dk_182 0 38 (dk_at dksX19_entry_3 2 rfl rfl)
theorem dX19_entry_76 : decode cX19_entry 76 = .ok (.aload_n 0, 1) := dk_42 (dk_at dksX19_entry_3 5 rfl rfl)
theorem dX19_entry_77 : decode cX19_entry 77 = .ok (.invokevirtual 42, 3) := dk_182 0 42 (dk_at dksX19_entry_3 6 rfl rfl)
theorem dX19_entry_80 : decode cX19_entry 80 = .ok (.ifCond .eq 12, 3) := dk_153 0 12 (dk_at dksX19_entry_3 9 rfl rfl)
theorem dX19_entry_83 : decode cX19_entry 83 = .ok (.aload_n 0, 1) := dk_42 (dk_at dksX19_entry_3 12 rfl rfl)
theorem dX19_entry_84 : decode cX19_entry 84 = .ok (.bipush 9, 2) := dk_16 9 (dk_at dksX19_entry_3 13 rfl rfl)
theorem dX19_entry_86 : decode cX19_entry 86 = .ok (.invokevirtual 46, 3) := dk_182 0 46 (dk_at dksX19_entry_3 15 rfl rfl)
theorem dX19_entry_89 : decode cX19_entry 89 = .ok (.goto 4, 3) := dk_167 0 4 (dk_at dksX19_entry_3 18 rfl rfl)
theorem dX19_entry_92 : decode cX19_entry 92 = .ok (.iconst 0, 1) := dk_3 (dk_at dksX19_entry_3 21 rfl rfl)
theorem dX19_entry_93 : decode cX19_entry 93 = .ok (.istore_n 2, 1) := dk_61 (dk_at dksX19_entry_3 22 rfl rfl)
theorem dX19_entry_94 : decode cX19_entry 94 = .ok (.aload_n 0, 1) := dk_42 (dk_at dksX19_entry_3 23 rfl rfl)
theorem dX19_entry_95 : decode cX19_entry 95 = .ok (.invokevirtual 42, 3) := dk_182 0 42 (dk_at dksX19_entry_4 0 rfl rfl)
theorem dX19_entry_98 : decode cX19_entry 98 = .ok (.ifCond .ne 4, 3) := dk_154 0 4 (dk_at dksX19_entry_4 3 rfl rfl)
theorem dX19_entry_101 : decode cX19_entry 101 = .ok (.return_, 1) := dk_177 (dk_at dksX19_entry_4 6 rfl rfl)
theorem dX19_entry_102 : decode cX19_entry 102 = .ok (.iconst 0, 1) := dk_3 (dk_at dksX19_entry_4 7 rfl rfl)
theorem dX19_entry_103 : decode cX19_entry 103 = .ok (.istore_n 3, 1) := dk_62 (dk_at dksX19_entry_4 8 rfl rfl)
theorem dX19_entry_104 : decode cX19_entry 104 = .ok (.iload_n 3, 1) := dk_29 (dk_at dksX19_entry_4 9 rfl rfl)
theorem dX19_entry_105 : decode cX19_entry 105 = .ok (.iload_n 2, 1) := dk_28 (dk_at dksX19_entry_4 10 rfl rfl)
theorem dX19_entry_106 : decode cX19_entry 106 = .ok (.if_icmp .ge 29, 3) := dk_162 0 29 (dk_at dksX19_entry_4 11 rfl rfl)
theorem dX19_entry_109 : decode cX19_entry 109 = .ok (.aload_n 0, 1) := dk_42 (dk_at dksX19_entry_4 14 rfl rfl)
theorem dX19_entry_110 : decode cX19_entry 110 = .ok (.getfield 15, 3) := dk_180 0 15 (dk_at dksX19_entry_4 15 rfl rfl)
theorem dX19_entry_113 : decode cX19_entry 113 = .ok (.aload_n 0, 1) := dk_42 (dk_at dksX19_entry_4 18 rfl rfl)
theorem dX19_entry_114 : decode cX19_entry 114 = .ok (.getfield 50, 3) := dk_180 0 50 (dk_at dksX19_entry_4 19 rfl rfl)
theorem dX19_entry_117 : decode cX19_entry 117 = .ok (.iload_n 1, 1) := dk_27 (dk_at dksX19_entry_4 22 rfl rfl)
theorem dX19_entry_118 : decode cX19_entry 118 = .ok (.iastore, 1) := dk_79 (dk_at dksX19_entry_4 23 rfl rfl)
theorem dX19_entry_119 : decode cX19_entry 119 = .ok (.aload_n 0, 1) := dk_42 (dk_at dksX19_entry_5 0 rfl rfl)
theorem dX19_entry_120 : decode cX19_entry 120 = .ok (.dup, 1) := dk_89 (dk_at dksX19_entry_5 1 rfl rfl)
theorem dX19_entry_121 : decode cX19_entry 121 = .ok (.getfield 50, 3) := dk_180 0 50 (dk_at dksX19_entry_5 2 rfl rfl)
theorem dX19_entry_124 : decode cX19_entry 124 = .ok (.iconst 1, 1) := dk_4 (dk_at dksX19_entry_5 5 rfl rfl)
theorem dX19_entry_125 : decode cX19_entry 125 = .ok (.iadd, 1) := dk_96 (dk_at dksX19_entry_5 6 rfl rfl)
theorem dX19_entry_126 : decode cX19_entry 126 = .ok (.putfield 50, 3) := dk_181 0 50 (dk_at dksX19_entry_5 7 rfl rfl)
theorem dX19_entry_129 : decode cX19_entry 129 = .ok (.iinc 3 1, 3) := dk_132 3 1 (dk_at dksX19_entry_5 10 rfl rfl)
theorem dX19_entry_132 : decode cX19_entry 132 = .ok (.goto (-28), 3) := dk_167 255 228 (dk_at dksX19_entry_5 13 rfl rfl)
theorem dX19_entry_135 : decode cX19_entry 135 = .ok (.aload_n 0, 1) := dk_42 (dk_at dksX19_entry_5 16 rfl rfl)
theorem dX19_entry_136 : decode cX19_entry 136 = .ok (.dup, 1) := dk_89 (dk_at dksX19_entry_5 17 rfl rfl)
theorem dX19_entry_137 : decode cX19_entry 137 = .ok (.getfield 31, 3) := dk_180 0 31 (dk_at dksX19_entry_5 18 rfl rfl)
theorem dX19_entry_140 : decode cX19_entry 140 = .ok (.iconst 1, 1) := dk_4 (dk_at dksX19_entry_5 21 rfl rfl)
theorem dX19_entry_141 : decode cX19_entry 141 = .ok (.iadd, 1) := dk_96 (dk_at dksX19_entry_5 22 rfl rfl)
theorem dX19_entry_142 : decode cX19_entry 142 = .ok (.putfield 31, 3) := dk_181 0 31 (dk_at dksX19_entry_6 0 rfl rfl)
theorem dX19_entry_145 : decode cX19_entry 145 = .ok (.return_, 1) := dk_177 (dk_at dksX19_entry_6 3 rfl rfl)
abbrev cX19_init : ByteArray := prog_6_method_1_code
def yX19_init : MethodName := ⟨RX19, "<init>", "(LPuzzleWed;I)V"⟩
def dkwX19_init_0 : List UInt8 := [42, 43, 181, 0, 3, 42, 43, 28, 183, 0, 9, 42, 17, 0, 144, 188, 10, 181, 0, 15, 177]
abbrev dktX19_init_0 : List UInt8 := dkwX19_init_0 ++ []
theorem dksX19_init_0 : cX19_init.data.toList.drop 0 = dktX19_init_0 := by decide +kernel
theorem dX19_init_0 : decode cX19_init 0 = .ok (.aload_n 0, 1) := dk_42 (dk_at dksX19_init_0 0 rfl rfl)
theorem dX19_init_1 : decode cX19_init 1 = .ok (.aload_n 1, 1) := dk_43 (dk_at dksX19_init_0 1 rfl rfl)
theorem dX19_init_2 : decode cX19_init 2 = .ok (.putfield 3, 3) := dk_181 0 3 (dk_at dksX19_init_0 2 rfl rfl)
theorem dX19_init_5 : decode cX19_init 5 = .ok (.aload_n 0, 1) := dk_42 (dk_at dksX19_init_0 5 rfl rfl)
theorem dX19_init_6 : decode cX19_init 6 = .ok (.aload_n 1, 1) := dk_43 (dk_at dksX19_init_0 6 rfl rfl)
theorem dX19_init_7 : decode cX19_init 7 = .ok (.iload_n 2, 1) := dk_28 (dk_at dksX19_init_0 7 rfl rfl)
theorem dX19_init_8 : decode cX19_init 8 = .ok (.invokespecial 9, 3) := dk_183 0 9 (dk_at dksX19_init_0 8 rfl rfl)
theorem dX19_init_11 : decode cX19_init 11 = .ok (.aload_n 0, 1) := dk_42 (dk_at dksX19_init_0 11 rfl rfl)
theorem dX19_init_12 : decode cX19_init 12 = .ok (.sipush 144, 3) := dk_17 0 144 (dk_at dksX19_init_0 12 rfl rfl)
theorem dX19_init_15 : decode cX19_init 15 = .ok (.newarray .int, 2) := dk_188_10 (dk_at dksX19_init_0 15 rfl rfl)
theorem dX19_init_17 : decode cX19_init 17 = .ok (.putfield 15, 3) := dk_181 0 15 (dk_at dksX19_init_0 17 rfl rfl)
theorem dX19_init_20 : decode cX19_init 20 = .ok (.return_, 1) := dk_177 (dk_at dksX19_init_0 20 rfl rfl)
abbrev cX19_read : ByteArray := prog_6_method_3_code
def yX19_read : MethodName := ⟨RX19, "read", "()I"⟩
def dkwX19_read_0 : List UInt8 := [42, 182, 0, 53, 153, 0, 10, 42, 180, 0, 50, 167, 0, 7, 42, 182, 0, 56, 172]
abbrev dktX19_read_0 : List UInt8 := dkwX19_read_0 ++ []
theorem dksX19_read_0 : cX19_read.data.toList.drop 0 = dktX19_read_0 := by decide +kernel
theorem dX19_read_0 : decode cX19_read 0 = .ok (.aload_n 0, 1) := dk_42 (dk_at dksX19_read_0 0 rfl rfl)
theorem dX19_read_1 : decode cX19_read 1 = .ok (.invokevirtual 53, 3) := dk_182 0 53 (dk_at dksX19_read_0 1 rfl rfl)
theorem dX19_read_4 : decode cX19_read 4 = .ok (.ifCond .eq 10, 3) := dk_153 0 10 (dk_at dksX19_read_0 4 rfl rfl)
theorem dX19_read_7 : decode cX19_read 7 = .ok (.aload_n 0, 1) := dk_42 (dk_at dksX19_read_0 7 rfl rfl)
theorem dX19_read_8 : decode cX19_read 8 = .ok (.getfield 50, 3) := dk_180 0 50 (dk_at dksX19_read_0 8 rfl rfl)
theorem dX19_read_11 : decode cX19_read 11 = .ok (.goto 7, 3) := dk_167 0 7 (dk_at dksX19_read_0 11 rfl rfl)
theorem dX19_read_14 : decode cX19_read 14 = .ok (.aload_n 0, 1) := dk_42 (dk_at dksX19_read_0 14 rfl rfl)
theorem dX19_read_15 : decode cX19_read 15 = .ok (.invokevirtual 56, 3) := dk_182 0 56 (dk_at dksX19_read_0 15 rfl rfl)
theorem dX19_read_18 : decode cX19_read 18 = .ok (.ireturn, 1) := dk_172 (dk_at dksX19_read_0 18 rfl rfl)
theorem q133 : (Jvm.Cond.initialized "PuzzleWed$Guide") ∈ lw_all := lw_g (lw_at lw_m1 26 rfl) rfl
theorem q818 : (Jvm.Cond.selects "PuzzleWed$Guide" ({ cls := "PuzzleWed$Scribe", name := "entry", desc := "()V" } : Jvm.MethodName) ({ cls := "PuzzleWed$Guide", name := "entry", desc := "()V" } : Jvm.MethodName)) ∈ lw_all := lw_g (lw_at lw_m3 231 rfl) rfl
theorem q819 : (Jvm.Cond.instanceMethod ({ cls := "PuzzleWed$Guide", name := "entry", desc := "()V" } : Jvm.MethodName)) ∈ lw_all := lw_g (lw_at lw_m3 232 rfl) rfl
theorem q820 : (Jvm.Cond.code ({ cls := "PuzzleWed$Guide", name := "entry", desc := "()V" } : Jvm.MethodName) prog_6_method_2_code (4 : Nat) (Option.none : Option Jvm.ClassFile.FieldType)) ∈ lw_all := lw_g (lw_at lw_m3 233 rfl) rfl
theorem q821 : (Jvm.Cond.methodLink "PuzzleWed$Guide" (19 : Nat) ({ cls := "PuzzleWed$Guide", name := "sees", desc := "(II)Z" } : Jvm.MethodName)) ∈ lw_all := lw_g (lw_at lw_m3 234 rfl) rfl
theorem q822 : (Jvm.Cond.sameMethod "PuzzleWed$Guide" "PuzzleWed$Scribe" "sees" "(II)Z") ∈ lw_all := lw_g (lw_at lw_m3 235 rfl) rfl
theorem q823 : (Jvm.Cond.selects "PuzzleWed$Guide" ({ cls := "PuzzleWed$Guide", name := "sees", desc := "(II)Z" } : Jvm.MethodName) ({ cls := "PuzzleWed$Scribe", name := "sees", desc := "(II)Z" } : Jvm.MethodName)) ∈ lw_all := lw_g (lw_at lw_m3 236 rfl) rfl
theorem q824 : (Jvm.Cond.methodLink "PuzzleWed$Guide" (23 : Nat) ({ cls := "PuzzleWed$Guide", name := "place", desc := "()I" } : Jvm.MethodName)) ∈ lw_all := lw_g (lw_at lw_m3 237 rfl) rfl
theorem q825 : (Jvm.Cond.sameMethod "PuzzleWed$Guide" "PuzzleWed$Scribe" "place" "()I") ∈ lw_all := lw_g (lw_at lw_m3 238 rfl) rfl
theorem q826 : (Jvm.Cond.selects "PuzzleWed$Guide" ({ cls := "PuzzleWed$Guide", name := "place", desc := "()I" } : Jvm.MethodName) ({ cls := "PuzzleWed$Scribe", name := "place", desc := "()I" } : Jvm.MethodName)) ∈ lw_all := lw_g (lw_at lw_m3 239 rfl) rfl
theorem q827 : (Jvm.Cond.methodLink "PuzzleWed$Guide" (27 : Nat) ({ cls := "PuzzleWed$Guide", name := "bad", desc := "(II)V" } : Jvm.MethodName)) ∈ lw_all := lw_g (lw_at lw_m4 0 rfl) rfl
theorem q828 : (Jvm.Cond.sameMethod "PuzzleWed$Guide" "PuzzleWed$Scribe" "bad" "(II)V") ∈ lw_all := lw_g (lw_at lw_m4 1 rfl) rfl
theorem q829 : (Jvm.Cond.selects "PuzzleWed$Guide" ({ cls := "PuzzleWed$Guide", name := "bad", desc := "(II)V" } : Jvm.MethodName) ({ cls := "PuzzleWed$Scribe", name := "bad", desc := "(II)V" } : Jvm.MethodName)) ∈ lw_all := lw_g (lw_at lw_m4 2 rfl) rfl
theorem q830 : (Jvm.Cond.methodLink "PuzzleWed$Guide" (35 : Nat) ({ cls := "PuzzleWed$Guide", name := "here", desc := "()I" } : Jvm.MethodName)) ∈ lw_all := lw_g (lw_at lw_m4 3 rfl) rfl
theorem q831 : (Jvm.Cond.sameMethod "PuzzleWed$Guide" "PuzzleWed$Scribe" "here" "()I") ∈ lw_all := lw_g (lw_at lw_m4 4 rfl) rfl
theorem q832 : (Jvm.Cond.selects "PuzzleWed$Guide" ({ cls := "PuzzleWed$Guide", name := "here", desc := "()I" } : Jvm.MethodName) ({ cls := "PuzzleWed$Scribe", name := "here", desc := "()I" } : Jvm.MethodName)) ∈ lw_all := lw_g (lw_at lw_m4 5 rfl) rfl
theorem q833 : (Jvm.Cond.methodLink "PuzzleWed$Guide" (38 : Nat) ({ cls := "PuzzleWed$Guide", name := "goes", desc := "()V" } : Jvm.MethodName)) ∈ lw_all := lw_g (lw_at lw_m4 6 rfl) rfl
theorem q834 : (Jvm.Cond.sameMethod "PuzzleWed$Guide" "PuzzleWed$Scribe" "goes" "()V") ∈ lw_all := lw_g (lw_at lw_m4 7 rfl) rfl
theorem q835 : (Jvm.Cond.selects "PuzzleWed$Guide" ({ cls := "PuzzleWed$Guide", name := "goes", desc := "()V" } : Jvm.MethodName) ({ cls := "PuzzleWed$Scribe", name := "goes", desc := "()V" } : Jvm.MethodName)) ∈ lw_all := lw_g (lw_at lw_m4 8 rfl) rfl
theorem q836 : (Jvm.Cond.methodLink "PuzzleWed$Guide" (42 : Nat) ({ cls := "PuzzleWed$Guide", name := "isGood", desc := "()Z" } : Jvm.MethodName)) ∈ lw_all := lw_g (lw_at lw_m4 9 rfl) rfl
theorem q837 : (Jvm.Cond.sameMethod "PuzzleWed$Guide" "PuzzleWed$Scribe" "isGood" "()Z") ∈ lw_all := lw_g (lw_at lw_m4 10 rfl) rfl
theorem q838 : (Jvm.Cond.selects "PuzzleWed$Guide" ({ cls := "PuzzleWed$Guide", name := "isGood", desc := "()Z" } : Jvm.MethodName) ({ cls := "PuzzleWed$Scribe", name := "isGood", desc := "()Z" } : Jvm.MethodName)) ∈ lw_all := lw_g (lw_at lw_m4 11 rfl) rfl
theorem q839 : (Jvm.Cond.methodLink "PuzzleWed$Guide" (46 : Nat) ({ cls := "PuzzleWed$Guide", name := "times", desc := "(I)I" } : Jvm.MethodName)) ∈ lw_all := lw_g (lw_at lw_m4 12 rfl) rfl
theorem q840 : (Jvm.Cond.sameMethod "PuzzleWed$Guide" "PuzzleWed$Scribe" "times" "(I)I") ∈ lw_all := lw_g (lw_at lw_m4 13 rfl) rfl
theorem q841 : (Jvm.Cond.selects "PuzzleWed$Guide" ({ cls := "PuzzleWed$Guide", name := "times", desc := "(I)I" } : Jvm.MethodName) ({ cls := "PuzzleWed$Scribe", name := "times", desc := "(I)I" } : Jvm.MethodName)) ∈ lw_all := lw_g (lw_at lw_m4 14 rfl) rfl
theorem q847 : (Jvm.Cond.selects "PuzzleWed$Guide" ({ cls := "PuzzleWed$Scribe", name := "isEnd", desc := "()Z" } : Jvm.MethodName) ({ cls := "PuzzleWed$Scribe", name := "isEnd", desc := "()Z" } : Jvm.MethodName)) ∈ lw_all := lw_g (lw_at lw_m4 20 rfl) rfl
theorem q867 : (Jvm.Cond.instantiable "PuzzleWed$Guide" (9 : Nat)) ∈ lw_all := lw_g (lw_at lw_m4 40 rfl) rfl
theorem q869 : (Jvm.Cond.instanceMethod ({ cls := "PuzzleWed$Guide", name := "<init>", desc := "(LPuzzleWed;I)V" } : Jvm.MethodName)) ∈ lw_all := lw_g (lw_at lw_m4 42 rfl) rfl
theorem q870 : (Jvm.Cond.code ({ cls := "PuzzleWed$Guide", name := "<init>", desc := "(LPuzzleWed;I)V" } : Jvm.MethodName) prog_6_method_1_code (3 : Nat) (Option.none : Option Jvm.ClassFile.FieldType)) ∈ lw_all := lw_g (lw_at lw_m4 43 rfl) rfl
theorem q871 : (Jvm.Cond.methodLink "PuzzleWed$Guide" (9 : Nat) ({ cls := "PuzzleWed$Scribe", name := "<init>", desc := "(LPuzzleWed;I)V" } : Jvm.MethodName)) ∈ lw_all := lw_g (lw_at lw_m4 44 rfl) rfl
theorem q872 : (Jvm.Cond.fieldLink "PuzzleWed$Guide" (15 : Nat) "PuzzleWed$Guide" "towns" "[I") ∈ lw_all := lw_g (lw_at lw_m4 45 rfl) rfl
theorem q874 : (Jvm.Cond.fieldLink "PuzzleWed$Guide" (31 : Nat) "PuzzleWed$Guide" "stops" "I") ∈ lw_all := lw_g (lw_at lw_m4 47 rfl) rfl
theorem q875 : (Jvm.Cond.fieldLink "PuzzleWed$Guide" (50 : Nat) "PuzzleWed$Guide" "days" "I") ∈ lw_all := lw_g (lw_at lw_m4 48 rfl) rfl
theorem q876 : (Jvm.Cond.fieldLink "PuzzleWed$Guide" (3 : Nat) "PuzzleWed$Guide" "this$0" "LPuzzleWed;") ∈ lw_all := lw_g (lw_at lw_m4 49 rfl) rfl
theorem q877 : (Jvm.Cond.laysFinal "PuzzleWed$Guide" "PuzzleWed$Guide" "towns" "[I") ∈ lw_all := lw_g (lw_at lw_m4 50 rfl) rfl
theorem q878 : (Jvm.Cond.soleField "PuzzleWed$Guide" "towns") ∈ lw_all := lw_g (lw_at lw_m4 51 rfl) rfl
theorem q879 : (Jvm.Cond.lays "PuzzleWed$Guide" "PuzzleWed$Guide" "stops" "I") ∈ lw_all := lw_g (lw_at lw_m4 52 rfl) rfl
theorem q880 : (Jvm.Cond.soleField "PuzzleWed$Guide" "stops") ∈ lw_all := lw_g (lw_at lw_m4 53 rfl) rfl
theorem q881 : (Jvm.Cond.lays "PuzzleWed$Guide" "PuzzleWed$Guide" "days" "I") ∈ lw_all := lw_g (lw_at lw_m4 54 rfl) rfl
theorem q882 : (Jvm.Cond.soleField "PuzzleWed$Guide" "days") ∈ lw_all := lw_g (lw_at lw_m4 55 rfl) rfl
theorem q883 : (Jvm.Cond.laysFinal "PuzzleWed$Guide" "PuzzleWed$Guide" "this$0" "LPuzzleWed;") ∈ lw_all := lw_g (lw_at lw_m4 56 rfl) rfl
theorem q884 : (Jvm.Cond.soleField "PuzzleWed$Guide" "this$0") ∈ lw_all := lw_g (lw_at lw_m4 57 rfl) rfl
theorem q885 : (Jvm.Cond.laysFinal "PuzzleWed$Guide" "PuzzleWed$Scribe" "n" "I") ∈ lw_all := lw_g (lw_at lw_m4 58 rfl) rfl
theorem q886 : (Jvm.Cond.lays "PuzzleWed$Guide" "PuzzleWed$Scribe" "at" "I") ∈ lw_all := lw_g (lw_at lw_m4 59 rfl) rfl
theorem q887 : (Jvm.Cond.lays "PuzzleWed$Guide" "PuzzleWed$Scribe" "fault" "I") ∈ lw_all := lw_g (lw_at lw_m4 60 rfl) rfl
theorem q888 : (Jvm.Cond.lays "PuzzleWed$Guide" "PuzzleWed$Scribe" "place" "I") ∈ lw_all := lw_g (lw_at lw_m4 61 rfl) rfl
theorem q889 : (Jvm.Cond.laysFinal "PuzzleWed$Guide" "PuzzleWed$Scribe" "this$0" "LPuzzleWed;") ∈ lw_all := lw_g (lw_at lw_m4 62 rfl) rfl
theorem q890 : (Jvm.Cond.superclass "PuzzleWed$Guide" "PuzzleWed$Scribe") ∈ lw_all := lw_g (lw_at lw_m4 63 rfl) rfl
theorem q892 : (Jvm.Cond.instanceMethod ({ cls := "PuzzleWed$Guide", name := "read", desc := "()I" } : Jvm.MethodName)) ∈ lw_all := lw_g (lw_at lw_m4 65 rfl) rfl
theorem q893 : (Jvm.Cond.selects "PuzzleWed$Guide" ({ cls := "PuzzleWed$Guide", name := "read", desc := "()I" } : Jvm.MethodName) ({ cls := "PuzzleWed$Guide", name := "read", desc := "()I" } : Jvm.MethodName)) ∈ lw_all := lw_g (lw_at lw_m4 66 rfl) rfl
theorem q894 : (Jvm.Cond.code ({ cls := "PuzzleWed$Guide", name := "read", desc := "()I" } : Jvm.MethodName) prog_6_method_3_code (1 : Nat) (Option.some Jvm.ClassFile.FieldType.int)) ∈ lw_all := lw_g (lw_at lw_m4 67 rfl) rfl
theorem q895 : (Jvm.Cond.methodLink "PuzzleWed$Guide" (53 : Nat) ({ cls := "PuzzleWed$Guide", name := "reads", desc := "()Z" } : Jvm.MethodName)) ∈ lw_all := lw_g (lw_at lw_m4 68 rfl) rfl
theorem q896 : (Jvm.Cond.sameMethod "PuzzleWed$Guide" "PuzzleWed$Scribe" "reads" "()Z") ∈ lw_all := lw_g (lw_at lw_m4 69 rfl) rfl
theorem q897 : (Jvm.Cond.selects "PuzzleWed$Guide" ({ cls := "PuzzleWed$Guide", name := "reads", desc := "()Z" } : Jvm.MethodName) ({ cls := "PuzzleWed$Scribe", name := "reads", desc := "()Z" } : Jvm.MethodName)) ∈ lw_all := lw_g (lw_at lw_m4 70 rfl) rfl
theorem q898 : (Jvm.Cond.methodLink "PuzzleWed$Guide" (56 : Nat) ({ cls := "PuzzleWed$Guide", name := "faulty", desc := "()I" } : Jvm.MethodName)) ∈ lw_all := lw_g (lw_at lw_m4 71 rfl) rfl
theorem q899 : (Jvm.Cond.sameMethod "PuzzleWed$Guide" "PuzzleWed$Scribe" "faulty" "()I") ∈ lw_all := lw_g (lw_at lw_m4 72 rfl) rfl
theorem q900 : (Jvm.Cond.selects "PuzzleWed$Guide" ({ cls := "PuzzleWed$Guide", name := "faulty", desc := "()I" } : Jvm.MethodName) ({ cls := "PuzzleWed$Scribe", name := "faulty", desc := "()I" } : Jvm.MethodName)) ∈ lw_all := lw_g (lw_at lw_m4 73 rfl) rfl
theorem q1816 : (Jvm.Cond.selects "PuzzleWed$Guide" ({ cls := "PuzzleWed$Scribe", name := "here", desc := "()I" } : Jvm.MethodName) ({ cls := "PuzzleWed$Scribe", name := "here", desc := "()I" } : Jvm.MethodName)) ∈ lw_all := lw_g (lw_at lw_m8 29 rfl) rfl
theorem q1819 : (Jvm.Cond.selects "PuzzleWed$Guide" ({ cls := "PuzzleWed$Scribe", name := "goes", desc := "()V" } : Jvm.MethodName) ({ cls := "PuzzleWed$Scribe", name := "goes", desc := "()V" } : Jvm.MethodName)) ∈ lw_all := lw_g (lw_at lw_m8 32 rfl) rfl
theorem q1822 : (Jvm.Cond.selects "PuzzleWed$Guide" ({ cls := "PuzzleWed$Scribe", name := "sees", desc := "(II)Z" } : Jvm.MethodName) ({ cls := "PuzzleWed$Scribe", name := "sees", desc := "(II)Z" } : Jvm.MethodName)) ∈ lw_all := lw_g (lw_at lw_m8 35 rfl) rfl
theorem q1825 : (Jvm.Cond.selects "PuzzleWed$Guide" ({ cls := "PuzzleWed$Scribe", name := "bad", desc := "(II)V" } : Jvm.MethodName) ({ cls := "PuzzleWed$Scribe", name := "bad", desc := "(II)V" } : Jvm.MethodName)) ∈ lw_all := lw_g (lw_at lw_m8 38 rfl) rfl
theorem q1828 : (Jvm.Cond.selects "PuzzleWed$Guide" ({ cls := "PuzzleWed$Scribe", name := "isGood", desc := "()Z" } : Jvm.MethodName) ({ cls := "PuzzleWed$Scribe", name := "isGood", desc := "()Z" } : Jvm.MethodName)) ∈ lw_all := lw_g (lw_at lw_m8 41 rfl) rfl
theorem in_X19 : ∀ w ∈ wsX190, w ∈ lw_all := lw_in wsX190 [885, 886, 887, 888, 889, 877, 879, 881, 883] (by decide +kernel) (by decide +kernel)
