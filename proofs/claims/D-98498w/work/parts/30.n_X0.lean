/-! PuzzleWed -/
set_option maxRecDepth 100000
def RX0 : String := "PuzzleWed"
def TX0 : u_T := fun k => match k with
  | 0 => ("PuzzleWed", "moment", "LPuzzleWed$Moment;", true)
  | 1 => ("PuzzleWed", "land", "LPuzzleWed$Land;", true)
  | 2 => ("PuzzleWed", "then", "LPuzzleWed$Land;", true)
  | 3 => ("PuzzleWed", "kept", "LPuzzleWed$Land;", true)
  | 4 => ("PuzzleWed", "tape", "[B", true)
  | 5 => ("PuzzleWed", "law", "LPuzzleWed$Text;", false)
  | 6 => ("PuzzleWed", "taped", "I", false)
  | 7 => ("PuzzleWed", "isKept", "Z", false)
  | 8 => ("PuzzleWed", "best", "[[I", true)
  | 9 => ("PuzzleWed", "gains", "[[I", true)
  | 10 => ("PuzzleWed", "keeps", "[I", true)
  | 11 => ("PuzzleWed", "asked", "[I", true)
  | 12 => ("PuzzleWed", "liking", "[[I", true)
  | 13 => ("PuzzleWed", "order", "[I", true)
  | 14 => ("PuzzleWed", "bestOrder", "[I", true)
  | 15 => ("PuzzleWed", "leastSum", "I", false)
  | 16 => ("PuzzleWed", "works", "[[[I", true)
  | _ => ("PuzzleWed", "sanded", "LPuzzleWed$Piece;", true)
def tyX0 : Nat → FieldType := fun k => match k with
  | 0 => .object "PuzzleWed$Moment"
  | 1 => .object "PuzzleWed$Land"
  | 2 => .object "PuzzleWed$Land"
  | 3 => .object "PuzzleWed$Land"
  | 4 => .array .byte
  | 5 => .object "PuzzleWed$Text"
  | 6 => .int
  | 7 => .boolean
  | 8 => .array (.array .int)
  | 9 => .array (.array .int)
  | 10 => .array .int
  | 11 => .array .int
  | 12 => .array (.array .int)
  | 13 => .array .int
  | 14 => .array .int
  | 15 => .int
  | 16 => .array (.array (.array .int))
  | _ => .object "PuzzleWed$Piece"
abbrev wsX00 : List Cond := u_ws RX0 TX0 18
set_option maxRecDepth 100000 in
theorem nmX0 : ∀ a, a < 18 → ∀ b, b < 18 → a ≠ b → (TX0 a).2.1 ≠ (TX0 b).2.1 := by decide +kernel
set_option maxRecDepth 100000 in
theorem tyX0_ok : ∀ k, k < 18 → parseFieldDescriptor (TX0 k).2.2.1 = some (tyX0 k) := by decide +kernel
abbrev cX0_init : ByteArray := prog_1_method_7_code
def yX0_init : MethodName := ⟨RX0, "<init>", "()V"⟩
def dkwX0_init_9 : List UInt8 := [167, 255, 237, 177]
abbrev dktX0_init_9 : List UInt8 := dkwX0_init_9 ++ []
def dkwX0_init_8 : List UInt8 := [61, 3, 62, 29, 28, 162, 0, 20, 43, 29, 50, 58, 4, 25, 4, 2, 181, 0, 98, 132, 3, 1]
abbrev dktX0_init_8 : List UInt8 := dkwX0_init_8 ++ dktX0_init_9
def dkwX0_init_7 : List UInt8 := [183, 0, 85, 181, 0, 86, 42, 180, 0, 33, 4, 181, 0, 90, 42, 180, 0, 33, 180, 0, 94, 76, 43, 190]
abbrev dktX0_init_7 : List UInt8 := dkwX0_init_7 ++ dktX0_init_8
def dkwX0_init_6 : List UInt8 := [181, 0, 75, 42, 16, 9, 16, 61, 16, 61, 197, 0, 78, 3, 181, 0, 80, 42, 187, 0, 83, 89]
abbrev dktX0_init_6 : List UInt8 := dkwX0_init_6 ++ dktX0_init_7
def dkwX0_init_5 : List UInt8 := [16, 12, 16, 12, 197, 0, 54, 2, 181, 0, 69, 42, 16, 6, 188, 10, 181, 0, 72, 42, 16, 6, 188, 10]
abbrev dktX0_init_5 : List UInt8 := dkwX0_init_5 ++ dktX0_init_6
def dkwX0_init_4 : List UInt8 := [197, 0, 54, 2, 181, 0, 59, 42, 16, 12, 188, 10, 181, 0, 62, 42, 16, 12, 188, 10, 181, 0, 66, 42]
abbrev dktX0_init_4 : List UInt8 := dkwX0_init_4 ++ dktX0_init_5
def dkwX0_init_3 : List UInt8 := [181, 0, 50, 42, 16, 13, 17, 16, 0, 197, 0, 54, 2, 181, 0, 56, 42, 16, 12, 16, 12]
abbrev dktX0_init_3 : List UInt8 := dkwX0_init_3 ++ dktX0_init_4
def dkwX0_init_2 : List UInt8 := [183, 0, 32, 181, 0, 40, 42, 17, 1, 4, 188, 8, 181, 0, 43, 42, 187, 0, 47, 89, 183, 0, 49]
abbrev dktX0_init_2 : List UInt8 := dkwX0_init_2 ++ dktX0_init_3
def dkwX0_init_1 : List UInt8 := [183, 0, 32, 181, 0, 33, 42, 187, 0, 30, 89, 42, 183, 0, 32, 181, 0, 37, 42, 187, 0, 30, 89, 42]
abbrev dktX0_init_1 : List UInt8 := dkwX0_init_1 ++ dktX0_init_2
def dkwX0_init_0 : List UInt8 := [42, 183, 0, 15, 42, 187, 0, 21, 89, 42, 183, 0, 23, 181, 0, 26, 42, 187, 0, 30, 89, 42]
abbrev dktX0_init_0 : List UInt8 := dkwX0_init_0 ++ dktX0_init_1
theorem dksX0_init_0 : cX0_init.data.toList.drop 0 = dktX0_init_0 := by decide +kernel
theorem dksX0_init_1 : cX0_init.data.toList.drop 22 = dktX0_init_1 := dk_seg dksX0_init_0 22 rfl rfl
theorem dksX0_init_2 : cX0_init.data.toList.drop 46 = dktX0_init_2 := dk_seg dksX0_init_1 24 rfl rfl
theorem dksX0_init_3 : cX0_init.data.toList.drop 69 = dktX0_init_3 := dk_seg dksX0_init_2 23 rfl rfl
theorem dksX0_init_4 : cX0_init.data.toList.drop 90 = dktX0_init_4 := dk_seg dksX0_init_3 21 rfl rfl
theorem dksX0_init_5 : cX0_init.data.toList.drop 114 = dktX0_init_5 := dk_seg dksX0_init_4 24 rfl rfl
theorem dksX0_init_6 : cX0_init.data.toList.drop 138 = dktX0_init_6 := dk_seg dksX0_init_5 24 rfl rfl
theorem dksX0_init_7 : cX0_init.data.toList.drop 160 = dktX0_init_7 := dk_seg dksX0_init_6 22 rfl rfl
theorem dksX0_init_8 : cX0_init.data.toList.drop 184 = dktX0_init_8 := dk_seg dksX0_init_7 24 rfl rfl
theorem dksX0_init_9 : cX0_init.data.toList.drop 206 = dktX0_init_9 := dk_seg dksX0_init_8 22 rfl rfl
theorem dX0_init_0 : decode cX0_init 0 = .ok (.aload_n 0, 1) := dk_42 (dk_at dksX0_init_0 0 rfl rfl)
theorem dX0_init_1 : decode cX0_init 1 = .ok (.invokespecial 15, 3) := dk_183 0 15 (dk_at dksX0_init_0 1 rfl rfl)
theorem dX0_init_4 : decode cX0_init 4 = .ok (.aload_n 0, 1) := dk_42 (dk_at dksX0_init_0 4 rfl rfl)
theorem dX0_init_5 : decode cX0_init 5 = .ok (.new 21, 3) := dk_187 0 21 (dk_at dksX0_init_0 5 rfl rfl)
theorem dX0_init_8 : decode cX0_init 8 = .ok (.dup, 1) := dk_89 (dk_at dksX0_init_0 8 rfl rfl)
theorem dX0_init_9 : decode cX0_init 9 = .ok (.aload_n 0, 1) := dk_42 (dk_at dksX0_init_0 9 rfl rfl)
theorem dX0_init_10 : decode cX0_init 10 = .ok (.invokespecial 23, 3) := dk_183 0 23 (dk_at dksX0_init_0 10 rfl rfl)
theorem dX0_init_13 : decode cX0_init 13 = .ok (.putfield 26, 3) := dk_181 0 26 (dk_at dksX0_init_0 13 rfl rfl)
theorem dX0_init_16 : decode cX0_init 16 = .ok (.aload_n 0, 1) := dk_42 (dk_at dksX0_init_0 16 rfl rfl)
theorem dX0_init_17 : decode cX0_init 17 = .ok (.new 30, 3) := dk_187 0 30 (dk_at dksX0_init_0 17 rfl rfl)
theorem dX0_init_20 : decode cX0_init 20 = .ok (.dup, 1) := dk_89 (dk_at dksX0_init_0 20 rfl rfl)
theorem dX0_init_21 : decode cX0_init 21 = .ok (.aload_n 0, 1) := dk_42 (dk_at dksX0_init_0 21 rfl rfl)
theorem dX0_init_22 : decode cX0_init 22 = .ok (.invokespecial 32, 3) := dk_183 0 32 (dk_at dksX0_init_1 0 rfl rfl)
theorem dX0_init_25 : decode cX0_init 25 = .ok (.putfield 33, 3) := dk_181 0 33 (dk_at dksX0_init_1 3 rfl rfl)
theorem dX0_init_28 : decode cX0_init 28 = .ok (.aload_n 0, 1) := dk_42 (dk_at dksX0_init_1 6 rfl rfl)
theorem dX0_init_29 : decode cX0_init 29 = .ok (.new 30, 3) := dk_187 0 30 (dk_at dksX0_init_1 7 rfl rfl)
theorem dX0_init_32 : decode cX0_init 32 = .ok (.dup, 1) := dk_89 (dk_at dksX0_init_1 10 rfl rfl)
theorem dX0_init_33 : decode cX0_init 33 = .ok (.aload_n 0, 1) := dk_42 (dk_at dksX0_init_1 11 rfl rfl)
theorem dX0_init_34 : decode cX0_init 34 = .ok (.invokespecial 32, 3) := dk_183 0 32 (dk_at dksX0_init_1 12 rfl rfl)
theorem dX0_init_37 : decode cX0_init 37 = .ok (.putfield 37, 3) := dk_181 0 37 (dk_at dksX0_init_1 15 rfl rfl)
theorem dX0_init_40 : decode cX0_init 40 = .ok (.aload_n 0, 1) := dk_42 (dk_at dksX0_init_1 18 rfl rfl)
theorem dX0_init_41 : decode cX0_init 41 = .ok (.new 30, 3) := dk_187 0 30 (dk_at dksX0_init_1 19 rfl rfl)
theorem dX0_init_44 : decode cX0_init 44 = .ok (.dup, 1) := dk_89 (dk_at dksX0_init_1 22 rfl rfl)
theorem dX0_init_45 : decode cX0_init 45 = .ok (.aload_n 0, 1) := dk_42 (dk_at dksX0_init_1 23 rfl rfl)
theorem dX0_init_46 : decode cX0_init 46 = .ok (.invokespecial 32, 3) := dk_183 0 32 (dk_at dksX0_init_2 0 rfl rfl)
theorem dX0_init_49 : decode cX0_init 49 = .ok (.putfield 40, 3) := dk_181 0 40 (dk_at dksX0_init_2 3 rfl rfl)
theorem dX0_init_52 : decode cX0_init 52 = .ok (.aload_n 0, 1) := dk_42 (dk_at dksX0_init_2 6 rfl rfl)
theorem dX0_init_53 : decode cX0_init 53 = .ok (.sipush 260, 3) := dk_17 1 4 (dk_at dksX0_init_2 7 rfl rfl)
theorem dX0_init_56 : decode cX0_init 56 = .ok (.newarray .byte, 2) := dk_188_8 (dk_at dksX0_init_2 10 rfl rfl)
theorem dX0_init_58 : decode cX0_init 58 = .ok (.putfield 43, 3) := dk_181 0 43 (dk_at dksX0_init_2 12 rfl rfl)
theorem dX0_init_61 : decode cX0_init 61 = .ok (.aload_n 0, 1) := dk_42 (dk_at dksX0_init_2 15 rfl rfl)
theorem dX0_init_62 : decode cX0_init 62 = .ok (.new 47, 3) := dk_187 0 47 (dk_at dksX0_init_2 16 rfl rfl)
theorem dX0_init_65 : decode cX0_init 65 = .ok (.dup, 1) := dk_89 (dk_at dksX0_init_2 19 rfl rfl)
theorem dX0_init_66 : decode cX0_init 66 = .ok (.invokespecial 49, 3) := dk_183 0 49 (dk_at dksX0_init_2 20 rfl rfl)
theorem dX0_init_69 : decode cX0_init 69 = .ok (.putfield 50, 3) := dk_181 0 50 (dk_at dksX0_init_3 0 rfl rfl)
theorem dX0_init_72 : decode cX0_init 72 = .ok (.aload_n 0, 1) := dk_42 (dk_at dksX0_init_3 3 rfl rfl)
theorem dX0_init_73 : decode cX0_init 73 = .ok (.bipush 13, 2) := dk_16 13 (dk_at dksX0_init_3 4 rfl rfl)
theorem dX0_init_75 : decode cX0_init 75 = .ok (.sipush 4096, 3) := dk_17 16 0 (dk_at dksX0_init_3 6 rfl rfl)
theorem dX0_init_78 : decode cX0_init 78 = .ok (.multianewarray 54 2, 4) := by decide +kernel
theorem dX0_init_82 : decode cX0_init 82 = .ok (.putfield 56, 3) := dk_181 0 56 (dk_at dksX0_init_3 13 rfl rfl)
theorem dX0_init_85 : decode cX0_init 85 = .ok (.aload_n 0, 1) := dk_42 (dk_at dksX0_init_3 16 rfl rfl)
theorem dX0_init_86 : decode cX0_init 86 = .ok (.bipush 12, 2) := dk_16 12 (dk_at dksX0_init_3 17 rfl rfl)
theorem dX0_init_88 : decode cX0_init 88 = .ok (.bipush 12, 2) := dk_16 12 (dk_at dksX0_init_3 19 rfl rfl)
theorem dX0_init_90 : decode cX0_init 90 = .ok (.multianewarray 54 2, 4) := by decide +kernel
theorem dX0_init_94 : decode cX0_init 94 = .ok (.putfield 59, 3) := dk_181 0 59 (dk_at dksX0_init_4 4 rfl rfl)
theorem dX0_init_97 : decode cX0_init 97 = .ok (.aload_n 0, 1) := dk_42 (dk_at dksX0_init_4 7 rfl rfl)
theorem dX0_init_98 : decode cX0_init 98 = .ok (.bipush 12, 2) := dk_16 12 (dk_at dksX0_init_4 8 rfl rfl)
theorem dX0_init_100 : decode cX0_init 100 = .ok (.newarray .int, 2) := dk_188_10 (dk_at dksX0_init_4 10 rfl rfl)
theorem dX0_init_102 : decode cX0_init 102 = .ok (.putfield 62, 3) := dk_181 0 62 (dk_at dksX0_init_4 12 rfl rfl)
theorem dX0_init_105 : decode cX0_init 105 = .ok (.aload_n 0, 1) := dk_42 (dk_at dksX0_init_4 15 rfl rfl)
theorem dX0_init_106 : decode cX0_init 106 = .ok (.bipush 12, 2) := dk_16 12 (dk_at dksX0_init_4 16 rfl rfl)
theorem dX0_init_108 : decode cX0_init 108 = .ok (.newarray .int, 2) := dk_188_10 (dk_at dksX0_init_4 18 rfl rfl)
theorem dX0_init_110 : decode cX0_init 110 = .ok (.putfield 66, 3) := dk_181 0 66 (dk_at dksX0_init_4 20 rfl rfl)
theorem dX0_init_113 : decode cX0_init 113 = .ok (.aload_n 0, 1) := dk_42 (dk_at dksX0_init_4 23 rfl rfl)
theorem dX0_init_114 : decode cX0_init 114 = .ok (.bipush 12, 2) := dk_16 12 (dk_at dksX0_init_5 0 rfl rfl)
theorem dX0_init_116 : decode cX0_init 116 = .ok (.bipush 12, 2) := dk_16 12 (dk_at dksX0_init_5 2 rfl rfl)
theorem dX0_init_118 : decode cX0_init 118 = .ok (.multianewarray 54 2, 4) := by decide +kernel
theorem dX0_init_122 : decode cX0_init 122 = .ok (.putfield 69, 3) := dk_181 0 69 (dk_at dksX0_init_5 8 rfl rfl)
theorem dX0_init_125 : decode cX0_init 125 = .ok (.aload_n 0, 1) := dk_42 (dk_at dksX0_init_5 11 rfl rfl)
theorem dX0_init_126 : decode cX0_init 126 = .ok (.bipush 6, 2) := dk_16 6 (dk_at dksX0_init_5 12 rfl rfl)
theorem dX0_init_128 : decode cX0_init 128 = .ok (.newarray .int, 2) := dk_188_10 (dk_at dksX0_init_5 14 rfl rfl)
theorem dX0_init_130 : decode cX0_init 130 = .ok (.putfield 72, 3) := dk_181 0 72 (dk_at dksX0_init_5 16 rfl rfl)
theorem dX0_init_133 : decode cX0_init 133 = .ok (.aload_n 0, 1) := dk_42 (dk_at dksX0_init_5 19 rfl rfl)
theorem dX0_init_134 : decode cX0_init 134 = .ok (.bipush 6, 2) := dk_16 6 (dk_at dksX0_init_5 20 rfl rfl)
theorem dX0_init_136 : decode cX0_init 136 = .ok (.newarray .int, 2) := dk_188_10 (dk_at dksX0_init_5 22 rfl rfl)
theorem dX0_init_138 : decode cX0_init 138 = .ok (.putfield 75, 3) := dk_181 0 75 (dk_at dksX0_init_6 0 rfl rfl)
theorem dX0_init_141 : decode cX0_init 141 = .ok (.aload_n 0, 1) := dk_42 (dk_at dksX0_init_6 3 rfl rfl)
theorem dX0_init_142 : decode cX0_init 142 = .ok (.bipush 9, 2) := dk_16 9 (dk_at dksX0_init_6 4 rfl rfl)
theorem dX0_init_144 : decode cX0_init 144 = .ok (.bipush 61, 2) := dk_16 61 (dk_at dksX0_init_6 6 rfl rfl)
theorem dX0_init_146 : decode cX0_init 146 = .ok (.bipush 61, 2) := dk_16 61 (dk_at dksX0_init_6 8 rfl rfl)
theorem dX0_init_148 : decode cX0_init 148 = .ok (.multianewarray 78 3, 4) := by decide +kernel
theorem dX0_init_152 : decode cX0_init 152 = .ok (.putfield 80, 3) := dk_181 0 80 (dk_at dksX0_init_6 14 rfl rfl)
theorem dX0_init_155 : decode cX0_init 155 = .ok (.aload_n 0, 1) := dk_42 (dk_at dksX0_init_6 17 rfl rfl)
theorem dX0_init_156 : decode cX0_init 156 = .ok (.new 83, 3) := dk_187 0 83 (dk_at dksX0_init_6 18 rfl rfl)
theorem dX0_init_159 : decode cX0_init 159 = .ok (.dup, 1) := dk_89 (dk_at dksX0_init_6 21 rfl rfl)
theorem dX0_init_160 : decode cX0_init 160 = .ok (.invokespecial 85, 3) := dk_183 0 85 (dk_at dksX0_init_7 0 rfl rfl)
theorem dX0_init_163 : decode cX0_init 163 = .ok (.putfield 86, 3) := dk_181 0 86 (dk_at dksX0_init_7 3 rfl rfl)
theorem dX0_init_166 : decode cX0_init 166 = .ok (.aload_n 0, 1) := dk_42 (dk_at dksX0_init_7 6 rfl rfl)
theorem dX0_init_167 : decode cX0_init 167 = .ok (.getfield 33, 3) := dk_180 0 33 (dk_at dksX0_init_7 7 rfl rfl)
theorem dX0_init_170 : decode cX0_init 170 = .ok (.iconst 1, 1) := dk_4 (dk_at dksX0_init_7 10 rfl rfl)
theorem dX0_init_171 : decode cX0_init 171 = .ok (.putfield 90, 3) := dk_181 0 90 (dk_at dksX0_init_7 11 rfl rfl)
theorem dX0_init_174 : decode cX0_init 174 = .ok (.aload_n 0, 1) := dk_42 (dk_at dksX0_init_7 14 rfl rfl)
theorem dX0_init_175 : decode cX0_init 175 = .ok (.getfield 33, 3) := dk_180 0 33 (dk_at dksX0_init_7 15 rfl rfl)
theorem dX0_init_178 : decode cX0_init 178 = .ok (.getfield 94, 3) := dk_180 0 94 (dk_at dksX0_init_7 18 rfl rfl)
theorem dX0_init_181 : decode cX0_init 181 = .ok (.astore_n 1, 1) := dk_76 (dk_at dksX0_init_7 21 rfl rfl)
theorem dX0_init_182 : decode cX0_init 182 = .ok (.aload_n 1, 1) := dk_43 (dk_at dksX0_init_7 22 rfl rfl)
theorem dX0_init_183 : decode cX0_init 183 = .ok (.arraylength, 1) := dk_190 (dk_at dksX0_init_7 23 rfl rfl)
theorem dX0_init_184 : decode cX0_init 184 = .ok (.istore_n 2, 1) := dk_61 (dk_at dksX0_init_8 0 rfl rfl)
theorem dX0_init_185 : decode cX0_init 185 = .ok (.iconst 0, 1) := dk_3 (dk_at dksX0_init_8 1 rfl rfl)
theorem dX0_init_186 : decode cX0_init 186 = .ok (.istore_n 3, 1) := dk_62 (dk_at dksX0_init_8 2 rfl rfl)
theorem dX0_init_187 : decode cX0_init 187 = .ok (.iload_n 3, 1) := dk_29 (dk_at dksX0_init_8 3 rfl rfl)
theorem dX0_init_188 : decode cX0_init 188 = .ok (.iload_n 2, 1) := dk_28 (dk_at dksX0_init_8 4 rfl rfl)
theorem dX0_init_189 : decode cX0_init 189 = .ok (.if_icmp .ge 20, 3) := dk_162 0 20 (dk_at dksX0_init_8 5 rfl rfl)
theorem dX0_init_192 : decode cX0_init 192 = .ok (.aload_n 1, 1) := dk_43 (dk_at dksX0_init_8 8 rfl rfl)
theorem dX0_init_193 : decode cX0_init 193 = .ok (.iload_n 3, 1) := dk_29 (dk_at dksX0_init_8 9 rfl rfl)
theorem dX0_init_194 : decode cX0_init 194 = .ok (.aaload, 1) := dk_50 (dk_at dksX0_init_8 10 rfl rfl)
theorem dX0_init_195 : decode cX0_init 195 = .ok (.astore 4, 2) := dk_58 4 (dk_at dksX0_init_8 11 rfl rfl)
theorem dX0_init_197 : decode cX0_init 197 = .ok (.aload 4, 2) := dk_25 4 (dk_at dksX0_init_8 13 rfl rfl)
theorem dX0_init_199 : decode cX0_init 199 = .ok (.iconst (-1), 1) := dk_2 (dk_at dksX0_init_8 15 rfl rfl)
theorem dX0_init_200 : decode cX0_init 200 = .ok (.putfield 98, 3) := dk_181 0 98 (dk_at dksX0_init_8 16 rfl rfl)
theorem dX0_init_203 : decode cX0_init 203 = .ok (.iinc 3 1, 3) := dk_132 3 1 (dk_at dksX0_init_8 19 rfl rfl)
theorem dX0_init_206 : decode cX0_init 206 = .ok (.goto (-19), 3) := dk_167 255 237 (dk_at dksX0_init_9 0 rfl rfl)
theorem dX0_init_209 : decode cX0_init 209 = .ok (.return_, 1) := dk_177 (dk_at dksX0_init_9 3 rfl rfl)
abbrev cX0_person : ByteArray := prog_1_method_10_code
def yX0_person : MethodName := ⟨RX0, "person", "(III)Z"⟩
def dkwX0_person_3 : List UInt8 := [181, 0, 114, 42, 180, 0, 33, 180, 0, 117, 27, 50, 27, 181, 0, 121, 4, 172]
abbrev dktX0_person_3 : List UInt8 := dkwX0_person_3 ++ []
def dkwX0_person_2 : List UInt8 := [180, 0, 94, 27, 50, 58, 4, 25, 4, 4, 181, 0, 107, 25, 4, 28, 181, 0, 111, 25, 4, 29]
abbrev dktX0_person_2 : List UInt8 := dkwX0_person_2 ++ dktX0_person_3
def dkwX0_person_1 : List UInt8 := [28, 5, 184, 0, 103, 153, 0, 12, 29, 16, 6, 184, 0, 103, 154, 0, 5, 3, 172, 42, 180, 0, 33]
abbrev dktX0_person_1 : List UInt8 := dkwX0_person_1 ++ dktX0_person_2
def dkwX0_person_0 : List UInt8 := [27, 16, 12, 184, 0, 103, 153, 0, 35, 42, 180, 0, 33, 180, 0, 94, 27, 50, 180, 0, 107, 154, 0, 20]
abbrev dktX0_person_0 : List UInt8 := dkwX0_person_0 ++ dktX0_person_1
theorem dksX0_person_0 : cX0_person.data.toList.drop 0 = dktX0_person_0 := by decide +kernel
theorem dksX0_person_1 : cX0_person.data.toList.drop 24 = dktX0_person_1 := dk_seg dksX0_person_0 24 rfl rfl
theorem dksX0_person_2 : cX0_person.data.toList.drop 47 = dktX0_person_2 := dk_seg dksX0_person_1 23 rfl rfl
theorem dksX0_person_3 : cX0_person.data.toList.drop 69 = dktX0_person_3 := dk_seg dksX0_person_2 22 rfl rfl
theorem dX0_person_0 : decode cX0_person 0 = .ok (.iload_n 1, 1) := dk_27 (dk_at dksX0_person_0 0 rfl rfl)
theorem dX0_person_1 : decode cX0_person 1 = .ok (.bipush 12, 2) := dk_16 12 (dk_at dksX0_person_0 1 rfl rfl)
theorem dX0_person_3 : decode cX0_person 3 = .ok (.invokestatic 103, 3) := dk_184 0 103 (dk_at dksX0_person_0 3 rfl rfl)
theorem dX0_person_6 : decode cX0_person 6 = .ok (.ifCond .eq 35, 3) := dk_153 0 35 (dk_at dksX0_person_0 6 rfl rfl)
theorem dX0_person_9 : decode cX0_person 9 = .ok (.aload_n 0, 1) := dk_42 (dk_at dksX0_person_0 9 rfl rfl)
theorem dX0_person_10 : decode cX0_person 10 = .ok (.getfield 33, 3) := dk_180 0 33 (dk_at dksX0_person_0 10 rfl rfl)
theorem dX0_person_13 : decode cX0_person 13 = .ok (.getfield 94, 3) := dk_180 0 94 (dk_at dksX0_person_0 13 rfl rfl)
theorem dX0_person_16 : decode cX0_person 16 = .ok (.iload_n 1, 1) := dk_27 (dk_at dksX0_person_0 16 rfl rfl)
theorem dX0_person_17 : decode cX0_person 17 = .ok (.aaload, 1) := dk_50 (dk_at dksX0_person_0 17 rfl rfl)
theorem dX0_person_18 : decode cX0_person 18 = .ok (.getfield 107, 3) := dk_180 0 107 (dk_at dksX0_person_0 18 rfl rfl)
theorem dX0_person_21 : decode cX0_person 21 = .ok (.ifCond .ne 20, 3) := dk_154 0 20 (dk_at dksX0_person_0 21 rfl rfl)
theorem dX0_person_24 : decode cX0_person 24 = .ok (.iload_n 2, 1) := dk_28 (dk_at dksX0_person_1 0 rfl rfl)
theorem dX0_person_25 : decode cX0_person 25 = .ok (.iconst 2, 1) := dk_5 (dk_at dksX0_person_1 1 rfl rfl)
theorem dX0_person_26 : decode cX0_person 26 = .ok (.invokestatic 103, 3) := dk_184 0 103 (dk_at dksX0_person_1 2 rfl rfl)
theorem dX0_person_29 : decode cX0_person 29 = .ok (.ifCond .eq 12, 3) := dk_153 0 12 (dk_at dksX0_person_1 5 rfl rfl)
theorem dX0_person_32 : decode cX0_person 32 = .ok (.iload_n 3, 1) := dk_29 (dk_at dksX0_person_1 8 rfl rfl)
theorem dX0_person_33 : decode cX0_person 33 = .ok (.bipush 6, 2) := dk_16 6 (dk_at dksX0_person_1 9 rfl rfl)
theorem dX0_person_35 : decode cX0_person 35 = .ok (.invokestatic 103, 3) := dk_184 0 103 (dk_at dksX0_person_1 11 rfl rfl)
theorem dX0_person_38 : decode cX0_person 38 = .ok (.ifCond .ne 5, 3) := dk_154 0 5 (dk_at dksX0_person_1 14 rfl rfl)
theorem dX0_person_41 : decode cX0_person 41 = .ok (.iconst 0, 1) := dk_3 (dk_at dksX0_person_1 17 rfl rfl)
theorem dX0_person_42 : decode cX0_person 42 = .ok (.ireturn, 1) := dk_172 (dk_at dksX0_person_1 18 rfl rfl)
theorem dX0_person_43 : decode cX0_person 43 = .ok (.aload_n 0, 1) := dk_42 (dk_at dksX0_person_1 19 rfl rfl)
theorem dX0_person_44 : decode cX0_person 44 = .ok (.getfield 33, 3) := dk_180 0 33 (dk_at dksX0_person_1 20 rfl rfl)
theorem dX0_person_47 : decode cX0_person 47 = .ok (.getfield 94, 3) := dk_180 0 94 (dk_at dksX0_person_2 0 rfl rfl)
theorem dX0_person_50 : decode cX0_person 50 = .ok (.iload_n 1, 1) := dk_27 (dk_at dksX0_person_2 3 rfl rfl)
theorem dX0_person_51 : decode cX0_person 51 = .ok (.aaload, 1) := dk_50 (dk_at dksX0_person_2 4 rfl rfl)
theorem dX0_person_52 : decode cX0_person 52 = .ok (.astore 4, 2) := dk_58 4 (dk_at dksX0_person_2 5 rfl rfl)
theorem dX0_person_54 : decode cX0_person 54 = .ok (.aload 4, 2) := dk_25 4 (dk_at dksX0_person_2 7 rfl rfl)
theorem dX0_person_56 : decode cX0_person 56 = .ok (.iconst 1, 1) := dk_4 (dk_at dksX0_person_2 9 rfl rfl)
theorem dX0_person_57 : decode cX0_person 57 = .ok (.putfield 107, 3) := dk_181 0 107 (dk_at dksX0_person_2 10 rfl rfl)
theorem dX0_person_60 : decode cX0_person 60 = .ok (.aload 4, 2) := dk_25 4 (dk_at dksX0_person_2 13 rfl rfl)
theorem dX0_person_62 : decode cX0_person 62 = .ok (.iload_n 2, 1) := dk_28 (dk_at dksX0_person_2 15 rfl rfl)
theorem dX0_person_63 : decode cX0_person 63 = .ok (.putfield 111, 3) := dk_181 0 111 (dk_at dksX0_person_2 16 rfl rfl)
theorem dX0_person_66 : decode cX0_person 66 = .ok (.aload 4, 2) := dk_25 4 (dk_at dksX0_person_2 19 rfl rfl)
theorem dX0_person_68 : decode cX0_person 68 = .ok (.iload_n 3, 1) := dk_29 (dk_at dksX0_person_2 21 rfl rfl)
theorem dX0_person_69 : decode cX0_person 69 = .ok (.putfield 114, 3) := dk_181 0 114 (dk_at dksX0_person_3 0 rfl rfl)
theorem dX0_person_72 : decode cX0_person 72 = .ok (.aload_n 0, 1) := dk_42 (dk_at dksX0_person_3 3 rfl rfl)
theorem dX0_person_73 : decode cX0_person 73 = .ok (.getfield 33, 3) := dk_180 0 33 (dk_at dksX0_person_3 4 rfl rfl)
theorem dX0_person_76 : decode cX0_person 76 = .ok (.getfield 117, 3) := dk_180 0 117 (dk_at dksX0_person_3 7 rfl rfl)
theorem dX0_person_79 : decode cX0_person 79 = .ok (.iload_n 1, 1) := dk_27 (dk_at dksX0_person_3 10 rfl rfl)
theorem dX0_person_80 : decode cX0_person 80 = .ok (.aaload, 1) := dk_50 (dk_at dksX0_person_3 11 rfl rfl)
theorem dX0_person_81 : decode cX0_person 81 = .ok (.iload_n 1, 1) := dk_27 (dk_at dksX0_person_3 12 rfl rfl)
theorem dX0_person_82 : decode cX0_person 82 = .ok (.putfield 121, 3) := dk_181 0 121 (dk_at dksX0_person_3 13 rfl rfl)
theorem dX0_person_85 : decode cX0_person 85 = .ok (.iconst 1, 1) := dk_4 (dk_at dksX0_person_3 16 rfl rfl)
theorem dX0_person_86 : decode cX0_person 86 = .ok (.ireturn, 1) := dk_172 (dk_at dksX0_person_3 17 rfl rfl)
abbrev cX0_in : ByteArray := prog_1_method_1_code
def yX0_in : MethodName := ⟨RX0, "in", "(II)Z"⟩
def dkwX0_in_0 : List UInt8 := [26, 155, 0, 12, 26, 27, 162, 0, 7, 4, 167, 0, 4, 3, 172]
abbrev dktX0_in_0 : List UInt8 := dkwX0_in_0 ++ []
theorem dksX0_in_0 : cX0_in.data.toList.drop 0 = dktX0_in_0 := by decide +kernel
theorem dX0_in_0 : decode cX0_in 0 = .ok (.iload_n 0, 1) := dk_26 (dk_at dksX0_in_0 0 rfl rfl)
theorem dX0_in_1 : decode cX0_in 1 = .ok (.ifCond .lt 12, 3) := dk_155 0 12 (dk_at dksX0_in_0 1 rfl rfl)
theorem dX0_in_4 : decode cX0_in 4 = .ok (.iload_n 0, 1) := dk_26 (dk_at dksX0_in_0 4 rfl rfl)
theorem dX0_in_5 : decode cX0_in 5 = .ok (.iload_n 1, 1) := dk_27 (dk_at dksX0_in_0 5 rfl rfl)
theorem dX0_in_6 : decode cX0_in 6 = .ok (.if_icmp .ge 7, 3) := dk_162 0 7 (dk_at dksX0_in_0 6 rfl rfl)
theorem dX0_in_9 : decode cX0_in 9 = .ok (.iconst 1, 1) := dk_4 (dk_at dksX0_in_0 9 rfl rfl)
theorem dX0_in_10 : decode cX0_in 10 = .ok (.goto 4, 3) := dk_167 0 4 (dk_at dksX0_in_0 10 rfl rfl)
theorem dX0_in_13 : decode cX0_in 13 = .ok (.iconst 0, 1) := dk_3 (dk_at dksX0_in_0 13 rfl rfl)
theorem dX0_in_14 : decode cX0_in 14 = .ok (.ireturn, 1) := dk_172 (dk_at dksX0_in_0 14 rfl rfl)
abbrev cX0_wear : ByteArray := prog_1_method_11_code
def yX0_wear : MethodName := ⟨RX0, "wear", "(II)Z"⟩
def dkwX0_wear_1 : List UInt8 := [180, 0, 117, 27, 50, 28, 181, 0, 132, 4, 172]
abbrev dktX0_wear_1 : List UInt8 := dkwX0_wear_1 ++ []
def dkwX0_wear_0 : List UInt8 := [27, 184, 0, 124, 153, 0, 13, 28, 3, 16, 99, 184, 0, 128, 154, 0, 5, 3, 172, 42, 180, 0, 33]
abbrev dktX0_wear_0 : List UInt8 := dkwX0_wear_0 ++ dktX0_wear_1
theorem dksX0_wear_0 : cX0_wear.data.toList.drop 0 = dktX0_wear_0 := by decide +kernel
theorem dksX0_wear_1 : cX0_wear.data.toList.drop 23 = dktX0_wear_1 := dk_seg dksX0_wear_0 23 rfl rfl
theorem dX0_wear_0 : decode cX0_wear 0 = .ok (.iload_n 1, 1) := dk_27 (dk_at dksX0_wear_0 0 rfl rfl)
theorem dX0_wear_1 : decode cX0_wear 1 = .ok (.invokestatic 124, 3) := dk_184 0 124 (dk_at dksX0_wear_0 1 rfl rfl)
theorem dX0_wear_4 : decode cX0_wear 4 = .ok (.ifCond .eq 13, 3) := dk_153 0 13 (dk_at dksX0_wear_0 4 rfl rfl)
theorem dX0_wear_7 : decode cX0_wear 7 = .ok (.iload_n 2, 1) := dk_28 (dk_at dksX0_wear_0 7 rfl rfl)
theorem dX0_wear_8 : decode cX0_wear 8 = .ok (.iconst 0, 1) := dk_3 (dk_at dksX0_wear_0 8 rfl rfl)
theorem dX0_wear_9 : decode cX0_wear 9 = .ok (.bipush 99, 2) := dk_16 99 (dk_at dksX0_wear_0 9 rfl rfl)
theorem dX0_wear_11 : decode cX0_wear 11 = .ok (.invokestatic 128, 3) := dk_184 0 128 (dk_at dksX0_wear_0 11 rfl rfl)
theorem dX0_wear_14 : decode cX0_wear 14 = .ok (.ifCond .ne 5, 3) := dk_154 0 5 (dk_at dksX0_wear_0 14 rfl rfl)
theorem dX0_wear_17 : decode cX0_wear 17 = .ok (.iconst 0, 1) := dk_3 (dk_at dksX0_wear_0 17 rfl rfl)
theorem dX0_wear_18 : decode cX0_wear 18 = .ok (.ireturn, 1) := dk_172 (dk_at dksX0_wear_0 18 rfl rfl)
theorem dX0_wear_19 : decode cX0_wear 19 = .ok (.aload_n 0, 1) := dk_42 (dk_at dksX0_wear_0 19 rfl rfl)
theorem dX0_wear_20 : decode cX0_wear 20 = .ok (.getfield 33, 3) := dk_180 0 33 (dk_at dksX0_wear_0 20 rfl rfl)
theorem dX0_wear_23 : decode cX0_wear 23 = .ok (.getfield 117, 3) := dk_180 0 117 (dk_at dksX0_wear_1 0 rfl rfl)
theorem dX0_wear_26 : decode cX0_wear 26 = .ok (.iload_n 1, 1) := dk_27 (dk_at dksX0_wear_1 3 rfl rfl)
theorem dX0_wear_27 : decode cX0_wear 27 = .ok (.aaload, 1) := dk_50 (dk_at dksX0_wear_1 4 rfl rfl)
theorem dX0_wear_28 : decode cX0_wear 28 = .ok (.iload_n 2, 1) := dk_28 (dk_at dksX0_wear_1 5 rfl rfl)
theorem dX0_wear_29 : decode cX0_wear 29 = .ok (.putfield 132, 3) := dk_181 0 132 (dk_at dksX0_wear_1 6 rfl rfl)
theorem dX0_wear_32 : decode cX0_wear 32 = .ok (.iconst 1, 1) := dk_4 (dk_at dksX0_wear_1 9 rfl rfl)
theorem dX0_wear_33 : decode cX0_wear 33 = .ok (.ireturn, 1) := dk_172 (dk_at dksX0_wear_1 10 rfl rfl)
abbrev cX0_isPiece : ByteArray := prog_1_method_9_code
def yX0_isPiece : MethodName := ⟨RX0, "isPiece", "(I)Z"⟩
def dkwX0_isPiece_0 : List UInt8 := [26, 16, 12, 184, 0, 103, 172]
abbrev dktX0_isPiece_0 : List UInt8 := dkwX0_isPiece_0 ++ []
theorem dksX0_isPiece_0 : cX0_isPiece.data.toList.drop 0 = dktX0_isPiece_0 := by decide +kernel
theorem dX0_isPiece_0 : decode cX0_isPiece 0 = .ok (.iload_n 0, 1) := dk_26 (dk_at dksX0_isPiece_0 0 rfl rfl)
theorem dX0_isPiece_1 : decode cX0_isPiece 1 = .ok (.bipush 12, 2) := dk_16 12 (dk_at dksX0_isPiece_0 1 rfl rfl)
theorem dX0_isPiece_3 : decode cX0_isPiece 3 = .ok (.invokestatic 103, 3) := dk_184 0 103 (dk_at dksX0_isPiece_0 3 rfl rfl)
theorem dX0_isPiece_6 : decode cX0_isPiece 6 = .ok (.ireturn, 1) := dk_172 (dk_at dksX0_isPiece_0 6 rfl rfl)
abbrev cX0_within : ByteArray := prog_1_method_2_code
def yX0_within : MethodName := ⟨RX0, "within", "(III)Z"⟩
def dkwX0_within_0 : List UInt8 := [26, 27, 161, 0, 12, 26, 28, 163, 0, 7, 4, 167, 0, 4, 3, 172]
abbrev dktX0_within_0 : List UInt8 := dkwX0_within_0 ++ []
theorem dksX0_within_0 : cX0_within.data.toList.drop 0 = dktX0_within_0 := by decide +kernel
theorem dX0_within_0 : decode cX0_within 0 = .ok (.iload_n 0, 1) := dk_26 (dk_at dksX0_within_0 0 rfl rfl)
theorem dX0_within_1 : decode cX0_within 1 = .ok (.iload_n 1, 1) := dk_27 (dk_at dksX0_within_0 1 rfl rfl)
theorem dX0_within_2 : decode cX0_within 2 = .ok (.if_icmp .lt 12, 3) := dk_161 0 12 (dk_at dksX0_within_0 2 rfl rfl)
theorem dX0_within_5 : decode cX0_within 5 = .ok (.iload_n 0, 1) := dk_26 (dk_at dksX0_within_0 5 rfl rfl)
theorem dX0_within_6 : decode cX0_within 6 = .ok (.iload_n 2, 1) := dk_28 (dk_at dksX0_within_0 6 rfl rfl)
theorem dX0_within_7 : decode cX0_within 7 = .ok (.if_icmp .gt 7, 3) := dk_163 0 7 (dk_at dksX0_within_0 7 rfl rfl)
theorem dX0_within_10 : decode cX0_within 10 = .ok (.iconst 1, 1) := dk_4 (dk_at dksX0_within_0 10 rfl rfl)
theorem dX0_within_11 : decode cX0_within 11 = .ok (.goto 4, 3) := dk_167 0 4 (dk_at dksX0_within_0 11 rfl rfl)
theorem dX0_within_14 : decode cX0_within 14 = .ok (.iconst 0, 1) := dk_3 (dk_at dksX0_within_0 14 rfl rfl)
theorem dX0_within_15 : decode cX0_within 15 = .ok (.ireturn, 1) := dk_172 (dk_at dksX0_within_0 15 rfl rfl)
abbrev cX0_dies : ByteArray := prog_1_method_12_code
def yX0_dies : MethodName := ⟨RX0, "dies", "(I)Z"⟩
def dkwX0_dies_0 : List UInt8 := [42, 180, 0, 33, 27, 182, 0, 135, 154, 0, 5, 3, 172, 42, 180, 0, 33, 27, 182, 0, 138, 4, 172]
abbrev dktX0_dies_0 : List UInt8 := dkwX0_dies_0 ++ []
theorem dksX0_dies_0 : cX0_dies.data.toList.drop 0 = dktX0_dies_0 := by decide +kernel
theorem dX0_dies_0 : decode cX0_dies 0 = .ok (.aload_n 0, 1) := dk_42 (dk_at dksX0_dies_0 0 rfl rfl)
theorem dX0_dies_1 : decode cX0_dies 1 = .ok (.getfield 33, 3) := dk_180 0 33 (dk_at dksX0_dies_0 1 rfl rfl)
theorem dX0_dies_4 : decode cX0_dies 4 = .ok (.iload_n 1, 1) := dk_27 (dk_at dksX0_dies_0 4 rfl rfl)
theorem dX0_dies_5 : decode cX0_dies 5 = .ok (.invokevirtual 135, 3) := dk_182 0 135 (dk_at dksX0_dies_0 5 rfl rfl)
theorem dX0_dies_8 : decode cX0_dies 8 = .ok (.ifCond .ne 5, 3) := dk_154 0 5 (dk_at dksX0_dies_0 8 rfl rfl)
theorem dX0_dies_11 : decode cX0_dies 11 = .ok (.iconst 0, 1) := dk_3 (dk_at dksX0_dies_0 11 rfl rfl)
theorem dX0_dies_12 : decode cX0_dies 12 = .ok (.ireturn, 1) := dk_172 (dk_at dksX0_dies_0 12 rfl rfl)
theorem dX0_dies_13 : decode cX0_dies 13 = .ok (.aload_n 0, 1) := dk_42 (dk_at dksX0_dies_0 13 rfl rfl)
theorem dX0_dies_14 : decode cX0_dies 14 = .ok (.getfield 33, 3) := dk_180 0 33 (dk_at dksX0_dies_0 14 rfl rfl)
theorem dX0_dies_17 : decode cX0_dies 17 = .ok (.iload_n 1, 1) := dk_27 (dk_at dksX0_dies_0 17 rfl rfl)
theorem dX0_dies_18 : decode cX0_dies 18 = .ok (.invokevirtual 138, 3) := dk_182 0 138 (dk_at dksX0_dies_0 18 rfl rfl)
theorem dX0_dies_21 : decode cX0_dies 21 = .ok (.iconst 1, 1) := dk_4 (dk_at dksX0_dies_0 21 rfl rfl)
theorem dX0_dies_22 : decode cX0_dies 22 = .ok (.ireturn, 1) := dk_172 (dk_at dksX0_dies_0 22 rfl rfl)
abbrev cX0_weds : ByteArray := prog_1_method_13_code
def yX0_weds : MethodName := ⟨RX0, "weds", "(II)Z"⟩
def dkwX0_weds_4 : List UInt8 := [182, 0, 146, 4, 172]
abbrev dktX0_weds_4 : List UInt8 := dkwX0_weds_4 ++ []
def dkwX0_weds_3 : List UInt8 := [180, 0, 33, 180, 0, 94, 28, 50, 180, 0, 111, 4, 159, 0, 5, 3, 172, 42, 180, 0, 33, 27, 28]
abbrev dktX0_weds_3 : List UInt8 := dkwX0_weds_3 ++ dktX0_weds_4
def dkwX0_weds_2 : List UInt8 := [182, 0, 142, 153, 0, 34, 42, 180, 0, 33, 180, 0, 94, 27, 50, 180, 0, 111, 154, 0, 19, 42]
abbrev dktX0_weds_2 : List UInt8 := dkwX0_weds_2 ++ dktX0_weds_3
def dkwX0_weds_1 : List UInt8 := [180, 0, 33, 180, 0, 94, 27, 50, 182, 0, 142, 153, 0, 49, 42, 180, 0, 33, 180, 0, 94, 28, 50]
abbrev dktX0_weds_1 : List UInt8 := dkwX0_weds_1 ++ dktX0_weds_2
def dkwX0_weds_0 : List UInt8 := [42, 180, 0, 33, 27, 182, 0, 135, 153, 0, 75, 42, 180, 0, 33, 28, 182, 0, 135, 153, 0, 64, 42]
abbrev dktX0_weds_0 : List UInt8 := dkwX0_weds_0 ++ dktX0_weds_1
theorem dksX0_weds_0 : cX0_weds.data.toList.drop 0 = dktX0_weds_0 := by decide +kernel
theorem dksX0_weds_1 : cX0_weds.data.toList.drop 23 = dktX0_weds_1 := dk_seg dksX0_weds_0 23 rfl rfl
theorem dksX0_weds_2 : cX0_weds.data.toList.drop 46 = dktX0_weds_2 := dk_seg dksX0_weds_1 23 rfl rfl
theorem dksX0_weds_3 : cX0_weds.data.toList.drop 68 = dktX0_weds_3 := dk_seg dksX0_weds_2 22 rfl rfl
theorem dksX0_weds_4 : cX0_weds.data.toList.drop 91 = dktX0_weds_4 := dk_seg dksX0_weds_3 23 rfl rfl
theorem dX0_weds_0 : decode cX0_weds 0 = .ok (.aload_n 0, 1) := dk_42 (dk_at dksX0_weds_0 0 rfl rfl)
theorem dX0_weds_1 : decode cX0_weds 1 = .ok (.getfield 33, 3) := dk_180 0 33 (dk_at dksX0_weds_0 1 rfl rfl)
theorem dX0_weds_4 : decode cX0_weds 4 = .ok (.iload_n 1, 1) := dk_27 (dk_at dksX0_weds_0 4 rfl rfl)
theorem dX0_weds_5 : decode cX0_weds 5 = .ok (.invokevirtual 135, 3) := dk_182 0 135 (dk_at dksX0_weds_0 5 rfl rfl)
theorem dX0_weds_8 : decode cX0_weds 8 = .ok (.ifCond .eq 75, 3) := dk_153 0 75 (dk_at dksX0_weds_0 8 rfl rfl)
theorem dX0_weds_11 : decode cX0_weds 11 = .ok (.aload_n 0, 1) := dk_42 (dk_at dksX0_weds_0 11 rfl rfl)
theorem dX0_weds_12 : decode cX0_weds 12 = .ok (.getfield 33, 3) := dk_180 0 33 (dk_at dksX0_weds_0 12 rfl rfl)
theorem dX0_weds_15 : decode cX0_weds 15 = .ok (.iload_n 2, 1) := dk_28 (dk_at dksX0_weds_0 15 rfl rfl)
theorem dX0_weds_16 : decode cX0_weds 16 = .ok (.invokevirtual 135, 3) := dk_182 0 135 (dk_at dksX0_weds_0 16 rfl rfl)
theorem dX0_weds_19 : decode cX0_weds 19 = .ok (.ifCond .eq 64, 3) := dk_153 0 64 (dk_at dksX0_weds_0 19 rfl rfl)
theorem dX0_weds_22 : decode cX0_weds 22 = .ok (.aload_n 0, 1) := dk_42 (dk_at dksX0_weds_0 22 rfl rfl)
theorem dX0_weds_23 : decode cX0_weds 23 = .ok (.getfield 33, 3) := dk_180 0 33 (dk_at dksX0_weds_1 0 rfl rfl)
theorem dX0_weds_26 : decode cX0_weds 26 = .ok (.getfield 94, 3) := dk_180 0 94 (dk_at dksX0_weds_1 3 rfl rfl)
theorem dX0_weds_29 : decode cX0_weds 29 = .ok (.iload_n 1, 1) := dk_27 (dk_at dksX0_weds_1 6 rfl rfl)
theorem dX0_weds_30 : decode cX0_weds 30 = .ok (.aaload, 1) := dk_50 (dk_at dksX0_weds_1 7 rfl rfl)
theorem dX0_weds_31 : decode cX0_weds 31 = .ok (.invokevirtual 142, 3) := dk_182 0 142 (dk_at dksX0_weds_1 8 rfl rfl)
theorem dX0_weds_34 : decode cX0_weds 34 = .ok (.ifCond .eq 49, 3) := dk_153 0 49 (dk_at dksX0_weds_1 11 rfl rfl)
theorem dX0_weds_37 : decode cX0_weds 37 = .ok (.aload_n 0, 1) := dk_42 (dk_at dksX0_weds_1 14 rfl rfl)
theorem dX0_weds_38 : decode cX0_weds 38 = .ok (.getfield 33, 3) := dk_180 0 33 (dk_at dksX0_weds_1 15 rfl rfl)
theorem dX0_weds_41 : decode cX0_weds 41 = .ok (.getfield 94, 3) := dk_180 0 94 (dk_at dksX0_weds_1 18 rfl rfl)
theorem dX0_weds_44 : decode cX0_weds 44 = .ok (.iload_n 2, 1) := dk_28 (dk_at dksX0_weds_1 21 rfl rfl)
theorem dX0_weds_45 : decode cX0_weds 45 = .ok (.aaload, 1) := dk_50 (dk_at dksX0_weds_1 22 rfl rfl)
theorem dX0_weds_46 : decode cX0_weds 46 = .ok (.invokevirtual 142, 3) := dk_182 0 142 (dk_at dksX0_weds_2 0 rfl rfl)
theorem dX0_weds_49 : decode cX0_weds 49 = .ok (.ifCond .eq 34, 3) := dk_153 0 34 (dk_at dksX0_weds_2 3 rfl rfl)
theorem dX0_weds_52 : decode cX0_weds 52 = .ok (.aload_n 0, 1) := dk_42 (dk_at dksX0_weds_2 6 rfl rfl)
theorem dX0_weds_53 : decode cX0_weds 53 = .ok (.getfield 33, 3) := dk_180 0 33 (dk_at dksX0_weds_2 7 rfl rfl)
theorem dX0_weds_56 : decode cX0_weds 56 = .ok (.getfield 94, 3) := dk_180 0 94 (dk_at dksX0_weds_2 10 rfl rfl)
theorem dX0_weds_59 : decode cX0_weds 59 = .ok (.iload_n 1, 1) := dk_27 (dk_at dksX0_weds_2 13 rfl rfl)
theorem dX0_weds_60 : decode cX0_weds 60 = .ok (.aaload, 1) := dk_50 (dk_at dksX0_weds_2 14 rfl rfl)
theorem dX0_weds_61 : decode cX0_weds 61 = .ok (.getfield 111, 3) := dk_180 0 111 (dk_at dksX0_weds_2 15 rfl rfl)
theorem dX0_weds_64 : decode cX0_weds 64 = .ok (.ifCond .ne 19, 3) := dk_154 0 19 (dk_at dksX0_weds_2 18 rfl rfl)
theorem dX0_weds_67 : decode cX0_weds 67 = .ok (.aload_n 0, 1) := dk_42 (dk_at dksX0_weds_2 21 rfl rfl)
theorem dX0_weds_68 : decode cX0_weds 68 = .ok (.getfield 33, 3) := dk_180 0 33 (dk_at dksX0_weds_3 0 rfl rfl)
theorem dX0_weds_71 : decode cX0_weds 71 = .ok (.getfield 94, 3) := dk_180 0 94 (dk_at dksX0_weds_3 3 rfl rfl)
theorem dX0_weds_74 : decode cX0_weds 74 = .ok (.iload_n 2, 1) := dk_28 (dk_at dksX0_weds_3 6 rfl rfl)
theorem dX0_weds_75 : decode cX0_weds 75 = .ok (.aaload, 1) := dk_50 (dk_at dksX0_weds_3 7 rfl rfl)
theorem dX0_weds_76 : decode cX0_weds 76 = .ok (.getfield 111, 3) := dk_180 0 111 (dk_at dksX0_weds_3 8 rfl rfl)
theorem dX0_weds_79 : decode cX0_weds 79 = .ok (.iconst 1, 1) := dk_4 (dk_at dksX0_weds_3 11 rfl rfl)
theorem dX0_weds_80 : decode cX0_weds 80 = .ok (.if_icmp .eq 5, 3) := dk_159 0 5 (dk_at dksX0_weds_3 12 rfl rfl)
theorem dX0_weds_83 : decode cX0_weds 83 = .ok (.iconst 0, 1) := dk_3 (dk_at dksX0_weds_3 15 rfl rfl)
theorem dX0_weds_84 : decode cX0_weds 84 = .ok (.ireturn, 1) := dk_172 (dk_at dksX0_weds_3 16 rfl rfl)
theorem dX0_weds_85 : decode cX0_weds 85 = .ok (.aload_n 0, 1) := dk_42 (dk_at dksX0_weds_3 17 rfl rfl)
theorem dX0_weds_86 : decode cX0_weds 86 = .ok (.getfield 33, 3) := dk_180 0 33 (dk_at dksX0_weds_3 18 rfl rfl)
theorem dX0_weds_89 : decode cX0_weds 89 = .ok (.iload_n 1, 1) := dk_27 (dk_at dksX0_weds_3 21 rfl rfl)
theorem dX0_weds_90 : decode cX0_weds 90 = .ok (.iload_n 2, 1) := dk_28 (dk_at dksX0_weds_3 22 rfl rfl)
theorem dX0_weds_91 : decode cX0_weds 91 = .ok (.invokevirtual 146, 3) := dk_182 0 146 (dk_at dksX0_weds_4 0 rfl rfl)
theorem dX0_weds_94 : decode cX0_weds 94 = .ok (.iconst 1, 1) := dk_4 (dk_at dksX0_weds_4 3 rfl rfl)
theorem dX0_weds_95 : decode cX0_weds 95 = .ok (.ireturn, 1) := dk_172 (dk_at dksX0_weds_4 4 rfl rfl)
abbrev cX0_feed : ByteArray := prog_1_method_15_code
def yX0_feed : MethodName := ⟨RX0, "feed", "(IIIII)I"⟩
def dkwX0_feed_2 : List UInt8 := [172]
abbrev dktX0_feed_2 : List UInt8 := dkwX0_feed_2 ++ []
def dkwX0_feed_1 : List UInt8 := [182, 0, 152, 42, 29, 182, 0, 152, 42, 21, 4, 182, 0, 152, 42, 21, 5, 182, 0, 152, 42, 180, 0, 149]
abbrev dktX0_feed_1 : List UInt8 := dkwX0_feed_1 ++ dktX0_feed_2
def dkwX0_feed_0 : List UInt8 := [42, 180, 0, 149, 16, 20, 96, 17, 1, 4, 164, 0, 5, 2, 172, 42, 27, 182, 0, 152, 42, 28]
abbrev dktX0_feed_0 : List UInt8 := dkwX0_feed_0 ++ dktX0_feed_1
theorem dksX0_feed_0 : cX0_feed.data.toList.drop 0 = dktX0_feed_0 := by decide +kernel
theorem dksX0_feed_1 : cX0_feed.data.toList.drop 22 = dktX0_feed_1 := dk_seg dksX0_feed_0 22 rfl rfl
theorem dksX0_feed_2 : cX0_feed.data.toList.drop 46 = dktX0_feed_2 := dk_seg dksX0_feed_1 24 rfl rfl
theorem dX0_feed_0 : decode cX0_feed 0 = .ok (.aload_n 0, 1) := dk_42 (dk_at dksX0_feed_0 0 rfl rfl)
theorem dX0_feed_1 : decode cX0_feed 1 = .ok (.getfield 149, 3) := dk_180 0 149 (dk_at dksX0_feed_0 1 rfl rfl)
theorem dX0_feed_4 : decode cX0_feed 4 = .ok (.bipush 20, 2) := dk_16 20 (dk_at dksX0_feed_0 4 rfl rfl)
theorem dX0_feed_6 : decode cX0_feed 6 = .ok (.iadd, 1) := dk_96 (dk_at dksX0_feed_0 6 rfl rfl)
theorem dX0_feed_7 : decode cX0_feed 7 = .ok (.sipush 260, 3) := dk_17 1 4 (dk_at dksX0_feed_0 7 rfl rfl)
theorem dX0_feed_10 : decode cX0_feed 10 = .ok (.if_icmp .le 5, 3) := dk_164 0 5 (dk_at dksX0_feed_0 10 rfl rfl)
theorem dX0_feed_13 : decode cX0_feed 13 = .ok (.iconst (-1), 1) := dk_2 (dk_at dksX0_feed_0 13 rfl rfl)
theorem dX0_feed_14 : decode cX0_feed 14 = .ok (.ireturn, 1) := dk_172 (dk_at dksX0_feed_0 14 rfl rfl)
theorem dX0_feed_15 : decode cX0_feed 15 = .ok (.aload_n 0, 1) := dk_42 (dk_at dksX0_feed_0 15 rfl rfl)
theorem dX0_feed_16 : decode cX0_feed 16 = .ok (.iload_n 1, 1) := dk_27 (dk_at dksX0_feed_0 16 rfl rfl)
theorem dX0_feed_17 : decode cX0_feed 17 = .ok (.invokevirtual 152, 3) := dk_182 0 152 (dk_at dksX0_feed_0 17 rfl rfl)
theorem dX0_feed_20 : decode cX0_feed 20 = .ok (.aload_n 0, 1) := dk_42 (dk_at dksX0_feed_0 20 rfl rfl)
theorem dX0_feed_21 : decode cX0_feed 21 = .ok (.iload_n 2, 1) := dk_28 (dk_at dksX0_feed_0 21 rfl rfl)
theorem dX0_feed_22 : decode cX0_feed 22 = .ok (.invokevirtual 152, 3) := dk_182 0 152 (dk_at dksX0_feed_1 0 rfl rfl)
theorem dX0_feed_25 : decode cX0_feed 25 = .ok (.aload_n 0, 1) := dk_42 (dk_at dksX0_feed_1 3 rfl rfl)
theorem dX0_feed_26 : decode cX0_feed 26 = .ok (.iload_n 3, 1) := dk_29 (dk_at dksX0_feed_1 4 rfl rfl)
theorem dX0_feed_27 : decode cX0_feed 27 = .ok (.invokevirtual 152, 3) := dk_182 0 152 (dk_at dksX0_feed_1 5 rfl rfl)
theorem dX0_feed_30 : decode cX0_feed 30 = .ok (.aload_n 0, 1) := dk_42 (dk_at dksX0_feed_1 8 rfl rfl)
theorem dX0_feed_31 : decode cX0_feed 31 = .ok (.iload 4, 2) := dk_21 4 (dk_at dksX0_feed_1 9 rfl rfl)
theorem dX0_feed_33 : decode cX0_feed 33 = .ok (.invokevirtual 152, 3) := dk_182 0 152 (dk_at dksX0_feed_1 11 rfl rfl)
theorem dX0_feed_36 : decode cX0_feed 36 = .ok (.aload_n 0, 1) := dk_42 (dk_at dksX0_feed_1 14 rfl rfl)
theorem dX0_feed_37 : decode cX0_feed 37 = .ok (.iload 5, 2) := dk_21 5 (dk_at dksX0_feed_1 15 rfl rfl)
theorem dX0_feed_39 : decode cX0_feed 39 = .ok (.invokevirtual 152, 3) := dk_182 0 152 (dk_at dksX0_feed_1 17 rfl rfl)
theorem dX0_feed_42 : decode cX0_feed 42 = .ok (.aload_n 0, 1) := dk_42 (dk_at dksX0_feed_1 20 rfl rfl)
theorem dX0_feed_43 : decode cX0_feed 43 = .ok (.getfield 149, 3) := dk_180 0 149 (dk_at dksX0_feed_1 21 rfl rfl)
theorem dX0_feed_46 : decode cX0_feed 46 = .ok (.ireturn, 1) := dk_172 (dk_at dksX0_feed_2 0 rfl rfl)
abbrev cX0_push : ByteArray := prog_1_method_14_code
def yX0_push : MethodName := ⟨RX0, "push", "(I)V"⟩
def dkwX0_push_1 : List UInt8 := [180, 0, 149, 4, 96, 181, 0, 149, 132, 2, 248, 167, 255, 226, 177]
abbrev dktX0_push_1 : List UInt8 := dkwX0_push_1 ++ []
def dkwX0_push_0 : List UInt8 := [16, 24, 61, 28, 155, 0, 32, 42, 180, 0, 43, 42, 180, 0, 149, 27, 28, 122, 145, 84, 42, 89]
abbrev dktX0_push_0 : List UInt8 := dkwX0_push_0 ++ dktX0_push_1
theorem dksX0_push_0 : cX0_push.data.toList.drop 0 = dktX0_push_0 := by decide +kernel
theorem dksX0_push_1 : cX0_push.data.toList.drop 22 = dktX0_push_1 := dk_seg dksX0_push_0 22 rfl rfl
theorem dX0_push_0 : decode cX0_push 0 = .ok (.bipush 24, 2) := dk_16 24 (dk_at dksX0_push_0 0 rfl rfl)
theorem dX0_push_2 : decode cX0_push 2 = .ok (.istore_n 2, 1) := dk_61 (dk_at dksX0_push_0 2 rfl rfl)
theorem dX0_push_3 : decode cX0_push 3 = .ok (.iload_n 2, 1) := dk_28 (dk_at dksX0_push_0 3 rfl rfl)
theorem dX0_push_4 : decode cX0_push 4 = .ok (.ifCond .lt 32, 3) := dk_155 0 32 (dk_at dksX0_push_0 4 rfl rfl)
theorem dX0_push_7 : decode cX0_push 7 = .ok (.aload_n 0, 1) := dk_42 (dk_at dksX0_push_0 7 rfl rfl)
theorem dX0_push_8 : decode cX0_push 8 = .ok (.getfield 43, 3) := dk_180 0 43 (dk_at dksX0_push_0 8 rfl rfl)
theorem dX0_push_11 : decode cX0_push 11 = .ok (.aload_n 0, 1) := dk_42 (dk_at dksX0_push_0 11 rfl rfl)
theorem dX0_push_12 : decode cX0_push 12 = .ok (.getfield 149, 3) := dk_180 0 149 (dk_at dksX0_push_0 12 rfl rfl)
theorem dX0_push_15 : decode cX0_push 15 = .ok (.iload_n 1, 1) := dk_27 (dk_at dksX0_push_0 15 rfl rfl)
theorem dX0_push_16 : decode cX0_push 16 = .ok (.iload_n 2, 1) := dk_28 (dk_at dksX0_push_0 16 rfl rfl)
theorem dX0_push_17 : decode cX0_push 17 = .ok (.ishr, 1) := dk_122 (dk_at dksX0_push_0 17 rfl rfl)
theorem dX0_push_18 : decode cX0_push 18 = .ok (.i2b, 1) := dk_145 (dk_at dksX0_push_0 18 rfl rfl)
theorem dX0_push_19 : decode cX0_push 19 = .ok (.bastore, 1) := dk_84 (dk_at dksX0_push_0 19 rfl rfl)
theorem dX0_push_20 : decode cX0_push 20 = .ok (.aload_n 0, 1) := dk_42 (dk_at dksX0_push_0 20 rfl rfl)
theorem dX0_push_21 : decode cX0_push 21 = .ok (.dup, 1) := dk_89 (dk_at dksX0_push_0 21 rfl rfl)
theorem dX0_push_22 : decode cX0_push 22 = .ok (.getfield 149, 3) := dk_180 0 149 (dk_at dksX0_push_1 0 rfl rfl)
theorem dX0_push_25 : decode cX0_push 25 = .ok (.iconst 1, 1) := dk_4 (dk_at dksX0_push_1 3 rfl rfl)
theorem dX0_push_26 : decode cX0_push 26 = .ok (.iadd, 1) := dk_96 (dk_at dksX0_push_1 4 rfl rfl)
theorem dX0_push_27 : decode cX0_push 27 = .ok (.putfield 149, 3) := dk_181 0 149 (dk_at dksX0_push_1 5 rfl rfl)
theorem dX0_push_30 : decode cX0_push 30 = .ok (.iinc 2 (-8), 3) := dk_132 2 248 (dk_at dksX0_push_1 8 rfl rfl)
theorem dX0_push_33 : decode cX0_push 33 = .ok (.goto (-30), 3) := dk_167 255 226 (dk_at dksX0_push_1 11 rfl rfl)
theorem dX0_push_36 : decode cX0_push 36 = .ok (.return_, 1) := dk_177 (dk_at dksX0_push_1 14 rfl rfl)
abbrev cX0_law : ByteArray := prog_1_method_16_code
def yX0_law : MethodName := ⟨RX0, "law", "(I)I"⟩
def dkwX0_law_2 : List UInt8 := [180, 0, 164, 181, 0, 50, 29, 172]
abbrev dktX0_law_2 : List UInt8 := dkwX0_law_2 ++ []
def dkwX0_law_1 : List UInt8 := [181, 0, 149, 187, 0, 155, 89, 42, 27, 183, 0, 157, 77, 44, 182, 0, 160, 62, 29, 155, 0, 11, 42, 44]
abbrev dktX0_law_1 : List UInt8 := dkwX0_law_1 ++ dktX0_law_2
def dkwX0_law_0 : List UInt8 := [27, 4, 17, 0, 240, 184, 0, 128, 153, 0, 11, 27, 42, 180, 0, 149, 164, 0, 5, 2, 172, 42, 3]
abbrev dktX0_law_0 : List UInt8 := dkwX0_law_0 ++ dktX0_law_1
theorem dksX0_law_0 : cX0_law.data.toList.drop 0 = dktX0_law_0 := by decide +kernel
theorem dksX0_law_1 : cX0_law.data.toList.drop 23 = dktX0_law_1 := dk_seg dksX0_law_0 23 rfl rfl
theorem dksX0_law_2 : cX0_law.data.toList.drop 47 = dktX0_law_2 := dk_seg dksX0_law_1 24 rfl rfl
theorem dX0_law_0 : decode cX0_law 0 = .ok (.iload_n 1, 1) := dk_27 (dk_at dksX0_law_0 0 rfl rfl)
theorem dX0_law_1 : decode cX0_law 1 = .ok (.iconst 1, 1) := dk_4 (dk_at dksX0_law_0 1 rfl rfl)
theorem dX0_law_2 : decode cX0_law 2 = .ok (.sipush 240, 3) := dk_17 0 240 (dk_at dksX0_law_0 2 rfl rfl)
theorem dX0_law_5 : decode cX0_law 5 = .ok (.invokestatic 128, 3) := dk_184 0 128 (dk_at dksX0_law_0 5 rfl rfl)
theorem dX0_law_8 : decode cX0_law 8 = .ok (.ifCond .eq 11, 3) := dk_153 0 11 (dk_at dksX0_law_0 8 rfl rfl)
theorem dX0_law_11 : decode cX0_law 11 = .ok (.iload_n 1, 1) := dk_27 (dk_at dksX0_law_0 11 rfl rfl)
theorem dX0_law_12 : decode cX0_law 12 = .ok (.aload_n 0, 1) := dk_42 (dk_at dksX0_law_0 12 rfl rfl)
theorem dX0_law_13 : decode cX0_law 13 = .ok (.getfield 149, 3) := dk_180 0 149 (dk_at dksX0_law_0 13 rfl rfl)
theorem dX0_law_16 : decode cX0_law 16 = .ok (.if_icmp .le 5, 3) := dk_164 0 5 (dk_at dksX0_law_0 16 rfl rfl)
theorem dX0_law_19 : decode cX0_law 19 = .ok (.iconst (-1), 1) := dk_2 (dk_at dksX0_law_0 19 rfl rfl)
theorem dX0_law_20 : decode cX0_law 20 = .ok (.ireturn, 1) := dk_172 (dk_at dksX0_law_0 20 rfl rfl)
theorem dX0_law_21 : decode cX0_law 21 = .ok (.aload_n 0, 1) := dk_42 (dk_at dksX0_law_0 21 rfl rfl)
theorem dX0_law_22 : decode cX0_law 22 = .ok (.iconst 0, 1) := dk_3 (dk_at dksX0_law_0 22 rfl rfl)
theorem dX0_law_23 : decode cX0_law 23 = .ok (.putfield 149, 3) := dk_181 0 149 (dk_at dksX0_law_1 0 rfl rfl)
theorem dX0_law_26 : decode cX0_law 26 = .ok (.new 155, 3) := dk_187 0 155 (dk_at dksX0_law_1 3 rfl rfl)
theorem dX0_law_29 : decode cX0_law 29 = .ok (.dup, 1) := dk_89 (dk_at dksX0_law_1 6 rfl rfl)
theorem dX0_law_30 : decode cX0_law 30 = .ok (.aload_n 0, 1) := dk_42 (dk_at dksX0_law_1 7 rfl rfl)
theorem dX0_law_31 : decode cX0_law 31 = .ok (.iload_n 1, 1) := dk_27 (dk_at dksX0_law_1 8 rfl rfl)
theorem dX0_law_32 : decode cX0_law 32 = .ok (.invokespecial 157, 3) := dk_183 0 157 (dk_at dksX0_law_1 9 rfl rfl)
theorem dX0_law_35 : decode cX0_law 35 = .ok (.astore_n 2, 1) := dk_77 (dk_at dksX0_law_1 12 rfl rfl)
theorem dX0_law_36 : decode cX0_law 36 = .ok (.aload_n 2, 1) := dk_44 (dk_at dksX0_law_1 13 rfl rfl)
theorem dX0_law_37 : decode cX0_law 37 = .ok (.invokevirtual 160, 3) := dk_182 0 160 (dk_at dksX0_law_1 14 rfl rfl)
theorem dX0_law_40 : decode cX0_law 40 = .ok (.istore_n 3, 1) := dk_62 (dk_at dksX0_law_1 17 rfl rfl)
theorem dX0_law_41 : decode cX0_law 41 = .ok (.iload_n 3, 1) := dk_29 (dk_at dksX0_law_1 18 rfl rfl)
theorem dX0_law_42 : decode cX0_law 42 = .ok (.ifCond .lt 11, 3) := dk_155 0 11 (dk_at dksX0_law_1 19 rfl rfl)
theorem dX0_law_45 : decode cX0_law 45 = .ok (.aload_n 0, 1) := dk_42 (dk_at dksX0_law_1 22 rfl rfl)
theorem dX0_law_46 : decode cX0_law 46 = .ok (.aload_n 2, 1) := dk_44 (dk_at dksX0_law_1 23 rfl rfl)
theorem dX0_law_47 : decode cX0_law 47 = .ok (.getfield 164, 3) := dk_180 0 164 (dk_at dksX0_law_2 0 rfl rfl)
theorem dX0_law_50 : decode cX0_law 50 = .ok (.putfield 50, 3) := dk_181 0 50 (dk_at dksX0_law_2 3 rfl rfl)
theorem dX0_law_53 : decode cX0_law 53 = .ok (.iload_n 3, 1) := dk_29 (dk_at dksX0_law_2 6 rfl rfl)
theorem dX0_law_54 : decode cX0_law 54 = .ok (.ireturn, 1) := dk_172 (dk_at dksX0_law_2 7 rfl rfl)
abbrev cX0_edge : ByteArray := prog_1_method_17_code
def yX0_edge : MethodName := ⟨RX0, "edge", "(II)I"⟩
def dkwX0_edge_4 : List UInt8 := [21, 4, 172]
abbrev dktX0_edge_4 : List UInt8 := dkwX0_edge_4 ++ []
def dkwX0_edge_3 : List UInt8 := [180, 0, 117, 27, 50, 180, 0, 171, 21, 5, 45, 180, 0, 174, 21, 5, 46, 79, 132, 5, 1, 167, 255, 224]
abbrev dktX0_edge_3 : List UInt8 := dkwX0_edge_3 ++ dktX0_edge_4
def dkwX0_edge_2 : List UInt8 := [54, 4, 21, 4, 156, 0, 6, 21, 4, 172, 3, 54, 5, 21, 5, 16, 8, 162, 0, 31, 42, 180, 0, 33]
abbrev dktX0_edge_2 : List UInt8 := dkwX0_edge_2 ++ dktX0_edge_3
def dkwX0_edge_1 : List UInt8 := [164, 0, 5, 2, 172, 42, 3, 181, 0, 149, 187, 0, 167, 89, 42, 28, 183, 0, 169, 78, 45, 182, 0, 170]
abbrev dktX0_edge_1 : List UInt8 := dkwX0_edge_1 ++ dktX0_edge_2
def dkwX0_edge_0 : List UInt8 := [27, 184, 0, 124, 153, 0, 21, 28, 4, 16, 40, 184, 0, 128, 153, 0, 11, 28, 42, 180, 0, 149]
abbrev dktX0_edge_0 : List UInt8 := dkwX0_edge_0 ++ dktX0_edge_1
theorem dksX0_edge_0 : cX0_edge.data.toList.drop 0 = dktX0_edge_0 := by decide +kernel
theorem dksX0_edge_1 : cX0_edge.data.toList.drop 22 = dktX0_edge_1 := dk_seg dksX0_edge_0 22 rfl rfl
theorem dksX0_edge_2 : cX0_edge.data.toList.drop 46 = dktX0_edge_2 := dk_seg dksX0_edge_1 24 rfl rfl
theorem dksX0_edge_3 : cX0_edge.data.toList.drop 70 = dktX0_edge_3 := dk_seg dksX0_edge_2 24 rfl rfl
theorem dksX0_edge_4 : cX0_edge.data.toList.drop 94 = dktX0_edge_4 := dk_seg dksX0_edge_3 24 rfl rfl
theorem dX0_edge_0 : decode cX0_edge 0 = .ok (.iload_n 1, 1) := dk_27 (dk_at dksX0_edge_0 0 rfl rfl)
theorem dX0_edge_1 : decode cX0_edge 1 = .ok (.invokestatic 124, 3) := dk_184 0 124 (dk_at dksX0_edge_0 1 rfl rfl)
theorem dX0_edge_4 : decode cX0_edge 4 = .ok (.ifCond .eq 21, 3) := dk_153 0 21 (dk_at dksX0_edge_0 4 rfl rfl)
theorem dX0_edge_7 : decode cX0_edge 7 = .ok (.iload_n 2, 1) := dk_28 (dk_at dksX0_edge_0 7 rfl rfl)
theorem dX0_edge_8 : decode cX0_edge 8 = .ok (.iconst 1, 1) := dk_4 (dk_at dksX0_edge_0 8 rfl rfl)
theorem dX0_edge_9 : decode cX0_edge 9 = .ok (.bipush 40, 2) := dk_16 40 (dk_at dksX0_edge_0 9 rfl rfl)
theorem dX0_edge_11 : decode cX0_edge 11 = .ok (.invokestatic 128, 3) := dk_184 0 128 (dk_at dksX0_edge_0 11 rfl rfl)
theorem dX0_edge_14 : decode cX0_edge 14 = .ok (.ifCond .eq 11, 3) := dk_153 0 11 (dk_at dksX0_edge_0 14 rfl rfl)
theorem dX0_edge_17 : decode cX0_edge 17 = .ok (.iload_n 2, 1) := dk_28 (dk_at dksX0_edge_0 17 rfl rfl)
theorem dX0_edge_18 : decode cX0_edge 18 = .ok (.aload_n 0, 1) := dk_42 (dk_at dksX0_edge_0 18 rfl rfl)
theorem dX0_edge_19 : decode cX0_edge 19 = .ok (.getfield 149, 3) := dk_180 0 149 (dk_at dksX0_edge_0 19 rfl rfl)
theorem dX0_edge_22 : decode cX0_edge 22 = .ok (.if_icmp .le 5, 3) := dk_164 0 5 (dk_at dksX0_edge_1 0 rfl rfl)
theorem dX0_edge_25 : decode cX0_edge 25 = .ok (.iconst (-1), 1) := dk_2 (dk_at dksX0_edge_1 3 rfl rfl)
theorem dX0_edge_26 : decode cX0_edge 26 = .ok (.ireturn, 1) := dk_172 (dk_at dksX0_edge_1 4 rfl rfl)
theorem dX0_edge_27 : decode cX0_edge 27 = .ok (.aload_n 0, 1) := dk_42 (dk_at dksX0_edge_1 5 rfl rfl)
theorem dX0_edge_28 : decode cX0_edge 28 = .ok (.iconst 0, 1) := dk_3 (dk_at dksX0_edge_1 6 rfl rfl)
theorem dX0_edge_29 : decode cX0_edge 29 = .ok (.putfield 149, 3) := dk_181 0 149 (dk_at dksX0_edge_1 7 rfl rfl)
theorem dX0_edge_32 : decode cX0_edge 32 = .ok (.new 167, 3) := dk_187 0 167 (dk_at dksX0_edge_1 10 rfl rfl)
theorem dX0_edge_35 : decode cX0_edge 35 = .ok (.dup, 1) := dk_89 (dk_at dksX0_edge_1 13 rfl rfl)
theorem dX0_edge_36 : decode cX0_edge 36 = .ok (.aload_n 0, 1) := dk_42 (dk_at dksX0_edge_1 14 rfl rfl)
theorem dX0_edge_37 : decode cX0_edge 37 = .ok (.iload_n 2, 1) := dk_28 (dk_at dksX0_edge_1 15 rfl rfl)
theorem dX0_edge_38 : decode cX0_edge 38 = .ok (.invokespecial 169, 3) := dk_183 0 169 (dk_at dksX0_edge_1 16 rfl rfl)
theorem dX0_edge_41 : decode cX0_edge 41 = .ok (.astore_n 3, 1) := dk_78 (dk_at dksX0_edge_1 19 rfl rfl)
theorem dX0_edge_42 : decode cX0_edge 42 = .ok (.aload_n 3, 1) := dk_45 (dk_at dksX0_edge_1 20 rfl rfl)
theorem dX0_edge_43 : decode cX0_edge 43 = .ok (.invokevirtual 170, 3) := dk_182 0 170 (dk_at dksX0_edge_1 21 rfl rfl)
theorem dX0_edge_46 : decode cX0_edge 46 = .ok (.istore 4, 2) := dk_54 4 (dk_at dksX0_edge_2 0 rfl rfl)
theorem dX0_edge_48 : decode cX0_edge 48 = .ok (.iload 4, 2) := dk_21 4 (dk_at dksX0_edge_2 2 rfl rfl)
theorem dX0_edge_50 : decode cX0_edge 50 = .ok (.ifCond .ge 6, 3) := dk_156 0 6 (dk_at dksX0_edge_2 4 rfl rfl)
theorem dX0_edge_53 : decode cX0_edge 53 = .ok (.iload 4, 2) := dk_21 4 (dk_at dksX0_edge_2 7 rfl rfl)
theorem dX0_edge_55 : decode cX0_edge 55 = .ok (.ireturn, 1) := dk_172 (dk_at dksX0_edge_2 9 rfl rfl)
theorem dX0_edge_56 : decode cX0_edge 56 = .ok (.iconst 0, 1) := dk_3 (dk_at dksX0_edge_2 10 rfl rfl)
theorem dX0_edge_57 : decode cX0_edge 57 = .ok (.istore 5, 2) := dk_54 5 (dk_at dksX0_edge_2 11 rfl rfl)
theorem dX0_edge_59 : decode cX0_edge 59 = .ok (.iload 5, 2) := dk_21 5 (dk_at dksX0_edge_2 13 rfl rfl)
theorem dX0_edge_61 : decode cX0_edge 61 = .ok (.bipush 8, 2) := dk_16 8 (dk_at dksX0_edge_2 15 rfl rfl)
theorem dX0_edge_63 : decode cX0_edge 63 = .ok (.if_icmp .ge 31, 3) := dk_162 0 31 (dk_at dksX0_edge_2 17 rfl rfl)
theorem dX0_edge_66 : decode cX0_edge 66 = .ok (.aload_n 0, 1) := dk_42 (dk_at dksX0_edge_2 20 rfl rfl)
theorem dX0_edge_67 : decode cX0_edge 67 = .ok (.getfield 33, 3) := dk_180 0 33 (dk_at dksX0_edge_2 21 rfl rfl)
theorem dX0_edge_70 : decode cX0_edge 70 = .ok (.getfield 117, 3) := dk_180 0 117 (dk_at dksX0_edge_3 0 rfl rfl)
theorem dX0_edge_73 : decode cX0_edge 73 = .ok (.iload_n 1, 1) := dk_27 (dk_at dksX0_edge_3 3 rfl rfl)
theorem dX0_edge_74 : decode cX0_edge 74 = .ok (.aaload, 1) := dk_50 (dk_at dksX0_edge_3 4 rfl rfl)
theorem dX0_edge_75 : decode cX0_edge 75 = .ok (.getfield 171, 3) := dk_180 0 171 (dk_at dksX0_edge_3 5 rfl rfl)
theorem dX0_edge_78 : decode cX0_edge 78 = .ok (.iload 5, 2) := dk_21 5 (dk_at dksX0_edge_3 8 rfl rfl)
theorem dX0_edge_80 : decode cX0_edge 80 = .ok (.aload_n 3, 1) := dk_45 (dk_at dksX0_edge_3 10 rfl rfl)
theorem dX0_edge_81 : decode cX0_edge 81 = .ok (.getfield 174, 3) := dk_180 0 174 (dk_at dksX0_edge_3 11 rfl rfl)
theorem dX0_edge_84 : decode cX0_edge 84 = .ok (.iload 5, 2) := dk_21 5 (dk_at dksX0_edge_3 14 rfl rfl)
theorem dX0_edge_86 : decode cX0_edge 86 = .ok (.iaload, 1) := dk_46 (dk_at dksX0_edge_3 16 rfl rfl)
theorem dX0_edge_87 : decode cX0_edge 87 = .ok (.iastore, 1) := dk_79 (dk_at dksX0_edge_3 17 rfl rfl)
theorem dX0_edge_88 : decode cX0_edge 88 = .ok (.iinc 5 1, 3) := dk_132 5 1 (dk_at dksX0_edge_3 18 rfl rfl)
theorem dX0_edge_91 : decode cX0_edge 91 = .ok (.goto (-32), 3) := dk_167 255 224 (dk_at dksX0_edge_3 21 rfl rfl)
theorem dX0_edge_94 : decode cX0_edge 94 = .ok (.iload 4, 2) := dk_21 4 (dk_at dksX0_edge_4 0 rfl rfl)
theorem dX0_edge_96 : decode cX0_edge 96 = .ok (.ireturn, 1) := dk_172 (dk_at dksX0_edge_4 2 rfl rfl)
abbrev cX0_journey : ByteArray := prog_1_method_18_code
def yX0_journey : MethodName := ⟨RX0, "journey", "(II)I"⟩
def dkwX0_journey_4 : List UInt8 := [132, 6, 1, 167, 255, 231, 25, 5, 21, 4, 181, 0, 186, 25, 5, 3, 181, 0, 189, 21, 4, 172]
abbrev dktX0_journey_4 : List UInt8 := dkwX0_journey_4 ++ []
def dkwX0_journey_3 : List UInt8 := [21, 6, 21, 4, 162, 0, 24, 25, 5, 180, 0, 182, 21, 6, 45, 180, 0, 185, 21, 6, 46, 79]
abbrev dktX0_journey_3 : List UInt8 := dkwX0_journey_3 ++ dktX0_journey_4
def dkwX0_journey_2 : List UInt8 := [54, 4, 21, 4, 156, 0, 6, 21, 4, 172, 42, 180, 0, 33, 180, 0, 94, 27, 50, 58, 5, 3, 54, 6]
abbrev dktX0_journey_2 : List UInt8 := dkwX0_journey_2 ++ dktX0_journey_3
def dkwX0_journey_1 : List UInt8 := [164, 0, 5, 2, 172, 42, 3, 181, 0, 149, 187, 0, 178, 89, 42, 28, 183, 0, 180, 78, 45, 182, 0, 181]
abbrev dktX0_journey_1 : List UInt8 := dkwX0_journey_1 ++ dktX0_journey_2
def dkwX0_journey_0 : List UInt8 := [42, 27, 182, 0, 175, 153, 0, 21, 28, 4, 16, 40, 184, 0, 128, 153, 0, 11, 28, 42, 180, 0, 149]
abbrev dktX0_journey_0 : List UInt8 := dkwX0_journey_0 ++ dktX0_journey_1
theorem dksX0_journey_0 : cX0_journey.data.toList.drop 0 = dktX0_journey_0 := by decide +kernel
theorem dksX0_journey_1 : cX0_journey.data.toList.drop 23 = dktX0_journey_1 := dk_seg dksX0_journey_0 23 rfl rfl
theorem dksX0_journey_2 : cX0_journey.data.toList.drop 47 = dktX0_journey_2 := dk_seg dksX0_journey_1 24 rfl rfl
theorem dksX0_journey_3 : cX0_journey.data.toList.drop 71 = dktX0_journey_3 := dk_seg dksX0_journey_2 24 rfl rfl
theorem dksX0_journey_4 : cX0_journey.data.toList.drop 93 = dktX0_journey_4 := dk_seg dksX0_journey_3 22 rfl rfl
theorem dX0_journey_0 : decode cX0_journey 0 = .ok (.aload_n 0, 1) := dk_42 (dk_at dksX0_journey_0 0 rfl rfl)
theorem dX0_journey_1 : decode cX0_journey 1 = .ok (.iload_n 1, 1) := dk_27 (dk_at dksX0_journey_0 1 rfl rfl)
theorem dX0_journey_2 : decode cX0_journey 2 = .ok (.invokevirtual 175, 3) := dk_182 0 175 (dk_at dksX0_journey_0 2 rfl rfl)
theorem dX0_journey_5 : decode cX0_journey 5 = .ok (.ifCond .eq 21, 3) := dk_153 0 21 (dk_at dksX0_journey_0 5 rfl rfl)
theorem dX0_journey_8 : decode cX0_journey 8 = .ok (.iload_n 2, 1) := dk_28 (dk_at dksX0_journey_0 8 rfl rfl)
theorem dX0_journey_9 : decode cX0_journey 9 = .ok (.iconst 1, 1) := dk_4 (dk_at dksX0_journey_0 9 rfl rfl)
theorem dX0_journey_10 : decode cX0_journey 10 = .ok (.bipush 40, 2) := dk_16 40 (dk_at dksX0_journey_0 10 rfl rfl)
theorem dX0_journey_12 : decode cX0_journey 12 = .ok (.invokestatic 128, 3) := dk_184 0 128 (dk_at dksX0_journey_0 12 rfl rfl)
theorem dX0_journey_15 : decode cX0_journey 15 = .ok (.ifCond .eq 11, 3) := dk_153 0 11 (dk_at dksX0_journey_0 15 rfl rfl)
theorem dX0_journey_18 : decode cX0_journey 18 = .ok (.iload_n 2, 1) := dk_28 (dk_at dksX0_journey_0 18 rfl rfl)
theorem dX0_journey_19 : decode cX0_journey 19 = .ok (.aload_n 0, 1) := dk_42 (dk_at dksX0_journey_0 19 rfl rfl)
theorem dX0_journey_20 : decode cX0_journey 20 = .ok (.getfield 149, 3) := dk_180 0 149 (dk_at dksX0_journey_0 20 rfl rfl)
theorem dX0_journey_23 : decode cX0_journey 23 = .ok (.if_icmp .le 5, 3) := dk_164 0 5 (dk_at dksX0_journey_1 0 rfl rfl)
theorem dX0_journey_26 : decode cX0_journey 26 = .ok (.iconst (-1), 1) := dk_2 (dk_at dksX0_journey_1 3 rfl rfl)
theorem dX0_journey_27 : decode cX0_journey 27 = .ok (.ireturn, 1) := dk_172 (dk_at dksX0_journey_1 4 rfl rfl)
theorem dX0_journey_28 : decode cX0_journey 28 = .ok (.aload_n 0, 1) := dk_42 (dk_at dksX0_journey_1 5 rfl rfl)
theorem dX0_journey_29 : decode cX0_journey 29 = .ok (.iconst 0, 1) := dk_3 (dk_at dksX0_journey_1 6 rfl rfl)
theorem dX0_journey_30 : decode cX0_journey 30 = .ok (.putfield 149, 3) := dk_181 0 149 (dk_at dksX0_journey_1 7 rfl rfl)
theorem dX0_journey_33 : decode cX0_journey 33 = .ok (.new 178, 3) := dk_187 0 178 (dk_at dksX0_journey_1 10 rfl rfl)
theorem dX0_journey_36 : decode cX0_journey 36 = .ok (.dup, 1) := dk_89 (dk_at dksX0_journey_1 13 rfl rfl)
theorem dX0_journey_37 : decode cX0_journey 37 = .ok (.aload_n 0, 1) := dk_42 (dk_at dksX0_journey_1 14 rfl rfl)
theorem dX0_journey_38 : decode cX0_journey 38 = .ok (.iload_n 2, 1) := dk_28 (dk_at dksX0_journey_1 15 rfl rfl)
theorem dX0_journey_39 : decode cX0_journey 39 = .ok (.invokespecial 180, 3) := dk_183 0 180 (dk_at dksX0_journey_1 16 rfl rfl)
theorem dX0_journey_42 : decode cX0_journey 42 = .ok (.astore_n 3, 1) := dk_78 (dk_at dksX0_journey_1 19 rfl rfl)
theorem dX0_journey_43 : decode cX0_journey 43 = .ok (.aload_n 3, 1) := dk_45 (dk_at dksX0_journey_1 20 rfl rfl)
theorem dX0_journey_44 : decode cX0_journey 44 = .ok (.invokevirtual 181, 3) := dk_182 0 181 (dk_at dksX0_journey_1 21 rfl rfl)
theorem dX0_journey_47 : decode cX0_journey 47 = .ok (.istore 4, 2) := dk_54 4 (dk_at dksX0_journey_2 0 rfl rfl)
theorem dX0_journey_49 : decode cX0_journey 49 = .ok (.iload 4, 2) := dk_21 4 (dk_at dksX0_journey_2 2 rfl rfl)
theorem dX0_journey_51 : decode cX0_journey 51 = .ok (.ifCond .ge 6, 3) := dk_156 0 6 (dk_at dksX0_journey_2 4 rfl rfl)
theorem dX0_journey_54 : decode cX0_journey 54 = .ok (.iload 4, 2) := dk_21 4 (dk_at dksX0_journey_2 7 rfl rfl)
theorem dX0_journey_56 : decode cX0_journey 56 = .ok (.ireturn, 1) := dk_172 (dk_at dksX0_journey_2 9 rfl rfl)
theorem dX0_journey_57 : decode cX0_journey 57 = .ok (.aload_n 0, 1) := dk_42 (dk_at dksX0_journey_2 10 rfl rfl)
theorem dX0_journey_58 : decode cX0_journey 58 = .ok (.getfield 33, 3) := dk_180 0 33 (dk_at dksX0_journey_2 11 rfl rfl)
theorem dX0_journey_61 : decode cX0_journey 61 = .ok (.getfield 94, 3) := dk_180 0 94 (dk_at dksX0_journey_2 14 rfl rfl)
theorem dX0_journey_64 : decode cX0_journey 64 = .ok (.iload_n 1, 1) := dk_27 (dk_at dksX0_journey_2 17 rfl rfl)
theorem dX0_journey_65 : decode cX0_journey 65 = .ok (.aaload, 1) := dk_50 (dk_at dksX0_journey_2 18 rfl rfl)
theorem dX0_journey_66 : decode cX0_journey 66 = .ok (.astore 5, 2) := dk_58 5 (dk_at dksX0_journey_2 19 rfl rfl)
theorem dX0_journey_68 : decode cX0_journey 68 = .ok (.iconst 0, 1) := dk_3 (dk_at dksX0_journey_2 21 rfl rfl)
theorem dX0_journey_69 : decode cX0_journey 69 = .ok (.istore 6, 2) := dk_54 6 (dk_at dksX0_journey_2 22 rfl rfl)
theorem dX0_journey_71 : decode cX0_journey 71 = .ok (.iload 6, 2) := dk_21 6 (dk_at dksX0_journey_3 0 rfl rfl)
theorem dX0_journey_73 : decode cX0_journey 73 = .ok (.iload 4, 2) := dk_21 4 (dk_at dksX0_journey_3 2 rfl rfl)
theorem dX0_journey_75 : decode cX0_journey 75 = .ok (.if_icmp .ge 24, 3) := dk_162 0 24 (dk_at dksX0_journey_3 4 rfl rfl)
theorem dX0_journey_78 : decode cX0_journey 78 = .ok (.aload 5, 2) := dk_25 5 (dk_at dksX0_journey_3 7 rfl rfl)
theorem dX0_journey_80 : decode cX0_journey 80 = .ok (.getfield 182, 3) := dk_180 0 182 (dk_at dksX0_journey_3 9 rfl rfl)
theorem dX0_journey_83 : decode cX0_journey 83 = .ok (.iload 6, 2) := dk_21 6 (dk_at dksX0_journey_3 12 rfl rfl)
theorem dX0_journey_85 : decode cX0_journey 85 = .ok (.aload_n 3, 1) := dk_45 (dk_at dksX0_journey_3 14 rfl rfl)
theorem dX0_journey_86 : decode cX0_journey 86 = .ok (.getfield 185, 3) := dk_180 0 185 (dk_at dksX0_journey_3 15 rfl rfl)
theorem dX0_journey_89 : decode cX0_journey 89 = .ok (.iload 6, 2) := dk_21 6 (dk_at dksX0_journey_3 18 rfl rfl)
theorem dX0_journey_91 : decode cX0_journey 91 = .ok (.iaload, 1) := dk_46 (dk_at dksX0_journey_3 20 rfl rfl)
theorem dX0_journey_92 : decode cX0_journey 92 = .ok (.iastore, 1) := dk_79 (dk_at dksX0_journey_3 21 rfl rfl)
theorem dX0_journey_93 : decode cX0_journey 93 = .ok (.iinc 6 1, 3) := dk_132 6 1 (dk_at dksX0_journey_4 0 rfl rfl)
theorem dX0_journey_96 : decode cX0_journey 96 = .ok (.goto (-25), 3) := dk_167 255 231 (dk_at dksX0_journey_4 3 rfl rfl)
theorem dX0_journey_99 : decode cX0_journey 99 = .ok (.aload 5, 2) := dk_25 5 (dk_at dksX0_journey_4 6 rfl rfl)
theorem dX0_journey_101 : decode cX0_journey 101 = .ok (.iload 4, 2) := dk_21 4 (dk_at dksX0_journey_4 8 rfl rfl)
theorem dX0_journey_103 : decode cX0_journey 103 = .ok (.putfield 186, 3) := dk_181 0 186 (dk_at dksX0_journey_4 10 rfl rfl)
theorem dX0_journey_106 : decode cX0_journey 106 = .ok (.aload 5, 2) := dk_25 5 (dk_at dksX0_journey_4 13 rfl rfl)
theorem dX0_journey_108 : decode cX0_journey 108 = .ok (.iconst 0, 1) := dk_3 (dk_at dksX0_journey_4 15 rfl rfl)
theorem dX0_journey_109 : decode cX0_journey 109 = .ok (.putfield 189, 3) := dk_181 0 189 (dk_at dksX0_journey_4 16 rfl rfl)
theorem dX0_journey_112 : decode cX0_journey 112 = .ok (.iload 4, 2) := dk_21 4 (dk_at dksX0_journey_4 19 rfl rfl)
theorem dX0_journey_114 : decode cX0_journey 114 = .ok (.ireturn, 1) := dk_172 (dk_at dksX0_journey_4 21 rfl rfl)
abbrev cX0_isPerson : ByteArray := prog_1_method_8_code
def yX0_isPerson : MethodName := ⟨RX0, "isPerson", "(I)Z"⟩
def dkwX0_isPerson_1 : List UInt8 := [4, 167, 0, 4, 3, 172]
abbrev dktX0_isPerson_1 : List UInt8 := dkwX0_isPerson_1 ++ []
def dkwX0_isPerson_0 : List UInt8 := [27, 16, 12, 184, 0, 103, 153, 0, 22, 42, 180, 0, 33, 180, 0, 94, 27, 50, 180, 0, 107, 153, 0, 7]
abbrev dktX0_isPerson_0 : List UInt8 := dkwX0_isPerson_0 ++ dktX0_isPerson_1
theorem dksX0_isPerson_0 : cX0_isPerson.data.toList.drop 0 = dktX0_isPerson_0 := by decide +kernel
theorem dksX0_isPerson_1 : cX0_isPerson.data.toList.drop 24 = dktX0_isPerson_1 := dk_seg dksX0_isPerson_0 24 rfl rfl
theorem dX0_isPerson_0 : decode cX0_isPerson 0 = .ok (.iload_n 1, 1) := dk_27 (dk_at dksX0_isPerson_0 0 rfl rfl)
theorem dX0_isPerson_1 : decode cX0_isPerson 1 = .ok (.bipush 12, 2) := dk_16 12 (dk_at dksX0_isPerson_0 1 rfl rfl)
theorem dX0_isPerson_3 : decode cX0_isPerson 3 = .ok (.invokestatic 103, 3) := dk_184 0 103 (dk_at dksX0_isPerson_0 3 rfl rfl)
theorem dX0_isPerson_6 : decode cX0_isPerson 6 = .ok (.ifCond .eq 22, 3) := dk_153 0 22 (dk_at dksX0_isPerson_0 6 rfl rfl)
theorem dX0_isPerson_9 : decode cX0_isPerson 9 = .ok (.aload_n 0, 1) := dk_42 (dk_at dksX0_isPerson_0 9 rfl rfl)
theorem dX0_isPerson_10 : decode cX0_isPerson 10 = .ok (.getfield 33, 3) := dk_180 0 33 (dk_at dksX0_isPerson_0 10 rfl rfl)
theorem dX0_isPerson_13 : decode cX0_isPerson 13 = .ok (.getfield 94, 3) := dk_180 0 94 (dk_at dksX0_isPerson_0 13 rfl rfl)
theorem dX0_isPerson_16 : decode cX0_isPerson 16 = .ok (.iload_n 1, 1) := dk_27 (dk_at dksX0_isPerson_0 16 rfl rfl)
theorem dX0_isPerson_17 : decode cX0_isPerson 17 = .ok (.aaload, 1) := dk_50 (dk_at dksX0_isPerson_0 17 rfl rfl)
theorem dX0_isPerson_18 : decode cX0_isPerson 18 = .ok (.getfield 107, 3) := dk_180 0 107 (dk_at dksX0_isPerson_0 18 rfl rfl)
theorem dX0_isPerson_21 : decode cX0_isPerson 21 = .ok (.ifCond .eq 7, 3) := dk_153 0 7 (dk_at dksX0_isPerson_0 21 rfl rfl)
theorem dX0_isPerson_24 : decode cX0_isPerson 24 = .ok (.iconst 1, 1) := dk_4 (dk_at dksX0_isPerson_1 0 rfl rfl)
theorem dX0_isPerson_25 : decode cX0_isPerson 25 = .ok (.goto 4, 3) := dk_167 0 4 (dk_at dksX0_isPerson_1 1 rfl rfl)
theorem dX0_isPerson_28 : decode cX0_isPerson 28 = .ok (.iconst 0, 1) := dk_3 (dk_at dksX0_isPerson_1 4 rfl rfl)
theorem dX0_isPerson_29 : decode cX0_isPerson 29 = .ok (.ireturn, 1) := dk_172 (dk_at dksX0_isPerson_1 5 rfl rfl)
abbrev cX0_days : ByteArray := prog_1_method_19_code
def yX0_days : MethodName := ⟨RX0, "days", "(I)I"⟩
def dkwX0_days_1 : List UInt8 := [2, 172]
abbrev dktX0_days_1 : List UInt8 := dkwX0_days_1 ++ []
def dkwX0_days_0 : List UInt8 := [27, 4, 16, 60, 184, 0, 128, 153, 0, 17, 42, 180, 0, 33, 27, 182, 0, 192, 180, 0, 196, 167, 0, 4]
abbrev dktX0_days_0 : List UInt8 := dkwX0_days_0 ++ dktX0_days_1
theorem dksX0_days_0 : cX0_days.data.toList.drop 0 = dktX0_days_0 := by decide +kernel
theorem dksX0_days_1 : cX0_days.data.toList.drop 24 = dktX0_days_1 := dk_seg dksX0_days_0 24 rfl rfl
theorem dX0_days_0 : decode cX0_days 0 = .ok (.iload_n 1, 1) := dk_27 (dk_at dksX0_days_0 0 rfl rfl)
theorem dX0_days_1 : decode cX0_days 1 = .ok (.iconst 1, 1) := dk_4 (dk_at dksX0_days_0 1 rfl rfl)
theorem dX0_days_2 : decode cX0_days 2 = .ok (.bipush 60, 2) := dk_16 60 (dk_at dksX0_days_0 2 rfl rfl)
theorem dX0_days_4 : decode cX0_days 4 = .ok (.invokestatic 128, 3) := dk_184 0 128 (dk_at dksX0_days_0 4 rfl rfl)
theorem dX0_days_7 : decode cX0_days 7 = .ok (.ifCond .eq 17, 3) := dk_153 0 17 (dk_at dksX0_days_0 7 rfl rfl)
theorem dX0_days_10 : decode cX0_days 10 = .ok (.aload_n 0, 1) := dk_42 (dk_at dksX0_days_0 10 rfl rfl)
theorem dX0_days_11 : decode cX0_days 11 = .ok (.getfield 33, 3) := dk_180 0 33 (dk_at dksX0_days_0 11 rfl rfl)
theorem dX0_days_14 : decode cX0_days 14 = .ok (.iload_n 1, 1) := dk_27 (dk_at dksX0_days_0 14 rfl rfl)
theorem dX0_days_15 : decode cX0_days 15 = .ok (.invokevirtual 192, 3) := dk_182 0 192 (dk_at dksX0_days_0 15 rfl rfl)
theorem dX0_days_18 : decode cX0_days 18 = .ok (.getfield 196, 3) := dk_180 0 196 (dk_at dksX0_days_0 18 rfl rfl)
theorem dX0_days_21 : decode cX0_days 21 = .ok (.goto 4, 3) := dk_167 0 4 (dk_at dksX0_days_0 21 rfl rfl)
theorem dX0_days_24 : decode cX0_days 24 = .ok (.iconst (-1), 1) := dk_2 (dk_at dksX0_days_1 0 rfl rfl)
theorem dX0_days_25 : decode cX0_days 25 = .ok (.ireturn, 1) := dk_172 (dk_at dksX0_days_1 1 rfl rfl)
abbrev cX0_has : ByteArray := prog_1_method_3_code
def yX0_has : MethodName := ⟨RX0, "has", "(II)Z"⟩
def dkwX0_has_0 : List UInt8 := [26, 27, 122, 4, 126, 4, 160, 0, 7, 4, 167, 0, 4, 3, 172]
abbrev dktX0_has_0 : List UInt8 := dkwX0_has_0 ++ []
theorem dksX0_has_0 : cX0_has.data.toList.drop 0 = dktX0_has_0 := by decide +kernel
theorem dX0_has_0 : decode cX0_has 0 = .ok (.iload_n 0, 1) := dk_26 (dk_at dksX0_has_0 0 rfl rfl)
theorem dX0_has_1 : decode cX0_has 1 = .ok (.iload_n 1, 1) := dk_27 (dk_at dksX0_has_0 1 rfl rfl)
theorem dX0_has_2 : decode cX0_has 2 = .ok (.ishr, 1) := dk_122 (dk_at dksX0_has_0 2 rfl rfl)
theorem dX0_has_3 : decode cX0_has 3 = .ok (.iconst 1, 1) := dk_4 (dk_at dksX0_has_0 3 rfl rfl)
theorem dX0_has_4 : decode cX0_has 4 = .ok (.iand, 1) := dk_126 (dk_at dksX0_has_0 4 rfl rfl)
theorem dX0_has_5 : decode cX0_has 5 = .ok (.iconst 1, 1) := dk_4 (dk_at dksX0_has_0 5 rfl rfl)
theorem dX0_has_6 : decode cX0_has 6 = .ok (.if_icmp .ne 7, 3) := dk_160 0 7 (dk_at dksX0_has_0 6 rfl rfl)
theorem dX0_has_9 : decode cX0_has 9 = .ok (.iconst 1, 1) := dk_4 (dk_at dksX0_has_0 9 rfl rfl)
theorem dX0_has_10 : decode cX0_has 10 = .ok (.goto 4, 3) := dk_167 0 4 (dk_at dksX0_has_0 10 rfl rfl)
theorem dX0_has_13 : decode cX0_has 13 = .ok (.iconst 0, 1) := dk_3 (dk_at dksX0_has_0 13 rfl rfl)
theorem dX0_has_14 : decode cX0_has 14 = .ok (.ireturn, 1) := dk_172 (dk_at dksX0_has_0 14 rfl rfl)
abbrev cX0_held : ByteArray := prog_1_method_4_code
def yX0_held : MethodName := ⟨RX0, "held", "(II)I"⟩
def dkwX0_held_0 : List UInt8 := [3, 27, 26, 184, 0, 1, 184, 0, 7, 172]
abbrev dktX0_held_0 : List UInt8 := dkwX0_held_0 ++ []
theorem dksX0_held_0 : cX0_held.data.toList.drop 0 = dktX0_held_0 := by decide +kernel
theorem dX0_held_0 : decode cX0_held 0 = .ok (.iconst 0, 1) := dk_3 (dk_at dksX0_held_0 0 rfl rfl)
theorem dX0_held_1 : decode cX0_held 1 = .ok (.iload_n 1, 1) := dk_27 (dk_at dksX0_held_0 1 rfl rfl)
theorem dX0_held_2 : decode cX0_held 2 = .ok (.iload_n 0, 1) := dk_26 (dk_at dksX0_held_0 2 rfl rfl)
theorem dX0_held_3 : decode cX0_held 3 = .ok (.invokestatic 1, 3) := dk_184 0 1 (dk_at dksX0_held_0 3 rfl rfl)
theorem dX0_held_6 : decode cX0_held 6 = .ok (.invokestatic 7, 3) := dk_184 0 7 (dk_at dksX0_held_0 6 rfl rfl)
theorem dX0_held_9 : decode cX0_held 9 = .ok (.ireturn, 1) := dk_172 (dk_at dksX0_held_0 9 rfl rfl)
abbrev cX0_tried : ByteArray := prog_1_method_20_code
def yX0_tried : MethodName := ⟨RX0, "tried", "(II)I"⟩
def dkwX0_tried_7 : List UInt8 := [180, 0, 132, 172]
abbrev dktX0_tried_7 : List UInt8 := dkwX0_tried_7 ++ []
def dkwX0_tried_6 : List UInt8 := [100, 50, 180, 0, 98, 184, 0, 212, 167, 0, 18, 42, 180, 0, 37, 180, 0, 117, 28, 16, 30, 100, 50]
abbrev dktX0_tried_6 : List UInt8 := dkwX0_tried_6 ++ dktX0_tried_7
def dkwX0_tried_5 : List UInt8 := [42, 180, 0, 37, 182, 0, 209, 172, 28, 16, 30, 162, 0, 24, 42, 180, 0, 37, 180, 0, 94, 28, 16, 10]
abbrev dktX0_tried_5 : List UInt8 := dkwX0_tried_5 ++ dktX0_tried_6
def dkwX0_tried_4 : List UInt8 := [42, 180, 0, 37, 180, 0, 196, 172, 42, 180, 0, 37, 180, 0, 203, 172, 42, 180, 0, 37, 180, 0, 206, 172]
abbrev dktX0_tried_4 : List UInt8 := dkwX0_tried_4 ++ dktX0_tried_5
def dkwX0_tried_3 : List UInt8 := [170, 0, 0, 0, 0, 62, 0, 0, 0, 0, 0, 0, 0, 3, 0, 0, 0, 30, 0, 0, 0, 38, 0, 0, 0, 46, 0, 0, 0, 54]
abbrev dktX0_tried_3 : List UInt8 := dkwX0_tried_3 ++ dktX0_tried_4
def dkwX0_tried_2 : List UInt8 := [180, 0, 33, 182, 0, 199, 27, 182, 0, 192, 87, 28]
abbrev dktX0_tried_2 : List UInt8 := dkwX0_tried_2 ++ dktX0_tried_3
def dkwX0_tried_1 : List UInt8 := [182, 0, 175, 154, 0, 15, 28, 16, 30, 100, 184, 0, 124, 154, 0, 5, 2, 172, 42, 180, 0, 37, 42]
abbrev dktX0_tried_1 : List UInt8 := dkwX0_tried_1 ++ dktX0_tried_2
def dkwX0_tried_0 : List UInt8 := [27, 4, 16, 60, 184, 0, 128, 153, 0, 32, 28, 7, 184, 0, 103, 154, 0, 26, 42, 28, 16, 10, 100]
abbrev dktX0_tried_0 : List UInt8 := dkwX0_tried_0 ++ dktX0_tried_1
theorem dksX0_tried_0 : cX0_tried.data.toList.drop 0 = dktX0_tried_0 := by decide +kernel
theorem dksX0_tried_1 : cX0_tried.data.toList.drop 23 = dktX0_tried_1 := dk_seg dksX0_tried_0 23 rfl rfl
theorem dksX0_tried_2 : cX0_tried.data.toList.drop 46 = dktX0_tried_2 := dk_seg dksX0_tried_1 23 rfl rfl
theorem dksX0_tried_3 : cX0_tried.data.toList.drop 58 = dktX0_tried_3 := dk_seg dksX0_tried_2 12 rfl rfl
theorem dksX0_tried_4 : cX0_tried.data.toList.drop 88 = dktX0_tried_4 := dk_seg dksX0_tried_3 30 rfl rfl
theorem dksX0_tried_5 : cX0_tried.data.toList.drop 112 = dktX0_tried_5 := dk_seg dksX0_tried_4 24 rfl rfl
theorem dksX0_tried_6 : cX0_tried.data.toList.drop 136 = dktX0_tried_6 := dk_seg dksX0_tried_5 24 rfl rfl
theorem dksX0_tried_7 : cX0_tried.data.toList.drop 159 = dktX0_tried_7 := dk_seg dksX0_tried_6 23 rfl rfl
theorem dX0_tried_0 : decode cX0_tried 0 = .ok (.iload_n 1, 1) := dk_27 (dk_at dksX0_tried_0 0 rfl rfl)
theorem dX0_tried_1 : decode cX0_tried 1 = .ok (.iconst 1, 1) := dk_4 (dk_at dksX0_tried_0 1 rfl rfl)
theorem dX0_tried_2 : decode cX0_tried 2 = .ok (.bipush 60, 2) := dk_16 60 (dk_at dksX0_tried_0 2 rfl rfl)
theorem dX0_tried_4 : decode cX0_tried 4 = .ok (.invokestatic 128, 3) := dk_184 0 128 (dk_at dksX0_tried_0 4 rfl rfl)
theorem dX0_tried_7 : decode cX0_tried 7 = .ok (.ifCond .eq 32, 3) := dk_153 0 32 (dk_at dksX0_tried_0 7 rfl rfl)
theorem dX0_tried_10 : decode cX0_tried 10 = .ok (.iload_n 2, 1) := dk_28 (dk_at dksX0_tried_0 10 rfl rfl)
theorem dX0_tried_11 : decode cX0_tried 11 = .ok (.iconst 4, 1) := dk_7 (dk_at dksX0_tried_0 11 rfl rfl)
theorem dX0_tried_12 : decode cX0_tried 12 = .ok (.invokestatic 103, 3) := dk_184 0 103 (dk_at dksX0_tried_0 12 rfl rfl)
theorem dX0_tried_15 : decode cX0_tried 15 = .ok (.ifCond .ne 26, 3) := dk_154 0 26 (dk_at dksX0_tried_0 15 rfl rfl)
theorem dX0_tried_18 : decode cX0_tried 18 = .ok (.aload_n 0, 1) := dk_42 (dk_at dksX0_tried_0 18 rfl rfl)
theorem dX0_tried_19 : decode cX0_tried 19 = .ok (.iload_n 2, 1) := dk_28 (dk_at dksX0_tried_0 19 rfl rfl)
theorem dX0_tried_20 : decode cX0_tried 20 = .ok (.bipush 10, 2) := dk_16 10 (dk_at dksX0_tried_0 20 rfl rfl)
theorem dX0_tried_22 : decode cX0_tried 22 = .ok (.isub, 1) := dk_100 (dk_at dksX0_tried_0 22 rfl rfl)
theorem dX0_tried_23 : decode cX0_tried 23 = .ok (.invokevirtual 175, 3) := dk_182 0 175 (dk_at dksX0_tried_1 0 rfl rfl)
theorem dX0_tried_26 : decode cX0_tried 26 = .ok (.ifCond .ne 15, 3) := dk_154 0 15 (dk_at dksX0_tried_1 3 rfl rfl)
theorem dX0_tried_29 : decode cX0_tried 29 = .ok (.iload_n 2, 1) := dk_28 (dk_at dksX0_tried_1 6 rfl rfl)
theorem dX0_tried_30 : decode cX0_tried 30 = .ok (.bipush 30, 2) := dk_16 30 (dk_at dksX0_tried_1 7 rfl rfl)
theorem dX0_tried_32 : decode cX0_tried 32 = .ok (.isub, 1) := dk_100 (dk_at dksX0_tried_1 9 rfl rfl)
theorem dX0_tried_33 : decode cX0_tried 33 = .ok (.invokestatic 124, 3) := dk_184 0 124 (dk_at dksX0_tried_1 10 rfl rfl)
theorem dX0_tried_36 : decode cX0_tried 36 = .ok (.ifCond .ne 5, 3) := dk_154 0 5 (dk_at dksX0_tried_1 13 rfl rfl)
theorem dX0_tried_39 : decode cX0_tried 39 = .ok (.iconst (-1), 1) := dk_2 (dk_at dksX0_tried_1 16 rfl rfl)
theorem dX0_tried_40 : decode cX0_tried 40 = .ok (.ireturn, 1) := dk_172 (dk_at dksX0_tried_1 17 rfl rfl)
theorem dX0_tried_41 : decode cX0_tried 41 = .ok (.aload_n 0, 1) := dk_42 (dk_at dksX0_tried_1 18 rfl rfl)
theorem dX0_tried_42 : decode cX0_tried 42 = .ok (.getfield 37, 3) := dk_180 0 37 (dk_at dksX0_tried_1 19 rfl rfl)
theorem dX0_tried_45 : decode cX0_tried 45 = .ok (.aload_n 0, 1) := dk_42 (dk_at dksX0_tried_1 22 rfl rfl)
theorem dX0_tried_46 : decode cX0_tried 46 = .ok (.getfield 33, 3) := dk_180 0 33 (dk_at dksX0_tried_2 0 rfl rfl)
theorem dX0_tried_49 : decode cX0_tried 49 = .ok (.invokevirtual 199, 3) := dk_182 0 199 (dk_at dksX0_tried_2 3 rfl rfl)
theorem dX0_tried_52 : decode cX0_tried 52 = .ok (.iload_n 1, 1) := dk_27 (dk_at dksX0_tried_2 6 rfl rfl)
theorem dX0_tried_53 : decode cX0_tried 53 = .ok (.invokevirtual 192, 3) := dk_182 0 192 (dk_at dksX0_tried_2 7 rfl rfl)
theorem dX0_tried_56 : decode cX0_tried 56 = .ok (.pop, 1) := dk_87 (dk_at dksX0_tried_2 10 rfl rfl)
theorem dX0_tried_57 : decode cX0_tried 57 = .ok (.iload_n 2, 1) := dk_28 (dk_at dksX0_tried_2 11 rfl rfl)
theorem dX0_tried_58 : decode cX0_tried 58 = .ok (.tableswitch 62 0 3 #[30, 38, 46, 54], 30) := by decide +kernel
theorem dX0_tried_88 : decode cX0_tried 88 = .ok (.aload_n 0, 1) := dk_42 (dk_at dksX0_tried_4 0 rfl rfl)
theorem dX0_tried_89 : decode cX0_tried 89 = .ok (.getfield 37, 3) := dk_180 0 37 (dk_at dksX0_tried_4 1 rfl rfl)
theorem dX0_tried_92 : decode cX0_tried 92 = .ok (.getfield 196, 3) := dk_180 0 196 (dk_at dksX0_tried_4 4 rfl rfl)
theorem dX0_tried_95 : decode cX0_tried 95 = .ok (.ireturn, 1) := dk_172 (dk_at dksX0_tried_4 7 rfl rfl)
theorem dX0_tried_96 : decode cX0_tried 96 = .ok (.aload_n 0, 1) := dk_42 (dk_at dksX0_tried_4 8 rfl rfl)
theorem dX0_tried_97 : decode cX0_tried 97 = .ok (.getfield 37, 3) := dk_180 0 37 (dk_at dksX0_tried_4 9 rfl rfl)
theorem dX0_tried_100 : decode cX0_tried 100 = .ok (.getfield 203, 3) := dk_180 0 203 (dk_at dksX0_tried_4 12 rfl rfl)
theorem dX0_tried_103 : decode cX0_tried 103 = .ok (.ireturn, 1) := dk_172 (dk_at dksX0_tried_4 15 rfl rfl)
theorem dX0_tried_104 : decode cX0_tried 104 = .ok (.aload_n 0, 1) := dk_42 (dk_at dksX0_tried_4 16 rfl rfl)
theorem dX0_tried_105 : decode cX0_tried 105 = .ok (.getfield 37, 3) := dk_180 0 37 (dk_at dksX0_tried_4 17 rfl rfl)
theorem dX0_tried_108 : decode cX0_tried 108 = .ok (.getfield 206, 3) := dk_180 0 206 (dk_at dksX0_tried_4 20 rfl rfl)
theorem dX0_tried_111 : decode cX0_tried 111 = .ok (.ireturn, 1) := dk_172 (dk_at dksX0_tried_4 23 rfl rfl)
theorem dX0_tried_112 : decode cX0_tried 112 = .ok (.aload_n 0, 1) := dk_42 (dk_at dksX0_tried_5 0 rfl rfl)
theorem dX0_tried_113 : decode cX0_tried 113 = .ok (.getfield 37, 3) := dk_180 0 37 (dk_at dksX0_tried_5 1 rfl rfl)
theorem dX0_tried_116 : decode cX0_tried 116 = .ok (.invokevirtual 209, 3) := dk_182 0 209 (dk_at dksX0_tried_5 4 rfl rfl)
theorem dX0_tried_119 : decode cX0_tried 119 = .ok (.ireturn, 1) := dk_172 (dk_at dksX0_tried_5 7 rfl rfl)
theorem dX0_tried_120 : decode cX0_tried 120 = .ok (.iload_n 2, 1) := dk_28 (dk_at dksX0_tried_5 8 rfl rfl)
theorem dX0_tried_121 : decode cX0_tried 121 = .ok (.bipush 30, 2) := dk_16 30 (dk_at dksX0_tried_5 9 rfl rfl)
theorem dX0_tried_123 : decode cX0_tried 123 = .ok (.if_icmp .ge 24, 3) := dk_162 0 24 (dk_at dksX0_tried_5 11 rfl rfl)
theorem dX0_tried_126 : decode cX0_tried 126 = .ok (.aload_n 0, 1) := dk_42 (dk_at dksX0_tried_5 14 rfl rfl)
theorem dX0_tried_127 : decode cX0_tried 127 = .ok (.getfield 37, 3) := dk_180 0 37 (dk_at dksX0_tried_5 15 rfl rfl)
theorem dX0_tried_130 : decode cX0_tried 130 = .ok (.getfield 94, 3) := dk_180 0 94 (dk_at dksX0_tried_5 18 rfl rfl)
theorem dX0_tried_133 : decode cX0_tried 133 = .ok (.iload_n 2, 1) := dk_28 (dk_at dksX0_tried_5 21 rfl rfl)
theorem dX0_tried_134 : decode cX0_tried 134 = .ok (.bipush 10, 2) := dk_16 10 (dk_at dksX0_tried_5 22 rfl rfl)
theorem dX0_tried_136 : decode cX0_tried 136 = .ok (.isub, 1) := dk_100 (dk_at dksX0_tried_6 0 rfl rfl)
theorem dX0_tried_137 : decode cX0_tried 137 = .ok (.aaload, 1) := dk_50 (dk_at dksX0_tried_6 1 rfl rfl)
theorem dX0_tried_138 : decode cX0_tried 138 = .ok (.getfield 98, 3) := dk_180 0 98 (dk_at dksX0_tried_6 2 rfl rfl)
theorem dX0_tried_141 : decode cX0_tried 141 = .ok (.invokestatic 212, 3) := dk_184 0 212 (dk_at dksX0_tried_6 5 rfl rfl)
theorem dX0_tried_144 : decode cX0_tried 144 = .ok (.goto 18, 3) := dk_167 0 18 (dk_at dksX0_tried_6 8 rfl rfl)
theorem dX0_tried_147 : decode cX0_tried 147 = .ok (.aload_n 0, 1) := dk_42 (dk_at dksX0_tried_6 11 rfl rfl)
theorem dX0_tried_148 : decode cX0_tried 148 = .ok (.getfield 37, 3) := dk_180 0 37 (dk_at dksX0_tried_6 12 rfl rfl)
theorem dX0_tried_151 : decode cX0_tried 151 = .ok (.getfield 117, 3) := dk_180 0 117 (dk_at dksX0_tried_6 15 rfl rfl)
theorem dX0_tried_154 : decode cX0_tried 154 = .ok (.iload_n 2, 1) := dk_28 (dk_at dksX0_tried_6 18 rfl rfl)
theorem dX0_tried_155 : decode cX0_tried 155 = .ok (.bipush 30, 2) := dk_16 30 (dk_at dksX0_tried_6 19 rfl rfl)
theorem dX0_tried_157 : decode cX0_tried 157 = .ok (.isub, 1) := dk_100 (dk_at dksX0_tried_6 21 rfl rfl)
theorem dX0_tried_158 : decode cX0_tried 158 = .ok (.aaload, 1) := dk_50 (dk_at dksX0_tried_6 22 rfl rfl)
theorem dX0_tried_159 : decode cX0_tried 159 = .ok (.getfield 132, 3) := dk_180 0 132 (dk_at dksX0_tried_7 0 rfl rfl)
theorem dX0_tried_162 : decode cX0_tried 162 = .ok (.ireturn, 1) := dk_172 (dk_at dksX0_tried_7 3 rfl rfl)
abbrev cX0_orNone : ByteArray := prog_1_method_6_code
def yX0_orNone : MethodName := ⟨RX0, "orNone", "(I)I"⟩
def dkwX0_orNone_0 : List UInt8 := [26, 2, 160, 0, 8, 16, 254, 167, 0, 4, 26, 172]
abbrev dktX0_orNone_0 : List UInt8 := dkwX0_orNone_0 ++ []
theorem dksX0_orNone_0 : cX0_orNone.data.toList.drop 0 = dktX0_orNone_0 := by decide +kernel
theorem dX0_orNone_0 : decode cX0_orNone 0 = .ok (.iload_n 0, 1) := dk_26 (dk_at dksX0_orNone_0 0 rfl rfl)
theorem dX0_orNone_1 : decode cX0_orNone 1 = .ok (.iconst (-1), 1) := dk_2 (dk_at dksX0_orNone_0 1 rfl rfl)
theorem dX0_orNone_2 : decode cX0_orNone 2 = .ok (.if_icmp .ne 8, 3) := dk_160 0 8 (dk_at dksX0_orNone_0 2 rfl rfl)
theorem dX0_orNone_5 : decode cX0_orNone 5 = .ok (.bipush (-2), 2) := dk_16 254 (dk_at dksX0_orNone_0 5 rfl rfl)
theorem dX0_orNone_7 : decode cX0_orNone 7 = .ok (.goto 4, 3) := dk_167 0 4 (dk_at dksX0_orNone_0 7 rfl rfl)
theorem dX0_orNone_10 : decode cX0_orNone 10 = .ok (.iload_n 0, 1) := dk_26 (dk_at dksX0_orNone_0 10 rfl rfl)
theorem dX0_orNone_11 : decode cX0_orNone 11 = .ok (.ireturn, 1) := dk_172 (dk_at dksX0_orNone_0 11 rfl rfl)
abbrev cX0_personIs : ByteArray := prog_1_method_22_code
def yX0_personIs : MethodName := ⟨RX0, "personIs", "(II)I"⟩
def dkwX0_personIs_4 : List UInt8 := [182, 0, 228, 172, 45, 180, 0, 186, 45, 180, 0, 189, 100, 172, 45, 180, 0, 231, 172, 2, 172]
abbrev dktX0_personIs_4 : List UInt8 := dkwX0_personIs_4 ++ []
def dkwX0_personIs_3 : List UInt8 := [180, 0, 222, 153, 0, 7, 3, 167, 0, 4, 4, 172, 42, 180, 0, 33, 27, 182, 0, 225, 172, 42, 27]
abbrev dktX0_personIs_3 : List UInt8 := dkwX0_personIs_3 ++ dktX0_personIs_4
def dkwX0_personIs_2 : List UInt8 := [45, 180, 0, 111, 172, 45, 180, 0, 114, 172, 45, 180, 0, 98, 184, 0, 212, 172, 45, 180, 0, 219, 172, 45]
abbrev dktX0_personIs_2 : List UInt8 := dkwX0_personIs_2 ++ dktX0_personIs_3
def dkwX0_personIs_1 : List UInt8 := [170, 0, 0, 0, 0, 0, 117, 0, 0, 0, 0, 0, 0, 0, 8, 0, 0, 0, 51, 0, 0, 0, 56, 0, 0, 0, 61, 0, 0, 0, 69, 0, 0, 0, 74, 0, 0, 0, 87, 0, 0, 0, 96, 0, 0, 0, 102, 0, 0, 0, 112]
abbrev dktX0_personIs_1 : List UInt8 := dkwX0_personIs_1 ++ dktX0_personIs_2
def dkwX0_personIs_0 : List UInt8 := [42, 27, 182, 0, 175, 154, 0, 5, 2, 172, 42, 180, 0, 33, 180, 0, 94, 27, 50, 78, 28]
abbrev dktX0_personIs_0 : List UInt8 := dkwX0_personIs_0 ++ dktX0_personIs_1
theorem dksX0_personIs_0 : cX0_personIs.data.toList.drop 0 = dktX0_personIs_0 := by decide +kernel
theorem dksX0_personIs_1 : cX0_personIs.data.toList.drop 21 = dktX0_personIs_1 := dk_seg dksX0_personIs_0 21 rfl rfl
theorem dksX0_personIs_2 : cX0_personIs.data.toList.drop 72 = dktX0_personIs_2 := dk_seg dksX0_personIs_1 51 rfl rfl
theorem dksX0_personIs_3 : cX0_personIs.data.toList.drop 96 = dktX0_personIs_3 := dk_seg dksX0_personIs_2 24 rfl rfl
theorem dksX0_personIs_4 : cX0_personIs.data.toList.drop 119 = dktX0_personIs_4 := dk_seg dksX0_personIs_3 23 rfl rfl
theorem dX0_personIs_0 : decode cX0_personIs 0 = .ok (.aload_n 0, 1) := dk_42 (dk_at dksX0_personIs_0 0 rfl rfl)
theorem dX0_personIs_1 : decode cX0_personIs 1 = .ok (.iload_n 1, 1) := dk_27 (dk_at dksX0_personIs_0 1 rfl rfl)
theorem dX0_personIs_2 : decode cX0_personIs 2 = .ok (.invokevirtual 175, 3) := dk_182 0 175 (dk_at dksX0_personIs_0 2 rfl rfl)
theorem dX0_personIs_5 : decode cX0_personIs 5 = .ok (.ifCond .ne 5, 3) := dk_154 0 5 (dk_at dksX0_personIs_0 5 rfl rfl)
theorem dX0_personIs_8 : decode cX0_personIs 8 = .ok (.iconst (-1), 1) := dk_2 (dk_at dksX0_personIs_0 8 rfl rfl)
theorem dX0_personIs_9 : decode cX0_personIs 9 = .ok (.ireturn, 1) := dk_172 (dk_at dksX0_personIs_0 9 rfl rfl)
theorem dX0_personIs_10 : decode cX0_personIs 10 = .ok (.aload_n 0, 1) := dk_42 (dk_at dksX0_personIs_0 10 rfl rfl)
theorem dX0_personIs_11 : decode cX0_personIs 11 = .ok (.getfield 33, 3) := dk_180 0 33 (dk_at dksX0_personIs_0 11 rfl rfl)
theorem dX0_personIs_14 : decode cX0_personIs 14 = .ok (.getfield 94, 3) := dk_180 0 94 (dk_at dksX0_personIs_0 14 rfl rfl)
theorem dX0_personIs_17 : decode cX0_personIs 17 = .ok (.iload_n 1, 1) := dk_27 (dk_at dksX0_personIs_0 17 rfl rfl)
theorem dX0_personIs_18 : decode cX0_personIs 18 = .ok (.aaload, 1) := dk_50 (dk_at dksX0_personIs_0 18 rfl rfl)
theorem dX0_personIs_19 : decode cX0_personIs 19 = .ok (.astore_n 3, 1) := dk_78 (dk_at dksX0_personIs_0 19 rfl rfl)
theorem dX0_personIs_20 : decode cX0_personIs 20 = .ok (.iload_n 2, 1) := dk_28 (dk_at dksX0_personIs_0 20 rfl rfl)
theorem dX0_personIs_21 : decode cX0_personIs 21 = .ok (.tableswitch 117 0 8 #[51, 56, 61, 69, 74, 87, 96, 102, 112], 51) := by decide +kernel
theorem dX0_personIs_72 : decode cX0_personIs 72 = .ok (.aload_n 3, 1) := dk_45 (dk_at dksX0_personIs_2 0 rfl rfl)
theorem dX0_personIs_73 : decode cX0_personIs 73 = .ok (.getfield 111, 3) := dk_180 0 111 (dk_at dksX0_personIs_2 1 rfl rfl)
theorem dX0_personIs_76 : decode cX0_personIs 76 = .ok (.ireturn, 1) := dk_172 (dk_at dksX0_personIs_2 4 rfl rfl)
theorem dX0_personIs_77 : decode cX0_personIs 77 = .ok (.aload_n 3, 1) := dk_45 (dk_at dksX0_personIs_2 5 rfl rfl)
theorem dX0_personIs_78 : decode cX0_personIs 78 = .ok (.getfield 114, 3) := dk_180 0 114 (dk_at dksX0_personIs_2 6 rfl rfl)
theorem dX0_personIs_81 : decode cX0_personIs 81 = .ok (.ireturn, 1) := dk_172 (dk_at dksX0_personIs_2 9 rfl rfl)
theorem dX0_personIs_82 : decode cX0_personIs 82 = .ok (.aload_n 3, 1) := dk_45 (dk_at dksX0_personIs_2 10 rfl rfl)
theorem dX0_personIs_83 : decode cX0_personIs 83 = .ok (.getfield 98, 3) := dk_180 0 98 (dk_at dksX0_personIs_2 11 rfl rfl)
theorem dX0_personIs_86 : decode cX0_personIs 86 = .ok (.invokestatic 212, 3) := dk_184 0 212 (dk_at dksX0_personIs_2 14 rfl rfl)
theorem dX0_personIs_89 : decode cX0_personIs 89 = .ok (.ireturn, 1) := dk_172 (dk_at dksX0_personIs_2 17 rfl rfl)
theorem dX0_personIs_90 : decode cX0_personIs 90 = .ok (.aload_n 3, 1) := dk_45 (dk_at dksX0_personIs_2 18 rfl rfl)
theorem dX0_personIs_91 : decode cX0_personIs 91 = .ok (.getfield 219, 3) := dk_180 0 219 (dk_at dksX0_personIs_2 19 rfl rfl)
theorem dX0_personIs_94 : decode cX0_personIs 94 = .ok (.ireturn, 1) := dk_172 (dk_at dksX0_personIs_2 22 rfl rfl)
theorem dX0_personIs_95 : decode cX0_personIs 95 = .ok (.aload_n 3, 1) := dk_45 (dk_at dksX0_personIs_2 23 rfl rfl)
theorem dX0_personIs_96 : decode cX0_personIs 96 = .ok (.getfield 222, 3) := dk_180 0 222 (dk_at dksX0_personIs_3 0 rfl rfl)
theorem dX0_personIs_99 : decode cX0_personIs 99 = .ok (.ifCond .eq 7, 3) := dk_153 0 7 (dk_at dksX0_personIs_3 3 rfl rfl)
theorem dX0_personIs_102 : decode cX0_personIs 102 = .ok (.iconst 0, 1) := dk_3 (dk_at dksX0_personIs_3 6 rfl rfl)
theorem dX0_personIs_103 : decode cX0_personIs 103 = .ok (.goto 4, 3) := dk_167 0 4 (dk_at dksX0_personIs_3 7 rfl rfl)
theorem dX0_personIs_106 : decode cX0_personIs 106 = .ok (.iconst 1, 1) := dk_4 (dk_at dksX0_personIs_3 10 rfl rfl)
theorem dX0_personIs_107 : decode cX0_personIs 107 = .ok (.ireturn, 1) := dk_172 (dk_at dksX0_personIs_3 11 rfl rfl)
theorem dX0_personIs_108 : decode cX0_personIs 108 = .ok (.aload_n 0, 1) := dk_42 (dk_at dksX0_personIs_3 12 rfl rfl)
theorem dX0_personIs_109 : decode cX0_personIs 109 = .ok (.getfield 33, 3) := dk_180 0 33 (dk_at dksX0_personIs_3 13 rfl rfl)
theorem dX0_personIs_112 : decode cX0_personIs 112 = .ok (.iload_n 1, 1) := dk_27 (dk_at dksX0_personIs_3 16 rfl rfl)
theorem dX0_personIs_113 : decode cX0_personIs 113 = .ok (.invokevirtual 225, 3) := dk_182 0 225 (dk_at dksX0_personIs_3 17 rfl rfl)
theorem dX0_personIs_116 : decode cX0_personIs 116 = .ok (.ireturn, 1) := dk_172 (dk_at dksX0_personIs_3 20 rfl rfl)
theorem dX0_personIs_117 : decode cX0_personIs 117 = .ok (.aload_n 0, 1) := dk_42 (dk_at dksX0_personIs_3 21 rfl rfl)
theorem dX0_personIs_118 : decode cX0_personIs 118 = .ok (.iload_n 1, 1) := dk_27 (dk_at dksX0_personIs_3 22 rfl rfl)
theorem dX0_personIs_119 : decode cX0_personIs 119 = .ok (.invokevirtual 228, 3) := dk_182 0 228 (dk_at dksX0_personIs_4 0 rfl rfl)
theorem dX0_personIs_122 : decode cX0_personIs 122 = .ok (.ireturn, 1) := dk_172 (dk_at dksX0_personIs_4 3 rfl rfl)
theorem dX0_personIs_123 : decode cX0_personIs 123 = .ok (.aload_n 3, 1) := dk_45 (dk_at dksX0_personIs_4 4 rfl rfl)
theorem dX0_personIs_124 : decode cX0_personIs 124 = .ok (.getfield 186, 3) := dk_180 0 186 (dk_at dksX0_personIs_4 5 rfl rfl)
theorem dX0_personIs_127 : decode cX0_personIs 127 = .ok (.aload_n 3, 1) := dk_45 (dk_at dksX0_personIs_4 8 rfl rfl)
theorem dX0_personIs_128 : decode cX0_personIs 128 = .ok (.getfield 189, 3) := dk_180 0 189 (dk_at dksX0_personIs_4 9 rfl rfl)
theorem dX0_personIs_131 : decode cX0_personIs 131 = .ok (.isub, 1) := dk_100 (dk_at dksX0_personIs_4 12 rfl rfl)
theorem dX0_personIs_132 : decode cX0_personIs 132 = .ok (.ireturn, 1) := dk_172 (dk_at dksX0_personIs_4 13 rfl rfl)
theorem dX0_personIs_133 : decode cX0_personIs 133 = .ok (.aload_n 3, 1) := dk_45 (dk_at dksX0_personIs_4 14 rfl rfl)
theorem dX0_personIs_134 : decode cX0_personIs 134 = .ok (.getfield 231, 3) := dk_180 0 231 (dk_at dksX0_personIs_4 15 rfl rfl)
theorem dX0_personIs_137 : decode cX0_personIs 137 = .ok (.ireturn, 1) := dk_172 (dk_at dksX0_personIs_4 18 rfl rfl)
theorem dX0_personIs_138 : decode cX0_personIs 138 = .ok (.iconst (-1), 1) := dk_2 (dk_at dksX0_personIs_4 19 rfl rfl)
theorem dX0_personIs_139 : decode cX0_personIs 139 = .ok (.ireturn, 1) := dk_172 (dk_at dksX0_personIs_4 20 rfl rfl)
abbrev cX0_fitting : ByteArray := prog_1_method_21_code
def yX0_fitting : MethodName := ⟨RX0, "fitting", "(I)I"⟩
def dkwX0_fitting_2 : List UInt8 := [132, 3, 1, 167, 255, 209, 28, 172]
abbrev dktX0_fitting_2 : List UInt8 := dkwX0_fitting_2 ++ []
def dkwX0_fitting_1 : List UInt8 := [153, 0, 21, 42, 180, 0, 33, 27, 29, 182, 0, 216, 153, 0, 9, 4, 29, 120, 167, 0, 4, 3, 128, 61]
abbrev dktX0_fitting_1 : List UInt8 := dkwX0_fitting_1 ++ dktX0_fitting_2
def dkwX0_fitting_0 : List UInt8 := [3, 61, 3, 62, 29, 16, 12, 162, 0, 47, 28, 29, 27, 159, 0, 32, 42, 180, 0, 33, 29, 182, 0, 135]
abbrev dktX0_fitting_0 : List UInt8 := dkwX0_fitting_0 ++ dktX0_fitting_1
theorem dksX0_fitting_0 : cX0_fitting.data.toList.drop 0 = dktX0_fitting_0 := by decide +kernel
theorem dksX0_fitting_1 : cX0_fitting.data.toList.drop 24 = dktX0_fitting_1 := dk_seg dksX0_fitting_0 24 rfl rfl
theorem dksX0_fitting_2 : cX0_fitting.data.toList.drop 48 = dktX0_fitting_2 := dk_seg dksX0_fitting_1 24 rfl rfl
theorem dX0_fitting_0 : decode cX0_fitting 0 = .ok (.iconst 0, 1) := dk_3 (dk_at dksX0_fitting_0 0 rfl rfl)
theorem dX0_fitting_1 : decode cX0_fitting 1 = .ok (.istore_n 2, 1) := dk_61 (dk_at dksX0_fitting_0 1 rfl rfl)
theorem dX0_fitting_2 : decode cX0_fitting 2 = .ok (.iconst 0, 1) := dk_3 (dk_at dksX0_fitting_0 2 rfl rfl)
theorem dX0_fitting_3 : decode cX0_fitting 3 = .ok (.istore_n 3, 1) := dk_62 (dk_at dksX0_fitting_0 3 rfl rfl)
theorem dX0_fitting_4 : decode cX0_fitting 4 = .ok (.iload_n 3, 1) := dk_29 (dk_at dksX0_fitting_0 4 rfl rfl)
theorem dX0_fitting_5 : decode cX0_fitting 5 = .ok (.bipush 12, 2) := dk_16 12 (dk_at dksX0_fitting_0 5 rfl rfl)
theorem dX0_fitting_7 : decode cX0_fitting 7 = .ok (.if_icmp .ge 47, 3) := dk_162 0 47 (dk_at dksX0_fitting_0 7 rfl rfl)
theorem dX0_fitting_10 : decode cX0_fitting 10 = .ok (.iload_n 2, 1) := dk_28 (dk_at dksX0_fitting_0 10 rfl rfl)
theorem dX0_fitting_11 : decode cX0_fitting 11 = .ok (.iload_n 3, 1) := dk_29 (dk_at dksX0_fitting_0 11 rfl rfl)
theorem dX0_fitting_12 : decode cX0_fitting 12 = .ok (.iload_n 1, 1) := dk_27 (dk_at dksX0_fitting_0 12 rfl rfl)
theorem dX0_fitting_13 : decode cX0_fitting 13 = .ok (.if_icmp .eq 32, 3) := dk_159 0 32 (dk_at dksX0_fitting_0 13 rfl rfl)
theorem dX0_fitting_16 : decode cX0_fitting 16 = .ok (.aload_n 0, 1) := dk_42 (dk_at dksX0_fitting_0 16 rfl rfl)
theorem dX0_fitting_17 : decode cX0_fitting 17 = .ok (.getfield 33, 3) := dk_180 0 33 (dk_at dksX0_fitting_0 17 rfl rfl)
theorem dX0_fitting_20 : decode cX0_fitting 20 = .ok (.iload_n 3, 1) := dk_29 (dk_at dksX0_fitting_0 20 rfl rfl)
theorem dX0_fitting_21 : decode cX0_fitting 21 = .ok (.invokevirtual 135, 3) := dk_182 0 135 (dk_at dksX0_fitting_0 21 rfl rfl)
theorem dX0_fitting_24 : decode cX0_fitting 24 = .ok (.ifCond .eq 21, 3) := dk_153 0 21 (dk_at dksX0_fitting_1 0 rfl rfl)
theorem dX0_fitting_27 : decode cX0_fitting 27 = .ok (.aload_n 0, 1) := dk_42 (dk_at dksX0_fitting_1 3 rfl rfl)
theorem dX0_fitting_28 : decode cX0_fitting 28 = .ok (.getfield 33, 3) := dk_180 0 33 (dk_at dksX0_fitting_1 4 rfl rfl)
theorem dX0_fitting_31 : decode cX0_fitting 31 = .ok (.iload_n 1, 1) := dk_27 (dk_at dksX0_fitting_1 7 rfl rfl)
theorem dX0_fitting_32 : decode cX0_fitting 32 = .ok (.iload_n 3, 1) := dk_29 (dk_at dksX0_fitting_1 8 rfl rfl)
theorem dX0_fitting_33 : decode cX0_fitting 33 = .ok (.invokevirtual 216, 3) := dk_182 0 216 (dk_at dksX0_fitting_1 9 rfl rfl)
theorem dX0_fitting_36 : decode cX0_fitting 36 = .ok (.ifCond .eq 9, 3) := dk_153 0 9 (dk_at dksX0_fitting_1 12 rfl rfl)
theorem dX0_fitting_39 : decode cX0_fitting 39 = .ok (.iconst 1, 1) := dk_4 (dk_at dksX0_fitting_1 15 rfl rfl)
theorem dX0_fitting_40 : decode cX0_fitting 40 = .ok (.iload_n 3, 1) := dk_29 (dk_at dksX0_fitting_1 16 rfl rfl)
theorem dX0_fitting_41 : decode cX0_fitting 41 = .ok (.ishl, 1) := dk_120 (dk_at dksX0_fitting_1 17 rfl rfl)
theorem dX0_fitting_42 : decode cX0_fitting 42 = .ok (.goto 4, 3) := dk_167 0 4 (dk_at dksX0_fitting_1 18 rfl rfl)
theorem dX0_fitting_45 : decode cX0_fitting 45 = .ok (.iconst 0, 1) := dk_3 (dk_at dksX0_fitting_1 21 rfl rfl)
theorem dX0_fitting_46 : decode cX0_fitting 46 = .ok (.ior, 1) := dk_128 (dk_at dksX0_fitting_1 22 rfl rfl)
theorem dX0_fitting_47 : decode cX0_fitting 47 = .ok (.istore_n 2, 1) := dk_61 (dk_at dksX0_fitting_1 23 rfl rfl)
theorem dX0_fitting_48 : decode cX0_fitting 48 = .ok (.iinc 3 1, 3) := dk_132 3 1 (dk_at dksX0_fitting_2 0 rfl rfl)
theorem dX0_fitting_51 : decode cX0_fitting 51 = .ok (.goto (-47), 3) := dk_167 255 209 (dk_at dksX0_fitting_2 3 rfl rfl)
theorem dX0_fitting_54 : decode cX0_fitting 54 = .ok (.iload_n 2, 1) := dk_28 (dk_at dksX0_fitting_2 6 rfl rfl)
theorem dX0_fitting_55 : decode cX0_fitting 55 = .ok (.ireturn, 1) := dk_172 (dk_at dksX0_fitting_2 7 rfl rfl)
abbrev cX0_piece : ByteArray := prog_1_method_23_code
def yX0_piece : MethodName := ⟨RX0, "piece", "(II)I"⟩
def dkwX0_piece_2 : List UInt8 := [160, 0, 10, 45, 180, 0, 132, 167, 0, 10, 45, 180, 0, 121, 184, 0, 212, 172]
abbrev dktX0_piece_2 : List UInt8 := dkwX0_piece_2 ++ []
def dkwX0_piece_1 : List UInt8 := [180, 0, 117, 27, 50, 78, 28, 16, 8, 162, 0, 12, 45, 180, 0, 171, 28, 46, 167, 0, 23, 28, 16, 8]
abbrev dktX0_piece_1 : List UInt8 := dkwX0_piece_1 ++ dktX0_piece_2
def dkwX0_piece_0 : List UInt8 := [27, 184, 0, 124, 153, 0, 12, 28, 16, 10, 184, 0, 103, 154, 0, 6, 16, 156, 172, 42, 180, 0, 33]
abbrev dktX0_piece_0 : List UInt8 := dkwX0_piece_0 ++ dktX0_piece_1
theorem dksX0_piece_0 : cX0_piece.data.toList.drop 0 = dktX0_piece_0 := by decide +kernel
theorem dksX0_piece_1 : cX0_piece.data.toList.drop 23 = dktX0_piece_1 := dk_seg dksX0_piece_0 23 rfl rfl
theorem dksX0_piece_2 : cX0_piece.data.toList.drop 47 = dktX0_piece_2 := dk_seg dksX0_piece_1 24 rfl rfl
theorem dX0_piece_0 : decode cX0_piece 0 = .ok (.iload_n 1, 1) := dk_27 (dk_at dksX0_piece_0 0 rfl rfl)
theorem dX0_piece_1 : decode cX0_piece 1 = .ok (.invokestatic 124, 3) := dk_184 0 124 (dk_at dksX0_piece_0 1 rfl rfl)
theorem dX0_piece_4 : decode cX0_piece 4 = .ok (.ifCond .eq 12, 3) := dk_153 0 12 (dk_at dksX0_piece_0 4 rfl rfl)
theorem dX0_piece_7 : decode cX0_piece 7 = .ok (.iload_n 2, 1) := dk_28 (dk_at dksX0_piece_0 7 rfl rfl)
theorem dX0_piece_8 : decode cX0_piece 8 = .ok (.bipush 10, 2) := dk_16 10 (dk_at dksX0_piece_0 8 rfl rfl)
theorem dX0_piece_10 : decode cX0_piece 10 = .ok (.invokestatic 103, 3) := dk_184 0 103 (dk_at dksX0_piece_0 10 rfl rfl)
theorem dX0_piece_13 : decode cX0_piece 13 = .ok (.ifCond .ne 6, 3) := dk_154 0 6 (dk_at dksX0_piece_0 13 rfl rfl)
theorem dX0_piece_16 : decode cX0_piece 16 = .ok (.bipush (-100), 2) := dk_16 156 (dk_at dksX0_piece_0 16 rfl rfl)
theorem dX0_piece_18 : decode cX0_piece 18 = .ok (.ireturn, 1) := dk_172 (dk_at dksX0_piece_0 18 rfl rfl)
theorem dX0_piece_19 : decode cX0_piece 19 = .ok (.aload_n 0, 1) := dk_42 (dk_at dksX0_piece_0 19 rfl rfl)
theorem dX0_piece_20 : decode cX0_piece 20 = .ok (.getfield 33, 3) := dk_180 0 33 (dk_at dksX0_piece_0 20 rfl rfl)
theorem dX0_piece_23 : decode cX0_piece 23 = .ok (.getfield 117, 3) := dk_180 0 117 (dk_at dksX0_piece_1 0 rfl rfl)
theorem dX0_piece_26 : decode cX0_piece 26 = .ok (.iload_n 1, 1) := dk_27 (dk_at dksX0_piece_1 3 rfl rfl)
theorem dX0_piece_27 : decode cX0_piece 27 = .ok (.aaload, 1) := dk_50 (dk_at dksX0_piece_1 4 rfl rfl)
theorem dX0_piece_28 : decode cX0_piece 28 = .ok (.astore_n 3, 1) := dk_78 (dk_at dksX0_piece_1 5 rfl rfl)
theorem dX0_piece_29 : decode cX0_piece 29 = .ok (.iload_n 2, 1) := dk_28 (dk_at dksX0_piece_1 6 rfl rfl)
theorem dX0_piece_30 : decode cX0_piece 30 = .ok (.bipush 8, 2) := dk_16 8 (dk_at dksX0_piece_1 7 rfl rfl)
theorem dX0_piece_32 : decode cX0_piece 32 = .ok (.if_icmp .ge 12, 3) := dk_162 0 12 (dk_at dksX0_piece_1 9 rfl rfl)
theorem dX0_piece_35 : decode cX0_piece 35 = .ok (.aload_n 3, 1) := dk_45 (dk_at dksX0_piece_1 12 rfl rfl)
theorem dX0_piece_36 : decode cX0_piece 36 = .ok (.getfield 171, 3) := dk_180 0 171 (dk_at dksX0_piece_1 13 rfl rfl)
theorem dX0_piece_39 : decode cX0_piece 39 = .ok (.iload_n 2, 1) := dk_28 (dk_at dksX0_piece_1 16 rfl rfl)
theorem dX0_piece_40 : decode cX0_piece 40 = .ok (.iaload, 1) := dk_46 (dk_at dksX0_piece_1 17 rfl rfl)
theorem dX0_piece_41 : decode cX0_piece 41 = .ok (.goto 23, 3) := dk_167 0 23 (dk_at dksX0_piece_1 18 rfl rfl)
theorem dX0_piece_44 : decode cX0_piece 44 = .ok (.iload_n 2, 1) := dk_28 (dk_at dksX0_piece_1 21 rfl rfl)
theorem dX0_piece_45 : decode cX0_piece 45 = .ok (.bipush 8, 2) := dk_16 8 (dk_at dksX0_piece_1 22 rfl rfl)
theorem dX0_piece_47 : decode cX0_piece 47 = .ok (.if_icmp .ne 10, 3) := dk_160 0 10 (dk_at dksX0_piece_2 0 rfl rfl)
theorem dX0_piece_50 : decode cX0_piece 50 = .ok (.aload_n 3, 1) := dk_45 (dk_at dksX0_piece_2 3 rfl rfl)
theorem dX0_piece_51 : decode cX0_piece 51 = .ok (.getfield 132, 3) := dk_180 0 132 (dk_at dksX0_piece_2 4 rfl rfl)
theorem dX0_piece_54 : decode cX0_piece 54 = .ok (.goto 10, 3) := dk_167 0 10 (dk_at dksX0_piece_2 7 rfl rfl)
theorem dX0_piece_57 : decode cX0_piece 57 = .ok (.aload_n 3, 1) := dk_45 (dk_at dksX0_piece_2 10 rfl rfl)
theorem dX0_piece_58 : decode cX0_piece 58 = .ok (.getfield 121, 3) := dk_180 0 121 (dk_at dksX0_piece_2 11 rfl rfl)
theorem dX0_piece_61 : decode cX0_piece 61 = .ok (.invokestatic 212, 3) := dk_184 0 212 (dk_at dksX0_piece_2 14 rfl rfl)
theorem dX0_piece_64 : decode cX0_piece 64 = .ok (.ireturn, 1) := dk_172 (dk_at dksX0_piece_2 17 rfl rfl)
abbrev cX0_slack : ByteArray := prog_1_method_24_code
def yX0_slack : MethodName := ⟨RX0, "slack", "(III)I"⟩
def dkwX0_slack_4 : List UInt8 := [182, 0, 237, 172]
abbrev dktX0_slack_4 : List UInt8 := dkwX0_slack_4 ++ []
def dkwX0_slack_3 : List UInt8 := [27, 28, 182, 0, 216, 153, 0, 7, 4, 167, 0, 16, 3, 167, 0, 12, 42, 180, 0, 33, 27, 28]
abbrev dktX0_slack_3 : List UInt8 := dkwX0_slack_3 ++ dktX0_slack_4
def dkwX0_slack_2 : List UInt8 := [154, 0, 15, 42, 180, 0, 33, 27, 28, 182, 0, 234, 167, 0, 37, 29, 4, 160, 0, 23, 42, 180, 0, 33]
abbrev dktX0_slack_2 : List UInt8 := dkwX0_slack_2 ++ dktX0_slack_3
def dkwX0_slack_1 : List UInt8 := [184, 0, 103, 153, 0, 16, 42, 180, 0, 33, 27, 28, 182, 0, 234, 2, 160, 0, 5, 2, 172, 29]
abbrev dktX0_slack_1 : List UInt8 := dkwX0_slack_1 ++ dktX0_slack_2
def dkwX0_slack_0 : List UInt8 := [42, 27, 182, 0, 175, 153, 0, 37, 42, 28, 182, 0, 175, 153, 0, 29, 27, 28, 159, 0, 24, 29, 6]
abbrev dktX0_slack_0 : List UInt8 := dkwX0_slack_0 ++ dktX0_slack_1
theorem dksX0_slack_0 : cX0_slack.data.toList.drop 0 = dktX0_slack_0 := by decide +kernel
theorem dksX0_slack_1 : cX0_slack.data.toList.drop 23 = dktX0_slack_1 := dk_seg dksX0_slack_0 23 rfl rfl
theorem dksX0_slack_2 : cX0_slack.data.toList.drop 45 = dktX0_slack_2 := dk_seg dksX0_slack_1 22 rfl rfl
theorem dksX0_slack_3 : cX0_slack.data.toList.drop 69 = dktX0_slack_3 := dk_seg dksX0_slack_2 24 rfl rfl
theorem dksX0_slack_4 : cX0_slack.data.toList.drop 91 = dktX0_slack_4 := dk_seg dksX0_slack_3 22 rfl rfl
theorem dX0_slack_0 : decode cX0_slack 0 = .ok (.aload_n 0, 1) := dk_42 (dk_at dksX0_slack_0 0 rfl rfl)
theorem dX0_slack_1 : decode cX0_slack 1 = .ok (.iload_n 1, 1) := dk_27 (dk_at dksX0_slack_0 1 rfl rfl)
theorem dX0_slack_2 : decode cX0_slack 2 = .ok (.invokevirtual 175, 3) := dk_182 0 175 (dk_at dksX0_slack_0 2 rfl rfl)
theorem dX0_slack_5 : decode cX0_slack 5 = .ok (.ifCond .eq 37, 3) := dk_153 0 37 (dk_at dksX0_slack_0 5 rfl rfl)
theorem dX0_slack_8 : decode cX0_slack 8 = .ok (.aload_n 0, 1) := dk_42 (dk_at dksX0_slack_0 8 rfl rfl)
theorem dX0_slack_9 : decode cX0_slack 9 = .ok (.iload_n 2, 1) := dk_28 (dk_at dksX0_slack_0 9 rfl rfl)
theorem dX0_slack_10 : decode cX0_slack 10 = .ok (.invokevirtual 175, 3) := dk_182 0 175 (dk_at dksX0_slack_0 10 rfl rfl)
theorem dX0_slack_13 : decode cX0_slack 13 = .ok (.ifCond .eq 29, 3) := dk_153 0 29 (dk_at dksX0_slack_0 13 rfl rfl)
theorem dX0_slack_16 : decode cX0_slack 16 = .ok (.iload_n 1, 1) := dk_27 (dk_at dksX0_slack_0 16 rfl rfl)
theorem dX0_slack_17 : decode cX0_slack 17 = .ok (.iload_n 2, 1) := dk_28 (dk_at dksX0_slack_0 17 rfl rfl)
theorem dX0_slack_18 : decode cX0_slack 18 = .ok (.if_icmp .eq 24, 3) := dk_159 0 24 (dk_at dksX0_slack_0 18 rfl rfl)
theorem dX0_slack_21 : decode cX0_slack 21 = .ok (.iload_n 3, 1) := dk_29 (dk_at dksX0_slack_0 21 rfl rfl)
theorem dX0_slack_22 : decode cX0_slack 22 = .ok (.iconst 3, 1) := dk_6 (dk_at dksX0_slack_0 22 rfl rfl)
theorem dX0_slack_23 : decode cX0_slack 23 = .ok (.invokestatic 103, 3) := dk_184 0 103 (dk_at dksX0_slack_1 0 rfl rfl)
theorem dX0_slack_26 : decode cX0_slack 26 = .ok (.ifCond .eq 16, 3) := dk_153 0 16 (dk_at dksX0_slack_1 3 rfl rfl)
theorem dX0_slack_29 : decode cX0_slack 29 = .ok (.aload_n 0, 1) := dk_42 (dk_at dksX0_slack_1 6 rfl rfl)
theorem dX0_slack_30 : decode cX0_slack 30 = .ok (.getfield 33, 3) := dk_180 0 33 (dk_at dksX0_slack_1 7 rfl rfl)
theorem dX0_slack_33 : decode cX0_slack 33 = .ok (.iload_n 1, 1) := dk_27 (dk_at dksX0_slack_1 10 rfl rfl)
theorem dX0_slack_34 : decode cX0_slack 34 = .ok (.iload_n 2, 1) := dk_28 (dk_at dksX0_slack_1 11 rfl rfl)
theorem dX0_slack_35 : decode cX0_slack 35 = .ok (.invokevirtual 234, 3) := dk_182 0 234 (dk_at dksX0_slack_1 12 rfl rfl)
theorem dX0_slack_38 : decode cX0_slack 38 = .ok (.iconst (-1), 1) := dk_2 (dk_at dksX0_slack_1 15 rfl rfl)
theorem dX0_slack_39 : decode cX0_slack 39 = .ok (.if_icmp .ne 5, 3) := dk_160 0 5 (dk_at dksX0_slack_1 16 rfl rfl)
theorem dX0_slack_42 : decode cX0_slack 42 = .ok (.iconst (-1), 1) := dk_2 (dk_at dksX0_slack_1 19 rfl rfl)
theorem dX0_slack_43 : decode cX0_slack 43 = .ok (.ireturn, 1) := dk_172 (dk_at dksX0_slack_1 20 rfl rfl)
theorem dX0_slack_44 : decode cX0_slack 44 = .ok (.iload_n 3, 1) := dk_29 (dk_at dksX0_slack_1 21 rfl rfl)
theorem dX0_slack_45 : decode cX0_slack 45 = .ok (.ifCond .ne 15, 3) := dk_154 0 15 (dk_at dksX0_slack_2 0 rfl rfl)
theorem dX0_slack_48 : decode cX0_slack 48 = .ok (.aload_n 0, 1) := dk_42 (dk_at dksX0_slack_2 3 rfl rfl)
theorem dX0_slack_49 : decode cX0_slack 49 = .ok (.getfield 33, 3) := dk_180 0 33 (dk_at dksX0_slack_2 4 rfl rfl)
theorem dX0_slack_52 : decode cX0_slack 52 = .ok (.iload_n 1, 1) := dk_27 (dk_at dksX0_slack_2 7 rfl rfl)
theorem dX0_slack_53 : decode cX0_slack 53 = .ok (.iload_n 2, 1) := dk_28 (dk_at dksX0_slack_2 8 rfl rfl)
theorem dX0_slack_54 : decode cX0_slack 54 = .ok (.invokevirtual 234, 3) := dk_182 0 234 (dk_at dksX0_slack_2 9 rfl rfl)
theorem dX0_slack_57 : decode cX0_slack 57 = .ok (.goto 37, 3) := dk_167 0 37 (dk_at dksX0_slack_2 12 rfl rfl)
theorem dX0_slack_60 : decode cX0_slack 60 = .ok (.iload_n 3, 1) := dk_29 (dk_at dksX0_slack_2 15 rfl rfl)
theorem dX0_slack_61 : decode cX0_slack 61 = .ok (.iconst 1, 1) := dk_4 (dk_at dksX0_slack_2 16 rfl rfl)
theorem dX0_slack_62 : decode cX0_slack 62 = .ok (.if_icmp .ne 23, 3) := dk_160 0 23 (dk_at dksX0_slack_2 17 rfl rfl)
theorem dX0_slack_65 : decode cX0_slack 65 = .ok (.aload_n 0, 1) := dk_42 (dk_at dksX0_slack_2 20 rfl rfl)
theorem dX0_slack_66 : decode cX0_slack 66 = .ok (.getfield 33, 3) := dk_180 0 33 (dk_at dksX0_slack_2 21 rfl rfl)
theorem dX0_slack_69 : decode cX0_slack 69 = .ok (.iload_n 1, 1) := dk_27 (dk_at dksX0_slack_3 0 rfl rfl)
theorem dX0_slack_70 : decode cX0_slack 70 = .ok (.iload_n 2, 1) := dk_28 (dk_at dksX0_slack_3 1 rfl rfl)
theorem dX0_slack_71 : decode cX0_slack 71 = .ok (.invokevirtual 216, 3) := dk_182 0 216 (dk_at dksX0_slack_3 2 rfl rfl)
theorem dX0_slack_74 : decode cX0_slack 74 = .ok (.ifCond .eq 7, 3) := dk_153 0 7 (dk_at dksX0_slack_3 5 rfl rfl)
theorem dX0_slack_77 : decode cX0_slack 77 = .ok (.iconst 1, 1) := dk_4 (dk_at dksX0_slack_3 8 rfl rfl)
theorem dX0_slack_78 : decode cX0_slack 78 = .ok (.goto 16, 3) := dk_167 0 16 (dk_at dksX0_slack_3 9 rfl rfl)
theorem dX0_slack_81 : decode cX0_slack 81 = .ok (.iconst 0, 1) := dk_3 (dk_at dksX0_slack_3 12 rfl rfl)
theorem dX0_slack_82 : decode cX0_slack 82 = .ok (.goto 12, 3) := dk_167 0 12 (dk_at dksX0_slack_3 13 rfl rfl)
theorem dX0_slack_85 : decode cX0_slack 85 = .ok (.aload_n 0, 1) := dk_42 (dk_at dksX0_slack_3 16 rfl rfl)
theorem dX0_slack_86 : decode cX0_slack 86 = .ok (.getfield 33, 3) := dk_180 0 33 (dk_at dksX0_slack_3 17 rfl rfl)
theorem dX0_slack_89 : decode cX0_slack 89 = .ok (.iload_n 1, 1) := dk_27 (dk_at dksX0_slack_3 20 rfl rfl)
theorem dX0_slack_90 : decode cX0_slack 90 = .ok (.iload_n 2, 1) := dk_28 (dk_at dksX0_slack_3 21 rfl rfl)
theorem dX0_slack_91 : decode cX0_slack 91 = .ok (.invokevirtual 237, 3) := dk_182 0 237 (dk_at dksX0_slack_4 0 rfl rfl)
theorem dX0_slack_94 : decode cX0_slack 94 = .ok (.ireturn, 1) := dk_172 (dk_at dksX0_slack_4 3 rfl rfl)
abbrev cX0_locks : ByteArray := prog_1_method_26_code
def yX0_locks : MethodName := ⟨RX0, "locks", "(I)I"⟩
def dkwX0_locks_6 : List UInt8 := [167, 0, 4, 29, 172]
abbrev dktX0_locks_6 : List UInt8 := dkwX0_locks_6 ++ []
def dkwX0_locks_5 : List UInt8 := [132, 6, 1, 167, 255, 180, 132, 5, 1, 167, 255, 161, 132, 4, 1, 167, 255, 142, 27, 154, 0, 7, 28]
abbrev dktX0_locks_5 : List UInt8 := dkwX0_locks_5 ++ dktX0_locks_6
def dkwX0_locks_4 : List UInt8 := [160, 0, 8, 21, 4, 167, 0, 15, 27, 5, 160, 0, 8, 21, 5, 167, 0, 5, 21, 6, 62, 132, 2, 1]
abbrev dktX0_locks_4 : List UInt8 := dkwX0_locks_4 ++ dktX0_locks_5
def dkwX0_locks_3 : List UInt8 := [153, 0, 47, 42, 21, 5, 21, 6, 182, 0, 240, 154, 0, 6, 167, 0, 33, 28, 154, 0, 26, 27, 4]
abbrev dktX0_locks_3 : List UInt8 := dkwX0_locks_3 ++ dktX0_locks_4
def dkwX0_locks_2 : List UInt8 := [16, 12, 162, 0, 75, 42, 21, 4, 21, 5, 182, 0, 240, 153, 0, 64, 42, 21, 4, 21, 6, 182, 0, 240]
abbrev dktX0_locks_2 : List UInt8 := dkwX0_locks_2 ++ dktX0_locks_3
def dkwX0_locks_1 : List UInt8 := [162, 0, 113, 21, 4, 4, 96, 54, 5, 21, 5, 16, 12, 162, 0, 94, 21, 5, 4, 96, 54, 6, 21, 6]
abbrev dktX0_locks_1 : List UInt8 := dkwX0_locks_1 ++ dktX0_locks_2
def dkwX0_locks_0 : List UInt8 := [27, 3, 6, 184, 0, 128, 154, 0, 5, 2, 172, 3, 61, 16, 254, 62, 3, 54, 4, 21, 4, 16, 12]
abbrev dktX0_locks_0 : List UInt8 := dkwX0_locks_0 ++ dktX0_locks_1
theorem dksX0_locks_0 : cX0_locks.data.toList.drop 0 = dktX0_locks_0 := by decide +kernel
theorem dksX0_locks_1 : cX0_locks.data.toList.drop 23 = dktX0_locks_1 := dk_seg dksX0_locks_0 23 rfl rfl
theorem dksX0_locks_2 : cX0_locks.data.toList.drop 47 = dktX0_locks_2 := dk_seg dksX0_locks_1 24 rfl rfl
theorem dksX0_locks_3 : cX0_locks.data.toList.drop 71 = dktX0_locks_3 := dk_seg dksX0_locks_2 24 rfl rfl
theorem dksX0_locks_4 : cX0_locks.data.toList.drop 94 = dktX0_locks_4 := dk_seg dksX0_locks_3 23 rfl rfl
theorem dksX0_locks_5 : cX0_locks.data.toList.drop 118 = dktX0_locks_5 := dk_seg dksX0_locks_4 24 rfl rfl
theorem dksX0_locks_6 : cX0_locks.data.toList.drop 141 = dktX0_locks_6 := dk_seg dksX0_locks_5 23 rfl rfl
theorem dX0_locks_0 : decode cX0_locks 0 = .ok (.iload_n 1, 1) := dk_27 (dk_at dksX0_locks_0 0 rfl rfl)
theorem dX0_locks_1 : decode cX0_locks 1 = .ok (.iconst 0, 1) := dk_3 (dk_at dksX0_locks_0 1 rfl rfl)
theorem dX0_locks_2 : decode cX0_locks 2 = .ok (.iconst 3, 1) := dk_6 (dk_at dksX0_locks_0 2 rfl rfl)
theorem dX0_locks_3 : decode cX0_locks 3 = .ok (.invokestatic 128, 3) := dk_184 0 128 (dk_at dksX0_locks_0 3 rfl rfl)
theorem dX0_locks_6 : decode cX0_locks 6 = .ok (.ifCond .ne 5, 3) := dk_154 0 5 (dk_at dksX0_locks_0 6 rfl rfl)
theorem dX0_locks_9 : decode cX0_locks 9 = .ok (.iconst (-1), 1) := dk_2 (dk_at dksX0_locks_0 9 rfl rfl)
theorem dX0_locks_10 : decode cX0_locks 10 = .ok (.ireturn, 1) := dk_172 (dk_at dksX0_locks_0 10 rfl rfl)
theorem dX0_locks_11 : decode cX0_locks 11 = .ok (.iconst 0, 1) := dk_3 (dk_at dksX0_locks_0 11 rfl rfl)
theorem dX0_locks_12 : decode cX0_locks 12 = .ok (.istore_n 2, 1) := dk_61 (dk_at dksX0_locks_0 12 rfl rfl)
theorem dX0_locks_13 : decode cX0_locks 13 = .ok (.bipush (-2), 2) := dk_16 254 (dk_at dksX0_locks_0 13 rfl rfl)
theorem dX0_locks_15 : decode cX0_locks 15 = .ok (.istore_n 3, 1) := dk_62 (dk_at dksX0_locks_0 15 rfl rfl)
theorem dX0_locks_16 : decode cX0_locks 16 = .ok (.iconst 0, 1) := dk_3 (dk_at dksX0_locks_0 16 rfl rfl)
theorem dX0_locks_17 : decode cX0_locks 17 = .ok (.istore 4, 2) := dk_54 4 (dk_at dksX0_locks_0 17 rfl rfl)
theorem dX0_locks_19 : decode cX0_locks 19 = .ok (.iload 4, 2) := dk_21 4 (dk_at dksX0_locks_0 19 rfl rfl)
theorem dX0_locks_21 : decode cX0_locks 21 = .ok (.bipush 12, 2) := dk_16 12 (dk_at dksX0_locks_0 21 rfl rfl)
theorem dX0_locks_23 : decode cX0_locks 23 = .ok (.if_icmp .ge 113, 3) := dk_162 0 113 (dk_at dksX0_locks_1 0 rfl rfl)
theorem dX0_locks_26 : decode cX0_locks 26 = .ok (.iload 4, 2) := dk_21 4 (dk_at dksX0_locks_1 3 rfl rfl)
theorem dX0_locks_28 : decode cX0_locks 28 = .ok (.iconst 1, 1) := dk_4 (dk_at dksX0_locks_1 5 rfl rfl)
theorem dX0_locks_29 : decode cX0_locks 29 = .ok (.iadd, 1) := dk_96 (dk_at dksX0_locks_1 6 rfl rfl)
theorem dX0_locks_30 : decode cX0_locks 30 = .ok (.istore 5, 2) := dk_54 5 (dk_at dksX0_locks_1 7 rfl rfl)
theorem dX0_locks_32 : decode cX0_locks 32 = .ok (.iload 5, 2) := dk_21 5 (dk_at dksX0_locks_1 9 rfl rfl)
theorem dX0_locks_34 : decode cX0_locks 34 = .ok (.bipush 12, 2) := dk_16 12 (dk_at dksX0_locks_1 11 rfl rfl)
theorem dX0_locks_36 : decode cX0_locks 36 = .ok (.if_icmp .ge 94, 3) := dk_162 0 94 (dk_at dksX0_locks_1 13 rfl rfl)
theorem dX0_locks_39 : decode cX0_locks 39 = .ok (.iload 5, 2) := dk_21 5 (dk_at dksX0_locks_1 16 rfl rfl)
theorem dX0_locks_41 : decode cX0_locks 41 = .ok (.iconst 1, 1) := dk_4 (dk_at dksX0_locks_1 18 rfl rfl)
theorem dX0_locks_42 : decode cX0_locks 42 = .ok (.iadd, 1) := dk_96 (dk_at dksX0_locks_1 19 rfl rfl)
theorem dX0_locks_43 : decode cX0_locks 43 = .ok (.istore 6, 2) := dk_54 6 (dk_at dksX0_locks_1 20 rfl rfl)
theorem dX0_locks_45 : decode cX0_locks 45 = .ok (.iload 6, 2) := dk_21 6 (dk_at dksX0_locks_1 22 rfl rfl)
theorem dX0_locks_47 : decode cX0_locks 47 = .ok (.bipush 12, 2) := dk_16 12 (dk_at dksX0_locks_2 0 rfl rfl)
theorem dX0_locks_49 : decode cX0_locks 49 = .ok (.if_icmp .ge 75, 3) := dk_162 0 75 (dk_at dksX0_locks_2 2 rfl rfl)
theorem dX0_locks_52 : decode cX0_locks 52 = .ok (.aload_n 0, 1) := dk_42 (dk_at dksX0_locks_2 5 rfl rfl)
theorem dX0_locks_53 : decode cX0_locks 53 = .ok (.iload 4, 2) := dk_21 4 (dk_at dksX0_locks_2 6 rfl rfl)
theorem dX0_locks_55 : decode cX0_locks 55 = .ok (.iload 5, 2) := dk_21 5 (dk_at dksX0_locks_2 8 rfl rfl)
theorem dX0_locks_57 : decode cX0_locks 57 = .ok (.invokevirtual 240, 3) := dk_182 0 240 (dk_at dksX0_locks_2 10 rfl rfl)
theorem dX0_locks_60 : decode cX0_locks 60 = .ok (.ifCond .eq 64, 3) := dk_153 0 64 (dk_at dksX0_locks_2 13 rfl rfl)
theorem dX0_locks_63 : decode cX0_locks 63 = .ok (.aload_n 0, 1) := dk_42 (dk_at dksX0_locks_2 16 rfl rfl)
theorem dX0_locks_64 : decode cX0_locks 64 = .ok (.iload 4, 2) := dk_21 4 (dk_at dksX0_locks_2 17 rfl rfl)
theorem dX0_locks_66 : decode cX0_locks 66 = .ok (.iload 6, 2) := dk_21 6 (dk_at dksX0_locks_2 19 rfl rfl)
theorem dX0_locks_68 : decode cX0_locks 68 = .ok (.invokevirtual 240, 3) := dk_182 0 240 (dk_at dksX0_locks_2 21 rfl rfl)
theorem dX0_locks_71 : decode cX0_locks 71 = .ok (.ifCond .eq 47, 3) := dk_153 0 47 (dk_at dksX0_locks_3 0 rfl rfl)
theorem dX0_locks_74 : decode cX0_locks 74 = .ok (.aload_n 0, 1) := dk_42 (dk_at dksX0_locks_3 3 rfl rfl)
theorem dX0_locks_75 : decode cX0_locks 75 = .ok (.iload 5, 2) := dk_21 5 (dk_at dksX0_locks_3 4 rfl rfl)
theorem dX0_locks_77 : decode cX0_locks 77 = .ok (.iload 6, 2) := dk_21 6 (dk_at dksX0_locks_3 6 rfl rfl)
theorem dX0_locks_79 : decode cX0_locks 79 = .ok (.invokevirtual 240, 3) := dk_182 0 240 (dk_at dksX0_locks_3 8 rfl rfl)
theorem dX0_locks_82 : decode cX0_locks 82 = .ok (.ifCond .ne 6, 3) := dk_154 0 6 (dk_at dksX0_locks_3 11 rfl rfl)
theorem dX0_locks_85 : decode cX0_locks 85 = .ok (.goto 33, 3) := dk_167 0 33 (dk_at dksX0_locks_3 14 rfl rfl)
theorem dX0_locks_88 : decode cX0_locks 88 = .ok (.iload_n 2, 1) := dk_28 (dk_at dksX0_locks_3 17 rfl rfl)
theorem dX0_locks_89 : decode cX0_locks 89 = .ok (.ifCond .ne 26, 3) := dk_154 0 26 (dk_at dksX0_locks_3 18 rfl rfl)
theorem dX0_locks_92 : decode cX0_locks 92 = .ok (.iload_n 1, 1) := dk_27 (dk_at dksX0_locks_3 21 rfl rfl)
theorem dX0_locks_93 : decode cX0_locks 93 = .ok (.iconst 1, 1) := dk_4 (dk_at dksX0_locks_3 22 rfl rfl)
theorem dX0_locks_94 : decode cX0_locks 94 = .ok (.if_icmp .ne 8, 3) := dk_160 0 8 (dk_at dksX0_locks_4 0 rfl rfl)
theorem dX0_locks_97 : decode cX0_locks 97 = .ok (.iload 4, 2) := dk_21 4 (dk_at dksX0_locks_4 3 rfl rfl)
theorem dX0_locks_99 : decode cX0_locks 99 = .ok (.goto 15, 3) := dk_167 0 15 (dk_at dksX0_locks_4 5 rfl rfl)
theorem dX0_locks_102 : decode cX0_locks 102 = .ok (.iload_n 1, 1) := dk_27 (dk_at dksX0_locks_4 8 rfl rfl)
theorem dX0_locks_103 : decode cX0_locks 103 = .ok (.iconst 2, 1) := dk_5 (dk_at dksX0_locks_4 9 rfl rfl)
theorem dX0_locks_104 : decode cX0_locks 104 = .ok (.if_icmp .ne 8, 3) := dk_160 0 8 (dk_at dksX0_locks_4 10 rfl rfl)
theorem dX0_locks_107 : decode cX0_locks 107 = .ok (.iload 5, 2) := dk_21 5 (dk_at dksX0_locks_4 13 rfl rfl)
theorem dX0_locks_109 : decode cX0_locks 109 = .ok (.goto 5, 3) := dk_167 0 5 (dk_at dksX0_locks_4 15 rfl rfl)
theorem dX0_locks_112 : decode cX0_locks 112 = .ok (.iload 6, 2) := dk_21 6 (dk_at dksX0_locks_4 18 rfl rfl)
theorem dX0_locks_114 : decode cX0_locks 114 = .ok (.istore_n 3, 1) := dk_62 (dk_at dksX0_locks_4 20 rfl rfl)
theorem dX0_locks_115 : decode cX0_locks 115 = .ok (.iinc 2 1, 3) := dk_132 2 1 (dk_at dksX0_locks_4 21 rfl rfl)
theorem dX0_locks_118 : decode cX0_locks 118 = .ok (.iinc 6 1, 3) := dk_132 6 1 (dk_at dksX0_locks_5 0 rfl rfl)
theorem dX0_locks_121 : decode cX0_locks 121 = .ok (.goto (-76), 3) := dk_167 255 180 (dk_at dksX0_locks_5 3 rfl rfl)
theorem dX0_locks_124 : decode cX0_locks 124 = .ok (.iinc 5 1, 3) := dk_132 5 1 (dk_at dksX0_locks_5 6 rfl rfl)
theorem dX0_locks_127 : decode cX0_locks 127 = .ok (.goto (-95), 3) := dk_167 255 161 (dk_at dksX0_locks_5 9 rfl rfl)
theorem dX0_locks_130 : decode cX0_locks 130 = .ok (.iinc 4 1, 3) := dk_132 4 1 (dk_at dksX0_locks_5 12 rfl rfl)
theorem dX0_locks_133 : decode cX0_locks 133 = .ok (.goto (-114), 3) := dk_167 255 142 (dk_at dksX0_locks_5 15 rfl rfl)
theorem dX0_locks_136 : decode cX0_locks 136 = .ok (.iload_n 1, 1) := dk_27 (dk_at dksX0_locks_5 18 rfl rfl)
theorem dX0_locks_137 : decode cX0_locks 137 = .ok (.ifCond .ne 7, 3) := dk_154 0 7 (dk_at dksX0_locks_5 19 rfl rfl)
theorem dX0_locks_140 : decode cX0_locks 140 = .ok (.iload_n 2, 1) := dk_28 (dk_at dksX0_locks_5 22 rfl rfl)
theorem dX0_locks_141 : decode cX0_locks 141 = .ok (.goto 4, 3) := dk_167 0 4 (dk_at dksX0_locks_6 0 rfl rfl)
theorem dX0_locks_144 : decode cX0_locks 144 = .ok (.iload_n 3, 1) := dk_29 (dk_at dksX0_locks_6 3 rfl rfl)
theorem dX0_locks_145 : decode cX0_locks 145 = .ok (.ireturn, 1) := dk_172 (dk_at dksX0_locks_6 4 rfl rfl)
abbrev cX0_areFit : ByteArray := prog_1_method_25_code
def yX0_areFit : MethodName := ⟨RX0, "areFit", "(II)Z"⟩
def dkwX0_areFit_1 : List UInt8 := [180, 0, 33, 27, 28, 182, 0, 216, 153, 0, 7, 4, 167, 0, 4, 3, 172]
abbrev dktX0_areFit_1 : List UInt8 := dkwX0_areFit_1 ++ []
def dkwX0_areFit_0 : List UInt8 := [42, 180, 0, 33, 27, 182, 0, 135, 153, 0, 30, 42, 180, 0, 33, 28, 182, 0, 135, 153, 0, 19, 42]
abbrev dktX0_areFit_0 : List UInt8 := dkwX0_areFit_0 ++ dktX0_areFit_1
theorem dksX0_areFit_0 : cX0_areFit.data.toList.drop 0 = dktX0_areFit_0 := by decide +kernel
theorem dksX0_areFit_1 : cX0_areFit.data.toList.drop 23 = dktX0_areFit_1 := dk_seg dksX0_areFit_0 23 rfl rfl
theorem dX0_areFit_0 : decode cX0_areFit 0 = .ok (.aload_n 0, 1) := dk_42 (dk_at dksX0_areFit_0 0 rfl rfl)
theorem dX0_areFit_1 : decode cX0_areFit 1 = .ok (.getfield 33, 3) := dk_180 0 33 (dk_at dksX0_areFit_0 1 rfl rfl)
theorem dX0_areFit_4 : decode cX0_areFit 4 = .ok (.iload_n 1, 1) := dk_27 (dk_at dksX0_areFit_0 4 rfl rfl)
theorem dX0_areFit_5 : decode cX0_areFit 5 = .ok (.invokevirtual 135, 3) := dk_182 0 135 (dk_at dksX0_areFit_0 5 rfl rfl)
theorem dX0_areFit_8 : decode cX0_areFit 8 = .ok (.ifCond .eq 30, 3) := dk_153 0 30 (dk_at dksX0_areFit_0 8 rfl rfl)
theorem dX0_areFit_11 : decode cX0_areFit 11 = .ok (.aload_n 0, 1) := dk_42 (dk_at dksX0_areFit_0 11 rfl rfl)
theorem dX0_areFit_12 : decode cX0_areFit 12 = .ok (.getfield 33, 3) := dk_180 0 33 (dk_at dksX0_areFit_0 12 rfl rfl)
theorem dX0_areFit_15 : decode cX0_areFit 15 = .ok (.iload_n 2, 1) := dk_28 (dk_at dksX0_areFit_0 15 rfl rfl)
theorem dX0_areFit_16 : decode cX0_areFit 16 = .ok (.invokevirtual 135, 3) := dk_182 0 135 (dk_at dksX0_areFit_0 16 rfl rfl)
theorem dX0_areFit_19 : decode cX0_areFit 19 = .ok (.ifCond .eq 19, 3) := dk_153 0 19 (dk_at dksX0_areFit_0 19 rfl rfl)
theorem dX0_areFit_22 : decode cX0_areFit 22 = .ok (.aload_n 0, 1) := dk_42 (dk_at dksX0_areFit_0 22 rfl rfl)
theorem dX0_areFit_23 : decode cX0_areFit 23 = .ok (.getfield 33, 3) := dk_180 0 33 (dk_at dksX0_areFit_1 0 rfl rfl)
theorem dX0_areFit_26 : decode cX0_areFit 26 = .ok (.iload_n 1, 1) := dk_27 (dk_at dksX0_areFit_1 3 rfl rfl)
theorem dX0_areFit_27 : decode cX0_areFit 27 = .ok (.iload_n 2, 1) := dk_28 (dk_at dksX0_areFit_1 4 rfl rfl)
theorem dX0_areFit_28 : decode cX0_areFit 28 = .ok (.invokevirtual 216, 3) := dk_182 0 216 (dk_at dksX0_areFit_1 5 rfl rfl)
theorem dX0_areFit_31 : decode cX0_areFit 31 = .ok (.ifCond .eq 7, 3) := dk_153 0 7 (dk_at dksX0_areFit_1 8 rfl rfl)
theorem dX0_areFit_34 : decode cX0_areFit 34 = .ok (.iconst 1, 1) := dk_4 (dk_at dksX0_areFit_1 11 rfl rfl)
theorem dX0_areFit_35 : decode cX0_areFit 35 = .ok (.goto 4, 3) := dk_167 0 4 (dk_at dksX0_areFit_1 12 rfl rfl)
theorem dX0_areFit_38 : decode cX0_areFit 38 = .ok (.iconst 0, 1) := dk_3 (dk_at dksX0_areFit_1 15 rfl rfl)
theorem dX0_areFit_39 : decode cX0_areFit 39 = .ok (.ireturn, 1) := dk_172 (dk_at dksX0_areFit_1 16 rfl rfl)
abbrev cX0_most : ByteArray := prog_1_method_30_code
def yX0_most : MethodName := ⟨RX0, "most", "(I)I"⟩
def dkwX0_most_8 : List UInt8 := [167, 255, 146, 2, 172]
abbrev dktX0_most_8 : List UInt8 := dkwX0_most_8 ++ []
def dkwX0_most_7 : List UInt8 := [28, 21, 6, 16, 12, 160, 0, 7, 2, 167, 0, 9, 4, 21, 6, 120, 2, 130, 126, 61, 132, 5, 1]
abbrev dktX0_most_7 : List UInt8 := dkwX0_most_7 ++ dktX0_most_8
def dkwX0_most_6 : List UInt8 := [167, 255, 203, 21, 5, 27, 160, 0, 18, 21, 6, 16, 12, 160, 0, 8, 16, 254, 167, 0, 5, 21, 6, 172]
abbrev dktX0_most_6 : List UInt8 := dkwX0_most_6 ++ dktX0_most_7
def dkwX0_most_5 : List UInt8 := [21, 5, 21, 6, 28, 182, 0, 249, 42, 180, 0, 56, 21, 5, 50, 28, 46, 159, 0, 9, 132, 6, 1]
abbrev dktX0_most_5 : List UInt8 := dkwX0_most_5 ++ dktX0_most_6
def dkwX0_most_4 : List UInt8 := [28, 21, 6, 184, 0, 246, 153, 0, 37, 42, 180, 0, 59, 21, 5, 50, 21, 6, 46, 158, 0, 24, 42]
abbrev dktX0_most_4 : List UInt8 := dkwX0_most_4 ++ dktX0_most_5
def dkwX0_most_3 : List UInt8 := [104, 29, 100, 172, 3, 54, 5, 21, 5, 16, 12, 162, 0, 109, 3, 54, 6, 21, 6, 16, 12, 162, 0, 52]
abbrev dktX0_most_3 : List UInt8 := dkwX0_most_3 ++ dktX0_most_4
def dkwX0_most_2 : List UInt8 := [54, 4, 27, 16, 20, 161, 0, 23, 27, 16, 20, 160, 0, 8, 21, 4, 167, 0, 11, 17, 39, 16, 21, 4]
abbrev dktX0_most_2 : List UInt8 := dkwX0_most_2 ++ dktX0_most_3
def dkwX0_most_1 : List UInt8 := [182, 0, 253, 61, 42, 180, 0, 56, 3, 50, 28, 46, 62, 29, 17, 39, 16, 96, 4, 100, 17, 39, 16, 108]
abbrev dktX0_most_1 : List UInt8 := dkwX0_most_1 ++ dktX0_most_2
def dkwX0_most_0 : List UInt8 := [27, 16, 20, 159, 0, 19, 27, 16, 21, 159, 0, 13, 42, 27, 182, 0, 243, 154, 0, 5, 2, 172, 42]
abbrev dktX0_most_0 : List UInt8 := dkwX0_most_0 ++ dktX0_most_1
theorem dksX0_most_0 : cX0_most.data.toList.drop 0 = dktX0_most_0 := by decide +kernel
theorem dksX0_most_1 : cX0_most.data.toList.drop 23 = dktX0_most_1 := dk_seg dksX0_most_0 23 rfl rfl
theorem dksX0_most_2 : cX0_most.data.toList.drop 47 = dktX0_most_2 := dk_seg dksX0_most_1 24 rfl rfl
theorem dksX0_most_3 : cX0_most.data.toList.drop 71 = dktX0_most_3 := dk_seg dksX0_most_2 24 rfl rfl
theorem dksX0_most_4 : cX0_most.data.toList.drop 95 = dktX0_most_4 := dk_seg dksX0_most_3 24 rfl rfl
theorem dksX0_most_5 : cX0_most.data.toList.drop 118 = dktX0_most_5 := dk_seg dksX0_most_4 23 rfl rfl
theorem dksX0_most_6 : cX0_most.data.toList.drop 141 = dktX0_most_6 := dk_seg dksX0_most_5 23 rfl rfl
theorem dksX0_most_7 : cX0_most.data.toList.drop 165 = dktX0_most_7 := dk_seg dksX0_most_6 24 rfl rfl
theorem dksX0_most_8 : cX0_most.data.toList.drop 188 = dktX0_most_8 := dk_seg dksX0_most_7 23 rfl rfl
theorem dX0_most_0 : decode cX0_most 0 = .ok (.iload_n 1, 1) := dk_27 (dk_at dksX0_most_0 0 rfl rfl)
theorem dX0_most_1 : decode cX0_most 1 = .ok (.bipush 20, 2) := dk_16 20 (dk_at dksX0_most_0 1 rfl rfl)
theorem dX0_most_3 : decode cX0_most 3 = .ok (.if_icmp .eq 19, 3) := dk_159 0 19 (dk_at dksX0_most_0 3 rfl rfl)
theorem dX0_most_6 : decode cX0_most 6 = .ok (.iload_n 1, 1) := dk_27 (dk_at dksX0_most_0 6 rfl rfl)
theorem dX0_most_7 : decode cX0_most 7 = .ok (.bipush 21, 2) := dk_16 21 (dk_at dksX0_most_0 7 rfl rfl)
theorem dX0_most_9 : decode cX0_most 9 = .ok (.if_icmp .eq 13, 3) := dk_159 0 13 (dk_at dksX0_most_0 9 rfl rfl)
theorem dX0_most_12 : decode cX0_most 12 = .ok (.aload_n 0, 1) := dk_42 (dk_at dksX0_most_0 12 rfl rfl)
theorem dX0_most_13 : decode cX0_most 13 = .ok (.iload_n 1, 1) := dk_27 (dk_at dksX0_most_0 13 rfl rfl)
theorem dX0_most_14 : decode cX0_most 14 = .ok (.invokevirtual 243, 3) := dk_182 0 243 (dk_at dksX0_most_0 14 rfl rfl)
theorem dX0_most_17 : decode cX0_most 17 = .ok (.ifCond .ne 5, 3) := dk_154 0 5 (dk_at dksX0_most_0 17 rfl rfl)
theorem dX0_most_20 : decode cX0_most 20 = .ok (.iconst (-1), 1) := dk_2 (dk_at dksX0_most_0 20 rfl rfl)
theorem dX0_most_21 : decode cX0_most 21 = .ok (.ireturn, 1) := dk_172 (dk_at dksX0_most_0 21 rfl rfl)
theorem dX0_most_22 : decode cX0_most 22 = .ok (.aload_n 0, 1) := dk_42 (dk_at dksX0_most_0 22 rfl rfl)
theorem dX0_most_23 : decode cX0_most 23 = .ok (.invokevirtual 253, 3) := dk_182 0 253 (dk_at dksX0_most_1 0 rfl rfl)
theorem dX0_most_26 : decode cX0_most 26 = .ok (.istore_n 2, 1) := dk_61 (dk_at dksX0_most_1 3 rfl rfl)
theorem dX0_most_27 : decode cX0_most 27 = .ok (.aload_n 0, 1) := dk_42 (dk_at dksX0_most_1 4 rfl rfl)
theorem dX0_most_28 : decode cX0_most 28 = .ok (.getfield 56, 3) := dk_180 0 56 (dk_at dksX0_most_1 5 rfl rfl)
theorem dX0_most_31 : decode cX0_most 31 = .ok (.iconst 0, 1) := dk_3 (dk_at dksX0_most_1 8 rfl rfl)
theorem dX0_most_32 : decode cX0_most 32 = .ok (.aaload, 1) := dk_50 (dk_at dksX0_most_1 9 rfl rfl)
theorem dX0_most_33 : decode cX0_most 33 = .ok (.iload_n 2, 1) := dk_28 (dk_at dksX0_most_1 10 rfl rfl)
theorem dX0_most_34 : decode cX0_most 34 = .ok (.iaload, 1) := dk_46 (dk_at dksX0_most_1 11 rfl rfl)
theorem dX0_most_35 : decode cX0_most 35 = .ok (.istore_n 3, 1) := dk_62 (dk_at dksX0_most_1 12 rfl rfl)
theorem dX0_most_36 : decode cX0_most 36 = .ok (.iload_n 3, 1) := dk_29 (dk_at dksX0_most_1 13 rfl rfl)
theorem dX0_most_37 : decode cX0_most 37 = .ok (.sipush 10000, 3) := dk_17 39 16 (dk_at dksX0_most_1 14 rfl rfl)
theorem dX0_most_40 : decode cX0_most 40 = .ok (.iadd, 1) := dk_96 (dk_at dksX0_most_1 17 rfl rfl)
theorem dX0_most_41 : decode cX0_most 41 = .ok (.iconst 1, 1) := dk_4 (dk_at dksX0_most_1 18 rfl rfl)
theorem dX0_most_42 : decode cX0_most 42 = .ok (.isub, 1) := dk_100 (dk_at dksX0_most_1 19 rfl rfl)
theorem dX0_most_43 : decode cX0_most 43 = .ok (.sipush 10000, 3) := dk_17 39 16 (dk_at dksX0_most_1 20 rfl rfl)
theorem dX0_most_46 : decode cX0_most 46 = .ok (.idiv, 1) := dk_108 (dk_at dksX0_most_1 23 rfl rfl)
theorem dX0_most_47 : decode cX0_most 47 = .ok (.istore 4, 2) := dk_54 4 (dk_at dksX0_most_2 0 rfl rfl)
theorem dX0_most_49 : decode cX0_most 49 = .ok (.iload_n 1, 1) := dk_27 (dk_at dksX0_most_2 2 rfl rfl)
theorem dX0_most_50 : decode cX0_most 50 = .ok (.bipush 20, 2) := dk_16 20 (dk_at dksX0_most_2 3 rfl rfl)
theorem dX0_most_52 : decode cX0_most 52 = .ok (.if_icmp .lt 23, 3) := dk_161 0 23 (dk_at dksX0_most_2 5 rfl rfl)
theorem dX0_most_55 : decode cX0_most 55 = .ok (.iload_n 1, 1) := dk_27 (dk_at dksX0_most_2 8 rfl rfl)
theorem dX0_most_56 : decode cX0_most 56 = .ok (.bipush 20, 2) := dk_16 20 (dk_at dksX0_most_2 9 rfl rfl)
theorem dX0_most_58 : decode cX0_most 58 = .ok (.if_icmp .ne 8, 3) := dk_160 0 8 (dk_at dksX0_most_2 11 rfl rfl)
theorem dX0_most_61 : decode cX0_most 61 = .ok (.iload 4, 2) := dk_21 4 (dk_at dksX0_most_2 14 rfl rfl)
theorem dX0_most_63 : decode cX0_most 63 = .ok (.goto 11, 3) := dk_167 0 11 (dk_at dksX0_most_2 16 rfl rfl)
theorem dX0_most_66 : decode cX0_most 66 = .ok (.sipush 10000, 3) := dk_17 39 16 (dk_at dksX0_most_2 19 rfl rfl)
theorem dX0_most_69 : decode cX0_most 69 = .ok (.iload 4, 2) := dk_21 4 (dk_at dksX0_most_2 22 rfl rfl)
theorem dX0_most_71 : decode cX0_most 71 = .ok (.imul, 1) := dk_104 (dk_at dksX0_most_3 0 rfl rfl)
theorem dX0_most_72 : decode cX0_most 72 = .ok (.iload_n 3, 1) := dk_29 (dk_at dksX0_most_3 1 rfl rfl)
theorem dX0_most_73 : decode cX0_most 73 = .ok (.isub, 1) := dk_100 (dk_at dksX0_most_3 2 rfl rfl)
theorem dX0_most_74 : decode cX0_most 74 = .ok (.ireturn, 1) := dk_172 (dk_at dksX0_most_3 3 rfl rfl)
theorem dX0_most_75 : decode cX0_most 75 = .ok (.iconst 0, 1) := dk_3 (dk_at dksX0_most_3 4 rfl rfl)
theorem dX0_most_76 : decode cX0_most 76 = .ok (.istore 5, 2) := dk_54 5 (dk_at dksX0_most_3 5 rfl rfl)
theorem dX0_most_78 : decode cX0_most 78 = .ok (.iload 5, 2) := dk_21 5 (dk_at dksX0_most_3 7 rfl rfl)
theorem dX0_most_80 : decode cX0_most 80 = .ok (.bipush 12, 2) := dk_16 12 (dk_at dksX0_most_3 9 rfl rfl)
theorem dX0_most_82 : decode cX0_most 82 = .ok (.if_icmp .ge 109, 3) := dk_162 0 109 (dk_at dksX0_most_3 11 rfl rfl)
theorem dX0_most_85 : decode cX0_most 85 = .ok (.iconst 0, 1) := dk_3 (dk_at dksX0_most_3 14 rfl rfl)
theorem dX0_most_86 : decode cX0_most 86 = .ok (.istore 6, 2) := dk_54 6 (dk_at dksX0_most_3 15 rfl rfl)
theorem dX0_most_88 : decode cX0_most 88 = .ok (.iload 6, 2) := dk_21 6 (dk_at dksX0_most_3 17 rfl rfl)
theorem dX0_most_90 : decode cX0_most 90 = .ok (.bipush 12, 2) := dk_16 12 (dk_at dksX0_most_3 19 rfl rfl)
theorem dX0_most_92 : decode cX0_most 92 = .ok (.if_icmp .ge 52, 3) := dk_162 0 52 (dk_at dksX0_most_3 21 rfl rfl)
theorem dX0_most_95 : decode cX0_most 95 = .ok (.iload_n 2, 1) := dk_28 (dk_at dksX0_most_4 0 rfl rfl)
theorem dX0_most_96 : decode cX0_most 96 = .ok (.iload 6, 2) := dk_21 6 (dk_at dksX0_most_4 1 rfl rfl)
theorem dX0_most_98 : decode cX0_most 98 = .ok (.invokestatic 246, 3) := dk_184 0 246 (dk_at dksX0_most_4 3 rfl rfl)
theorem dX0_most_101 : decode cX0_most 101 = .ok (.ifCond .eq 37, 3) := dk_153 0 37 (dk_at dksX0_most_4 6 rfl rfl)
theorem dX0_most_104 : decode cX0_most 104 = .ok (.aload_n 0, 1) := dk_42 (dk_at dksX0_most_4 9 rfl rfl)
theorem dX0_most_105 : decode cX0_most 105 = .ok (.getfield 59, 3) := dk_180 0 59 (dk_at dksX0_most_4 10 rfl rfl)
theorem dX0_most_108 : decode cX0_most 108 = .ok (.iload 5, 2) := dk_21 5 (dk_at dksX0_most_4 13 rfl rfl)
theorem dX0_most_110 : decode cX0_most 110 = .ok (.aaload, 1) := dk_50 (dk_at dksX0_most_4 15 rfl rfl)
theorem dX0_most_111 : decode cX0_most 111 = .ok (.iload 6, 2) := dk_21 6 (dk_at dksX0_most_4 16 rfl rfl)
theorem dX0_most_113 : decode cX0_most 113 = .ok (.iaload, 1) := dk_46 (dk_at dksX0_most_4 18 rfl rfl)
theorem dX0_most_114 : decode cX0_most 114 = .ok (.ifCond .le 24, 3) := dk_158 0 24 (dk_at dksX0_most_4 19 rfl rfl)
theorem dX0_most_117 : decode cX0_most 117 = .ok (.aload_n 0, 1) := dk_42 (dk_at dksX0_most_4 22 rfl rfl)
theorem dX0_most_118 : decode cX0_most 118 = .ok (.iload 5, 2) := dk_21 5 (dk_at dksX0_most_5 0 rfl rfl)
theorem dX0_most_120 : decode cX0_most 120 = .ok (.iload 6, 2) := dk_21 6 (dk_at dksX0_most_5 2 rfl rfl)
theorem dX0_most_122 : decode cX0_most 122 = .ok (.iload_n 2, 1) := dk_28 (dk_at dksX0_most_5 4 rfl rfl)
theorem dX0_most_123 : decode cX0_most 123 = .ok (.invokevirtual 249, 3) := dk_182 0 249 (dk_at dksX0_most_5 5 rfl rfl)
theorem dX0_most_126 : decode cX0_most 126 = .ok (.aload_n 0, 1) := dk_42 (dk_at dksX0_most_5 8 rfl rfl)
theorem dX0_most_127 : decode cX0_most 127 = .ok (.getfield 56, 3) := dk_180 0 56 (dk_at dksX0_most_5 9 rfl rfl)
theorem dX0_most_130 : decode cX0_most 130 = .ok (.iload 5, 2) := dk_21 5 (dk_at dksX0_most_5 12 rfl rfl)
theorem dX0_most_132 : decode cX0_most 132 = .ok (.aaload, 1) := dk_50 (dk_at dksX0_most_5 14 rfl rfl)
theorem dX0_most_133 : decode cX0_most 133 = .ok (.iload_n 2, 1) := dk_28 (dk_at dksX0_most_5 15 rfl rfl)
theorem dX0_most_134 : decode cX0_most 134 = .ok (.iaload, 1) := dk_46 (dk_at dksX0_most_5 16 rfl rfl)
theorem dX0_most_135 : decode cX0_most 135 = .ok (.if_icmp .eq 9, 3) := dk_159 0 9 (dk_at dksX0_most_5 17 rfl rfl)
theorem dX0_most_138 : decode cX0_most 138 = .ok (.iinc 6 1, 3) := dk_132 6 1 (dk_at dksX0_most_5 20 rfl rfl)
theorem dX0_most_141 : decode cX0_most 141 = .ok (.goto (-53), 3) := dk_167 255 203 (dk_at dksX0_most_6 0 rfl rfl)
theorem dX0_most_144 : decode cX0_most 144 = .ok (.iload 5, 2) := dk_21 5 (dk_at dksX0_most_6 3 rfl rfl)
theorem dX0_most_146 : decode cX0_most 146 = .ok (.iload_n 1, 1) := dk_27 (dk_at dksX0_most_6 5 rfl rfl)
theorem dX0_most_147 : decode cX0_most 147 = .ok (.if_icmp .ne 18, 3) := dk_160 0 18 (dk_at dksX0_most_6 6 rfl rfl)
theorem dX0_most_150 : decode cX0_most 150 = .ok (.iload 6, 2) := dk_21 6 (dk_at dksX0_most_6 9 rfl rfl)
theorem dX0_most_152 : decode cX0_most 152 = .ok (.bipush 12, 2) := dk_16 12 (dk_at dksX0_most_6 11 rfl rfl)
theorem dX0_most_154 : decode cX0_most 154 = .ok (.if_icmp .ne 8, 3) := dk_160 0 8 (dk_at dksX0_most_6 13 rfl rfl)
theorem dX0_most_157 : decode cX0_most 157 = .ok (.bipush (-2), 2) := dk_16 254 (dk_at dksX0_most_6 16 rfl rfl)
theorem dX0_most_159 : decode cX0_most 159 = .ok (.goto 5, 3) := dk_167 0 5 (dk_at dksX0_most_6 18 rfl rfl)
theorem dX0_most_162 : decode cX0_most 162 = .ok (.iload 6, 2) := dk_21 6 (dk_at dksX0_most_6 21 rfl rfl)
theorem dX0_most_164 : decode cX0_most 164 = .ok (.ireturn, 1) := dk_172 (dk_at dksX0_most_6 23 rfl rfl)
theorem dX0_most_165 : decode cX0_most 165 = .ok (.iload_n 2, 1) := dk_28 (dk_at dksX0_most_7 0 rfl rfl)
theorem dX0_most_166 : decode cX0_most 166 = .ok (.iload 6, 2) := dk_21 6 (dk_at dksX0_most_7 1 rfl rfl)
theorem dX0_most_168 : decode cX0_most 168 = .ok (.bipush 12, 2) := dk_16 12 (dk_at dksX0_most_7 3 rfl rfl)
theorem dX0_most_170 : decode cX0_most 170 = .ok (.if_icmp .ne 7, 3) := dk_160 0 7 (dk_at dksX0_most_7 5 rfl rfl)
theorem dX0_most_173 : decode cX0_most 173 = .ok (.iconst (-1), 1) := dk_2 (dk_at dksX0_most_7 8 rfl rfl)
theorem dX0_most_174 : decode cX0_most 174 = .ok (.goto 9, 3) := dk_167 0 9 (dk_at dksX0_most_7 9 rfl rfl)
theorem dX0_most_177 : decode cX0_most 177 = .ok (.iconst 1, 1) := dk_4 (dk_at dksX0_most_7 12 rfl rfl)
theorem dX0_most_178 : decode cX0_most 178 = .ok (.iload 6, 2) := dk_21 6 (dk_at dksX0_most_7 13 rfl rfl)
theorem dX0_most_180 : decode cX0_most 180 = .ok (.ishl, 1) := dk_120 (dk_at dksX0_most_7 15 rfl rfl)
theorem dX0_most_181 : decode cX0_most 181 = .ok (.iconst (-1), 1) := dk_2 (dk_at dksX0_most_7 16 rfl rfl)
theorem dX0_most_182 : decode cX0_most 182 = .ok (.ixor, 1) := dk_130 (dk_at dksX0_most_7 17 rfl rfl)
theorem dX0_most_183 : decode cX0_most 183 = .ok (.iand, 1) := dk_126 (dk_at dksX0_most_7 18 rfl rfl)
theorem dX0_most_184 : decode cX0_most 184 = .ok (.istore_n 2, 1) := dk_61 (dk_at dksX0_most_7 19 rfl rfl)
theorem dX0_most_185 : decode cX0_most 185 = .ok (.iinc 5 1, 3) := dk_132 5 1 (dk_at dksX0_most_7 20 rfl rfl)
theorem dX0_most_188 : decode cX0_most 188 = .ok (.goto (-110), 3) := dk_167 255 146 (dk_at dksX0_most_8 0 rfl rfl)
theorem dX0_most_191 : decode cX0_most 191 = .ok (.iconst (-1), 1) := dk_2 (dk_at dksX0_most_8 3 rfl rfl)
theorem dX0_most_192 : decode cX0_most 192 = .ok (.ireturn, 1) := dk_172 (dk_at dksX0_most_8 4 rfl rfl)
abbrev cX0_isAsker : ByteArray := prog_1_method_27_code
def yX0_isAsker : MethodName := ⟨RX0, "isAsker", "(I)Z"⟩
def dkwX0_isAsker_1 : List UInt8 := [154, 0, 7, 4, 167, 0, 4, 3, 172]
abbrev dktX0_isAsker_1 : List UInt8 := dkwX0_isAsker_1 ++ []
def dkwX0_isAsker_0 : List UInt8 := [42, 180, 0, 33, 27, 182, 0, 135, 153, 0, 22, 42, 180, 0, 33, 180, 0, 94, 27, 50, 180, 0, 111]
abbrev dktX0_isAsker_0 : List UInt8 := dkwX0_isAsker_0 ++ dktX0_isAsker_1
theorem dksX0_isAsker_0 : cX0_isAsker.data.toList.drop 0 = dktX0_isAsker_0 := by decide +kernel
theorem dksX0_isAsker_1 : cX0_isAsker.data.toList.drop 23 = dktX0_isAsker_1 := dk_seg dksX0_isAsker_0 23 rfl rfl
theorem dX0_isAsker_0 : decode cX0_isAsker 0 = .ok (.aload_n 0, 1) := dk_42 (dk_at dksX0_isAsker_0 0 rfl rfl)
theorem dX0_isAsker_1 : decode cX0_isAsker 1 = .ok (.getfield 33, 3) := dk_180 0 33 (dk_at dksX0_isAsker_0 1 rfl rfl)
theorem dX0_isAsker_4 : decode cX0_isAsker 4 = .ok (.iload_n 1, 1) := dk_27 (dk_at dksX0_isAsker_0 4 rfl rfl)
theorem dX0_isAsker_5 : decode cX0_isAsker 5 = .ok (.invokevirtual 135, 3) := dk_182 0 135 (dk_at dksX0_isAsker_0 5 rfl rfl)
theorem dX0_isAsker_8 : decode cX0_isAsker 8 = .ok (.ifCond .eq 22, 3) := dk_153 0 22 (dk_at dksX0_isAsker_0 8 rfl rfl)
theorem dX0_isAsker_11 : decode cX0_isAsker 11 = .ok (.aload_n 0, 1) := dk_42 (dk_at dksX0_isAsker_0 11 rfl rfl)
theorem dX0_isAsker_12 : decode cX0_isAsker 12 = .ok (.getfield 33, 3) := dk_180 0 33 (dk_at dksX0_isAsker_0 12 rfl rfl)
theorem dX0_isAsker_15 : decode cX0_isAsker 15 = .ok (.getfield 94, 3) := dk_180 0 94 (dk_at dksX0_isAsker_0 15 rfl rfl)
theorem dX0_isAsker_18 : decode cX0_isAsker 18 = .ok (.iload_n 1, 1) := dk_27 (dk_at dksX0_isAsker_0 18 rfl rfl)
theorem dX0_isAsker_19 : decode cX0_isAsker 19 = .ok (.aaload, 1) := dk_50 (dk_at dksX0_isAsker_0 19 rfl rfl)
theorem dX0_isAsker_20 : decode cX0_isAsker 20 = .ok (.getfield 111, 3) := dk_180 0 111 (dk_at dksX0_isAsker_0 20 rfl rfl)
theorem dX0_isAsker_23 : decode cX0_isAsker 23 = .ok (.ifCond .ne 7, 3) := dk_154 0 7 (dk_at dksX0_isAsker_1 0 rfl rfl)
theorem dX0_isAsker_26 : decode cX0_isAsker 26 = .ok (.iconst 1, 1) := dk_4 (dk_at dksX0_isAsker_1 3 rfl rfl)
theorem dX0_isAsker_27 : decode cX0_isAsker 27 = .ok (.goto 4, 3) := dk_167 0 4 (dk_at dksX0_isAsker_1 4 rfl rfl)
theorem dX0_isAsker_30 : decode cX0_isAsker 30 = .ok (.iconst 0, 1) := dk_3 (dk_at dksX0_isAsker_1 7 rfl rfl)
theorem dX0_isAsker_31 : decode cX0_isAsker 31 = .ok (.ireturn, 1) := dk_172 (dk_at dksX0_isAsker_1 8 rfl rfl)
abbrev cX0_laysBest : ByteArray := prog_1_method_29_code
def yX0_laysBest : MethodName := ⟨RX0, "laysBest", "()I"⟩
def dkwX0_laysBest_11 : List UInt8 := [167, 255, 198, 132, 3, 1, 167, 255, 155, 132, 2, 255, 167, 255, 143, 27, 172]
abbrev dktX0_laysBest_11 : List UInt8 := dkwX0_laysBest_11 ++ []
def dkwX0_laysBest_10 : List UInt8 := [29, 42, 180, 0, 56, 28, 50, 29, 46, 42, 28, 21, 4, 29, 182, 0, 249, 184, 0, 7, 79, 132, 4, 1]
abbrev dktX0_laysBest_10 : List UInt8 := dkwX0_laysBest_10 ++ dktX0_laysBest_11
def dkwX0_laysBest_9 : List UInt8 := [184, 0, 246, 153, 0, 42, 42, 180, 0, 59, 28, 50, 21, 4, 46, 158, 0, 30, 42, 180, 0, 56, 28, 50]
abbrev dktX0_laysBest_9 : List UInt8 := dkwX0_laysBest_9 ++ dktX0_laysBest_10
def dkwX0_laysBest_8 : List UInt8 := [42, 180, 0, 56, 28, 4, 96, 50, 29, 46, 79, 3, 54, 4, 21, 4, 16, 12, 162, 0, 57, 29, 21, 4]
abbrev dktX0_laysBest_8 : List UInt8 := dkwX0_laysBest_8 ++ dktX0_laysBest_9
def dkwX0_laysBest_7 : List UInt8 := [62, 29, 27, 163, 0, 102, 29, 27, 2, 130, 126, 153, 0, 6, 167, 0, 85, 42, 180, 0, 56, 28, 50, 29]
abbrev dktX0_laysBest_7 : List UInt8 := dkwX0_laysBest_7 ++ dktX0_laysBest_8
def dkwX0_laysBest_6 : List UInt8 := [42, 180, 0, 56, 16, 12, 50, 28, 3, 79, 132, 2, 1, 167, 255, 238, 16, 11, 61, 28, 155, 0, 115, 3]
abbrev dktX0_laysBest_6 : List UInt8 := dkwX0_laysBest_6 ++ dktX0_laysBest_7
def dkwX0_laysBest_5 : List UInt8 := [167, 0, 4, 3, 79, 132, 3, 1, 167, 255, 194, 132, 2, 1, 167, 255, 180, 3, 61, 28, 27, 163, 0, 19]
abbrev dktX0_laysBest_5 : List UInt8 := dkwX0_laysBest_5 ++ dktX0_laysBest_6
def dkwX0_laysBest_4 : List UInt8 := [180, 0, 33, 28, 29, 182, 0, 216, 153, 0, 19, 17, 39, 16, 42, 180, 0, 33, 28, 29, 182, 0, 234, 100]
abbrev dktX0_laysBest_4 : List UInt8 := dkwX0_laysBest_4 ++ dktX0_laysBest_5
def dkwX0_laysBest_3 : List UInt8 := [180, 0, 59, 28, 50, 29, 42, 28, 182, 0, 243, 153, 0, 39, 27, 29, 184, 0, 246, 153, 0, 31, 42]
abbrev dktX0_laysBest_3 : List UInt8 := dkwX0_laysBest_3 ++ dktX0_laysBest_4
def dkwX0_laysBest_2 : List UInt8 := [132, 2, 1, 167, 255, 210, 3, 61, 28, 16, 12, 162, 0, 76, 3, 62, 29, 16, 12, 162, 0, 62, 42]
abbrev dktX0_laysBest_2 : List UInt8 := dkwX0_laysBest_2 ++ dktX0_laysBest_3
def dkwX0_laysBest_1 : List UInt8 := [180, 0, 33, 180, 0, 94, 28, 50, 180, 0, 111, 4, 160, 0, 9, 4, 28, 120, 167, 0, 4, 3, 128, 60]
abbrev dktX0_laysBest_1 : List UInt8 := dkwX0_laysBest_1 ++ dktX0_laysBest_2
def dkwX0_laysBest_0 : List UInt8 := [3, 60, 3, 61, 28, 16, 12, 162, 0, 46, 27, 42, 180, 0, 33, 28, 182, 0, 135, 153, 0, 25, 42]
abbrev dktX0_laysBest_0 : List UInt8 := dkwX0_laysBest_0 ++ dktX0_laysBest_1
theorem dksX0_laysBest_0 : cX0_laysBest.data.toList.drop 0 = dktX0_laysBest_0 := by decide +kernel
theorem dksX0_laysBest_1 : cX0_laysBest.data.toList.drop 23 = dktX0_laysBest_1 := dk_seg dksX0_laysBest_0 23 rfl rfl
theorem dksX0_laysBest_2 : cX0_laysBest.data.toList.drop 47 = dktX0_laysBest_2 := dk_seg dksX0_laysBest_1 24 rfl rfl
theorem dksX0_laysBest_3 : cX0_laysBest.data.toList.drop 70 = dktX0_laysBest_3 := dk_seg dksX0_laysBest_2 23 rfl rfl
theorem dksX0_laysBest_4 : cX0_laysBest.data.toList.drop 93 = dktX0_laysBest_4 := dk_seg dksX0_laysBest_3 23 rfl rfl
theorem dksX0_laysBest_5 : cX0_laysBest.data.toList.drop 117 = dktX0_laysBest_5 := dk_seg dksX0_laysBest_4 24 rfl rfl
theorem dksX0_laysBest_6 : cX0_laysBest.data.toList.drop 141 = dktX0_laysBest_6 := dk_seg dksX0_laysBest_5 24 rfl rfl
theorem dksX0_laysBest_7 : cX0_laysBest.data.toList.drop 165 = dktX0_laysBest_7 := dk_seg dksX0_laysBest_6 24 rfl rfl
theorem dksX0_laysBest_8 : cX0_laysBest.data.toList.drop 189 = dktX0_laysBest_8 := dk_seg dksX0_laysBest_7 24 rfl rfl
theorem dksX0_laysBest_9 : cX0_laysBest.data.toList.drop 213 = dktX0_laysBest_9 := dk_seg dksX0_laysBest_8 24 rfl rfl
theorem dksX0_laysBest_10 : cX0_laysBest.data.toList.drop 237 = dktX0_laysBest_10 := dk_seg dksX0_laysBest_9 24 rfl rfl
theorem dksX0_laysBest_11 : cX0_laysBest.data.toList.drop 261 = dktX0_laysBest_11 := dk_seg dksX0_laysBest_10 24 rfl rfl
theorem dX0_laysBest_0 : decode cX0_laysBest 0 = .ok (.iconst 0, 1) := dk_3 (dk_at dksX0_laysBest_0 0 rfl rfl)
theorem dX0_laysBest_1 : decode cX0_laysBest 1 = .ok (.istore_n 1, 1) := dk_60 (dk_at dksX0_laysBest_0 1 rfl rfl)
theorem dX0_laysBest_2 : decode cX0_laysBest 2 = .ok (.iconst 0, 1) := dk_3 (dk_at dksX0_laysBest_0 2 rfl rfl)
theorem dX0_laysBest_3 : decode cX0_laysBest 3 = .ok (.istore_n 2, 1) := dk_61 (dk_at dksX0_laysBest_0 3 rfl rfl)
theorem dX0_laysBest_4 : decode cX0_laysBest 4 = .ok (.iload_n 2, 1) := dk_28 (dk_at dksX0_laysBest_0 4 rfl rfl)
theorem dX0_laysBest_5 : decode cX0_laysBest 5 = .ok (.bipush 12, 2) := dk_16 12 (dk_at dksX0_laysBest_0 5 rfl rfl)
theorem dX0_laysBest_7 : decode cX0_laysBest 7 = .ok (.if_icmp .ge 46, 3) := dk_162 0 46 (dk_at dksX0_laysBest_0 7 rfl rfl)
theorem dX0_laysBest_10 : decode cX0_laysBest 10 = .ok (.iload_n 1, 1) := dk_27 (dk_at dksX0_laysBest_0 10 rfl rfl)
theorem dX0_laysBest_11 : decode cX0_laysBest 11 = .ok (.aload_n 0, 1) := dk_42 (dk_at dksX0_laysBest_0 11 rfl rfl)
theorem dX0_laysBest_12 : decode cX0_laysBest 12 = .ok (.getfield 33, 3) := dk_180 0 33 (dk_at dksX0_laysBest_0 12 rfl rfl)
theorem dX0_laysBest_15 : decode cX0_laysBest 15 = .ok (.iload_n 2, 1) := dk_28 (dk_at dksX0_laysBest_0 15 rfl rfl)
theorem dX0_laysBest_16 : decode cX0_laysBest 16 = .ok (.invokevirtual 135, 3) := dk_182 0 135 (dk_at dksX0_laysBest_0 16 rfl rfl)
theorem dX0_laysBest_19 : decode cX0_laysBest 19 = .ok (.ifCond .eq 25, 3) := dk_153 0 25 (dk_at dksX0_laysBest_0 19 rfl rfl)
theorem dX0_laysBest_22 : decode cX0_laysBest 22 = .ok (.aload_n 0, 1) := dk_42 (dk_at dksX0_laysBest_0 22 rfl rfl)
theorem dX0_laysBest_23 : decode cX0_laysBest 23 = .ok (.getfield 33, 3) := dk_180 0 33 (dk_at dksX0_laysBest_1 0 rfl rfl)
theorem dX0_laysBest_26 : decode cX0_laysBest 26 = .ok (.getfield 94, 3) := dk_180 0 94 (dk_at dksX0_laysBest_1 3 rfl rfl)
theorem dX0_laysBest_29 : decode cX0_laysBest 29 = .ok (.iload_n 2, 1) := dk_28 (dk_at dksX0_laysBest_1 6 rfl rfl)
theorem dX0_laysBest_30 : decode cX0_laysBest 30 = .ok (.aaload, 1) := dk_50 (dk_at dksX0_laysBest_1 7 rfl rfl)
theorem dX0_laysBest_31 : decode cX0_laysBest 31 = .ok (.getfield 111, 3) := dk_180 0 111 (dk_at dksX0_laysBest_1 8 rfl rfl)
theorem dX0_laysBest_34 : decode cX0_laysBest 34 = .ok (.iconst 1, 1) := dk_4 (dk_at dksX0_laysBest_1 11 rfl rfl)
theorem dX0_laysBest_35 : decode cX0_laysBest 35 = .ok (.if_icmp .ne 9, 3) := dk_160 0 9 (dk_at dksX0_laysBest_1 12 rfl rfl)
theorem dX0_laysBest_38 : decode cX0_laysBest 38 = .ok (.iconst 1, 1) := dk_4 (dk_at dksX0_laysBest_1 15 rfl rfl)
theorem dX0_laysBest_39 : decode cX0_laysBest 39 = .ok (.iload_n 2, 1) := dk_28 (dk_at dksX0_laysBest_1 16 rfl rfl)
theorem dX0_laysBest_40 : decode cX0_laysBest 40 = .ok (.ishl, 1) := dk_120 (dk_at dksX0_laysBest_1 17 rfl rfl)
theorem dX0_laysBest_41 : decode cX0_laysBest 41 = .ok (.goto 4, 3) := dk_167 0 4 (dk_at dksX0_laysBest_1 18 rfl rfl)
theorem dX0_laysBest_44 : decode cX0_laysBest 44 = .ok (.iconst 0, 1) := dk_3 (dk_at dksX0_laysBest_1 21 rfl rfl)
theorem dX0_laysBest_45 : decode cX0_laysBest 45 = .ok (.ior, 1) := dk_128 (dk_at dksX0_laysBest_1 22 rfl rfl)
theorem dX0_laysBest_46 : decode cX0_laysBest 46 = .ok (.istore_n 1, 1) := dk_60 (dk_at dksX0_laysBest_1 23 rfl rfl)
theorem dX0_laysBest_47 : decode cX0_laysBest 47 = .ok (.iinc 2 1, 3) := dk_132 2 1 (dk_at dksX0_laysBest_2 0 rfl rfl)
theorem dX0_laysBest_50 : decode cX0_laysBest 50 = .ok (.goto (-46), 3) := dk_167 255 210 (dk_at dksX0_laysBest_2 3 rfl rfl)
theorem dX0_laysBest_53 : decode cX0_laysBest 53 = .ok (.iconst 0, 1) := dk_3 (dk_at dksX0_laysBest_2 6 rfl rfl)
theorem dX0_laysBest_54 : decode cX0_laysBest 54 = .ok (.istore_n 2, 1) := dk_61 (dk_at dksX0_laysBest_2 7 rfl rfl)
theorem dX0_laysBest_55 : decode cX0_laysBest 55 = .ok (.iload_n 2, 1) := dk_28 (dk_at dksX0_laysBest_2 8 rfl rfl)
theorem dX0_laysBest_56 : decode cX0_laysBest 56 = .ok (.bipush 12, 2) := dk_16 12 (dk_at dksX0_laysBest_2 9 rfl rfl)
theorem dX0_laysBest_58 : decode cX0_laysBest 58 = .ok (.if_icmp .ge 76, 3) := dk_162 0 76 (dk_at dksX0_laysBest_2 11 rfl rfl)
theorem dX0_laysBest_61 : decode cX0_laysBest 61 = .ok (.iconst 0, 1) := dk_3 (dk_at dksX0_laysBest_2 14 rfl rfl)
theorem dX0_laysBest_62 : decode cX0_laysBest 62 = .ok (.istore_n 3, 1) := dk_62 (dk_at dksX0_laysBest_2 15 rfl rfl)
theorem dX0_laysBest_63 : decode cX0_laysBest 63 = .ok (.iload_n 3, 1) := dk_29 (dk_at dksX0_laysBest_2 16 rfl rfl)
theorem dX0_laysBest_64 : decode cX0_laysBest 64 = .ok (.bipush 12, 2) := dk_16 12 (dk_at dksX0_laysBest_2 17 rfl rfl)
theorem dX0_laysBest_66 : decode cX0_laysBest 66 = .ok (.if_icmp .ge 62, 3) := dk_162 0 62 (dk_at dksX0_laysBest_2 19 rfl rfl)
theorem dX0_laysBest_69 : decode cX0_laysBest 69 = .ok (.aload_n 0, 1) := dk_42 (dk_at dksX0_laysBest_2 22 rfl rfl)
theorem dX0_laysBest_70 : decode cX0_laysBest 70 = .ok (.getfield 59, 3) := dk_180 0 59 (dk_at dksX0_laysBest_3 0 rfl rfl)
theorem dX0_laysBest_73 : decode cX0_laysBest 73 = .ok (.iload_n 2, 1) := dk_28 (dk_at dksX0_laysBest_3 3 rfl rfl)
theorem dX0_laysBest_74 : decode cX0_laysBest 74 = .ok (.aaload, 1) := dk_50 (dk_at dksX0_laysBest_3 4 rfl rfl)
theorem dX0_laysBest_75 : decode cX0_laysBest 75 = .ok (.iload_n 3, 1) := dk_29 (dk_at dksX0_laysBest_3 5 rfl rfl)
theorem dX0_laysBest_76 : decode cX0_laysBest 76 = .ok (.aload_n 0, 1) := dk_42 (dk_at dksX0_laysBest_3 6 rfl rfl)
theorem dX0_laysBest_77 : decode cX0_laysBest 77 = .ok (.iload_n 2, 1) := dk_28 (dk_at dksX0_laysBest_3 7 rfl rfl)
theorem dX0_laysBest_78 : decode cX0_laysBest 78 = .ok (.invokevirtual 243, 3) := dk_182 0 243 (dk_at dksX0_laysBest_3 8 rfl rfl)
theorem dX0_laysBest_81 : decode cX0_laysBest 81 = .ok (.ifCond .eq 39, 3) := dk_153 0 39 (dk_at dksX0_laysBest_3 11 rfl rfl)
theorem dX0_laysBest_84 : decode cX0_laysBest 84 = .ok (.iload_n 1, 1) := dk_27 (dk_at dksX0_laysBest_3 14 rfl rfl)
theorem dX0_laysBest_85 : decode cX0_laysBest 85 = .ok (.iload_n 3, 1) := dk_29 (dk_at dksX0_laysBest_3 15 rfl rfl)
theorem dX0_laysBest_86 : decode cX0_laysBest 86 = .ok (.invokestatic 246, 3) := dk_184 0 246 (dk_at dksX0_laysBest_3 16 rfl rfl)
theorem dX0_laysBest_89 : decode cX0_laysBest 89 = .ok (.ifCond .eq 31, 3) := dk_153 0 31 (dk_at dksX0_laysBest_3 19 rfl rfl)
theorem dX0_laysBest_92 : decode cX0_laysBest 92 = .ok (.aload_n 0, 1) := dk_42 (dk_at dksX0_laysBest_3 22 rfl rfl)
theorem dX0_laysBest_93 : decode cX0_laysBest 93 = .ok (.getfield 33, 3) := dk_180 0 33 (dk_at dksX0_laysBest_4 0 rfl rfl)
theorem dX0_laysBest_96 : decode cX0_laysBest 96 = .ok (.iload_n 2, 1) := dk_28 (dk_at dksX0_laysBest_4 3 rfl rfl)
theorem dX0_laysBest_97 : decode cX0_laysBest 97 = .ok (.iload_n 3, 1) := dk_29 (dk_at dksX0_laysBest_4 4 rfl rfl)
theorem dX0_laysBest_98 : decode cX0_laysBest 98 = .ok (.invokevirtual 216, 3) := dk_182 0 216 (dk_at dksX0_laysBest_4 5 rfl rfl)
theorem dX0_laysBest_101 : decode cX0_laysBest 101 = .ok (.ifCond .eq 19, 3) := dk_153 0 19 (dk_at dksX0_laysBest_4 8 rfl rfl)
theorem dX0_laysBest_104 : decode cX0_laysBest 104 = .ok (.sipush 10000, 3) := dk_17 39 16 (dk_at dksX0_laysBest_4 11 rfl rfl)
theorem dX0_laysBest_107 : decode cX0_laysBest 107 = .ok (.aload_n 0, 1) := dk_42 (dk_at dksX0_laysBest_4 14 rfl rfl)
theorem dX0_laysBest_108 : decode cX0_laysBest 108 = .ok (.getfield 33, 3) := dk_180 0 33 (dk_at dksX0_laysBest_4 15 rfl rfl)
theorem dX0_laysBest_111 : decode cX0_laysBest 111 = .ok (.iload_n 2, 1) := dk_28 (dk_at dksX0_laysBest_4 18 rfl rfl)
theorem dX0_laysBest_112 : decode cX0_laysBest 112 = .ok (.iload_n 3, 1) := dk_29 (dk_at dksX0_laysBest_4 19 rfl rfl)
theorem dX0_laysBest_113 : decode cX0_laysBest 113 = .ok (.invokevirtual 234, 3) := dk_182 0 234 (dk_at dksX0_laysBest_4 20 rfl rfl)
theorem dX0_laysBest_116 : decode cX0_laysBest 116 = .ok (.isub, 1) := dk_100 (dk_at dksX0_laysBest_4 23 rfl rfl)
theorem dX0_laysBest_117 : decode cX0_laysBest 117 = .ok (.goto 4, 3) := dk_167 0 4 (dk_at dksX0_laysBest_5 0 rfl rfl)
theorem dX0_laysBest_120 : decode cX0_laysBest 120 = .ok (.iconst 0, 1) := dk_3 (dk_at dksX0_laysBest_5 3 rfl rfl)
theorem dX0_laysBest_121 : decode cX0_laysBest 121 = .ok (.iastore, 1) := dk_79 (dk_at dksX0_laysBest_5 4 rfl rfl)
theorem dX0_laysBest_122 : decode cX0_laysBest 122 = .ok (.iinc 3 1, 3) := dk_132 3 1 (dk_at dksX0_laysBest_5 5 rfl rfl)
theorem dX0_laysBest_125 : decode cX0_laysBest 125 = .ok (.goto (-62), 3) := dk_167 255 194 (dk_at dksX0_laysBest_5 8 rfl rfl)
theorem dX0_laysBest_128 : decode cX0_laysBest 128 = .ok (.iinc 2 1, 3) := dk_132 2 1 (dk_at dksX0_laysBest_5 11 rfl rfl)
theorem dX0_laysBest_131 : decode cX0_laysBest 131 = .ok (.goto (-76), 3) := dk_167 255 180 (dk_at dksX0_laysBest_5 14 rfl rfl)
theorem dX0_laysBest_134 : decode cX0_laysBest 134 = .ok (.iconst 0, 1) := dk_3 (dk_at dksX0_laysBest_5 17 rfl rfl)
theorem dX0_laysBest_135 : decode cX0_laysBest 135 = .ok (.istore_n 2, 1) := dk_61 (dk_at dksX0_laysBest_5 18 rfl rfl)
theorem dX0_laysBest_136 : decode cX0_laysBest 136 = .ok (.iload_n 2, 1) := dk_28 (dk_at dksX0_laysBest_5 19 rfl rfl)
theorem dX0_laysBest_137 : decode cX0_laysBest 137 = .ok (.iload_n 1, 1) := dk_27 (dk_at dksX0_laysBest_5 20 rfl rfl)
theorem dX0_laysBest_138 : decode cX0_laysBest 138 = .ok (.if_icmp .gt 19, 3) := dk_163 0 19 (dk_at dksX0_laysBest_5 21 rfl rfl)
theorem dX0_laysBest_141 : decode cX0_laysBest 141 = .ok (.aload_n 0, 1) := dk_42 (dk_at dksX0_laysBest_6 0 rfl rfl)
theorem dX0_laysBest_142 : decode cX0_laysBest 142 = .ok (.getfield 56, 3) := dk_180 0 56 (dk_at dksX0_laysBest_6 1 rfl rfl)
theorem dX0_laysBest_145 : decode cX0_laysBest 145 = .ok (.bipush 12, 2) := dk_16 12 (dk_at dksX0_laysBest_6 4 rfl rfl)
theorem dX0_laysBest_147 : decode cX0_laysBest 147 = .ok (.aaload, 1) := dk_50 (dk_at dksX0_laysBest_6 6 rfl rfl)
theorem dX0_laysBest_148 : decode cX0_laysBest 148 = .ok (.iload_n 2, 1) := dk_28 (dk_at dksX0_laysBest_6 7 rfl rfl)
theorem dX0_laysBest_149 : decode cX0_laysBest 149 = .ok (.iconst 0, 1) := dk_3 (dk_at dksX0_laysBest_6 8 rfl rfl)
theorem dX0_laysBest_150 : decode cX0_laysBest 150 = .ok (.iastore, 1) := dk_79 (dk_at dksX0_laysBest_6 9 rfl rfl)
theorem dX0_laysBest_151 : decode cX0_laysBest 151 = .ok (.iinc 2 1, 3) := dk_132 2 1 (dk_at dksX0_laysBest_6 10 rfl rfl)
theorem dX0_laysBest_154 : decode cX0_laysBest 154 = .ok (.goto (-18), 3) := dk_167 255 238 (dk_at dksX0_laysBest_6 13 rfl rfl)
theorem dX0_laysBest_157 : decode cX0_laysBest 157 = .ok (.bipush 11, 2) := dk_16 11 (dk_at dksX0_laysBest_6 16 rfl rfl)
theorem dX0_laysBest_159 : decode cX0_laysBest 159 = .ok (.istore_n 2, 1) := dk_61 (dk_at dksX0_laysBest_6 18 rfl rfl)
theorem dX0_laysBest_160 : decode cX0_laysBest 160 = .ok (.iload_n 2, 1) := dk_28 (dk_at dksX0_laysBest_6 19 rfl rfl)
theorem dX0_laysBest_161 : decode cX0_laysBest 161 = .ok (.ifCond .lt 115, 3) := dk_155 0 115 (dk_at dksX0_laysBest_6 20 rfl rfl)
theorem dX0_laysBest_164 : decode cX0_laysBest 164 = .ok (.iconst 0, 1) := dk_3 (dk_at dksX0_laysBest_6 23 rfl rfl)
theorem dX0_laysBest_165 : decode cX0_laysBest 165 = .ok (.istore_n 3, 1) := dk_62 (dk_at dksX0_laysBest_7 0 rfl rfl)
theorem dX0_laysBest_166 : decode cX0_laysBest 166 = .ok (.iload_n 3, 1) := dk_29 (dk_at dksX0_laysBest_7 1 rfl rfl)
theorem dX0_laysBest_167 : decode cX0_laysBest 167 = .ok (.iload_n 1, 1) := dk_27 (dk_at dksX0_laysBest_7 2 rfl rfl)
theorem dX0_laysBest_168 : decode cX0_laysBest 168 = .ok (.if_icmp .gt 102, 3) := dk_163 0 102 (dk_at dksX0_laysBest_7 3 rfl rfl)
theorem dX0_laysBest_171 : decode cX0_laysBest 171 = .ok (.iload_n 3, 1) := dk_29 (dk_at dksX0_laysBest_7 6 rfl rfl)
theorem dX0_laysBest_172 : decode cX0_laysBest 172 = .ok (.iload_n 1, 1) := dk_27 (dk_at dksX0_laysBest_7 7 rfl rfl)
theorem dX0_laysBest_173 : decode cX0_laysBest 173 = .ok (.iconst (-1), 1) := dk_2 (dk_at dksX0_laysBest_7 8 rfl rfl)
theorem dX0_laysBest_174 : decode cX0_laysBest 174 = .ok (.ixor, 1) := dk_130 (dk_at dksX0_laysBest_7 9 rfl rfl)
theorem dX0_laysBest_175 : decode cX0_laysBest 175 = .ok (.iand, 1) := dk_126 (dk_at dksX0_laysBest_7 10 rfl rfl)
theorem dX0_laysBest_176 : decode cX0_laysBest 176 = .ok (.ifCond .eq 6, 3) := dk_153 0 6 (dk_at dksX0_laysBest_7 11 rfl rfl)
theorem dX0_laysBest_179 : decode cX0_laysBest 179 = .ok (.goto 85, 3) := dk_167 0 85 (dk_at dksX0_laysBest_7 14 rfl rfl)
theorem dX0_laysBest_182 : decode cX0_laysBest 182 = .ok (.aload_n 0, 1) := dk_42 (dk_at dksX0_laysBest_7 17 rfl rfl)
theorem dX0_laysBest_183 : decode cX0_laysBest 183 = .ok (.getfield 56, 3) := dk_180 0 56 (dk_at dksX0_laysBest_7 18 rfl rfl)
theorem dX0_laysBest_186 : decode cX0_laysBest 186 = .ok (.iload_n 2, 1) := dk_28 (dk_at dksX0_laysBest_7 21 rfl rfl)
theorem dX0_laysBest_187 : decode cX0_laysBest 187 = .ok (.aaload, 1) := dk_50 (dk_at dksX0_laysBest_7 22 rfl rfl)
theorem dX0_laysBest_188 : decode cX0_laysBest 188 = .ok (.iload_n 3, 1) := dk_29 (dk_at dksX0_laysBest_7 23 rfl rfl)
theorem dX0_laysBest_189 : decode cX0_laysBest 189 = .ok (.aload_n 0, 1) := dk_42 (dk_at dksX0_laysBest_8 0 rfl rfl)
theorem dX0_laysBest_190 : decode cX0_laysBest 190 = .ok (.getfield 56, 3) := dk_180 0 56 (dk_at dksX0_laysBest_8 1 rfl rfl)
theorem dX0_laysBest_193 : decode cX0_laysBest 193 = .ok (.iload_n 2, 1) := dk_28 (dk_at dksX0_laysBest_8 4 rfl rfl)
theorem dX0_laysBest_194 : decode cX0_laysBest 194 = .ok (.iconst 1, 1) := dk_4 (dk_at dksX0_laysBest_8 5 rfl rfl)
theorem dX0_laysBest_195 : decode cX0_laysBest 195 = .ok (.iadd, 1) := dk_96 (dk_at dksX0_laysBest_8 6 rfl rfl)
theorem dX0_laysBest_196 : decode cX0_laysBest 196 = .ok (.aaload, 1) := dk_50 (dk_at dksX0_laysBest_8 7 rfl rfl)
theorem dX0_laysBest_197 : decode cX0_laysBest 197 = .ok (.iload_n 3, 1) := dk_29 (dk_at dksX0_laysBest_8 8 rfl rfl)
theorem dX0_laysBest_198 : decode cX0_laysBest 198 = .ok (.iaload, 1) := dk_46 (dk_at dksX0_laysBest_8 9 rfl rfl)
theorem dX0_laysBest_199 : decode cX0_laysBest 199 = .ok (.iastore, 1) := dk_79 (dk_at dksX0_laysBest_8 10 rfl rfl)
theorem dX0_laysBest_200 : decode cX0_laysBest 200 = .ok (.iconst 0, 1) := dk_3 (dk_at dksX0_laysBest_8 11 rfl rfl)
theorem dX0_laysBest_201 : decode cX0_laysBest 201 = .ok (.istore 4, 2) := dk_54 4 (dk_at dksX0_laysBest_8 12 rfl rfl)
theorem dX0_laysBest_203 : decode cX0_laysBest 203 = .ok (.iload 4, 2) := dk_21 4 (dk_at dksX0_laysBest_8 14 rfl rfl)
theorem dX0_laysBest_205 : decode cX0_laysBest 205 = .ok (.bipush 12, 2) := dk_16 12 (dk_at dksX0_laysBest_8 16 rfl rfl)
theorem dX0_laysBest_207 : decode cX0_laysBest 207 = .ok (.if_icmp .ge 57, 3) := dk_162 0 57 (dk_at dksX0_laysBest_8 18 rfl rfl)
theorem dX0_laysBest_210 : decode cX0_laysBest 210 = .ok (.iload_n 3, 1) := dk_29 (dk_at dksX0_laysBest_8 21 rfl rfl)
theorem dX0_laysBest_211 : decode cX0_laysBest 211 = .ok (.iload 4, 2) := dk_21 4 (dk_at dksX0_laysBest_8 22 rfl rfl)
theorem dX0_laysBest_213 : decode cX0_laysBest 213 = .ok (.invokestatic 246, 3) := dk_184 0 246 (dk_at dksX0_laysBest_9 0 rfl rfl)
theorem dX0_laysBest_216 : decode cX0_laysBest 216 = .ok (.ifCond .eq 42, 3) := dk_153 0 42 (dk_at dksX0_laysBest_9 3 rfl rfl)
theorem dX0_laysBest_219 : decode cX0_laysBest 219 = .ok (.aload_n 0, 1) := dk_42 (dk_at dksX0_laysBest_9 6 rfl rfl)
theorem dX0_laysBest_220 : decode cX0_laysBest 220 = .ok (.getfield 59, 3) := dk_180 0 59 (dk_at dksX0_laysBest_9 7 rfl rfl)
theorem dX0_laysBest_223 : decode cX0_laysBest 223 = .ok (.iload_n 2, 1) := dk_28 (dk_at dksX0_laysBest_9 10 rfl rfl)
theorem dX0_laysBest_224 : decode cX0_laysBest 224 = .ok (.aaload, 1) := dk_50 (dk_at dksX0_laysBest_9 11 rfl rfl)
theorem dX0_laysBest_225 : decode cX0_laysBest 225 = .ok (.iload 4, 2) := dk_21 4 (dk_at dksX0_laysBest_9 12 rfl rfl)
theorem dX0_laysBest_227 : decode cX0_laysBest 227 = .ok (.iaload, 1) := dk_46 (dk_at dksX0_laysBest_9 14 rfl rfl)
theorem dX0_laysBest_228 : decode cX0_laysBest 228 = .ok (.ifCond .le 30, 3) := dk_158 0 30 (dk_at dksX0_laysBest_9 15 rfl rfl)
theorem dX0_laysBest_231 : decode cX0_laysBest 231 = .ok (.aload_n 0, 1) := dk_42 (dk_at dksX0_laysBest_9 18 rfl rfl)
theorem dX0_laysBest_232 : decode cX0_laysBest 232 = .ok (.getfield 56, 3) := dk_180 0 56 (dk_at dksX0_laysBest_9 19 rfl rfl)
theorem dX0_laysBest_235 : decode cX0_laysBest 235 = .ok (.iload_n 2, 1) := dk_28 (dk_at dksX0_laysBest_9 22 rfl rfl)
theorem dX0_laysBest_236 : decode cX0_laysBest 236 = .ok (.aaload, 1) := dk_50 (dk_at dksX0_laysBest_9 23 rfl rfl)
theorem dX0_laysBest_237 : decode cX0_laysBest 237 = .ok (.iload_n 3, 1) := dk_29 (dk_at dksX0_laysBest_10 0 rfl rfl)
theorem dX0_laysBest_238 : decode cX0_laysBest 238 = .ok (.aload_n 0, 1) := dk_42 (dk_at dksX0_laysBest_10 1 rfl rfl)
theorem dX0_laysBest_239 : decode cX0_laysBest 239 = .ok (.getfield 56, 3) := dk_180 0 56 (dk_at dksX0_laysBest_10 2 rfl rfl)
theorem dX0_laysBest_242 : decode cX0_laysBest 242 = .ok (.iload_n 2, 1) := dk_28 (dk_at dksX0_laysBest_10 5 rfl rfl)
theorem dX0_laysBest_243 : decode cX0_laysBest 243 = .ok (.aaload, 1) := dk_50 (dk_at dksX0_laysBest_10 6 rfl rfl)
theorem dX0_laysBest_244 : decode cX0_laysBest 244 = .ok (.iload_n 3, 1) := dk_29 (dk_at dksX0_laysBest_10 7 rfl rfl)
theorem dX0_laysBest_245 : decode cX0_laysBest 245 = .ok (.iaload, 1) := dk_46 (dk_at dksX0_laysBest_10 8 rfl rfl)
theorem dX0_laysBest_246 : decode cX0_laysBest 246 = .ok (.aload_n 0, 1) := dk_42 (dk_at dksX0_laysBest_10 9 rfl rfl)
theorem dX0_laysBest_247 : decode cX0_laysBest 247 = .ok (.iload_n 2, 1) := dk_28 (dk_at dksX0_laysBest_10 10 rfl rfl)
theorem dX0_laysBest_248 : decode cX0_laysBest 248 = .ok (.iload 4, 2) := dk_21 4 (dk_at dksX0_laysBest_10 11 rfl rfl)
theorem dX0_laysBest_250 : decode cX0_laysBest 250 = .ok (.iload_n 3, 1) := dk_29 (dk_at dksX0_laysBest_10 13 rfl rfl)
theorem dX0_laysBest_251 : decode cX0_laysBest 251 = .ok (.invokevirtual 249, 3) := dk_182 0 249 (dk_at dksX0_laysBest_10 14 rfl rfl)
theorem dX0_laysBest_254 : decode cX0_laysBest 254 = .ok (.invokestatic 7, 3) := dk_184 0 7 (dk_at dksX0_laysBest_10 17 rfl rfl)
theorem dX0_laysBest_257 : decode cX0_laysBest 257 = .ok (.iastore, 1) := dk_79 (dk_at dksX0_laysBest_10 20 rfl rfl)
theorem dX0_laysBest_258 : decode cX0_laysBest 258 = .ok (.iinc 4 1, 3) := dk_132 4 1 (dk_at dksX0_laysBest_10 21 rfl rfl)
theorem dX0_laysBest_261 : decode cX0_laysBest 261 = .ok (.goto (-58), 3) := dk_167 255 198 (dk_at dksX0_laysBest_11 0 rfl rfl)
theorem dX0_laysBest_264 : decode cX0_laysBest 264 = .ok (.iinc 3 1, 3) := dk_132 3 1 (dk_at dksX0_laysBest_11 3 rfl rfl)
theorem dX0_laysBest_267 : decode cX0_laysBest 267 = .ok (.goto (-101), 3) := dk_167 255 155 (dk_at dksX0_laysBest_11 6 rfl rfl)
theorem dX0_laysBest_270 : decode cX0_laysBest 270 = .ok (.iinc 2 (-1), 3) := dk_132 2 255 (dk_at dksX0_laysBest_11 9 rfl rfl)
theorem dX0_laysBest_273 : decode cX0_laysBest 273 = .ok (.goto (-113), 3) := dk_167 255 143 (dk_at dksX0_laysBest_11 12 rfl rfl)
theorem dX0_laysBest_276 : decode cX0_laysBest 276 = .ok (.iload_n 1, 1) := dk_27 (dk_at dksX0_laysBest_11 15 rfl rfl)
theorem dX0_laysBest_277 : decode cX0_laysBest 277 = .ok (.ireturn, 1) := dk_172 (dk_at dksX0_laysBest_11 16 rfl rfl)
abbrev cX0_gainBy : ByteArray := prog_1_method_28_code
def yX0_gainBy : MethodName := ⟨RX0, "gainBy", "(III)I"⟩
def dkwX0_gainBy_1 : List UInt8 := [50, 28, 46, 42, 180, 0, 56, 27, 4, 96, 50, 29, 4, 28, 120, 2, 130, 126, 46, 96, 172]
abbrev dktX0_gainBy_1 : List UInt8 := dkwX0_gainBy_1 ++ []
def dkwX0_gainBy_0 : List UInt8 := [28, 16, 12, 160, 0, 16, 42, 180, 0, 56, 27, 4, 96, 50, 29, 46, 167, 0, 28, 42, 180, 0, 59, 27]
abbrev dktX0_gainBy_0 : List UInt8 := dkwX0_gainBy_0 ++ dktX0_gainBy_1
theorem dksX0_gainBy_0 : cX0_gainBy.data.toList.drop 0 = dktX0_gainBy_0 := by decide +kernel
theorem dksX0_gainBy_1 : cX0_gainBy.data.toList.drop 24 = dktX0_gainBy_1 := dk_seg dksX0_gainBy_0 24 rfl rfl
theorem dX0_gainBy_0 : decode cX0_gainBy 0 = .ok (.iload_n 2, 1) := dk_28 (dk_at dksX0_gainBy_0 0 rfl rfl)
theorem dX0_gainBy_1 : decode cX0_gainBy 1 = .ok (.bipush 12, 2) := dk_16 12 (dk_at dksX0_gainBy_0 1 rfl rfl)
theorem dX0_gainBy_3 : decode cX0_gainBy 3 = .ok (.if_icmp .ne 16, 3) := dk_160 0 16 (dk_at dksX0_gainBy_0 3 rfl rfl)
theorem dX0_gainBy_6 : decode cX0_gainBy 6 = .ok (.aload_n 0, 1) := dk_42 (dk_at dksX0_gainBy_0 6 rfl rfl)
theorem dX0_gainBy_7 : decode cX0_gainBy 7 = .ok (.getfield 56, 3) := dk_180 0 56 (dk_at dksX0_gainBy_0 7 rfl rfl)
theorem dX0_gainBy_10 : decode cX0_gainBy 10 = .ok (.iload_n 1, 1) := dk_27 (dk_at dksX0_gainBy_0 10 rfl rfl)
theorem dX0_gainBy_11 : decode cX0_gainBy 11 = .ok (.iconst 1, 1) := dk_4 (dk_at dksX0_gainBy_0 11 rfl rfl)
theorem dX0_gainBy_12 : decode cX0_gainBy 12 = .ok (.iadd, 1) := dk_96 (dk_at dksX0_gainBy_0 12 rfl rfl)
theorem dX0_gainBy_13 : decode cX0_gainBy 13 = .ok (.aaload, 1) := dk_50 (dk_at dksX0_gainBy_0 13 rfl rfl)
theorem dX0_gainBy_14 : decode cX0_gainBy 14 = .ok (.iload_n 3, 1) := dk_29 (dk_at dksX0_gainBy_0 14 rfl rfl)
theorem dX0_gainBy_15 : decode cX0_gainBy 15 = .ok (.iaload, 1) := dk_46 (dk_at dksX0_gainBy_0 15 rfl rfl)
theorem dX0_gainBy_16 : decode cX0_gainBy 16 = .ok (.goto 28, 3) := dk_167 0 28 (dk_at dksX0_gainBy_0 16 rfl rfl)
theorem dX0_gainBy_19 : decode cX0_gainBy 19 = .ok (.aload_n 0, 1) := dk_42 (dk_at dksX0_gainBy_0 19 rfl rfl)
theorem dX0_gainBy_20 : decode cX0_gainBy 20 = .ok (.getfield 59, 3) := dk_180 0 59 (dk_at dksX0_gainBy_0 20 rfl rfl)
theorem dX0_gainBy_23 : decode cX0_gainBy 23 = .ok (.iload_n 1, 1) := dk_27 (dk_at dksX0_gainBy_0 23 rfl rfl)
theorem dX0_gainBy_24 : decode cX0_gainBy 24 = .ok (.aaload, 1) := dk_50 (dk_at dksX0_gainBy_1 0 rfl rfl)
theorem dX0_gainBy_25 : decode cX0_gainBy 25 = .ok (.iload_n 2, 1) := dk_28 (dk_at dksX0_gainBy_1 1 rfl rfl)
theorem dX0_gainBy_26 : decode cX0_gainBy 26 = .ok (.iaload, 1) := dk_46 (dk_at dksX0_gainBy_1 2 rfl rfl)
theorem dX0_gainBy_27 : decode cX0_gainBy 27 = .ok (.aload_n 0, 1) := dk_42 (dk_at dksX0_gainBy_1 3 rfl rfl)
theorem dX0_gainBy_28 : decode cX0_gainBy 28 = .ok (.getfield 56, 3) := dk_180 0 56 (dk_at dksX0_gainBy_1 4 rfl rfl)
theorem dX0_gainBy_31 : decode cX0_gainBy 31 = .ok (.iload_n 1, 1) := dk_27 (dk_at dksX0_gainBy_1 7 rfl rfl)
theorem dX0_gainBy_32 : decode cX0_gainBy 32 = .ok (.iconst 1, 1) := dk_4 (dk_at dksX0_gainBy_1 8 rfl rfl)
theorem dX0_gainBy_33 : decode cX0_gainBy 33 = .ok (.iadd, 1) := dk_96 (dk_at dksX0_gainBy_1 9 rfl rfl)
theorem dX0_gainBy_34 : decode cX0_gainBy 34 = .ok (.aaload, 1) := dk_50 (dk_at dksX0_gainBy_1 10 rfl rfl)
theorem dX0_gainBy_35 : decode cX0_gainBy 35 = .ok (.iload_n 3, 1) := dk_29 (dk_at dksX0_gainBy_1 11 rfl rfl)
theorem dX0_gainBy_36 : decode cX0_gainBy 36 = .ok (.iconst 1, 1) := dk_4 (dk_at dksX0_gainBy_1 12 rfl rfl)
theorem dX0_gainBy_37 : decode cX0_gainBy 37 = .ok (.iload_n 2, 1) := dk_28 (dk_at dksX0_gainBy_1 13 rfl rfl)
theorem dX0_gainBy_38 : decode cX0_gainBy 38 = .ok (.ishl, 1) := dk_120 (dk_at dksX0_gainBy_1 14 rfl rfl)
theorem dX0_gainBy_39 : decode cX0_gainBy 39 = .ok (.iconst (-1), 1) := dk_2 (dk_at dksX0_gainBy_1 15 rfl rfl)
theorem dX0_gainBy_40 : decode cX0_gainBy 40 = .ok (.ixor, 1) := dk_130 (dk_at dksX0_gainBy_1 16 rfl rfl)
theorem dX0_gainBy_41 : decode cX0_gainBy 41 = .ok (.iand, 1) := dk_126 (dk_at dksX0_gainBy_1 17 rfl rfl)
theorem dX0_gainBy_42 : decode cX0_gainBy 42 = .ok (.iaload, 1) := dk_46 (dk_at dksX0_gainBy_1 18 rfl rfl)
theorem dX0_gainBy_43 : decode cX0_gainBy 43 = .ok (.iadd, 1) := dk_96 (dk_at dksX0_gainBy_1 19 rfl rfl)
theorem dX0_gainBy_44 : decode cX0_gainBy 44 = .ok (.ireturn, 1) := dk_172 (dk_at dksX0_gainBy_1 20 rfl rfl)
abbrev cX0_stable : ByteArray := prog_1_method_34_code
def yX0_stable : MethodName := ⟨RX0, "stable", "(I)I"⟩
def dkwX0_stable_3 : List UInt8 := [167, 0, 4, 3, 96, 61, 132, 3, 1, 167, 255, 221, 28, 172]
abbrev dktX0_stable_3 : List UInt8 := dkwX0_stable_3 ++ []
def dkwX0_stable_2 : List UInt8 := [162, 0, 35, 28, 42, 29, 182, 0, 243, 153, 0, 17, 42, 180, 0, 62, 29, 46, 2, 159, 0, 7, 4]
abbrev dktX0_stable_2 : List UInt8 := dkwX0_stable_2 ++ dktX0_stable_3
def dkwX0_stable_1 : List UInt8 := [16, 20, 162, 0, 13, 42, 180, 0, 62, 27, 46, 184, 0, 212, 172, 3, 61, 3, 62, 29, 16, 12]
abbrev dktX0_stable_1 : List UInt8 := dkwX0_stable_1 ++ dktX0_stable_2
def dkwX0_stable_0 : List UInt8 := [27, 16, 20, 159, 0, 16, 42, 180, 0, 33, 27, 182, 0, 135, 154, 0, 5, 2, 172, 42, 182, 1, 6, 27]
abbrev dktX0_stable_0 : List UInt8 := dkwX0_stable_0 ++ dktX0_stable_1
theorem dksX0_stable_0 : cX0_stable.data.toList.drop 0 = dktX0_stable_0 := by decide +kernel
theorem dksX0_stable_1 : cX0_stable.data.toList.drop 24 = dktX0_stable_1 := dk_seg dksX0_stable_0 24 rfl rfl
theorem dksX0_stable_2 : cX0_stable.data.toList.drop 46 = dktX0_stable_2 := dk_seg dksX0_stable_1 22 rfl rfl
theorem dksX0_stable_3 : cX0_stable.data.toList.drop 69 = dktX0_stable_3 := dk_seg dksX0_stable_2 23 rfl rfl
theorem dX0_stable_0 : decode cX0_stable 0 = .ok (.iload_n 1, 1) := dk_27 (dk_at dksX0_stable_0 0 rfl rfl)
theorem dX0_stable_1 : decode cX0_stable 1 = .ok (.bipush 20, 2) := dk_16 20 (dk_at dksX0_stable_0 1 rfl rfl)
theorem dX0_stable_3 : decode cX0_stable 3 = .ok (.if_icmp .eq 16, 3) := dk_159 0 16 (dk_at dksX0_stable_0 3 rfl rfl)
theorem dX0_stable_6 : decode cX0_stable 6 = .ok (.aload_n 0, 1) := dk_42 (dk_at dksX0_stable_0 6 rfl rfl)
theorem dX0_stable_7 : decode cX0_stable 7 = .ok (.getfield 33, 3) := dk_180 0 33 (dk_at dksX0_stable_0 7 rfl rfl)
theorem dX0_stable_10 : decode cX0_stable 10 = .ok (.iload_n 1, 1) := dk_27 (dk_at dksX0_stable_0 10 rfl rfl)
theorem dX0_stable_11 : decode cX0_stable 11 = .ok (.invokevirtual 135, 3) := dk_182 0 135 (dk_at dksX0_stable_0 11 rfl rfl)
theorem dX0_stable_14 : decode cX0_stable 14 = .ok (.ifCond .ne 5, 3) := dk_154 0 5 (dk_at dksX0_stable_0 14 rfl rfl)
theorem dX0_stable_17 : decode cX0_stable 17 = .ok (.iconst (-1), 1) := dk_2 (dk_at dksX0_stable_0 17 rfl rfl)
theorem dX0_stable_18 : decode cX0_stable 18 = .ok (.ireturn, 1) := dk_172 (dk_at dksX0_stable_0 18 rfl rfl)
theorem dX0_stable_19 : decode cX0_stable 19 = .ok (.aload_n 0, 1) := dk_42 (dk_at dksX0_stable_0 19 rfl rfl)
theorem dX0_stable_20 : decode cX0_stable 20 = .ok (.invokevirtual 262, 3) := dk_182 1 6 (dk_at dksX0_stable_0 20 rfl rfl)
theorem dX0_stable_23 : decode cX0_stable 23 = .ok (.iload_n 1, 1) := dk_27 (dk_at dksX0_stable_0 23 rfl rfl)
theorem dX0_stable_24 : decode cX0_stable 24 = .ok (.bipush 20, 2) := dk_16 20 (dk_at dksX0_stable_1 0 rfl rfl)
theorem dX0_stable_26 : decode cX0_stable 26 = .ok (.if_icmp .ge 13, 3) := dk_162 0 13 (dk_at dksX0_stable_1 2 rfl rfl)
theorem dX0_stable_29 : decode cX0_stable 29 = .ok (.aload_n 0, 1) := dk_42 (dk_at dksX0_stable_1 5 rfl rfl)
theorem dX0_stable_30 : decode cX0_stable 30 = .ok (.getfield 62, 3) := dk_180 0 62 (dk_at dksX0_stable_1 6 rfl rfl)
theorem dX0_stable_33 : decode cX0_stable 33 = .ok (.iload_n 1, 1) := dk_27 (dk_at dksX0_stable_1 9 rfl rfl)
theorem dX0_stable_34 : decode cX0_stable 34 = .ok (.iaload, 1) := dk_46 (dk_at dksX0_stable_1 10 rfl rfl)
theorem dX0_stable_35 : decode cX0_stable 35 = .ok (.invokestatic 212, 3) := dk_184 0 212 (dk_at dksX0_stable_1 11 rfl rfl)
theorem dX0_stable_38 : decode cX0_stable 38 = .ok (.ireturn, 1) := dk_172 (dk_at dksX0_stable_1 14 rfl rfl)
theorem dX0_stable_39 : decode cX0_stable 39 = .ok (.iconst 0, 1) := dk_3 (dk_at dksX0_stable_1 15 rfl rfl)
theorem dX0_stable_40 : decode cX0_stable 40 = .ok (.istore_n 2, 1) := dk_61 (dk_at dksX0_stable_1 16 rfl rfl)
theorem dX0_stable_41 : decode cX0_stable 41 = .ok (.iconst 0, 1) := dk_3 (dk_at dksX0_stable_1 17 rfl rfl)
theorem dX0_stable_42 : decode cX0_stable 42 = .ok (.istore_n 3, 1) := dk_62 (dk_at dksX0_stable_1 18 rfl rfl)
theorem dX0_stable_43 : decode cX0_stable 43 = .ok (.iload_n 3, 1) := dk_29 (dk_at dksX0_stable_1 19 rfl rfl)
theorem dX0_stable_44 : decode cX0_stable 44 = .ok (.bipush 12, 2) := dk_16 12 (dk_at dksX0_stable_1 20 rfl rfl)
theorem dX0_stable_46 : decode cX0_stable 46 = .ok (.if_icmp .ge 35, 3) := dk_162 0 35 (dk_at dksX0_stable_2 0 rfl rfl)
theorem dX0_stable_49 : decode cX0_stable 49 = .ok (.iload_n 2, 1) := dk_28 (dk_at dksX0_stable_2 3 rfl rfl)
theorem dX0_stable_50 : decode cX0_stable 50 = .ok (.aload_n 0, 1) := dk_42 (dk_at dksX0_stable_2 4 rfl rfl)
theorem dX0_stable_51 : decode cX0_stable 51 = .ok (.iload_n 3, 1) := dk_29 (dk_at dksX0_stable_2 5 rfl rfl)
theorem dX0_stable_52 : decode cX0_stable 52 = .ok (.invokevirtual 243, 3) := dk_182 0 243 (dk_at dksX0_stable_2 6 rfl rfl)
theorem dX0_stable_55 : decode cX0_stable 55 = .ok (.ifCond .eq 17, 3) := dk_153 0 17 (dk_at dksX0_stable_2 9 rfl rfl)
theorem dX0_stable_58 : decode cX0_stable 58 = .ok (.aload_n 0, 1) := dk_42 (dk_at dksX0_stable_2 12 rfl rfl)
theorem dX0_stable_59 : decode cX0_stable 59 = .ok (.getfield 62, 3) := dk_180 0 62 (dk_at dksX0_stable_2 13 rfl rfl)
theorem dX0_stable_62 : decode cX0_stable 62 = .ok (.iload_n 3, 1) := dk_29 (dk_at dksX0_stable_2 16 rfl rfl)
theorem dX0_stable_63 : decode cX0_stable 63 = .ok (.iaload, 1) := dk_46 (dk_at dksX0_stable_2 17 rfl rfl)
theorem dX0_stable_64 : decode cX0_stable 64 = .ok (.iconst (-1), 1) := dk_2 (dk_at dksX0_stable_2 18 rfl rfl)
theorem dX0_stable_65 : decode cX0_stable 65 = .ok (.if_icmp .eq 7, 3) := dk_159 0 7 (dk_at dksX0_stable_2 19 rfl rfl)
theorem dX0_stable_68 : decode cX0_stable 68 = .ok (.iconst 1, 1) := dk_4 (dk_at dksX0_stable_2 22 rfl rfl)
theorem dX0_stable_69 : decode cX0_stable 69 = .ok (.goto 4, 3) := dk_167 0 4 (dk_at dksX0_stable_3 0 rfl rfl)
theorem dX0_stable_72 : decode cX0_stable 72 = .ok (.iconst 0, 1) := dk_3 (dk_at dksX0_stable_3 3 rfl rfl)
theorem dX0_stable_73 : decode cX0_stable 73 = .ok (.iadd, 1) := dk_96 (dk_at dksX0_stable_3 4 rfl rfl)
theorem dX0_stable_74 : decode cX0_stable 74 = .ok (.istore_n 2, 1) := dk_61 (dk_at dksX0_stable_3 5 rfl rfl)
theorem dX0_stable_75 : decode cX0_stable 75 = .ok (.iinc 3 1, 3) := dk_132 3 1 (dk_at dksX0_stable_3 6 rfl rfl)
theorem dX0_stable_78 : decode cX0_stable 78 = .ok (.goto (-35), 3) := dk_167 255 221 (dk_at dksX0_stable_3 9 rfl rfl)
theorem dX0_stable_81 : decode cX0_stable 81 = .ok (.iload_n 2, 1) := dk_28 (dk_at dksX0_stable_3 12 rfl rfl)
theorem dX0_stable_82 : decode cX0_stable 82 = .ok (.ireturn, 1) := dk_172 (dk_at dksX0_stable_3 13 rfl rfl)
abbrev cX0_laysStable : ByteArray := prog_1_method_33_code
def yX0_laysStable : MethodName := ⟨RX0, "laysStable", "()V"⟩
def dkwX0_laysStable_10 : List UInt8 := [180, 0, 62, 28, 29, 79, 132, 2, 1, 167, 255, 143, 167, 255, 132, 177]
abbrev dktX0_laysStable_10 : List UInt8 := dkwX0_laysStable_10 ++ []
def dkwX0_laysStable_9 : List UInt8 := [2, 159, 0, 15, 42, 180, 0, 62, 42, 180, 0, 62, 29, 46, 2, 79, 42, 180, 0, 62, 29, 28, 79, 42]
abbrev dktX0_laysStable_9 : List UInt8 := dkwX0_laysStable_9 ++ dktX0_laysStable_10
def dkwX0_laysStable_8 : List UInt8 := [42, 29, 28, 42, 180, 0, 62, 29, 46, 182, 1, 0, 154, 0, 6, 167, 0, 39, 42, 180, 0, 62, 29, 46]
abbrev dktX0_laysStable_8 : List UInt8 := dkwX0_laysStable_8 ++ dktX0_laysStable_9
def dkwX0_laysStable_7 : List UInt8 := [2, 62, 29, 2, 160, 0, 6, 167, 0, 71, 4, 60, 42, 180, 0, 66, 28, 92, 46, 4, 29, 120, 128, 79]
abbrev dktX0_laysStable_7 : List UInt8 := dkwX0_laysStable_7 ++ dktX0_laysStable_8
def dkwX0_laysStable_6 : List UInt8 := [182, 0, 243, 153, 0, 21, 42, 180, 0, 62, 28, 46, 2, 160, 0, 11, 42, 28, 182, 1, 3, 167, 0, 4]
abbrev dktX0_laysStable_6 : List UInt8 := dkwX0_laysStable_6 ++ dktX0_laysStable_7
def dkwX0_laysStable_5 : List UInt8 := [132, 1, 1, 167, 255, 137, 4, 60, 27, 153, 0, 126, 3, 60, 3, 61, 28, 16, 12, 162, 0, 113, 42, 28]
abbrev dktX0_laysStable_5 : List UInt8 := dkwX0_laysStable_5 ++ dktX0_laysStable_6
def dkwX0_laysStable_4 : List UInt8 := [153, 0, 15, 42, 180, 0, 33, 27, 28, 182, 0, 237, 167, 0, 4, 3, 79, 132, 2, 1, 167, 255, 165]
abbrev dktX0_laysStable_4 : List UInt8 := dkwX0_laysStable_4 ++ dktX0_laysStable_5
def dkwX0_laysStable_3 : List UInt8 := [180, 0, 33, 180, 0, 94, 28, 50, 180, 0, 111, 159, 0, 27, 42, 180, 0, 33, 27, 28, 182, 0, 216]
abbrev dktX0_laysStable_3 : List UInt8 := dkwX0_laysStable_3 ++ dktX0_laysStable_4
def dkwX0_laysStable_2 : List UInt8 := [42, 180, 0, 33, 28, 182, 0, 135, 153, 0, 54, 42, 180, 0, 33, 180, 0, 94, 27, 50, 180, 0, 111, 42]
abbrev dktX0_laysStable_2 : List UInt8 := dkwX0_laysStable_2 ++ dktX0_laysStable_3
def dkwX0_laysStable_1 : List UInt8 := [28, 16, 12, 162, 0, 91, 42, 180, 0, 69, 27, 50, 28, 42, 180, 0, 33, 27, 182, 0, 135, 153, 0, 65]
abbrev dktX0_laysStable_1 : List UInt8 := dkwX0_laysStable_1 ++ dktX0_laysStable_2
def dkwX0_laysStable_0 : List UInt8 := [3, 60, 27, 16, 12, 162, 0, 119, 42, 180, 0, 62, 27, 2, 79, 42, 180, 0, 66, 27, 3, 79, 3, 61]
abbrev dktX0_laysStable_0 : List UInt8 := dkwX0_laysStable_0 ++ dktX0_laysStable_1
theorem dksX0_laysStable_0 : cX0_laysStable.data.toList.drop 0 = dktX0_laysStable_0 := by decide +kernel
theorem dksX0_laysStable_1 : cX0_laysStable.data.toList.drop 24 = dktX0_laysStable_1 := dk_seg dksX0_laysStable_0 24 rfl rfl
theorem dksX0_laysStable_2 : cX0_laysStable.data.toList.drop 48 = dktX0_laysStable_2 := dk_seg dksX0_laysStable_1 24 rfl rfl
theorem dksX0_laysStable_3 : cX0_laysStable.data.toList.drop 72 = dktX0_laysStable_3 := dk_seg dksX0_laysStable_2 24 rfl rfl
theorem dksX0_laysStable_4 : cX0_laysStable.data.toList.drop 95 = dktX0_laysStable_4 := dk_seg dksX0_laysStable_3 23 rfl rfl
theorem dksX0_laysStable_5 : cX0_laysStable.data.toList.drop 118 = dktX0_laysStable_5 := dk_seg dksX0_laysStable_4 23 rfl rfl
theorem dksX0_laysStable_6 : cX0_laysStable.data.toList.drop 142 = dktX0_laysStable_6 := dk_seg dksX0_laysStable_5 24 rfl rfl
theorem dksX0_laysStable_7 : cX0_laysStable.data.toList.drop 166 = dktX0_laysStable_7 := dk_seg dksX0_laysStable_6 24 rfl rfl
theorem dksX0_laysStable_8 : cX0_laysStable.data.toList.drop 190 = dktX0_laysStable_8 := dk_seg dksX0_laysStable_7 24 rfl rfl
theorem dksX0_laysStable_9 : cX0_laysStable.data.toList.drop 214 = dktX0_laysStable_9 := dk_seg dksX0_laysStable_8 24 rfl rfl
theorem dksX0_laysStable_10 : cX0_laysStable.data.toList.drop 238 = dktX0_laysStable_10 := dk_seg dksX0_laysStable_9 24 rfl rfl
theorem dX0_laysStable_0 : decode cX0_laysStable 0 = .ok (.iconst 0, 1) := dk_3 (dk_at dksX0_laysStable_0 0 rfl rfl)
theorem dX0_laysStable_1 : decode cX0_laysStable 1 = .ok (.istore_n 1, 1) := dk_60 (dk_at dksX0_laysStable_0 1 rfl rfl)
theorem dX0_laysStable_2 : decode cX0_laysStable 2 = .ok (.iload_n 1, 1) := dk_27 (dk_at dksX0_laysStable_0 2 rfl rfl)
theorem dX0_laysStable_3 : decode cX0_laysStable 3 = .ok (.bipush 12, 2) := dk_16 12 (dk_at dksX0_laysStable_0 3 rfl rfl)
theorem dX0_laysStable_5 : decode cX0_laysStable 5 = .ok (.if_icmp .ge 119, 3) := dk_162 0 119 (dk_at dksX0_laysStable_0 5 rfl rfl)
theorem dX0_laysStable_8 : decode cX0_laysStable 8 = .ok (.aload_n 0, 1) := dk_42 (dk_at dksX0_laysStable_0 8 rfl rfl)
theorem dX0_laysStable_9 : decode cX0_laysStable 9 = .ok (.getfield 62, 3) := dk_180 0 62 (dk_at dksX0_laysStable_0 9 rfl rfl)
theorem dX0_laysStable_12 : decode cX0_laysStable 12 = .ok (.iload_n 1, 1) := dk_27 (dk_at dksX0_laysStable_0 12 rfl rfl)
theorem dX0_laysStable_13 : decode cX0_laysStable 13 = .ok (.iconst (-1), 1) := dk_2 (dk_at dksX0_laysStable_0 13 rfl rfl)
theorem dX0_laysStable_14 : decode cX0_laysStable 14 = .ok (.iastore, 1) := dk_79 (dk_at dksX0_laysStable_0 14 rfl rfl)
theorem dX0_laysStable_15 : decode cX0_laysStable 15 = .ok (.aload_n 0, 1) := dk_42 (dk_at dksX0_laysStable_0 15 rfl rfl)
theorem dX0_laysStable_16 : decode cX0_laysStable 16 = .ok (.getfield 66, 3) := dk_180 0 66 (dk_at dksX0_laysStable_0 16 rfl rfl)
theorem dX0_laysStable_19 : decode cX0_laysStable 19 = .ok (.iload_n 1, 1) := dk_27 (dk_at dksX0_laysStable_0 19 rfl rfl)
theorem dX0_laysStable_20 : decode cX0_laysStable 20 = .ok (.iconst 0, 1) := dk_3 (dk_at dksX0_laysStable_0 20 rfl rfl)
theorem dX0_laysStable_21 : decode cX0_laysStable 21 = .ok (.iastore, 1) := dk_79 (dk_at dksX0_laysStable_0 21 rfl rfl)
theorem dX0_laysStable_22 : decode cX0_laysStable 22 = .ok (.iconst 0, 1) := dk_3 (dk_at dksX0_laysStable_0 22 rfl rfl)
theorem dX0_laysStable_23 : decode cX0_laysStable 23 = .ok (.istore_n 2, 1) := dk_61 (dk_at dksX0_laysStable_0 23 rfl rfl)
theorem dX0_laysStable_24 : decode cX0_laysStable 24 = .ok (.iload_n 2, 1) := dk_28 (dk_at dksX0_laysStable_1 0 rfl rfl)
theorem dX0_laysStable_25 : decode cX0_laysStable 25 = .ok (.bipush 12, 2) := dk_16 12 (dk_at dksX0_laysStable_1 1 rfl rfl)
theorem dX0_laysStable_27 : decode cX0_laysStable 27 = .ok (.if_icmp .ge 91, 3) := dk_162 0 91 (dk_at dksX0_laysStable_1 3 rfl rfl)
theorem dX0_laysStable_30 : decode cX0_laysStable 30 = .ok (.aload_n 0, 1) := dk_42 (dk_at dksX0_laysStable_1 6 rfl rfl)
theorem dX0_laysStable_31 : decode cX0_laysStable 31 = .ok (.getfield 69, 3) := dk_180 0 69 (dk_at dksX0_laysStable_1 7 rfl rfl)
theorem dX0_laysStable_34 : decode cX0_laysStable 34 = .ok (.iload_n 1, 1) := dk_27 (dk_at dksX0_laysStable_1 10 rfl rfl)
theorem dX0_laysStable_35 : decode cX0_laysStable 35 = .ok (.aaload, 1) := dk_50 (dk_at dksX0_laysStable_1 11 rfl rfl)
theorem dX0_laysStable_36 : decode cX0_laysStable 36 = .ok (.iload_n 2, 1) := dk_28 (dk_at dksX0_laysStable_1 12 rfl rfl)
theorem dX0_laysStable_37 : decode cX0_laysStable 37 = .ok (.aload_n 0, 1) := dk_42 (dk_at dksX0_laysStable_1 13 rfl rfl)
theorem dX0_laysStable_38 : decode cX0_laysStable 38 = .ok (.getfield 33, 3) := dk_180 0 33 (dk_at dksX0_laysStable_1 14 rfl rfl)
theorem dX0_laysStable_41 : decode cX0_laysStable 41 = .ok (.iload_n 1, 1) := dk_27 (dk_at dksX0_laysStable_1 17 rfl rfl)
theorem dX0_laysStable_42 : decode cX0_laysStable 42 = .ok (.invokevirtual 135, 3) := dk_182 0 135 (dk_at dksX0_laysStable_1 18 rfl rfl)
theorem dX0_laysStable_45 : decode cX0_laysStable 45 = .ok (.ifCond .eq 65, 3) := dk_153 0 65 (dk_at dksX0_laysStable_1 21 rfl rfl)
theorem dX0_laysStable_48 : decode cX0_laysStable 48 = .ok (.aload_n 0, 1) := dk_42 (dk_at dksX0_laysStable_2 0 rfl rfl)
theorem dX0_laysStable_49 : decode cX0_laysStable 49 = .ok (.getfield 33, 3) := dk_180 0 33 (dk_at dksX0_laysStable_2 1 rfl rfl)
theorem dX0_laysStable_52 : decode cX0_laysStable 52 = .ok (.iload_n 2, 1) := dk_28 (dk_at dksX0_laysStable_2 4 rfl rfl)
theorem dX0_laysStable_53 : decode cX0_laysStable 53 = .ok (.invokevirtual 135, 3) := dk_182 0 135 (dk_at dksX0_laysStable_2 5 rfl rfl)
theorem dX0_laysStable_56 : decode cX0_laysStable 56 = .ok (.ifCond .eq 54, 3) := dk_153 0 54 (dk_at dksX0_laysStable_2 8 rfl rfl)
theorem dX0_laysStable_59 : decode cX0_laysStable 59 = .ok (.aload_n 0, 1) := dk_42 (dk_at dksX0_laysStable_2 11 rfl rfl)
theorem dX0_laysStable_60 : decode cX0_laysStable 60 = .ok (.getfield 33, 3) := dk_180 0 33 (dk_at dksX0_laysStable_2 12 rfl rfl)
theorem dX0_laysStable_63 : decode cX0_laysStable 63 = .ok (.getfield 94, 3) := dk_180 0 94 (dk_at dksX0_laysStable_2 15 rfl rfl)
theorem dX0_laysStable_66 : decode cX0_laysStable 66 = .ok (.iload_n 1, 1) := dk_27 (dk_at dksX0_laysStable_2 18 rfl rfl)
theorem dX0_laysStable_67 : decode cX0_laysStable 67 = .ok (.aaload, 1) := dk_50 (dk_at dksX0_laysStable_2 19 rfl rfl)
theorem dX0_laysStable_68 : decode cX0_laysStable 68 = .ok (.getfield 111, 3) := dk_180 0 111 (dk_at dksX0_laysStable_2 20 rfl rfl)
theorem dX0_laysStable_71 : decode cX0_laysStable 71 = .ok (.aload_n 0, 1) := dk_42 (dk_at dksX0_laysStable_2 23 rfl rfl)
theorem dX0_laysStable_72 : decode cX0_laysStable 72 = .ok (.getfield 33, 3) := dk_180 0 33 (dk_at dksX0_laysStable_3 0 rfl rfl)
theorem dX0_laysStable_75 : decode cX0_laysStable 75 = .ok (.getfield 94, 3) := dk_180 0 94 (dk_at dksX0_laysStable_3 3 rfl rfl)
theorem dX0_laysStable_78 : decode cX0_laysStable 78 = .ok (.iload_n 2, 1) := dk_28 (dk_at dksX0_laysStable_3 6 rfl rfl)
theorem dX0_laysStable_79 : decode cX0_laysStable 79 = .ok (.aaload, 1) := dk_50 (dk_at dksX0_laysStable_3 7 rfl rfl)
theorem dX0_laysStable_80 : decode cX0_laysStable 80 = .ok (.getfield 111, 3) := dk_180 0 111 (dk_at dksX0_laysStable_3 8 rfl rfl)
theorem dX0_laysStable_83 : decode cX0_laysStable 83 = .ok (.if_icmp .eq 27, 3) := dk_159 0 27 (dk_at dksX0_laysStable_3 11 rfl rfl)
theorem dX0_laysStable_86 : decode cX0_laysStable 86 = .ok (.aload_n 0, 1) := dk_42 (dk_at dksX0_laysStable_3 14 rfl rfl)
theorem dX0_laysStable_87 : decode cX0_laysStable 87 = .ok (.getfield 33, 3) := dk_180 0 33 (dk_at dksX0_laysStable_3 15 rfl rfl)
theorem dX0_laysStable_90 : decode cX0_laysStable 90 = .ok (.iload_n 1, 1) := dk_27 (dk_at dksX0_laysStable_3 18 rfl rfl)
theorem dX0_laysStable_91 : decode cX0_laysStable 91 = .ok (.iload_n 2, 1) := dk_28 (dk_at dksX0_laysStable_3 19 rfl rfl)
theorem dX0_laysStable_92 : decode cX0_laysStable 92 = .ok (.invokevirtual 216, 3) := dk_182 0 216 (dk_at dksX0_laysStable_3 20 rfl rfl)
theorem dX0_laysStable_95 : decode cX0_laysStable 95 = .ok (.ifCond .eq 15, 3) := dk_153 0 15 (dk_at dksX0_laysStable_4 0 rfl rfl)
theorem dX0_laysStable_98 : decode cX0_laysStable 98 = .ok (.aload_n 0, 1) := dk_42 (dk_at dksX0_laysStable_4 3 rfl rfl)
theorem dX0_laysStable_99 : decode cX0_laysStable 99 = .ok (.getfield 33, 3) := dk_180 0 33 (dk_at dksX0_laysStable_4 4 rfl rfl)
theorem dX0_laysStable_102 : decode cX0_laysStable 102 = .ok (.iload_n 1, 1) := dk_27 (dk_at dksX0_laysStable_4 7 rfl rfl)
theorem dX0_laysStable_103 : decode cX0_laysStable 103 = .ok (.iload_n 2, 1) := dk_28 (dk_at dksX0_laysStable_4 8 rfl rfl)
theorem dX0_laysStable_104 : decode cX0_laysStable 104 = .ok (.invokevirtual 237, 3) := dk_182 0 237 (dk_at dksX0_laysStable_4 9 rfl rfl)
theorem dX0_laysStable_107 : decode cX0_laysStable 107 = .ok (.goto 4, 3) := dk_167 0 4 (dk_at dksX0_laysStable_4 12 rfl rfl)
theorem dX0_laysStable_110 : decode cX0_laysStable 110 = .ok (.iconst 0, 1) := dk_3 (dk_at dksX0_laysStable_4 15 rfl rfl)
theorem dX0_laysStable_111 : decode cX0_laysStable 111 = .ok (.iastore, 1) := dk_79 (dk_at dksX0_laysStable_4 16 rfl rfl)
theorem dX0_laysStable_112 : decode cX0_laysStable 112 = .ok (.iinc 2 1, 3) := dk_132 2 1 (dk_at dksX0_laysStable_4 17 rfl rfl)
theorem dX0_laysStable_115 : decode cX0_laysStable 115 = .ok (.goto (-91), 3) := dk_167 255 165 (dk_at dksX0_laysStable_4 20 rfl rfl)
theorem dX0_laysStable_118 : decode cX0_laysStable 118 = .ok (.iinc 1 1, 3) := dk_132 1 1 (dk_at dksX0_laysStable_5 0 rfl rfl)
theorem dX0_laysStable_121 : decode cX0_laysStable 121 = .ok (.goto (-119), 3) := dk_167 255 137 (dk_at dksX0_laysStable_5 3 rfl rfl)
theorem dX0_laysStable_124 : decode cX0_laysStable 124 = .ok (.iconst 1, 1) := dk_4 (dk_at dksX0_laysStable_5 6 rfl rfl)
theorem dX0_laysStable_125 : decode cX0_laysStable 125 = .ok (.istore_n 1, 1) := dk_60 (dk_at dksX0_laysStable_5 7 rfl rfl)
theorem dX0_laysStable_126 : decode cX0_laysStable 126 = .ok (.iload_n 1, 1) := dk_27 (dk_at dksX0_laysStable_5 8 rfl rfl)
theorem dX0_laysStable_127 : decode cX0_laysStable 127 = .ok (.ifCond .eq 126, 3) := dk_153 0 126 (dk_at dksX0_laysStable_5 9 rfl rfl)
theorem dX0_laysStable_130 : decode cX0_laysStable 130 = .ok (.iconst 0, 1) := dk_3 (dk_at dksX0_laysStable_5 12 rfl rfl)
theorem dX0_laysStable_131 : decode cX0_laysStable 131 = .ok (.istore_n 1, 1) := dk_60 (dk_at dksX0_laysStable_5 13 rfl rfl)
theorem dX0_laysStable_132 : decode cX0_laysStable 132 = .ok (.iconst 0, 1) := dk_3 (dk_at dksX0_laysStable_5 14 rfl rfl)
theorem dX0_laysStable_133 : decode cX0_laysStable 133 = .ok (.istore_n 2, 1) := dk_61 (dk_at dksX0_laysStable_5 15 rfl rfl)
theorem dX0_laysStable_134 : decode cX0_laysStable 134 = .ok (.iload_n 2, 1) := dk_28 (dk_at dksX0_laysStable_5 16 rfl rfl)
theorem dX0_laysStable_135 : decode cX0_laysStable 135 = .ok (.bipush 12, 2) := dk_16 12 (dk_at dksX0_laysStable_5 17 rfl rfl)
theorem dX0_laysStable_137 : decode cX0_laysStable 137 = .ok (.if_icmp .ge 113, 3) := dk_162 0 113 (dk_at dksX0_laysStable_5 19 rfl rfl)
theorem dX0_laysStable_140 : decode cX0_laysStable 140 = .ok (.aload_n 0, 1) := dk_42 (dk_at dksX0_laysStable_5 22 rfl rfl)
theorem dX0_laysStable_141 : decode cX0_laysStable 141 = .ok (.iload_n 2, 1) := dk_28 (dk_at dksX0_laysStable_5 23 rfl rfl)
theorem dX0_laysStable_142 : decode cX0_laysStable 142 = .ok (.invokevirtual 243, 3) := dk_182 0 243 (dk_at dksX0_laysStable_6 0 rfl rfl)
theorem dX0_laysStable_145 : decode cX0_laysStable 145 = .ok (.ifCond .eq 21, 3) := dk_153 0 21 (dk_at dksX0_laysStable_6 3 rfl rfl)
theorem dX0_laysStable_148 : decode cX0_laysStable 148 = .ok (.aload_n 0, 1) := dk_42 (dk_at dksX0_laysStable_6 6 rfl rfl)
theorem dX0_laysStable_149 : decode cX0_laysStable 149 = .ok (.getfield 62, 3) := dk_180 0 62 (dk_at dksX0_laysStable_6 7 rfl rfl)
theorem dX0_laysStable_152 : decode cX0_laysStable 152 = .ok (.iload_n 2, 1) := dk_28 (dk_at dksX0_laysStable_6 10 rfl rfl)
theorem dX0_laysStable_153 : decode cX0_laysStable 153 = .ok (.iaload, 1) := dk_46 (dk_at dksX0_laysStable_6 11 rfl rfl)
theorem dX0_laysStable_154 : decode cX0_laysStable 154 = .ok (.iconst (-1), 1) := dk_2 (dk_at dksX0_laysStable_6 12 rfl rfl)
theorem dX0_laysStable_155 : decode cX0_laysStable 155 = .ok (.if_icmp .ne 11, 3) := dk_160 0 11 (dk_at dksX0_laysStable_6 13 rfl rfl)
theorem dX0_laysStable_158 : decode cX0_laysStable 158 = .ok (.aload_n 0, 1) := dk_42 (dk_at dksX0_laysStable_6 16 rfl rfl)
theorem dX0_laysStable_159 : decode cX0_laysStable 159 = .ok (.iload_n 2, 1) := dk_28 (dk_at dksX0_laysStable_6 17 rfl rfl)
theorem dX0_laysStable_160 : decode cX0_laysStable 160 = .ok (.invokevirtual 259, 3) := dk_182 1 3 (dk_at dksX0_laysStable_6 18 rfl rfl)
theorem dX0_laysStable_163 : decode cX0_laysStable 163 = .ok (.goto 4, 3) := dk_167 0 4 (dk_at dksX0_laysStable_6 21 rfl rfl)
theorem dX0_laysStable_166 : decode cX0_laysStable 166 = .ok (.iconst (-1), 1) := dk_2 (dk_at dksX0_laysStable_7 0 rfl rfl)
theorem dX0_laysStable_167 : decode cX0_laysStable 167 = .ok (.istore_n 3, 1) := dk_62 (dk_at dksX0_laysStable_7 1 rfl rfl)
theorem dX0_laysStable_168 : decode cX0_laysStable 168 = .ok (.iload_n 3, 1) := dk_29 (dk_at dksX0_laysStable_7 2 rfl rfl)
theorem dX0_laysStable_169 : decode cX0_laysStable 169 = .ok (.iconst (-1), 1) := dk_2 (dk_at dksX0_laysStable_7 3 rfl rfl)
theorem dX0_laysStable_170 : decode cX0_laysStable 170 = .ok (.if_icmp .ne 6, 3) := dk_160 0 6 (dk_at dksX0_laysStable_7 4 rfl rfl)
theorem dX0_laysStable_173 : decode cX0_laysStable 173 = .ok (.goto 71, 3) := dk_167 0 71 (dk_at dksX0_laysStable_7 7 rfl rfl)
theorem dX0_laysStable_176 : decode cX0_laysStable 176 = .ok (.iconst 1, 1) := dk_4 (dk_at dksX0_laysStable_7 10 rfl rfl)
theorem dX0_laysStable_177 : decode cX0_laysStable 177 = .ok (.istore_n 1, 1) := dk_60 (dk_at dksX0_laysStable_7 11 rfl rfl)
theorem dX0_laysStable_178 : decode cX0_laysStable 178 = .ok (.aload_n 0, 1) := dk_42 (dk_at dksX0_laysStable_7 12 rfl rfl)
theorem dX0_laysStable_179 : decode cX0_laysStable 179 = .ok (.getfield 66, 3) := dk_180 0 66 (dk_at dksX0_laysStable_7 13 rfl rfl)
theorem dX0_laysStable_182 : decode cX0_laysStable 182 = .ok (.iload_n 2, 1) := dk_28 (dk_at dksX0_laysStable_7 16 rfl rfl)
theorem dX0_laysStable_183 : decode cX0_laysStable 183 = .ok (.dup2, 1) := dk_92 (dk_at dksX0_laysStable_7 17 rfl rfl)
theorem dX0_laysStable_184 : decode cX0_laysStable 184 = .ok (.iaload, 1) := dk_46 (dk_at dksX0_laysStable_7 18 rfl rfl)
theorem dX0_laysStable_185 : decode cX0_laysStable 185 = .ok (.iconst 1, 1) := dk_4 (dk_at dksX0_laysStable_7 19 rfl rfl)
theorem dX0_laysStable_186 : decode cX0_laysStable 186 = .ok (.iload_n 3, 1) := dk_29 (dk_at dksX0_laysStable_7 20 rfl rfl)
theorem dX0_laysStable_187 : decode cX0_laysStable 187 = .ok (.ishl, 1) := dk_120 (dk_at dksX0_laysStable_7 21 rfl rfl)
theorem dX0_laysStable_188 : decode cX0_laysStable 188 = .ok (.ior, 1) := dk_128 (dk_at dksX0_laysStable_7 22 rfl rfl)
theorem dX0_laysStable_189 : decode cX0_laysStable 189 = .ok (.iastore, 1) := dk_79 (dk_at dksX0_laysStable_7 23 rfl rfl)
theorem dX0_laysStable_190 : decode cX0_laysStable 190 = .ok (.aload_n 0, 1) := dk_42 (dk_at dksX0_laysStable_8 0 rfl rfl)
theorem dX0_laysStable_191 : decode cX0_laysStable 191 = .ok (.iload_n 3, 1) := dk_29 (dk_at dksX0_laysStable_8 1 rfl rfl)
theorem dX0_laysStable_192 : decode cX0_laysStable 192 = .ok (.iload_n 2, 1) := dk_28 (dk_at dksX0_laysStable_8 2 rfl rfl)
theorem dX0_laysStable_193 : decode cX0_laysStable 193 = .ok (.aload_n 0, 1) := dk_42 (dk_at dksX0_laysStable_8 3 rfl rfl)
theorem dX0_laysStable_194 : decode cX0_laysStable 194 = .ok (.getfield 62, 3) := dk_180 0 62 (dk_at dksX0_laysStable_8 4 rfl rfl)
theorem dX0_laysStable_197 : decode cX0_laysStable 197 = .ok (.iload_n 3, 1) := dk_29 (dk_at dksX0_laysStable_8 7 rfl rfl)
theorem dX0_laysStable_198 : decode cX0_laysStable 198 = .ok (.iaload, 1) := dk_46 (dk_at dksX0_laysStable_8 8 rfl rfl)
theorem dX0_laysStable_199 : decode cX0_laysStable 199 = .ok (.invokevirtual 256, 3) := dk_182 1 0 (dk_at dksX0_laysStable_8 9 rfl rfl)
theorem dX0_laysStable_202 : decode cX0_laysStable 202 = .ok (.ifCond .ne 6, 3) := dk_154 0 6 (dk_at dksX0_laysStable_8 12 rfl rfl)
theorem dX0_laysStable_205 : decode cX0_laysStable 205 = .ok (.goto 39, 3) := dk_167 0 39 (dk_at dksX0_laysStable_8 15 rfl rfl)
theorem dX0_laysStable_208 : decode cX0_laysStable 208 = .ok (.aload_n 0, 1) := dk_42 (dk_at dksX0_laysStable_8 18 rfl rfl)
theorem dX0_laysStable_209 : decode cX0_laysStable 209 = .ok (.getfield 62, 3) := dk_180 0 62 (dk_at dksX0_laysStable_8 19 rfl rfl)
theorem dX0_laysStable_212 : decode cX0_laysStable 212 = .ok (.iload_n 3, 1) := dk_29 (dk_at dksX0_laysStable_8 22 rfl rfl)
theorem dX0_laysStable_213 : decode cX0_laysStable 213 = .ok (.iaload, 1) := dk_46 (dk_at dksX0_laysStable_8 23 rfl rfl)
theorem dX0_laysStable_214 : decode cX0_laysStable 214 = .ok (.iconst (-1), 1) := dk_2 (dk_at dksX0_laysStable_9 0 rfl rfl)
theorem dX0_laysStable_215 : decode cX0_laysStable 215 = .ok (.if_icmp .eq 15, 3) := dk_159 0 15 (dk_at dksX0_laysStable_9 1 rfl rfl)
theorem dX0_laysStable_218 : decode cX0_laysStable 218 = .ok (.aload_n 0, 1) := dk_42 (dk_at dksX0_laysStable_9 4 rfl rfl)
theorem dX0_laysStable_219 : decode cX0_laysStable 219 = .ok (.getfield 62, 3) := dk_180 0 62 (dk_at dksX0_laysStable_9 5 rfl rfl)
theorem dX0_laysStable_222 : decode cX0_laysStable 222 = .ok (.aload_n 0, 1) := dk_42 (dk_at dksX0_laysStable_9 8 rfl rfl)
theorem dX0_laysStable_223 : decode cX0_laysStable 223 = .ok (.getfield 62, 3) := dk_180 0 62 (dk_at dksX0_laysStable_9 9 rfl rfl)
theorem dX0_laysStable_226 : decode cX0_laysStable 226 = .ok (.iload_n 3, 1) := dk_29 (dk_at dksX0_laysStable_9 12 rfl rfl)
theorem dX0_laysStable_227 : decode cX0_laysStable 227 = .ok (.iaload, 1) := dk_46 (dk_at dksX0_laysStable_9 13 rfl rfl)
theorem dX0_laysStable_228 : decode cX0_laysStable 228 = .ok (.iconst (-1), 1) := dk_2 (dk_at dksX0_laysStable_9 14 rfl rfl)
theorem dX0_laysStable_229 : decode cX0_laysStable 229 = .ok (.iastore, 1) := dk_79 (dk_at dksX0_laysStable_9 15 rfl rfl)
theorem dX0_laysStable_230 : decode cX0_laysStable 230 = .ok (.aload_n 0, 1) := dk_42 (dk_at dksX0_laysStable_9 16 rfl rfl)
theorem dX0_laysStable_231 : decode cX0_laysStable 231 = .ok (.getfield 62, 3) := dk_180 0 62 (dk_at dksX0_laysStable_9 17 rfl rfl)
theorem dX0_laysStable_234 : decode cX0_laysStable 234 = .ok (.iload_n 3, 1) := dk_29 (dk_at dksX0_laysStable_9 20 rfl rfl)
theorem dX0_laysStable_235 : decode cX0_laysStable 235 = .ok (.iload_n 2, 1) := dk_28 (dk_at dksX0_laysStable_9 21 rfl rfl)
theorem dX0_laysStable_236 : decode cX0_laysStable 236 = .ok (.iastore, 1) := dk_79 (dk_at dksX0_laysStable_9 22 rfl rfl)
theorem dX0_laysStable_237 : decode cX0_laysStable 237 = .ok (.aload_n 0, 1) := dk_42 (dk_at dksX0_laysStable_9 23 rfl rfl)
theorem dX0_laysStable_238 : decode cX0_laysStable 238 = .ok (.getfield 62, 3) := dk_180 0 62 (dk_at dksX0_laysStable_10 0 rfl rfl)
theorem dX0_laysStable_241 : decode cX0_laysStable 241 = .ok (.iload_n 2, 1) := dk_28 (dk_at dksX0_laysStable_10 3 rfl rfl)
theorem dX0_laysStable_242 : decode cX0_laysStable 242 = .ok (.iload_n 3, 1) := dk_29 (dk_at dksX0_laysStable_10 4 rfl rfl)
theorem dX0_laysStable_243 : decode cX0_laysStable 243 = .ok (.iastore, 1) := dk_79 (dk_at dksX0_laysStable_10 5 rfl rfl)
theorem dX0_laysStable_244 : decode cX0_laysStable 244 = .ok (.iinc 2 1, 3) := dk_132 2 1 (dk_at dksX0_laysStable_10 6 rfl rfl)
theorem dX0_laysStable_247 : decode cX0_laysStable 247 = .ok (.goto (-113), 3) := dk_167 255 143 (dk_at dksX0_laysStable_10 9 rfl rfl)
theorem dX0_laysStable_250 : decode cX0_laysStable 250 = .ok (.goto (-124), 3) := dk_167 255 132 (dk_at dksX0_laysStable_10 12 rfl rfl)
theorem dX0_laysStable_253 : decode cX0_laysStable 253 = .ok (.return_, 1) := dk_177 (dk_at dksX0_laysStable_10 15 rfl rfl)
abbrev cX0_nextFor : ByteArray := prog_1_method_32_code
def yX0_nextFor : MethodName := ⟨RX0, "nextFor", "(I)I"⟩
def dkwX0_nextFor_2 : List UInt8 := [132, 3, 1, 167, 255, 211, 28, 172]
abbrev dktX0_nextFor_2 : List UInt8 := dkwX0_nextFor_2 ++ []
def dkwX0_nextFor_1 : List UInt8 := [180, 0, 69, 27, 50, 29, 46, 158, 0, 15, 42, 27, 29, 28, 182, 1, 0, 153, 0, 5, 29, 61]
abbrev dktX0_nextFor_1 : List UInt8 := dkwX0_nextFor_1 ++ dktX0_nextFor_2
def dkwX0_nextFor_0 : List UInt8 := [2, 61, 3, 62, 29, 16, 12, 162, 0, 45, 42, 180, 0, 66, 27, 46, 29, 184, 0, 246, 154, 0, 26, 42]
abbrev dktX0_nextFor_0 : List UInt8 := dkwX0_nextFor_0 ++ dktX0_nextFor_1
theorem dksX0_nextFor_0 : cX0_nextFor.data.toList.drop 0 = dktX0_nextFor_0 := by decide +kernel
theorem dksX0_nextFor_1 : cX0_nextFor.data.toList.drop 24 = dktX0_nextFor_1 := dk_seg dksX0_nextFor_0 24 rfl rfl
theorem dksX0_nextFor_2 : cX0_nextFor.data.toList.drop 46 = dktX0_nextFor_2 := dk_seg dksX0_nextFor_1 22 rfl rfl
theorem dX0_nextFor_0 : decode cX0_nextFor 0 = .ok (.iconst (-1), 1) := dk_2 (dk_at dksX0_nextFor_0 0 rfl rfl)
theorem dX0_nextFor_1 : decode cX0_nextFor 1 = .ok (.istore_n 2, 1) := dk_61 (dk_at dksX0_nextFor_0 1 rfl rfl)
theorem dX0_nextFor_2 : decode cX0_nextFor 2 = .ok (.iconst 0, 1) := dk_3 (dk_at dksX0_nextFor_0 2 rfl rfl)
theorem dX0_nextFor_3 : decode cX0_nextFor 3 = .ok (.istore_n 3, 1) := dk_62 (dk_at dksX0_nextFor_0 3 rfl rfl)
theorem dX0_nextFor_4 : decode cX0_nextFor 4 = .ok (.iload_n 3, 1) := dk_29 (dk_at dksX0_nextFor_0 4 rfl rfl)
theorem dX0_nextFor_5 : decode cX0_nextFor 5 = .ok (.bipush 12, 2) := dk_16 12 (dk_at dksX0_nextFor_0 5 rfl rfl)
theorem dX0_nextFor_7 : decode cX0_nextFor 7 = .ok (.if_icmp .ge 45, 3) := dk_162 0 45 (dk_at dksX0_nextFor_0 7 rfl rfl)
theorem dX0_nextFor_10 : decode cX0_nextFor 10 = .ok (.aload_n 0, 1) := dk_42 (dk_at dksX0_nextFor_0 10 rfl rfl)
theorem dX0_nextFor_11 : decode cX0_nextFor 11 = .ok (.getfield 66, 3) := dk_180 0 66 (dk_at dksX0_nextFor_0 11 rfl rfl)
theorem dX0_nextFor_14 : decode cX0_nextFor 14 = .ok (.iload_n 1, 1) := dk_27 (dk_at dksX0_nextFor_0 14 rfl rfl)
theorem dX0_nextFor_15 : decode cX0_nextFor 15 = .ok (.iaload, 1) := dk_46 (dk_at dksX0_nextFor_0 15 rfl rfl)
theorem dX0_nextFor_16 : decode cX0_nextFor 16 = .ok (.iload_n 3, 1) := dk_29 (dk_at dksX0_nextFor_0 16 rfl rfl)
theorem dX0_nextFor_17 : decode cX0_nextFor 17 = .ok (.invokestatic 246, 3) := dk_184 0 246 (dk_at dksX0_nextFor_0 17 rfl rfl)
theorem dX0_nextFor_20 : decode cX0_nextFor 20 = .ok (.ifCond .ne 26, 3) := dk_154 0 26 (dk_at dksX0_nextFor_0 20 rfl rfl)
theorem dX0_nextFor_23 : decode cX0_nextFor 23 = .ok (.aload_n 0, 1) := dk_42 (dk_at dksX0_nextFor_0 23 rfl rfl)
theorem dX0_nextFor_24 : decode cX0_nextFor 24 = .ok (.getfield 69, 3) := dk_180 0 69 (dk_at dksX0_nextFor_1 0 rfl rfl)
theorem dX0_nextFor_27 : decode cX0_nextFor 27 = .ok (.iload_n 1, 1) := dk_27 (dk_at dksX0_nextFor_1 3 rfl rfl)
theorem dX0_nextFor_28 : decode cX0_nextFor 28 = .ok (.aaload, 1) := dk_50 (dk_at dksX0_nextFor_1 4 rfl rfl)
theorem dX0_nextFor_29 : decode cX0_nextFor 29 = .ok (.iload_n 3, 1) := dk_29 (dk_at dksX0_nextFor_1 5 rfl rfl)
theorem dX0_nextFor_30 : decode cX0_nextFor 30 = .ok (.iaload, 1) := dk_46 (dk_at dksX0_nextFor_1 6 rfl rfl)
theorem dX0_nextFor_31 : decode cX0_nextFor 31 = .ok (.ifCond .le 15, 3) := dk_158 0 15 (dk_at dksX0_nextFor_1 7 rfl rfl)
theorem dX0_nextFor_34 : decode cX0_nextFor 34 = .ok (.aload_n 0, 1) := dk_42 (dk_at dksX0_nextFor_1 10 rfl rfl)
theorem dX0_nextFor_35 : decode cX0_nextFor 35 = .ok (.iload_n 1, 1) := dk_27 (dk_at dksX0_nextFor_1 11 rfl rfl)
theorem dX0_nextFor_36 : decode cX0_nextFor 36 = .ok (.iload_n 3, 1) := dk_29 (dk_at dksX0_nextFor_1 12 rfl rfl)
theorem dX0_nextFor_37 : decode cX0_nextFor 37 = .ok (.iload_n 2, 1) := dk_28 (dk_at dksX0_nextFor_1 13 rfl rfl)
theorem dX0_nextFor_38 : decode cX0_nextFor 38 = .ok (.invokevirtual 256, 3) := dk_182 1 0 (dk_at dksX0_nextFor_1 14 rfl rfl)
theorem dX0_nextFor_41 : decode cX0_nextFor 41 = .ok (.ifCond .eq 5, 3) := dk_153 0 5 (dk_at dksX0_nextFor_1 17 rfl rfl)
theorem dX0_nextFor_44 : decode cX0_nextFor 44 = .ok (.iload_n 3, 1) := dk_29 (dk_at dksX0_nextFor_1 20 rfl rfl)
theorem dX0_nextFor_45 : decode cX0_nextFor 45 = .ok (.istore_n 2, 1) := dk_61 (dk_at dksX0_nextFor_1 21 rfl rfl)
theorem dX0_nextFor_46 : decode cX0_nextFor 46 = .ok (.iinc 3 1, 3) := dk_132 3 1 (dk_at dksX0_nextFor_2 0 rfl rfl)
theorem dX0_nextFor_49 : decode cX0_nextFor 49 = .ok (.goto (-45), 3) := dk_167 255 211 (dk_at dksX0_nextFor_2 3 rfl rfl)
theorem dX0_nextFor_52 : decode cX0_nextFor 52 = .ok (.iload_n 2, 1) := dk_28 (dk_at dksX0_nextFor_2 6 rfl rfl)
theorem dX0_nextFor_53 : decode cX0_nextFor 53 = .ok (.ireturn, 1) := dk_172 (dk_at dksX0_nextFor_2 7 rfl rfl)
abbrev cX0_likesMore : ByteArray := prog_1_method_31_code
def yX0_likesMore : MethodName := ⟨RX0, "likesMore", "(III)Z"⟩
def dkwX0_likesMore_3 : List UInt8 := [3, 172]
abbrev dktX0_likesMore_3 : List UInt8 := dkwX0_likesMore_3 ++ []
def dkwX0_likesMore_2 : List UInt8 := [46, 160, 0, 23, 42, 180, 0, 69, 27, 50, 28, 46, 158, 0, 12, 28, 29, 162, 0, 7, 4, 167, 0, 4]
abbrev dktX0_likesMore_2 : List UInt8 := dkwX0_likesMore_2 ++ dktX0_likesMore_3
def dkwX0_likesMore_1 : List UInt8 := [46, 163, 0, 43, 29, 2, 159, 0, 42, 42, 180, 0, 69, 27, 50, 28, 46, 42, 180, 0, 69, 27, 50, 29]
abbrev dktX0_likesMore_1 : List UInt8 := dkwX0_likesMore_1 ++ dktX0_likesMore_2
def dkwX0_likesMore_0 : List UInt8 := [42, 180, 0, 69, 27, 50, 28, 46, 29, 2, 160, 0, 7, 3, 167, 0, 11, 42, 180, 0, 69, 27, 50, 29]
abbrev dktX0_likesMore_0 : List UInt8 := dkwX0_likesMore_0 ++ dktX0_likesMore_1
theorem dksX0_likesMore_0 : cX0_likesMore.data.toList.drop 0 = dktX0_likesMore_0 := by decide +kernel
theorem dksX0_likesMore_1 : cX0_likesMore.data.toList.drop 24 = dktX0_likesMore_1 := dk_seg dksX0_likesMore_0 24 rfl rfl
theorem dksX0_likesMore_2 : cX0_likesMore.data.toList.drop 48 = dktX0_likesMore_2 := dk_seg dksX0_likesMore_1 24 rfl rfl
theorem dksX0_likesMore_3 : cX0_likesMore.data.toList.drop 72 = dktX0_likesMore_3 := dk_seg dksX0_likesMore_2 24 rfl rfl
theorem dX0_likesMore_0 : decode cX0_likesMore 0 = .ok (.aload_n 0, 1) := dk_42 (dk_at dksX0_likesMore_0 0 rfl rfl)
theorem dX0_likesMore_1 : decode cX0_likesMore 1 = .ok (.getfield 69, 3) := dk_180 0 69 (dk_at dksX0_likesMore_0 1 rfl rfl)
theorem dX0_likesMore_4 : decode cX0_likesMore 4 = .ok (.iload_n 1, 1) := dk_27 (dk_at dksX0_likesMore_0 4 rfl rfl)
theorem dX0_likesMore_5 : decode cX0_likesMore 5 = .ok (.aaload, 1) := dk_50 (dk_at dksX0_likesMore_0 5 rfl rfl)
theorem dX0_likesMore_6 : decode cX0_likesMore 6 = .ok (.iload_n 2, 1) := dk_28 (dk_at dksX0_likesMore_0 6 rfl rfl)
theorem dX0_likesMore_7 : decode cX0_likesMore 7 = .ok (.iaload, 1) := dk_46 (dk_at dksX0_likesMore_0 7 rfl rfl)
theorem dX0_likesMore_8 : decode cX0_likesMore 8 = .ok (.iload_n 3, 1) := dk_29 (dk_at dksX0_likesMore_0 8 rfl rfl)
theorem dX0_likesMore_9 : decode cX0_likesMore 9 = .ok (.iconst (-1), 1) := dk_2 (dk_at dksX0_likesMore_0 9 rfl rfl)
theorem dX0_likesMore_10 : decode cX0_likesMore 10 = .ok (.if_icmp .ne 7, 3) := dk_160 0 7 (dk_at dksX0_likesMore_0 10 rfl rfl)
theorem dX0_likesMore_13 : decode cX0_likesMore 13 = .ok (.iconst 0, 1) := dk_3 (dk_at dksX0_likesMore_0 13 rfl rfl)
theorem dX0_likesMore_14 : decode cX0_likesMore 14 = .ok (.goto 11, 3) := dk_167 0 11 (dk_at dksX0_likesMore_0 14 rfl rfl)
theorem dX0_likesMore_17 : decode cX0_likesMore 17 = .ok (.aload_n 0, 1) := dk_42 (dk_at dksX0_likesMore_0 17 rfl rfl)
theorem dX0_likesMore_18 : decode cX0_likesMore 18 = .ok (.getfield 69, 3) := dk_180 0 69 (dk_at dksX0_likesMore_0 18 rfl rfl)
theorem dX0_likesMore_21 : decode cX0_likesMore 21 = .ok (.iload_n 1, 1) := dk_27 (dk_at dksX0_likesMore_0 21 rfl rfl)
theorem dX0_likesMore_22 : decode cX0_likesMore 22 = .ok (.aaload, 1) := dk_50 (dk_at dksX0_likesMore_0 22 rfl rfl)
theorem dX0_likesMore_23 : decode cX0_likesMore 23 = .ok (.iload_n 3, 1) := dk_29 (dk_at dksX0_likesMore_0 23 rfl rfl)
theorem dX0_likesMore_24 : decode cX0_likesMore 24 = .ok (.iaload, 1) := dk_46 (dk_at dksX0_likesMore_1 0 rfl rfl)
theorem dX0_likesMore_25 : decode cX0_likesMore 25 = .ok (.if_icmp .gt 43, 3) := dk_163 0 43 (dk_at dksX0_likesMore_1 1 rfl rfl)
theorem dX0_likesMore_28 : decode cX0_likesMore 28 = .ok (.iload_n 3, 1) := dk_29 (dk_at dksX0_likesMore_1 4 rfl rfl)
theorem dX0_likesMore_29 : decode cX0_likesMore 29 = .ok (.iconst (-1), 1) := dk_2 (dk_at dksX0_likesMore_1 5 rfl rfl)
theorem dX0_likesMore_30 : decode cX0_likesMore 30 = .ok (.if_icmp .eq 42, 3) := dk_159 0 42 (dk_at dksX0_likesMore_1 6 rfl rfl)
theorem dX0_likesMore_33 : decode cX0_likesMore 33 = .ok (.aload_n 0, 1) := dk_42 (dk_at dksX0_likesMore_1 9 rfl rfl)
theorem dX0_likesMore_34 : decode cX0_likesMore 34 = .ok (.getfield 69, 3) := dk_180 0 69 (dk_at dksX0_likesMore_1 10 rfl rfl)
theorem dX0_likesMore_37 : decode cX0_likesMore 37 = .ok (.iload_n 1, 1) := dk_27 (dk_at dksX0_likesMore_1 13 rfl rfl)
theorem dX0_likesMore_38 : decode cX0_likesMore 38 = .ok (.aaload, 1) := dk_50 (dk_at dksX0_likesMore_1 14 rfl rfl)
theorem dX0_likesMore_39 : decode cX0_likesMore 39 = .ok (.iload_n 2, 1) := dk_28 (dk_at dksX0_likesMore_1 15 rfl rfl)
theorem dX0_likesMore_40 : decode cX0_likesMore 40 = .ok (.iaload, 1) := dk_46 (dk_at dksX0_likesMore_1 16 rfl rfl)
theorem dX0_likesMore_41 : decode cX0_likesMore 41 = .ok (.aload_n 0, 1) := dk_42 (dk_at dksX0_likesMore_1 17 rfl rfl)
theorem dX0_likesMore_42 : decode cX0_likesMore 42 = .ok (.getfield 69, 3) := dk_180 0 69 (dk_at dksX0_likesMore_1 18 rfl rfl)
theorem dX0_likesMore_45 : decode cX0_likesMore 45 = .ok (.iload_n 1, 1) := dk_27 (dk_at dksX0_likesMore_1 21 rfl rfl)
theorem dX0_likesMore_46 : decode cX0_likesMore 46 = .ok (.aaload, 1) := dk_50 (dk_at dksX0_likesMore_1 22 rfl rfl)
theorem dX0_likesMore_47 : decode cX0_likesMore 47 = .ok (.iload_n 3, 1) := dk_29 (dk_at dksX0_likesMore_1 23 rfl rfl)
theorem dX0_likesMore_48 : decode cX0_likesMore 48 = .ok (.iaload, 1) := dk_46 (dk_at dksX0_likesMore_2 0 rfl rfl)
theorem dX0_likesMore_49 : decode cX0_likesMore 49 = .ok (.if_icmp .ne 23, 3) := dk_160 0 23 (dk_at dksX0_likesMore_2 1 rfl rfl)
theorem dX0_likesMore_52 : decode cX0_likesMore 52 = .ok (.aload_n 0, 1) := dk_42 (dk_at dksX0_likesMore_2 4 rfl rfl)
theorem dX0_likesMore_53 : decode cX0_likesMore 53 = .ok (.getfield 69, 3) := dk_180 0 69 (dk_at dksX0_likesMore_2 5 rfl rfl)
theorem dX0_likesMore_56 : decode cX0_likesMore 56 = .ok (.iload_n 1, 1) := dk_27 (dk_at dksX0_likesMore_2 8 rfl rfl)
theorem dX0_likesMore_57 : decode cX0_likesMore 57 = .ok (.aaload, 1) := dk_50 (dk_at dksX0_likesMore_2 9 rfl rfl)
theorem dX0_likesMore_58 : decode cX0_likesMore 58 = .ok (.iload_n 2, 1) := dk_28 (dk_at dksX0_likesMore_2 10 rfl rfl)
theorem dX0_likesMore_59 : decode cX0_likesMore 59 = .ok (.iaload, 1) := dk_46 (dk_at dksX0_likesMore_2 11 rfl rfl)
theorem dX0_likesMore_60 : decode cX0_likesMore 60 = .ok (.ifCond .le 12, 3) := dk_158 0 12 (dk_at dksX0_likesMore_2 12 rfl rfl)
theorem dX0_likesMore_63 : decode cX0_likesMore 63 = .ok (.iload_n 2, 1) := dk_28 (dk_at dksX0_likesMore_2 15 rfl rfl)
theorem dX0_likesMore_64 : decode cX0_likesMore 64 = .ok (.iload_n 3, 1) := dk_29 (dk_at dksX0_likesMore_2 16 rfl rfl)
theorem dX0_likesMore_65 : decode cX0_likesMore 65 = .ok (.if_icmp .ge 7, 3) := dk_162 0 7 (dk_at dksX0_likesMore_2 17 rfl rfl)
theorem dX0_likesMore_68 : decode cX0_likesMore 68 = .ok (.iconst 1, 1) := dk_4 (dk_at dksX0_likesMore_2 20 rfl rfl)
theorem dX0_likesMore_69 : decode cX0_likesMore 69 = .ok (.goto 4, 3) := dk_167 0 4 (dk_at dksX0_likesMore_2 21 rfl rfl)
theorem dX0_likesMore_72 : decode cX0_likesMore 72 = .ok (.iconst 0, 1) := dk_3 (dk_at dksX0_likesMore_3 0 rfl rfl)
theorem dX0_likesMore_73 : decode cX0_likesMore 73 = .ok (.ireturn, 1) := dk_172 (dk_at dksX0_likesMore_3 1 rfl rfl)
abbrev cX0_unrest : ByteArray := prog_1_method_36_code
def yX0_unrest : MethodName := ⟨RX0, "unrest", "(I)I"⟩
def dkwX0_unrest_7 : List UInt8 := [154, 0, 7, 28, 167, 0, 4, 29, 172]
abbrev dktX0_unrest_7 : List UInt8 := dkwX0_unrest_7 ++ []
def dkwX0_unrest_6 : List UInt8 := [21, 4, 167, 0, 5, 21, 5, 62, 132, 2, 1, 132, 5, 1, 167, 255, 131, 132, 4, 1, 167, 255, 115, 27]
abbrev dktX0_unrest_6 : List UInt8 := dkwX0_unrest_6 ++ dktX0_unrest_7
def dkwX0_unrest_5 : List UInt8 := [42, 21, 5, 21, 4, 182, 1, 9, 154, 0, 6, 167, 0, 23, 28, 154, 0, 16, 27, 4, 160, 0, 8]
abbrev dktX0_unrest_5 : List UInt8 := dkwX0_unrest_5 ++ dktX0_unrest_6
def dkwX0_unrest_4 : List UInt8 := [180, 0, 33, 21, 4, 21, 5, 182, 0, 216, 153, 0, 48, 42, 21, 4, 21, 5, 182, 1, 9, 153, 0, 37]
abbrev dktX0_unrest_4 : List UInt8 := dkwX0_unrest_4 ++ dktX0_unrest_5
def dkwX0_unrest_3 : List UInt8 := [4, 160, 0, 80, 42, 180, 0, 33, 180, 0, 94, 21, 4, 50, 180, 0, 98, 21, 5, 159, 0, 62, 42]
abbrev dktX0_unrest_3 : List UInt8 := dkwX0_unrest_3 ++ dktX0_unrest_4
def dkwX0_unrest_2 : List UInt8 := [180, 0, 33, 21, 5, 182, 0, 135, 153, 0, 97, 42, 180, 0, 33, 180, 0, 94, 21, 5, 50, 180, 0, 111]
abbrev dktX0_unrest_2 : List UInt8 := dkwX0_unrest_2 ++ dktX0_unrest_3
def dkwX0_unrest_1 : List UInt8 := [162, 0, 140, 3, 54, 5, 21, 5, 16, 12, 162, 0, 124, 42, 21, 4, 182, 0, 243, 153, 0, 115, 42]
abbrev dktX0_unrest_1 : List UInt8 := dkwX0_unrest_1 ++ dktX0_unrest_2
def dkwX0_unrest_0 : List UInt8 := [27, 6, 184, 0, 103, 154, 0, 5, 2, 172, 3, 61, 16, 254, 62, 3, 54, 4, 21, 4, 16, 12]
abbrev dktX0_unrest_0 : List UInt8 := dkwX0_unrest_0 ++ dktX0_unrest_1
theorem dksX0_unrest_0 : cX0_unrest.data.toList.drop 0 = dktX0_unrest_0 := by decide +kernel
theorem dksX0_unrest_1 : cX0_unrest.data.toList.drop 22 = dktX0_unrest_1 := dk_seg dksX0_unrest_0 22 rfl rfl
theorem dksX0_unrest_2 : cX0_unrest.data.toList.drop 45 = dktX0_unrest_2 := dk_seg dksX0_unrest_1 23 rfl rfl
theorem dksX0_unrest_3 : cX0_unrest.data.toList.drop 69 = dktX0_unrest_3 := dk_seg dksX0_unrest_2 24 rfl rfl
theorem dksX0_unrest_4 : cX0_unrest.data.toList.drop 92 = dktX0_unrest_4 := dk_seg dksX0_unrest_3 23 rfl rfl
theorem dksX0_unrest_5 : cX0_unrest.data.toList.drop 116 = dktX0_unrest_5 := dk_seg dksX0_unrest_4 24 rfl rfl
theorem dksX0_unrest_6 : cX0_unrest.data.toList.drop 139 = dktX0_unrest_6 := dk_seg dksX0_unrest_5 23 rfl rfl
theorem dksX0_unrest_7 : cX0_unrest.data.toList.drop 163 = dktX0_unrest_7 := dk_seg dksX0_unrest_6 24 rfl rfl
theorem dX0_unrest_0 : decode cX0_unrest 0 = .ok (.iload_n 1, 1) := dk_27 (dk_at dksX0_unrest_0 0 rfl rfl)
theorem dX0_unrest_1 : decode cX0_unrest 1 = .ok (.iconst 3, 1) := dk_6 (dk_at dksX0_unrest_0 1 rfl rfl)
theorem dX0_unrest_2 : decode cX0_unrest 2 = .ok (.invokestatic 103, 3) := dk_184 0 103 (dk_at dksX0_unrest_0 2 rfl rfl)
theorem dX0_unrest_5 : decode cX0_unrest 5 = .ok (.ifCond .ne 5, 3) := dk_154 0 5 (dk_at dksX0_unrest_0 5 rfl rfl)
theorem dX0_unrest_8 : decode cX0_unrest 8 = .ok (.iconst (-1), 1) := dk_2 (dk_at dksX0_unrest_0 8 rfl rfl)
theorem dX0_unrest_9 : decode cX0_unrest 9 = .ok (.ireturn, 1) := dk_172 (dk_at dksX0_unrest_0 9 rfl rfl)
theorem dX0_unrest_10 : decode cX0_unrest 10 = .ok (.iconst 0, 1) := dk_3 (dk_at dksX0_unrest_0 10 rfl rfl)
theorem dX0_unrest_11 : decode cX0_unrest 11 = .ok (.istore_n 2, 1) := dk_61 (dk_at dksX0_unrest_0 11 rfl rfl)
theorem dX0_unrest_12 : decode cX0_unrest 12 = .ok (.bipush (-2), 2) := dk_16 254 (dk_at dksX0_unrest_0 12 rfl rfl)
theorem dX0_unrest_14 : decode cX0_unrest 14 = .ok (.istore_n 3, 1) := dk_62 (dk_at dksX0_unrest_0 14 rfl rfl)
theorem dX0_unrest_15 : decode cX0_unrest 15 = .ok (.iconst 0, 1) := dk_3 (dk_at dksX0_unrest_0 15 rfl rfl)
theorem dX0_unrest_16 : decode cX0_unrest 16 = .ok (.istore 4, 2) := dk_54 4 (dk_at dksX0_unrest_0 16 rfl rfl)
theorem dX0_unrest_18 : decode cX0_unrest 18 = .ok (.iload 4, 2) := dk_21 4 (dk_at dksX0_unrest_0 18 rfl rfl)
theorem dX0_unrest_20 : decode cX0_unrest 20 = .ok (.bipush 12, 2) := dk_16 12 (dk_at dksX0_unrest_0 20 rfl rfl)
theorem dX0_unrest_22 : decode cX0_unrest 22 = .ok (.if_icmp .ge 140, 3) := dk_162 0 140 (dk_at dksX0_unrest_1 0 rfl rfl)
theorem dX0_unrest_25 : decode cX0_unrest 25 = .ok (.iconst 0, 1) := dk_3 (dk_at dksX0_unrest_1 3 rfl rfl)
theorem dX0_unrest_26 : decode cX0_unrest 26 = .ok (.istore 5, 2) := dk_54 5 (dk_at dksX0_unrest_1 4 rfl rfl)
theorem dX0_unrest_28 : decode cX0_unrest 28 = .ok (.iload 5, 2) := dk_21 5 (dk_at dksX0_unrest_1 6 rfl rfl)
theorem dX0_unrest_30 : decode cX0_unrest 30 = .ok (.bipush 12, 2) := dk_16 12 (dk_at dksX0_unrest_1 8 rfl rfl)
theorem dX0_unrest_32 : decode cX0_unrest 32 = .ok (.if_icmp .ge 124, 3) := dk_162 0 124 (dk_at dksX0_unrest_1 10 rfl rfl)
theorem dX0_unrest_35 : decode cX0_unrest 35 = .ok (.aload_n 0, 1) := dk_42 (dk_at dksX0_unrest_1 13 rfl rfl)
theorem dX0_unrest_36 : decode cX0_unrest 36 = .ok (.iload 4, 2) := dk_21 4 (dk_at dksX0_unrest_1 14 rfl rfl)
theorem dX0_unrest_38 : decode cX0_unrest 38 = .ok (.invokevirtual 243, 3) := dk_182 0 243 (dk_at dksX0_unrest_1 16 rfl rfl)
theorem dX0_unrest_41 : decode cX0_unrest 41 = .ok (.ifCond .eq 115, 3) := dk_153 0 115 (dk_at dksX0_unrest_1 19 rfl rfl)
theorem dX0_unrest_44 : decode cX0_unrest 44 = .ok (.aload_n 0, 1) := dk_42 (dk_at dksX0_unrest_1 22 rfl rfl)
theorem dX0_unrest_45 : decode cX0_unrest 45 = .ok (.getfield 33, 3) := dk_180 0 33 (dk_at dksX0_unrest_2 0 rfl rfl)
theorem dX0_unrest_48 : decode cX0_unrest 48 = .ok (.iload 5, 2) := dk_21 5 (dk_at dksX0_unrest_2 3 rfl rfl)
theorem dX0_unrest_50 : decode cX0_unrest 50 = .ok (.invokevirtual 135, 3) := dk_182 0 135 (dk_at dksX0_unrest_2 5 rfl rfl)
theorem dX0_unrest_53 : decode cX0_unrest 53 = .ok (.ifCond .eq 97, 3) := dk_153 0 97 (dk_at dksX0_unrest_2 8 rfl rfl)
theorem dX0_unrest_56 : decode cX0_unrest 56 = .ok (.aload_n 0, 1) := dk_42 (dk_at dksX0_unrest_2 11 rfl rfl)
theorem dX0_unrest_57 : decode cX0_unrest 57 = .ok (.getfield 33, 3) := dk_180 0 33 (dk_at dksX0_unrest_2 12 rfl rfl)
theorem dX0_unrest_60 : decode cX0_unrest 60 = .ok (.getfield 94, 3) := dk_180 0 94 (dk_at dksX0_unrest_2 15 rfl rfl)
theorem dX0_unrest_63 : decode cX0_unrest 63 = .ok (.iload 5, 2) := dk_21 5 (dk_at dksX0_unrest_2 18 rfl rfl)
theorem dX0_unrest_65 : decode cX0_unrest 65 = .ok (.aaload, 1) := dk_50 (dk_at dksX0_unrest_2 20 rfl rfl)
theorem dX0_unrest_66 : decode cX0_unrest 66 = .ok (.getfield 111, 3) := dk_180 0 111 (dk_at dksX0_unrest_2 21 rfl rfl)
theorem dX0_unrest_69 : decode cX0_unrest 69 = .ok (.iconst 1, 1) := dk_4 (dk_at dksX0_unrest_3 0 rfl rfl)
theorem dX0_unrest_70 : decode cX0_unrest 70 = .ok (.if_icmp .ne 80, 3) := dk_160 0 80 (dk_at dksX0_unrest_3 1 rfl rfl)
theorem dX0_unrest_73 : decode cX0_unrest 73 = .ok (.aload_n 0, 1) := dk_42 (dk_at dksX0_unrest_3 4 rfl rfl)
theorem dX0_unrest_74 : decode cX0_unrest 74 = .ok (.getfield 33, 3) := dk_180 0 33 (dk_at dksX0_unrest_3 5 rfl rfl)
theorem dX0_unrest_77 : decode cX0_unrest 77 = .ok (.getfield 94, 3) := dk_180 0 94 (dk_at dksX0_unrest_3 8 rfl rfl)
theorem dX0_unrest_80 : decode cX0_unrest 80 = .ok (.iload 4, 2) := dk_21 4 (dk_at dksX0_unrest_3 11 rfl rfl)
theorem dX0_unrest_82 : decode cX0_unrest 82 = .ok (.aaload, 1) := dk_50 (dk_at dksX0_unrest_3 13 rfl rfl)
theorem dX0_unrest_83 : decode cX0_unrest 83 = .ok (.getfield 98, 3) := dk_180 0 98 (dk_at dksX0_unrest_3 14 rfl rfl)
theorem dX0_unrest_86 : decode cX0_unrest 86 = .ok (.iload 5, 2) := dk_21 5 (dk_at dksX0_unrest_3 17 rfl rfl)
theorem dX0_unrest_88 : decode cX0_unrest 88 = .ok (.if_icmp .eq 62, 3) := dk_159 0 62 (dk_at dksX0_unrest_3 19 rfl rfl)
theorem dX0_unrest_91 : decode cX0_unrest 91 = .ok (.aload_n 0, 1) := dk_42 (dk_at dksX0_unrest_3 22 rfl rfl)
theorem dX0_unrest_92 : decode cX0_unrest 92 = .ok (.getfield 33, 3) := dk_180 0 33 (dk_at dksX0_unrest_4 0 rfl rfl)
theorem dX0_unrest_95 : decode cX0_unrest 95 = .ok (.iload 4, 2) := dk_21 4 (dk_at dksX0_unrest_4 3 rfl rfl)
theorem dX0_unrest_97 : decode cX0_unrest 97 = .ok (.iload 5, 2) := dk_21 5 (dk_at dksX0_unrest_4 5 rfl rfl)
theorem dX0_unrest_99 : decode cX0_unrest 99 = .ok (.invokevirtual 216, 3) := dk_182 0 216 (dk_at dksX0_unrest_4 7 rfl rfl)
theorem dX0_unrest_102 : decode cX0_unrest 102 = .ok (.ifCond .eq 48, 3) := dk_153 0 48 (dk_at dksX0_unrest_4 10 rfl rfl)
theorem dX0_unrest_105 : decode cX0_unrest 105 = .ok (.aload_n 0, 1) := dk_42 (dk_at dksX0_unrest_4 13 rfl rfl)
theorem dX0_unrest_106 : decode cX0_unrest 106 = .ok (.iload 4, 2) := dk_21 4 (dk_at dksX0_unrest_4 14 rfl rfl)
theorem dX0_unrest_108 : decode cX0_unrest 108 = .ok (.iload 5, 2) := dk_21 5 (dk_at dksX0_unrest_4 16 rfl rfl)
theorem dX0_unrest_110 : decode cX0_unrest 110 = .ok (.invokevirtual 265, 3) := dk_182 1 9 (dk_at dksX0_unrest_4 18 rfl rfl)
theorem dX0_unrest_113 : decode cX0_unrest 113 = .ok (.ifCond .eq 37, 3) := dk_153 0 37 (dk_at dksX0_unrest_4 21 rfl rfl)
theorem dX0_unrest_116 : decode cX0_unrest 116 = .ok (.aload_n 0, 1) := dk_42 (dk_at dksX0_unrest_5 0 rfl rfl)
theorem dX0_unrest_117 : decode cX0_unrest 117 = .ok (.iload 5, 2) := dk_21 5 (dk_at dksX0_unrest_5 1 rfl rfl)
theorem dX0_unrest_119 : decode cX0_unrest 119 = .ok (.iload 4, 2) := dk_21 4 (dk_at dksX0_unrest_5 3 rfl rfl)
theorem dX0_unrest_121 : decode cX0_unrest 121 = .ok (.invokevirtual 265, 3) := dk_182 1 9 (dk_at dksX0_unrest_5 5 rfl rfl)
theorem dX0_unrest_124 : decode cX0_unrest 124 = .ok (.ifCond .ne 6, 3) := dk_154 0 6 (dk_at dksX0_unrest_5 8 rfl rfl)
theorem dX0_unrest_127 : decode cX0_unrest 127 = .ok (.goto 23, 3) := dk_167 0 23 (dk_at dksX0_unrest_5 11 rfl rfl)
theorem dX0_unrest_130 : decode cX0_unrest 130 = .ok (.iload_n 2, 1) := dk_28 (dk_at dksX0_unrest_5 14 rfl rfl)
theorem dX0_unrest_131 : decode cX0_unrest 131 = .ok (.ifCond .ne 16, 3) := dk_154 0 16 (dk_at dksX0_unrest_5 15 rfl rfl)
theorem dX0_unrest_134 : decode cX0_unrest 134 = .ok (.iload_n 1, 1) := dk_27 (dk_at dksX0_unrest_5 18 rfl rfl)
theorem dX0_unrest_135 : decode cX0_unrest 135 = .ok (.iconst 1, 1) := dk_4 (dk_at dksX0_unrest_5 19 rfl rfl)
theorem dX0_unrest_136 : decode cX0_unrest 136 = .ok (.if_icmp .ne 8, 3) := dk_160 0 8 (dk_at dksX0_unrest_5 20 rfl rfl)
theorem dX0_unrest_139 : decode cX0_unrest 139 = .ok (.iload 4, 2) := dk_21 4 (dk_at dksX0_unrest_6 0 rfl rfl)
theorem dX0_unrest_141 : decode cX0_unrest 141 = .ok (.goto 5, 3) := dk_167 0 5 (dk_at dksX0_unrest_6 2 rfl rfl)
theorem dX0_unrest_144 : decode cX0_unrest 144 = .ok (.iload 5, 2) := dk_21 5 (dk_at dksX0_unrest_6 5 rfl rfl)
theorem dX0_unrest_146 : decode cX0_unrest 146 = .ok (.istore_n 3, 1) := dk_62 (dk_at dksX0_unrest_6 7 rfl rfl)
theorem dX0_unrest_147 : decode cX0_unrest 147 = .ok (.iinc 2 1, 3) := dk_132 2 1 (dk_at dksX0_unrest_6 8 rfl rfl)
theorem dX0_unrest_150 : decode cX0_unrest 150 = .ok (.iinc 5 1, 3) := dk_132 5 1 (dk_at dksX0_unrest_6 11 rfl rfl)
theorem dX0_unrest_153 : decode cX0_unrest 153 = .ok (.goto (-125), 3) := dk_167 255 131 (dk_at dksX0_unrest_6 14 rfl rfl)
theorem dX0_unrest_156 : decode cX0_unrest 156 = .ok (.iinc 4 1, 3) := dk_132 4 1 (dk_at dksX0_unrest_6 17 rfl rfl)
theorem dX0_unrest_159 : decode cX0_unrest 159 = .ok (.goto (-141), 3) := dk_167 255 115 (dk_at dksX0_unrest_6 20 rfl rfl)
theorem dX0_unrest_162 : decode cX0_unrest 162 = .ok (.iload_n 1, 1) := dk_27 (dk_at dksX0_unrest_6 23 rfl rfl)
theorem dX0_unrest_163 : decode cX0_unrest 163 = .ok (.ifCond .ne 7, 3) := dk_154 0 7 (dk_at dksX0_unrest_7 0 rfl rfl)
theorem dX0_unrest_166 : decode cX0_unrest 166 = .ok (.iload_n 2, 1) := dk_28 (dk_at dksX0_unrest_7 3 rfl rfl)
theorem dX0_unrest_167 : decode cX0_unrest 167 = .ok (.goto 4, 3) := dk_167 0 4 (dk_at dksX0_unrest_7 4 rfl rfl)
theorem dX0_unrest_170 : decode cX0_unrest 170 = .ok (.iload_n 3, 1) := dk_29 (dk_at dksX0_unrest_7 7 rfl rfl)
theorem dX0_unrest_171 : decode cX0_unrest 171 = .ok (.ireturn, 1) := dk_172 (dk_at dksX0_unrest_7 8 rfl rfl)
abbrev cX0_wouldLeave : ByteArray := prog_1_method_35_code
def yX0_wouldLeave : MethodName := ⟨RX0, "wouldLeave", "(II)Z"⟩
def dkwX0_wouldLeave_2 : List UInt8 := [172]
abbrev dktX0_wouldLeave_2 : List UInt8 := dkwX0_wouldLeave_2 ++ []
def dkwX0_wouldLeave_1 : List UInt8 := [160, 0, 7, 3, 167, 0, 12, 42, 180, 0, 33, 27, 29, 182, 0, 237, 164, 0, 7, 4, 167, 0, 4, 3]
abbrev dktX0_wouldLeave_1 : List UInt8 := dkwX0_wouldLeave_1 ++ dktX0_wouldLeave_2
def dkwX0_wouldLeave_0 : List UInt8 := [42, 180, 0, 33, 180, 0, 94, 27, 50, 180, 0, 98, 62, 42, 180, 0, 33, 27, 28, 182, 0, 237, 29, 2]
abbrev dktX0_wouldLeave_0 : List UInt8 := dkwX0_wouldLeave_0 ++ dktX0_wouldLeave_1
theorem dksX0_wouldLeave_0 : cX0_wouldLeave.data.toList.drop 0 = dktX0_wouldLeave_0 := by decide +kernel
theorem dksX0_wouldLeave_1 : cX0_wouldLeave.data.toList.drop 24 = dktX0_wouldLeave_1 := dk_seg dksX0_wouldLeave_0 24 rfl rfl
theorem dksX0_wouldLeave_2 : cX0_wouldLeave.data.toList.drop 48 = dktX0_wouldLeave_2 := dk_seg dksX0_wouldLeave_1 24 rfl rfl
theorem dX0_wouldLeave_0 : decode cX0_wouldLeave 0 = .ok (.aload_n 0, 1) := dk_42 (dk_at dksX0_wouldLeave_0 0 rfl rfl)
theorem dX0_wouldLeave_1 : decode cX0_wouldLeave 1 = .ok (.getfield 33, 3) := dk_180 0 33 (dk_at dksX0_wouldLeave_0 1 rfl rfl)
theorem dX0_wouldLeave_4 : decode cX0_wouldLeave 4 = .ok (.getfield 94, 3) := dk_180 0 94 (dk_at dksX0_wouldLeave_0 4 rfl rfl)
theorem dX0_wouldLeave_7 : decode cX0_wouldLeave 7 = .ok (.iload_n 1, 1) := dk_27 (dk_at dksX0_wouldLeave_0 7 rfl rfl)
theorem dX0_wouldLeave_8 : decode cX0_wouldLeave 8 = .ok (.aaload, 1) := dk_50 (dk_at dksX0_wouldLeave_0 8 rfl rfl)
theorem dX0_wouldLeave_9 : decode cX0_wouldLeave 9 = .ok (.getfield 98, 3) := dk_180 0 98 (dk_at dksX0_wouldLeave_0 9 rfl rfl)
theorem dX0_wouldLeave_12 : decode cX0_wouldLeave 12 = .ok (.istore_n 3, 1) := dk_62 (dk_at dksX0_wouldLeave_0 12 rfl rfl)
theorem dX0_wouldLeave_13 : decode cX0_wouldLeave 13 = .ok (.aload_n 0, 1) := dk_42 (dk_at dksX0_wouldLeave_0 13 rfl rfl)
theorem dX0_wouldLeave_14 : decode cX0_wouldLeave 14 = .ok (.getfield 33, 3) := dk_180 0 33 (dk_at dksX0_wouldLeave_0 14 rfl rfl)
theorem dX0_wouldLeave_17 : decode cX0_wouldLeave 17 = .ok (.iload_n 1, 1) := dk_27 (dk_at dksX0_wouldLeave_0 17 rfl rfl)
theorem dX0_wouldLeave_18 : decode cX0_wouldLeave 18 = .ok (.iload_n 2, 1) := dk_28 (dk_at dksX0_wouldLeave_0 18 rfl rfl)
theorem dX0_wouldLeave_19 : decode cX0_wouldLeave 19 = .ok (.invokevirtual 237, 3) := dk_182 0 237 (dk_at dksX0_wouldLeave_0 19 rfl rfl)
theorem dX0_wouldLeave_22 : decode cX0_wouldLeave 22 = .ok (.iload_n 3, 1) := dk_29 (dk_at dksX0_wouldLeave_0 22 rfl rfl)
theorem dX0_wouldLeave_23 : decode cX0_wouldLeave 23 = .ok (.iconst (-1), 1) := dk_2 (dk_at dksX0_wouldLeave_0 23 rfl rfl)
theorem dX0_wouldLeave_24 : decode cX0_wouldLeave 24 = .ok (.if_icmp .ne 7, 3) := dk_160 0 7 (dk_at dksX0_wouldLeave_1 0 rfl rfl)
theorem dX0_wouldLeave_27 : decode cX0_wouldLeave 27 = .ok (.iconst 0, 1) := dk_3 (dk_at dksX0_wouldLeave_1 3 rfl rfl)
theorem dX0_wouldLeave_28 : decode cX0_wouldLeave 28 = .ok (.goto 12, 3) := dk_167 0 12 (dk_at dksX0_wouldLeave_1 4 rfl rfl)
theorem dX0_wouldLeave_31 : decode cX0_wouldLeave 31 = .ok (.aload_n 0, 1) := dk_42 (dk_at dksX0_wouldLeave_1 7 rfl rfl)
theorem dX0_wouldLeave_32 : decode cX0_wouldLeave 32 = .ok (.getfield 33, 3) := dk_180 0 33 (dk_at dksX0_wouldLeave_1 8 rfl rfl)
theorem dX0_wouldLeave_35 : decode cX0_wouldLeave 35 = .ok (.iload_n 1, 1) := dk_27 (dk_at dksX0_wouldLeave_1 11 rfl rfl)
theorem dX0_wouldLeave_36 : decode cX0_wouldLeave 36 = .ok (.iload_n 3, 1) := dk_29 (dk_at dksX0_wouldLeave_1 12 rfl rfl)
theorem dX0_wouldLeave_37 : decode cX0_wouldLeave 37 = .ok (.invokevirtual 237, 3) := dk_182 0 237 (dk_at dksX0_wouldLeave_1 13 rfl rfl)
theorem dX0_wouldLeave_40 : decode cX0_wouldLeave 40 = .ok (.if_icmp .le 7, 3) := dk_164 0 7 (dk_at dksX0_wouldLeave_1 16 rfl rfl)
theorem dX0_wouldLeave_43 : decode cX0_wouldLeave 43 = .ok (.iconst 1, 1) := dk_4 (dk_at dksX0_wouldLeave_1 19 rfl rfl)
theorem dX0_wouldLeave_44 : decode cX0_wouldLeave 44 = .ok (.goto 4, 3) := dk_167 0 4 (dk_at dksX0_wouldLeave_1 20 rfl rfl)
theorem dX0_wouldLeave_47 : decode cX0_wouldLeave 47 = .ok (.iconst 0, 1) := dk_3 (dk_at dksX0_wouldLeave_1 23 rfl rfl)
theorem dX0_wouldLeave_48 : decode cX0_wouldLeave 48 = .ok (.ireturn, 1) := dk_172 (dk_at dksX0_wouldLeave_2 0 rfl rfl)
abbrev cX0_search : ByteArray := prog_1_method_39_code
def yX0_search : MethodName := ⟨RX0, "search", "(II)I"⟩
def dkwX0_search_6 : List UInt8 := [160, 0, 13, 42, 180, 1, 12, 21, 4, 108, 167, 0, 7, 29, 21, 4, 108, 172]
abbrev dktX0_search_6 : List UInt8 := dkwX0_search_6 ++ []
def dkwX0_search_5 : List UInt8 := [51, 96, 62, 132, 4, 1, 167, 255, 237, 42, 180, 1, 12, 29, 184, 0, 10, 54, 4, 28, 16, 20]
abbrev dktX0_search_5 : List UInt8 := dkwX0_search_5 ++ dktX0_search_6
def dkwX0_search_4 : List UInt8 := [180, 0, 75, 28, 46, 172, 3, 62, 3, 54, 4, 21, 4, 27, 162, 0, 19, 29, 42, 180, 0, 43, 21, 4]
abbrev dktX0_search_4 : List UInt8 := dkwX0_search_4 ++ dktX0_search_5
def dkwX0_search_3 : List UInt8 := [180, 0, 72, 3, 3, 79, 42, 27, 4, 4, 3, 3, 182, 1, 15, 28, 16, 20, 162, 0, 10, 42]
abbrev dktX0_search_3 : List UInt8 := dkwX0_search_3 ++ dktX0_search_4
def dkwX0_search_2 : List UInt8 := [16, 21, 159, 0, 14, 28, 27, 184, 0, 103, 154, 0, 6, 16, 253, 172, 42, 19, 1, 22, 181, 1, 12, 42]
abbrev dktX0_search_2 : List UInt8 := dkwX0_search_2 ++ dktX0_search_3
def dkwX0_search_1 : List UInt8 := [42, 3, 181, 0, 149, 42, 27, 182, 1, 19, 154, 0, 6, 16, 254, 172, 28, 16, 20, 159, 0, 20, 28]
abbrev dktX0_search_1 : List UInt8 := dkwX0_search_1 ++ dktX0_search_2
def dkwX0_search_0 : List UInt8 := [27, 5, 16, 6, 184, 0, 128, 153, 0, 15, 27, 27, 27, 104, 96, 42, 180, 0, 149, 164, 0, 5, 2, 172]
abbrev dktX0_search_0 : List UInt8 := dkwX0_search_0 ++ dktX0_search_1
theorem dksX0_search_0 : cX0_search.data.toList.drop 0 = dktX0_search_0 := by decide +kernel
theorem dksX0_search_1 : cX0_search.data.toList.drop 24 = dktX0_search_1 := dk_seg dksX0_search_0 24 rfl rfl
theorem dksX0_search_2 : cX0_search.data.toList.drop 47 = dktX0_search_2 := dk_seg dksX0_search_1 23 rfl rfl
theorem dksX0_search_3 : cX0_search.data.toList.drop 71 = dktX0_search_3 := dk_seg dksX0_search_2 24 rfl rfl
theorem dksX0_search_4 : cX0_search.data.toList.drop 93 = dktX0_search_4 := dk_seg dksX0_search_3 22 rfl rfl
theorem dksX0_search_5 : cX0_search.data.toList.drop 117 = dktX0_search_5 := dk_seg dksX0_search_4 24 rfl rfl
theorem dksX0_search_6 : cX0_search.data.toList.drop 139 = dktX0_search_6 := dk_seg dksX0_search_5 22 rfl rfl
theorem dX0_search_0 : decode cX0_search 0 = .ok (.iload_n 1, 1) := dk_27 (dk_at dksX0_search_0 0 rfl rfl)
theorem dX0_search_1 : decode cX0_search 1 = .ok (.iconst 2, 1) := dk_5 (dk_at dksX0_search_0 1 rfl rfl)
theorem dX0_search_2 : decode cX0_search 2 = .ok (.bipush 6, 2) := dk_16 6 (dk_at dksX0_search_0 2 rfl rfl)
theorem dX0_search_4 : decode cX0_search 4 = .ok (.invokestatic 128, 3) := dk_184 0 128 (dk_at dksX0_search_0 4 rfl rfl)
theorem dX0_search_7 : decode cX0_search 7 = .ok (.ifCond .eq 15, 3) := dk_153 0 15 (dk_at dksX0_search_0 7 rfl rfl)
theorem dX0_search_10 : decode cX0_search 10 = .ok (.iload_n 1, 1) := dk_27 (dk_at dksX0_search_0 10 rfl rfl)
theorem dX0_search_11 : decode cX0_search 11 = .ok (.iload_n 1, 1) := dk_27 (dk_at dksX0_search_0 11 rfl rfl)
theorem dX0_search_12 : decode cX0_search 12 = .ok (.iload_n 1, 1) := dk_27 (dk_at dksX0_search_0 12 rfl rfl)
theorem dX0_search_13 : decode cX0_search 13 = .ok (.imul, 1) := dk_104 (dk_at dksX0_search_0 13 rfl rfl)
theorem dX0_search_14 : decode cX0_search 14 = .ok (.iadd, 1) := dk_96 (dk_at dksX0_search_0 14 rfl rfl)
theorem dX0_search_15 : decode cX0_search 15 = .ok (.aload_n 0, 1) := dk_42 (dk_at dksX0_search_0 15 rfl rfl)
theorem dX0_search_16 : decode cX0_search 16 = .ok (.getfield 149, 3) := dk_180 0 149 (dk_at dksX0_search_0 16 rfl rfl)
theorem dX0_search_19 : decode cX0_search 19 = .ok (.if_icmp .le 5, 3) := dk_164 0 5 (dk_at dksX0_search_0 19 rfl rfl)
theorem dX0_search_22 : decode cX0_search 22 = .ok (.iconst (-1), 1) := dk_2 (dk_at dksX0_search_0 22 rfl rfl)
theorem dX0_search_23 : decode cX0_search 23 = .ok (.ireturn, 1) := dk_172 (dk_at dksX0_search_0 23 rfl rfl)
theorem dX0_search_24 : decode cX0_search 24 = .ok (.aload_n 0, 1) := dk_42 (dk_at dksX0_search_1 0 rfl rfl)
theorem dX0_search_25 : decode cX0_search 25 = .ok (.iconst 0, 1) := dk_3 (dk_at dksX0_search_1 1 rfl rfl)
theorem dX0_search_26 : decode cX0_search 26 = .ok (.putfield 149, 3) := dk_181 0 149 (dk_at dksX0_search_1 2 rfl rfl)
theorem dX0_search_29 : decode cX0_search 29 = .ok (.aload_n 0, 1) := dk_42 (dk_at dksX0_search_1 5 rfl rfl)
theorem dX0_search_30 : decode cX0_search 30 = .ok (.iload_n 1, 1) := dk_27 (dk_at dksX0_search_1 6 rfl rfl)
theorem dX0_search_31 : decode cX0_search 31 = .ok (.invokevirtual 275, 3) := dk_182 1 19 (dk_at dksX0_search_1 7 rfl rfl)
theorem dX0_search_34 : decode cX0_search 34 = .ok (.ifCond .ne 6, 3) := dk_154 0 6 (dk_at dksX0_search_1 10 rfl rfl)
theorem dX0_search_37 : decode cX0_search 37 = .ok (.bipush (-2), 2) := dk_16 254 (dk_at dksX0_search_1 13 rfl rfl)
theorem dX0_search_39 : decode cX0_search 39 = .ok (.ireturn, 1) := dk_172 (dk_at dksX0_search_1 15 rfl rfl)
theorem dX0_search_40 : decode cX0_search 40 = .ok (.iload_n 2, 1) := dk_28 (dk_at dksX0_search_1 16 rfl rfl)
theorem dX0_search_41 : decode cX0_search 41 = .ok (.bipush 20, 2) := dk_16 20 (dk_at dksX0_search_1 17 rfl rfl)
theorem dX0_search_43 : decode cX0_search 43 = .ok (.if_icmp .eq 20, 3) := dk_159 0 20 (dk_at dksX0_search_1 19 rfl rfl)
theorem dX0_search_46 : decode cX0_search 46 = .ok (.iload_n 2, 1) := dk_28 (dk_at dksX0_search_1 22 rfl rfl)
theorem dX0_search_47 : decode cX0_search 47 = .ok (.bipush 21, 2) := dk_16 21 (dk_at dksX0_search_2 0 rfl rfl)
theorem dX0_search_49 : decode cX0_search 49 = .ok (.if_icmp .eq 14, 3) := dk_159 0 14 (dk_at dksX0_search_2 2 rfl rfl)
theorem dX0_search_52 : decode cX0_search 52 = .ok (.iload_n 2, 1) := dk_28 (dk_at dksX0_search_2 5 rfl rfl)
theorem dX0_search_53 : decode cX0_search 53 = .ok (.iload_n 1, 1) := dk_27 (dk_at dksX0_search_2 6 rfl rfl)
theorem dX0_search_54 : decode cX0_search 54 = .ok (.invokestatic 103, 3) := dk_184 0 103 (dk_at dksX0_search_2 7 rfl rfl)
theorem dX0_search_57 : decode cX0_search 57 = .ok (.ifCond .ne 6, 3) := dk_154 0 6 (dk_at dksX0_search_2 10 rfl rfl)
theorem dX0_search_60 : decode cX0_search 60 = .ok (.bipush (-3), 2) := dk_16 253 (dk_at dksX0_search_2 13 rfl rfl)
theorem dX0_search_62 : decode cX0_search 62 = .ok (.ireturn, 1) := dk_172 (dk_at dksX0_search_2 15 rfl rfl)
theorem dX0_search_63 : decode cX0_search 63 = .ok (.aload_n 0, 1) := dk_42 (dk_at dksX0_search_2 16 rfl rfl)
theorem dX0_search_64 : decode cX0_search 64 = .ok (.ldc_w 278, 3) := dk_19 1 22 (dk_at dksX0_search_2 17 rfl rfl)
theorem dX0_search_67 : decode cX0_search 67 = .ok (.putfield 268, 3) := dk_181 1 12 (dk_at dksX0_search_2 20 rfl rfl)
theorem dX0_search_70 : decode cX0_search 70 = .ok (.aload_n 0, 1) := dk_42 (dk_at dksX0_search_2 23 rfl rfl)
theorem dX0_search_71 : decode cX0_search 71 = .ok (.getfield 72, 3) := dk_180 0 72 (dk_at dksX0_search_3 0 rfl rfl)
theorem dX0_search_74 : decode cX0_search 74 = .ok (.iconst 0, 1) := dk_3 (dk_at dksX0_search_3 3 rfl rfl)
theorem dX0_search_75 : decode cX0_search 75 = .ok (.iconst 0, 1) := dk_3 (dk_at dksX0_search_3 4 rfl rfl)
theorem dX0_search_76 : decode cX0_search 76 = .ok (.iastore, 1) := dk_79 (dk_at dksX0_search_3 5 rfl rfl)
theorem dX0_search_77 : decode cX0_search 77 = .ok (.aload_n 0, 1) := dk_42 (dk_at dksX0_search_3 6 rfl rfl)
theorem dX0_search_78 : decode cX0_search 78 = .ok (.iload_n 1, 1) := dk_27 (dk_at dksX0_search_3 7 rfl rfl)
theorem dX0_search_79 : decode cX0_search 79 = .ok (.iconst 1, 1) := dk_4 (dk_at dksX0_search_3 8 rfl rfl)
theorem dX0_search_80 : decode cX0_search 80 = .ok (.iconst 1, 1) := dk_4 (dk_at dksX0_search_3 9 rfl rfl)
theorem dX0_search_81 : decode cX0_search 81 = .ok (.iconst 0, 1) := dk_3 (dk_at dksX0_search_3 10 rfl rfl)
theorem dX0_search_82 : decode cX0_search 82 = .ok (.iconst 0, 1) := dk_3 (dk_at dksX0_search_3 11 rfl rfl)
theorem dX0_search_83 : decode cX0_search 83 = .ok (.invokevirtual 271, 3) := dk_182 1 15 (dk_at dksX0_search_3 12 rfl rfl)
theorem dX0_search_86 : decode cX0_search 86 = .ok (.iload_n 2, 1) := dk_28 (dk_at dksX0_search_3 15 rfl rfl)
theorem dX0_search_87 : decode cX0_search 87 = .ok (.bipush 20, 2) := dk_16 20 (dk_at dksX0_search_3 16 rfl rfl)
theorem dX0_search_89 : decode cX0_search 89 = .ok (.if_icmp .ge 10, 3) := dk_162 0 10 (dk_at dksX0_search_3 18 rfl rfl)
theorem dX0_search_92 : decode cX0_search 92 = .ok (.aload_n 0, 1) := dk_42 (dk_at dksX0_search_3 21 rfl rfl)
theorem dX0_search_93 : decode cX0_search 93 = .ok (.getfield 75, 3) := dk_180 0 75 (dk_at dksX0_search_4 0 rfl rfl)
theorem dX0_search_96 : decode cX0_search 96 = .ok (.iload_n 2, 1) := dk_28 (dk_at dksX0_search_4 3 rfl rfl)
theorem dX0_search_97 : decode cX0_search 97 = .ok (.iaload, 1) := dk_46 (dk_at dksX0_search_4 4 rfl rfl)
theorem dX0_search_98 : decode cX0_search 98 = .ok (.ireturn, 1) := dk_172 (dk_at dksX0_search_4 5 rfl rfl)
theorem dX0_search_99 : decode cX0_search 99 = .ok (.iconst 0, 1) := dk_3 (dk_at dksX0_search_4 6 rfl rfl)
theorem dX0_search_100 : decode cX0_search 100 = .ok (.istore_n 3, 1) := dk_62 (dk_at dksX0_search_4 7 rfl rfl)
theorem dX0_search_101 : decode cX0_search 101 = .ok (.iconst 0, 1) := dk_3 (dk_at dksX0_search_4 8 rfl rfl)
theorem dX0_search_102 : decode cX0_search 102 = .ok (.istore 4, 2) := dk_54 4 (dk_at dksX0_search_4 9 rfl rfl)
theorem dX0_search_104 : decode cX0_search 104 = .ok (.iload 4, 2) := dk_21 4 (dk_at dksX0_search_4 11 rfl rfl)
theorem dX0_search_106 : decode cX0_search 106 = .ok (.iload_n 1, 1) := dk_27 (dk_at dksX0_search_4 13 rfl rfl)
theorem dX0_search_107 : decode cX0_search 107 = .ok (.if_icmp .ge 19, 3) := dk_162 0 19 (dk_at dksX0_search_4 14 rfl rfl)
theorem dX0_search_110 : decode cX0_search 110 = .ok (.iload_n 3, 1) := dk_29 (dk_at dksX0_search_4 17 rfl rfl)
theorem dX0_search_111 : decode cX0_search 111 = .ok (.aload_n 0, 1) := dk_42 (dk_at dksX0_search_4 18 rfl rfl)
theorem dX0_search_112 : decode cX0_search 112 = .ok (.getfield 43, 3) := dk_180 0 43 (dk_at dksX0_search_4 19 rfl rfl)
theorem dX0_search_115 : decode cX0_search 115 = .ok (.iload 4, 2) := dk_21 4 (dk_at dksX0_search_4 22 rfl rfl)
theorem dX0_search_117 : decode cX0_search 117 = .ok (.baload, 1) := dk_51 (dk_at dksX0_search_5 0 rfl rfl)
theorem dX0_search_118 : decode cX0_search 118 = .ok (.iadd, 1) := dk_96 (dk_at dksX0_search_5 1 rfl rfl)
theorem dX0_search_119 : decode cX0_search 119 = .ok (.istore_n 3, 1) := dk_62 (dk_at dksX0_search_5 2 rfl rfl)
theorem dX0_search_120 : decode cX0_search 120 = .ok (.iinc 4 1, 3) := dk_132 4 1 (dk_at dksX0_search_5 3 rfl rfl)
theorem dX0_search_123 : decode cX0_search 123 = .ok (.goto (-19), 3) := dk_167 255 237 (dk_at dksX0_search_5 6 rfl rfl)
theorem dX0_search_126 : decode cX0_search 126 = .ok (.aload_n 0, 1) := dk_42 (dk_at dksX0_search_5 9 rfl rfl)
theorem dX0_search_127 : decode cX0_search 127 = .ok (.getfield 268, 3) := dk_180 1 12 (dk_at dksX0_search_5 10 rfl rfl)
theorem dX0_search_130 : decode cX0_search 130 = .ok (.iload_n 3, 1) := dk_29 (dk_at dksX0_search_5 13 rfl rfl)
theorem dX0_search_131 : decode cX0_search 131 = .ok (.invokestatic 10, 3) := dk_184 0 10 (dk_at dksX0_search_5 14 rfl rfl)
theorem dX0_search_134 : decode cX0_search 134 = .ok (.istore 4, 2) := dk_54 4 (dk_at dksX0_search_5 17 rfl rfl)
theorem dX0_search_136 : decode cX0_search 136 = .ok (.iload_n 2, 1) := dk_28 (dk_at dksX0_search_5 19 rfl rfl)
theorem dX0_search_137 : decode cX0_search 137 = .ok (.bipush 20, 2) := dk_16 20 (dk_at dksX0_search_5 20 rfl rfl)
theorem dX0_search_139 : decode cX0_search 139 = .ok (.if_icmp .ne 13, 3) := dk_160 0 13 (dk_at dksX0_search_6 0 rfl rfl)
theorem dX0_search_142 : decode cX0_search 142 = .ok (.aload_n 0, 1) := dk_42 (dk_at dksX0_search_6 3 rfl rfl)
theorem dX0_search_143 : decode cX0_search 143 = .ok (.getfield 268, 3) := dk_180 1 12 (dk_at dksX0_search_6 4 rfl rfl)
theorem dX0_search_146 : decode cX0_search 146 = .ok (.iload 4, 2) := dk_21 4 (dk_at dksX0_search_6 7 rfl rfl)
theorem dX0_search_148 : decode cX0_search 148 = .ok (.idiv, 1) := dk_108 (dk_at dksX0_search_6 9 rfl rfl)
theorem dX0_search_149 : decode cX0_search 149 = .ok (.goto 7, 3) := dk_167 0 7 (dk_at dksX0_search_6 10 rfl rfl)
theorem dX0_search_152 : decode cX0_search 152 = .ok (.iload_n 3, 1) := dk_29 (dk_at dksX0_search_6 13 rfl rfl)
theorem dX0_search_153 : decode cX0_search 153 = .ok (.iload 4, 2) := dk_21 4 (dk_at dksX0_search_6 14 rfl rfl)
theorem dX0_search_155 : decode cX0_search 155 = .ok (.idiv, 1) := dk_108 (dk_at dksX0_search_6 16 rfl rfl)
theorem dX0_search_156 : decode cX0_search 156 = .ok (.ireturn, 1) := dk_172 (dk_at dksX0_search_6 17 rfl rfl)
abbrev cX0_isSearch : ByteArray := prog_1_method_38_code
def yX0_isSearch : MethodName := ⟨RX0, "isSearch", "(I)Z"⟩
def dkwX0_isSearch_4 : List UInt8 := [167, 0, 4, 3, 172]
abbrev dktX0_isSearch_4 : List UInt8 := dkwX0_isSearch_4 ++ []
def dkwX0_isSearch_3 : List UInt8 := [154, 0, 5, 3, 172, 132, 4, 1, 167, 255, 217, 132, 3, 1, 167, 255, 177, 28, 158, 0, 7, 4]
abbrev dktX0_isSearch_3 : List UInt8 := dkwX0_isSearch_3 ++ dktX0_isSearch_4
def dkwX0_isSearch_2 : List UInt8 := [159, 0, 27, 42, 180, 0, 43, 27, 27, 29, 104, 96, 21, 4, 96, 51, 4, 16, 20, 184, 0, 128]
abbrev dktX0_isSearch_2 : List UInt8 := dkwX0_isSearch_2 ++ dktX0_isSearch_3
def dkwX0_isSearch_1 : List UInt8 := [3, 172, 28, 42, 180, 0, 43, 29, 51, 96, 61, 3, 54, 4, 21, 4, 27, 162, 0, 39, 21, 4, 29]
abbrev dktX0_isSearch_1 : List UInt8 := dkwX0_isSearch_1 ++ dktX0_isSearch_2
def dkwX0_isSearch_0 : List UInt8 := [3, 61, 3, 62, 29, 27, 162, 0, 80, 42, 180, 0, 43, 29, 51, 3, 16, 99, 184, 0, 128, 154, 0, 5]
abbrev dktX0_isSearch_0 : List UInt8 := dkwX0_isSearch_0 ++ dktX0_isSearch_1
theorem dksX0_isSearch_0 : cX0_isSearch.data.toList.drop 0 = dktX0_isSearch_0 := by decide +kernel
theorem dksX0_isSearch_1 : cX0_isSearch.data.toList.drop 24 = dktX0_isSearch_1 := dk_seg dksX0_isSearch_0 24 rfl rfl
theorem dksX0_isSearch_2 : cX0_isSearch.data.toList.drop 47 = dktX0_isSearch_2 := dk_seg dksX0_isSearch_1 23 rfl rfl
theorem dksX0_isSearch_3 : cX0_isSearch.data.toList.drop 69 = dktX0_isSearch_3 := dk_seg dksX0_isSearch_2 22 rfl rfl
theorem dksX0_isSearch_4 : cX0_isSearch.data.toList.drop 91 = dktX0_isSearch_4 := dk_seg dksX0_isSearch_3 22 rfl rfl
theorem dX0_isSearch_0 : decode cX0_isSearch 0 = .ok (.iconst 0, 1) := dk_3 (dk_at dksX0_isSearch_0 0 rfl rfl)
theorem dX0_isSearch_1 : decode cX0_isSearch 1 = .ok (.istore_n 2, 1) := dk_61 (dk_at dksX0_isSearch_0 1 rfl rfl)
theorem dX0_isSearch_2 : decode cX0_isSearch 2 = .ok (.iconst 0, 1) := dk_3 (dk_at dksX0_isSearch_0 2 rfl rfl)
theorem dX0_isSearch_3 : decode cX0_isSearch 3 = .ok (.istore_n 3, 1) := dk_62 (dk_at dksX0_isSearch_0 3 rfl rfl)
theorem dX0_isSearch_4 : decode cX0_isSearch 4 = .ok (.iload_n 3, 1) := dk_29 (dk_at dksX0_isSearch_0 4 rfl rfl)
theorem dX0_isSearch_5 : decode cX0_isSearch 5 = .ok (.iload_n 1, 1) := dk_27 (dk_at dksX0_isSearch_0 5 rfl rfl)
theorem dX0_isSearch_6 : decode cX0_isSearch 6 = .ok (.if_icmp .ge 80, 3) := dk_162 0 80 (dk_at dksX0_isSearch_0 6 rfl rfl)
theorem dX0_isSearch_9 : decode cX0_isSearch 9 = .ok (.aload_n 0, 1) := dk_42 (dk_at dksX0_isSearch_0 9 rfl rfl)
theorem dX0_isSearch_10 : decode cX0_isSearch 10 = .ok (.getfield 43, 3) := dk_180 0 43 (dk_at dksX0_isSearch_0 10 rfl rfl)
theorem dX0_isSearch_13 : decode cX0_isSearch 13 = .ok (.iload_n 3, 1) := dk_29 (dk_at dksX0_isSearch_0 13 rfl rfl)
theorem dX0_isSearch_14 : decode cX0_isSearch 14 = .ok (.baload, 1) := dk_51 (dk_at dksX0_isSearch_0 14 rfl rfl)
theorem dX0_isSearch_15 : decode cX0_isSearch 15 = .ok (.iconst 0, 1) := dk_3 (dk_at dksX0_isSearch_0 15 rfl rfl)
theorem dX0_isSearch_16 : decode cX0_isSearch 16 = .ok (.bipush 99, 2) := dk_16 99 (dk_at dksX0_isSearch_0 16 rfl rfl)
theorem dX0_isSearch_18 : decode cX0_isSearch 18 = .ok (.invokestatic 128, 3) := dk_184 0 128 (dk_at dksX0_isSearch_0 18 rfl rfl)
theorem dX0_isSearch_21 : decode cX0_isSearch 21 = .ok (.ifCond .ne 5, 3) := dk_154 0 5 (dk_at dksX0_isSearch_0 21 rfl rfl)
theorem dX0_isSearch_24 : decode cX0_isSearch 24 = .ok (.iconst 0, 1) := dk_3 (dk_at dksX0_isSearch_1 0 rfl rfl)
theorem dX0_isSearch_25 : decode cX0_isSearch 25 = .ok (.ireturn, 1) := dk_172 (dk_at dksX0_isSearch_1 1 rfl rfl)
theorem dX0_isSearch_26 : decode cX0_isSearch 26 = .ok (.iload_n 2, 1) := dk_28 (dk_at dksX0_isSearch_1 2 rfl rfl)
theorem dX0_isSearch_27 : decode cX0_isSearch 27 = .ok (.aload_n 0, 1) := dk_42 (dk_at dksX0_isSearch_1 3 rfl rfl)
theorem dX0_isSearch_28 : decode cX0_isSearch 28 = .ok (.getfield 43, 3) := dk_180 0 43 (dk_at dksX0_isSearch_1 4 rfl rfl)
theorem dX0_isSearch_31 : decode cX0_isSearch 31 = .ok (.iload_n 3, 1) := dk_29 (dk_at dksX0_isSearch_1 7 rfl rfl)
theorem dX0_isSearch_32 : decode cX0_isSearch 32 = .ok (.baload, 1) := dk_51 (dk_at dksX0_isSearch_1 8 rfl rfl)
theorem dX0_isSearch_33 : decode cX0_isSearch 33 = .ok (.iadd, 1) := dk_96 (dk_at dksX0_isSearch_1 9 rfl rfl)
theorem dX0_isSearch_34 : decode cX0_isSearch 34 = .ok (.istore_n 2, 1) := dk_61 (dk_at dksX0_isSearch_1 10 rfl rfl)
theorem dX0_isSearch_35 : decode cX0_isSearch 35 = .ok (.iconst 0, 1) := dk_3 (dk_at dksX0_isSearch_1 11 rfl rfl)
theorem dX0_isSearch_36 : decode cX0_isSearch 36 = .ok (.istore 4, 2) := dk_54 4 (dk_at dksX0_isSearch_1 12 rfl rfl)
theorem dX0_isSearch_38 : decode cX0_isSearch 38 = .ok (.iload 4, 2) := dk_21 4 (dk_at dksX0_isSearch_1 14 rfl rfl)
theorem dX0_isSearch_40 : decode cX0_isSearch 40 = .ok (.iload_n 1, 1) := dk_27 (dk_at dksX0_isSearch_1 16 rfl rfl)
theorem dX0_isSearch_41 : decode cX0_isSearch 41 = .ok (.if_icmp .ge 39, 3) := dk_162 0 39 (dk_at dksX0_isSearch_1 17 rfl rfl)
theorem dX0_isSearch_44 : decode cX0_isSearch 44 = .ok (.iload 4, 2) := dk_21 4 (dk_at dksX0_isSearch_1 20 rfl rfl)
theorem dX0_isSearch_46 : decode cX0_isSearch 46 = .ok (.iload_n 3, 1) := dk_29 (dk_at dksX0_isSearch_1 22 rfl rfl)
theorem dX0_isSearch_47 : decode cX0_isSearch 47 = .ok (.if_icmp .eq 27, 3) := dk_159 0 27 (dk_at dksX0_isSearch_2 0 rfl rfl)
theorem dX0_isSearch_50 : decode cX0_isSearch 50 = .ok (.aload_n 0, 1) := dk_42 (dk_at dksX0_isSearch_2 3 rfl rfl)
theorem dX0_isSearch_51 : decode cX0_isSearch 51 = .ok (.getfield 43, 3) := dk_180 0 43 (dk_at dksX0_isSearch_2 4 rfl rfl)
theorem dX0_isSearch_54 : decode cX0_isSearch 54 = .ok (.iload_n 1, 1) := dk_27 (dk_at dksX0_isSearch_2 7 rfl rfl)
theorem dX0_isSearch_55 : decode cX0_isSearch 55 = .ok (.iload_n 1, 1) := dk_27 (dk_at dksX0_isSearch_2 8 rfl rfl)
theorem dX0_isSearch_56 : decode cX0_isSearch 56 = .ok (.iload_n 3, 1) := dk_29 (dk_at dksX0_isSearch_2 9 rfl rfl)
theorem dX0_isSearch_57 : decode cX0_isSearch 57 = .ok (.imul, 1) := dk_104 (dk_at dksX0_isSearch_2 10 rfl rfl)
theorem dX0_isSearch_58 : decode cX0_isSearch 58 = .ok (.iadd, 1) := dk_96 (dk_at dksX0_isSearch_2 11 rfl rfl)
theorem dX0_isSearch_59 : decode cX0_isSearch 59 = .ok (.iload 4, 2) := dk_21 4 (dk_at dksX0_isSearch_2 12 rfl rfl)
theorem dX0_isSearch_61 : decode cX0_isSearch 61 = .ok (.iadd, 1) := dk_96 (dk_at dksX0_isSearch_2 14 rfl rfl)
theorem dX0_isSearch_62 : decode cX0_isSearch 62 = .ok (.baload, 1) := dk_51 (dk_at dksX0_isSearch_2 15 rfl rfl)
theorem dX0_isSearch_63 : decode cX0_isSearch 63 = .ok (.iconst 1, 1) := dk_4 (dk_at dksX0_isSearch_2 16 rfl rfl)
theorem dX0_isSearch_64 : decode cX0_isSearch 64 = .ok (.bipush 20, 2) := dk_16 20 (dk_at dksX0_isSearch_2 17 rfl rfl)
theorem dX0_isSearch_66 : decode cX0_isSearch 66 = .ok (.invokestatic 128, 3) := dk_184 0 128 (dk_at dksX0_isSearch_2 19 rfl rfl)
theorem dX0_isSearch_69 : decode cX0_isSearch 69 = .ok (.ifCond .ne 5, 3) := dk_154 0 5 (dk_at dksX0_isSearch_3 0 rfl rfl)
theorem dX0_isSearch_72 : decode cX0_isSearch 72 = .ok (.iconst 0, 1) := dk_3 (dk_at dksX0_isSearch_3 3 rfl rfl)
theorem dX0_isSearch_73 : decode cX0_isSearch 73 = .ok (.ireturn, 1) := dk_172 (dk_at dksX0_isSearch_3 4 rfl rfl)
theorem dX0_isSearch_74 : decode cX0_isSearch 74 = .ok (.iinc 4 1, 3) := dk_132 4 1 (dk_at dksX0_isSearch_3 5 rfl rfl)
theorem dX0_isSearch_77 : decode cX0_isSearch 77 = .ok (.goto (-39), 3) := dk_167 255 217 (dk_at dksX0_isSearch_3 8 rfl rfl)
theorem dX0_isSearch_80 : decode cX0_isSearch 80 = .ok (.iinc 3 1, 3) := dk_132 3 1 (dk_at dksX0_isSearch_3 11 rfl rfl)
theorem dX0_isSearch_83 : decode cX0_isSearch 83 = .ok (.goto (-79), 3) := dk_167 255 177 (dk_at dksX0_isSearch_3 14 rfl rfl)
theorem dX0_isSearch_86 : decode cX0_isSearch 86 = .ok (.iload_n 2, 1) := dk_28 (dk_at dksX0_isSearch_3 17 rfl rfl)
theorem dX0_isSearch_87 : decode cX0_isSearch 87 = .ok (.ifCond .le 7, 3) := dk_158 0 7 (dk_at dksX0_isSearch_3 18 rfl rfl)
theorem dX0_isSearch_90 : decode cX0_isSearch 90 = .ok (.iconst 1, 1) := dk_4 (dk_at dksX0_isSearch_3 21 rfl rfl)
theorem dX0_isSearch_91 : decode cX0_isSearch 91 = .ok (.goto 4, 3) := dk_167 0 4 (dk_at dksX0_isSearch_4 0 rfl rfl)
theorem dX0_isSearch_94 : decode cX0_isSearch 94 = .ok (.iconst 0, 1) := dk_3 (dk_at dksX0_isSearch_4 3 rfl rfl)
theorem dX0_isSearch_95 : decode cX0_isSearch 95 = .ok (.ireturn, 1) := dk_172 (dk_at dksX0_isSearch_4 4 rfl rfl)
abbrev cX0_searches : ByteArray := prog_1_method_37_code
def yX0_searches : MethodName := ⟨RX0, "searches", "(IIIII)V"⟩
def dkwX0_searches_6 : List UInt8 := [177]
abbrev dktX0_searches_6 : List UInt8 := dkwX0_searches_6 ++ []
def dkwX0_searches_5 : List UInt8 := [21, 7, 21, 5, 21, 7, 42, 180, 0, 43, 21, 6, 51, 104, 96, 182, 1, 15, 132, 6, 1, 167, 255, 173]
abbrev dktX0_searches_5 : List UInt8 := dkwX0_searches_5 ++ dktX0_searches_6
def dkwX0_searches_4 : List UInt8 := [4, 100, 46, 104, 96, 21, 6, 96, 51, 96, 54, 7, 42, 27, 28, 4, 96, 29, 4, 21, 6, 120, 128]
abbrev dktX0_searches_4 : List UInt8 := dkwX0_searches_4 ++ dktX0_searches_5
def dkwX0_searches_3 : List UInt8 := [167, 0, 65, 42, 180, 0, 72, 28, 21, 6, 79, 21, 4, 42, 180, 0, 43, 27, 27, 42, 180, 0, 72, 28]
abbrev dktX0_searches_3 : List UInt8 := dkwX0_searches_3 ++ dktX0_searches_4
def dkwX0_searches_2 : List UInt8 := [167, 255, 233, 177, 3, 54, 6, 21, 6, 27, 162, 0, 83, 29, 21, 6, 184, 0, 246, 153, 0, 6]
abbrev dktX0_searches_2 : List UInt8 := dkwX0_searches_2 ++ dktX0_searches_3
def dkwX0_searches_1 : List UInt8 := [21, 6, 27, 162, 0, 23, 42, 180, 0, 75, 21, 6, 42, 180, 0, 72, 21, 6, 46, 79, 132, 6, 1]
abbrev dktX0_searches_1 : List UInt8 := dkwX0_searches_1 ++ dktX0_searches_2
def dkwX0_searches_0 : List UInt8 := [28, 27, 160, 0, 49, 21, 5, 42, 180, 1, 12, 161, 0, 4, 177, 42, 21, 5, 181, 1, 12, 3, 54, 6]
abbrev dktX0_searches_0 : List UInt8 := dkwX0_searches_0 ++ dktX0_searches_1
theorem dksX0_searches_0 : cX0_searches.data.toList.drop 0 = dktX0_searches_0 := by decide +kernel
theorem dksX0_searches_1 : cX0_searches.data.toList.drop 24 = dktX0_searches_1 := dk_seg dksX0_searches_0 24 rfl rfl
theorem dksX0_searches_2 : cX0_searches.data.toList.drop 47 = dktX0_searches_2 := dk_seg dksX0_searches_1 23 rfl rfl
theorem dksX0_searches_3 : cX0_searches.data.toList.drop 69 = dktX0_searches_3 := dk_seg dksX0_searches_2 22 rfl rfl
theorem dksX0_searches_4 : cX0_searches.data.toList.drop 93 = dktX0_searches_4 := dk_seg dksX0_searches_3 24 rfl rfl
theorem dksX0_searches_5 : cX0_searches.data.toList.drop 116 = dktX0_searches_5 := dk_seg dksX0_searches_4 23 rfl rfl
theorem dksX0_searches_6 : cX0_searches.data.toList.drop 140 = dktX0_searches_6 := dk_seg dksX0_searches_5 24 rfl rfl
theorem dX0_searches_0 : decode cX0_searches 0 = .ok (.iload_n 2, 1) := dk_28 (dk_at dksX0_searches_0 0 rfl rfl)
theorem dX0_searches_1 : decode cX0_searches 1 = .ok (.iload_n 1, 1) := dk_27 (dk_at dksX0_searches_0 1 rfl rfl)
theorem dX0_searches_2 : decode cX0_searches 2 = .ok (.if_icmp .ne 49, 3) := dk_160 0 49 (dk_at dksX0_searches_0 2 rfl rfl)
theorem dX0_searches_5 : decode cX0_searches 5 = .ok (.iload 5, 2) := dk_21 5 (dk_at dksX0_searches_0 5 rfl rfl)
theorem dX0_searches_7 : decode cX0_searches 7 = .ok (.aload_n 0, 1) := dk_42 (dk_at dksX0_searches_0 7 rfl rfl)
theorem dX0_searches_8 : decode cX0_searches 8 = .ok (.getfield 268, 3) := dk_180 1 12 (dk_at dksX0_searches_0 8 rfl rfl)
theorem dX0_searches_11 : decode cX0_searches 11 = .ok (.if_icmp .lt 4, 3) := dk_161 0 4 (dk_at dksX0_searches_0 11 rfl rfl)
theorem dX0_searches_14 : decode cX0_searches 14 = .ok (.return_, 1) := dk_177 (dk_at dksX0_searches_0 14 rfl rfl)
theorem dX0_searches_15 : decode cX0_searches 15 = .ok (.aload_n 0, 1) := dk_42 (dk_at dksX0_searches_0 15 rfl rfl)
theorem dX0_searches_16 : decode cX0_searches 16 = .ok (.iload 5, 2) := dk_21 5 (dk_at dksX0_searches_0 16 rfl rfl)
theorem dX0_searches_18 : decode cX0_searches 18 = .ok (.putfield 268, 3) := dk_181 1 12 (dk_at dksX0_searches_0 18 rfl rfl)
theorem dX0_searches_21 : decode cX0_searches 21 = .ok (.iconst 0, 1) := dk_3 (dk_at dksX0_searches_0 21 rfl rfl)
theorem dX0_searches_22 : decode cX0_searches 22 = .ok (.istore 6, 2) := dk_54 6 (dk_at dksX0_searches_0 22 rfl rfl)
theorem dX0_searches_24 : decode cX0_searches 24 = .ok (.iload 6, 2) := dk_21 6 (dk_at dksX0_searches_1 0 rfl rfl)
theorem dX0_searches_26 : decode cX0_searches 26 = .ok (.iload_n 1, 1) := dk_27 (dk_at dksX0_searches_1 2 rfl rfl)
theorem dX0_searches_27 : decode cX0_searches 27 = .ok (.if_icmp .ge 23, 3) := dk_162 0 23 (dk_at dksX0_searches_1 3 rfl rfl)
theorem dX0_searches_30 : decode cX0_searches 30 = .ok (.aload_n 0, 1) := dk_42 (dk_at dksX0_searches_1 6 rfl rfl)
theorem dX0_searches_31 : decode cX0_searches 31 = .ok (.getfield 75, 3) := dk_180 0 75 (dk_at dksX0_searches_1 7 rfl rfl)
theorem dX0_searches_34 : decode cX0_searches 34 = .ok (.iload 6, 2) := dk_21 6 (dk_at dksX0_searches_1 10 rfl rfl)
theorem dX0_searches_36 : decode cX0_searches 36 = .ok (.aload_n 0, 1) := dk_42 (dk_at dksX0_searches_1 12 rfl rfl)
theorem dX0_searches_37 : decode cX0_searches 37 = .ok (.getfield 72, 3) := dk_180 0 72 (dk_at dksX0_searches_1 13 rfl rfl)
theorem dX0_searches_40 : decode cX0_searches 40 = .ok (.iload 6, 2) := dk_21 6 (dk_at dksX0_searches_1 16 rfl rfl)
theorem dX0_searches_42 : decode cX0_searches 42 = .ok (.iaload, 1) := dk_46 (dk_at dksX0_searches_1 18 rfl rfl)
theorem dX0_searches_43 : decode cX0_searches 43 = .ok (.iastore, 1) := dk_79 (dk_at dksX0_searches_1 19 rfl rfl)
theorem dX0_searches_44 : decode cX0_searches 44 = .ok (.iinc 6 1, 3) := dk_132 6 1 (dk_at dksX0_searches_1 20 rfl rfl)
theorem dX0_searches_47 : decode cX0_searches 47 = .ok (.goto (-23), 3) := dk_167 255 233 (dk_at dksX0_searches_2 0 rfl rfl)
theorem dX0_searches_50 : decode cX0_searches 50 = .ok (.return_, 1) := dk_177 (dk_at dksX0_searches_2 3 rfl rfl)
theorem dX0_searches_51 : decode cX0_searches 51 = .ok (.iconst 0, 1) := dk_3 (dk_at dksX0_searches_2 4 rfl rfl)
theorem dX0_searches_52 : decode cX0_searches 52 = .ok (.istore 6, 2) := dk_54 6 (dk_at dksX0_searches_2 5 rfl rfl)
theorem dX0_searches_54 : decode cX0_searches 54 = .ok (.iload 6, 2) := dk_21 6 (dk_at dksX0_searches_2 7 rfl rfl)
theorem dX0_searches_56 : decode cX0_searches 56 = .ok (.iload_n 1, 1) := dk_27 (dk_at dksX0_searches_2 9 rfl rfl)
theorem dX0_searches_57 : decode cX0_searches 57 = .ok (.if_icmp .ge 83, 3) := dk_162 0 83 (dk_at dksX0_searches_2 10 rfl rfl)
theorem dX0_searches_60 : decode cX0_searches 60 = .ok (.iload_n 3, 1) := dk_29 (dk_at dksX0_searches_2 13 rfl rfl)
theorem dX0_searches_61 : decode cX0_searches 61 = .ok (.iload 6, 2) := dk_21 6 (dk_at dksX0_searches_2 14 rfl rfl)
theorem dX0_searches_63 : decode cX0_searches 63 = .ok (.invokestatic 246, 3) := dk_184 0 246 (dk_at dksX0_searches_2 16 rfl rfl)
theorem dX0_searches_66 : decode cX0_searches 66 = .ok (.ifCond .eq 6, 3) := dk_153 0 6 (dk_at dksX0_searches_2 19 rfl rfl)
theorem dX0_searches_69 : decode cX0_searches 69 = .ok (.goto 65, 3) := dk_167 0 65 (dk_at dksX0_searches_3 0 rfl rfl)
theorem dX0_searches_72 : decode cX0_searches 72 = .ok (.aload_n 0, 1) := dk_42 (dk_at dksX0_searches_3 3 rfl rfl)
theorem dX0_searches_73 : decode cX0_searches 73 = .ok (.getfield 72, 3) := dk_180 0 72 (dk_at dksX0_searches_3 4 rfl rfl)
theorem dX0_searches_76 : decode cX0_searches 76 = .ok (.iload_n 2, 1) := dk_28 (dk_at dksX0_searches_3 7 rfl rfl)
theorem dX0_searches_77 : decode cX0_searches 77 = .ok (.iload 6, 2) := dk_21 6 (dk_at dksX0_searches_3 8 rfl rfl)
theorem dX0_searches_79 : decode cX0_searches 79 = .ok (.iastore, 1) := dk_79 (dk_at dksX0_searches_3 10 rfl rfl)
theorem dX0_searches_80 : decode cX0_searches 80 = .ok (.iload 4, 2) := dk_21 4 (dk_at dksX0_searches_3 11 rfl rfl)
theorem dX0_searches_82 : decode cX0_searches 82 = .ok (.aload_n 0, 1) := dk_42 (dk_at dksX0_searches_3 13 rfl rfl)
theorem dX0_searches_83 : decode cX0_searches 83 = .ok (.getfield 43, 3) := dk_180 0 43 (dk_at dksX0_searches_3 14 rfl rfl)
theorem dX0_searches_86 : decode cX0_searches 86 = .ok (.iload_n 1, 1) := dk_27 (dk_at dksX0_searches_3 17 rfl rfl)
theorem dX0_searches_87 : decode cX0_searches 87 = .ok (.iload_n 1, 1) := dk_27 (dk_at dksX0_searches_3 18 rfl rfl)
theorem dX0_searches_88 : decode cX0_searches 88 = .ok (.aload_n 0, 1) := dk_42 (dk_at dksX0_searches_3 19 rfl rfl)
theorem dX0_searches_89 : decode cX0_searches 89 = .ok (.getfield 72, 3) := dk_180 0 72 (dk_at dksX0_searches_3 20 rfl rfl)
theorem dX0_searches_92 : decode cX0_searches 92 = .ok (.iload_n 2, 1) := dk_28 (dk_at dksX0_searches_3 23 rfl rfl)
theorem dX0_searches_93 : decode cX0_searches 93 = .ok (.iconst 1, 1) := dk_4 (dk_at dksX0_searches_4 0 rfl rfl)
theorem dX0_searches_94 : decode cX0_searches 94 = .ok (.isub, 1) := dk_100 (dk_at dksX0_searches_4 1 rfl rfl)
theorem dX0_searches_95 : decode cX0_searches 95 = .ok (.iaload, 1) := dk_46 (dk_at dksX0_searches_4 2 rfl rfl)
theorem dX0_searches_96 : decode cX0_searches 96 = .ok (.imul, 1) := dk_104 (dk_at dksX0_searches_4 3 rfl rfl)
theorem dX0_searches_97 : decode cX0_searches 97 = .ok (.iadd, 1) := dk_96 (dk_at dksX0_searches_4 4 rfl rfl)
theorem dX0_searches_98 : decode cX0_searches 98 = .ok (.iload 6, 2) := dk_21 6 (dk_at dksX0_searches_4 5 rfl rfl)
theorem dX0_searches_100 : decode cX0_searches 100 = .ok (.iadd, 1) := dk_96 (dk_at dksX0_searches_4 7 rfl rfl)
theorem dX0_searches_101 : decode cX0_searches 101 = .ok (.baload, 1) := dk_51 (dk_at dksX0_searches_4 8 rfl rfl)
theorem dX0_searches_102 : decode cX0_searches 102 = .ok (.iadd, 1) := dk_96 (dk_at dksX0_searches_4 9 rfl rfl)
theorem dX0_searches_103 : decode cX0_searches 103 = .ok (.istore 7, 2) := dk_54 7 (dk_at dksX0_searches_4 10 rfl rfl)
theorem dX0_searches_105 : decode cX0_searches 105 = .ok (.aload_n 0, 1) := dk_42 (dk_at dksX0_searches_4 12 rfl rfl)
theorem dX0_searches_106 : decode cX0_searches 106 = .ok (.iload_n 1, 1) := dk_27 (dk_at dksX0_searches_4 13 rfl rfl)
theorem dX0_searches_107 : decode cX0_searches 107 = .ok (.iload_n 2, 1) := dk_28 (dk_at dksX0_searches_4 14 rfl rfl)
theorem dX0_searches_108 : decode cX0_searches 108 = .ok (.iconst 1, 1) := dk_4 (dk_at dksX0_searches_4 15 rfl rfl)
theorem dX0_searches_109 : decode cX0_searches 109 = .ok (.iadd, 1) := dk_96 (dk_at dksX0_searches_4 16 rfl rfl)
theorem dX0_searches_110 : decode cX0_searches 110 = .ok (.iload_n 3, 1) := dk_29 (dk_at dksX0_searches_4 17 rfl rfl)
theorem dX0_searches_111 : decode cX0_searches 111 = .ok (.iconst 1, 1) := dk_4 (dk_at dksX0_searches_4 18 rfl rfl)
theorem dX0_searches_112 : decode cX0_searches 112 = .ok (.iload 6, 2) := dk_21 6 (dk_at dksX0_searches_4 19 rfl rfl)
theorem dX0_searches_114 : decode cX0_searches 114 = .ok (.ishl, 1) := dk_120 (dk_at dksX0_searches_4 21 rfl rfl)
theorem dX0_searches_115 : decode cX0_searches 115 = .ok (.ior, 1) := dk_128 (dk_at dksX0_searches_4 22 rfl rfl)
theorem dX0_searches_116 : decode cX0_searches 116 = .ok (.iload 7, 2) := dk_21 7 (dk_at dksX0_searches_5 0 rfl rfl)
theorem dX0_searches_118 : decode cX0_searches 118 = .ok (.iload 5, 2) := dk_21 5 (dk_at dksX0_searches_5 2 rfl rfl)
theorem dX0_searches_120 : decode cX0_searches 120 = .ok (.iload 7, 2) := dk_21 7 (dk_at dksX0_searches_5 4 rfl rfl)
theorem dX0_searches_122 : decode cX0_searches 122 = .ok (.aload_n 0, 1) := dk_42 (dk_at dksX0_searches_5 6 rfl rfl)
theorem dX0_searches_123 : decode cX0_searches 123 = .ok (.getfield 43, 3) := dk_180 0 43 (dk_at dksX0_searches_5 7 rfl rfl)
theorem dX0_searches_126 : decode cX0_searches 126 = .ok (.iload 6, 2) := dk_21 6 (dk_at dksX0_searches_5 10 rfl rfl)
theorem dX0_searches_128 : decode cX0_searches 128 = .ok (.baload, 1) := dk_51 (dk_at dksX0_searches_5 12 rfl rfl)
theorem dX0_searches_129 : decode cX0_searches 129 = .ok (.imul, 1) := dk_104 (dk_at dksX0_searches_5 13 rfl rfl)
theorem dX0_searches_130 : decode cX0_searches 130 = .ok (.iadd, 1) := dk_96 (dk_at dksX0_searches_5 14 rfl rfl)
theorem dX0_searches_131 : decode cX0_searches 131 = .ok (.invokevirtual 271, 3) := dk_182 1 15 (dk_at dksX0_searches_5 15 rfl rfl)
theorem dX0_searches_134 : decode cX0_searches 134 = .ok (.iinc 6 1, 3) := dk_132 6 1 (dk_at dksX0_searches_5 18 rfl rfl)
theorem dX0_searches_137 : decode cX0_searches 137 = .ok (.goto (-83), 3) := dk_167 255 173 (dk_at dksX0_searches_5 21 rfl rfl)
theorem dX0_searches_140 : decode cX0_searches 140 = .ok (.return_, 1) := dk_177 (dk_at dksX0_searches_6 0 rfl rfl)
abbrev cX0_divisor : ByteArray := prog_1_method_5_code
def yX0_divisor : MethodName := ⟨RX0, "divisor", "(II)I"⟩
def dkwX0_divisor_0 : List UInt8 := [27, 154, 0, 7, 26, 167, 0, 10, 27, 26, 27, 112, 184, 0, 10, 172]
abbrev dktX0_divisor_0 : List UInt8 := dkwX0_divisor_0 ++ []
theorem dksX0_divisor_0 : cX0_divisor.data.toList.drop 0 = dktX0_divisor_0 := by decide +kernel
theorem dX0_divisor_0 : decode cX0_divisor 0 = .ok (.iload_n 1, 1) := dk_27 (dk_at dksX0_divisor_0 0 rfl rfl)
theorem dX0_divisor_1 : decode cX0_divisor 1 = .ok (.ifCond .ne 7, 3) := dk_154 0 7 (dk_at dksX0_divisor_0 1 rfl rfl)
theorem dX0_divisor_4 : decode cX0_divisor 4 = .ok (.iload_n 0, 1) := dk_26 (dk_at dksX0_divisor_0 4 rfl rfl)
theorem dX0_divisor_5 : decode cX0_divisor 5 = .ok (.goto 10, 3) := dk_167 0 10 (dk_at dksX0_divisor_0 5 rfl rfl)
theorem dX0_divisor_8 : decode cX0_divisor 8 = .ok (.iload_n 1, 1) := dk_27 (dk_at dksX0_divisor_0 8 rfl rfl)
theorem dX0_divisor_9 : decode cX0_divisor 9 = .ok (.iload_n 0, 1) := dk_26 (dk_at dksX0_divisor_0 9 rfl rfl)
theorem dX0_divisor_10 : decode cX0_divisor 10 = .ok (.iload_n 1, 1) := dk_27 (dk_at dksX0_divisor_0 10 rfl rfl)
theorem dX0_divisor_11 : decode cX0_divisor 11 = .ok (.irem, 1) := dk_112 (dk_at dksX0_divisor_0 11 rfl rfl)
theorem dX0_divisor_12 : decode cX0_divisor 12 = .ok (.invokestatic 10, 3) := dk_184 0 10 (dk_at dksX0_divisor_0 12 rfl rfl)
theorem dX0_divisor_15 : decode cX0_divisor 15 = .ok (.ireturn, 1) := dk_172 (dk_at dksX0_divisor_0 15 rfl rfl)
abbrev cX0_sanding : ByteArray := prog_1_method_43_code
def yX0_sanding : MethodName := ⟨RX0, "sanding", "(IIIIIII)I"⟩
def dkwX0_sanding_20 : List UInt8 := [167, 255, 199, 21, 15, 172]
abbrev dktX0_sanding_20 : List UInt8 := dkwX0_sanding_20 ++ []
def dkwX0_sanding_19 : List UInt8 := [21, 16, 50, 182, 1, 41, 21, 7, 163, 0, 7, 4, 167, 0, 4, 3, 96, 54, 15, 132, 16, 1]
abbrev dktX0_sanding_19 : List UInt8 := dkwX0_sanding_19 ++ dktX0_sanding_20
def dkwX0_sanding_18 : List UInt8 := [159, 0, 38, 42, 21, 16, 182, 0, 175, 153, 0, 29, 42, 180, 0, 86, 42, 180, 0, 33, 180, 0, 117]
abbrev dktX0_sanding_18 : List UInt8 := dkwX0_sanding_18 ++ dktX0_sanding_19
def dkwX0_sanding_17 : List UInt8 := [46, 16, 10, 96, 172, 3, 54, 15, 3, 54, 16, 21, 16, 16, 12, 162, 0, 56, 21, 15, 21, 16, 27]
abbrev dktX0_sanding_17 : List UInt8 := dkwX0_sanding_17 ++ dktX0_sanding_18
def dkwX0_sanding_16 : List UInt8 := [54, 14, 132, 15, 1, 167, 255, 162, 21, 6, 16, 8, 162, 0, 17, 42, 180, 0, 86, 180, 0, 171, 21, 6]
abbrev dktX0_sanding_16 : List UInt8 := dkwX0_sanding_16 ++ dktX0_sanding_17
def dkwX0_sanding_15 : List UInt8 := [21, 16, 25, 9, 21, 15, 184, 1, 26, 100, 54, 13, 21, 14, 21, 16, 25, 10, 21, 15, 184, 1, 26, 100]
abbrev dktX0_sanding_15 : List UInt8 := dkwX0_sanding_15 ++ dktX0_sanding_16
def dkwX0_sanding_14 : List UInt8 := [159, 0, 9, 132, 16, 1, 167, 255, 219, 42, 180, 0, 86, 180, 0, 171, 21, 15, 21, 16, 79, 21, 13]
abbrev dktX0_sanding_14 : List UInt8 := dkwX0_sanding_14 ++ dktX0_sanding_15
def dkwX0_sanding_13 : List UInt8 := [21, 13, 21, 14, 21, 16, 182, 1, 30, 42, 180, 0, 80, 21, 15, 50, 21, 13, 50, 21, 14, 46]
abbrev dktX0_sanding_13 : List UInt8 := dkwX0_sanding_13 ++ dktX0_sanding_14
def dkwX0_sanding_12 : List UInt8 := [3, 54, 15, 21, 15, 16, 8, 162, 0, 93, 16, 247, 54, 16, 42, 25, 8, 25, 9, 25, 10, 21, 15]
abbrev dktX0_sanding_12 : List UInt8 := dkwX0_sanding_12 ++ dktX0_sanding_13
def dkwX0_sanding_11 : List UInt8 := [21, 11, 50, 21, 12, 46, 172, 42, 180, 0, 86, 25, 8, 182, 1, 38, 21, 11, 54, 13, 21, 12, 54, 14]
abbrev dktX0_sanding_11 : List UInt8 := dkwX0_sanding_11 ++ dktX0_sanding_12
def dkwX0_sanding_10 : List UInt8 := [46, 19, 1, 22, 161, 0, 6, 16, 254, 172, 21, 6, 16, 10, 160, 0, 16, 42, 180, 0, 80, 3, 50]
abbrev dktX0_sanding_10 : List UInt8 := dkwX0_sanding_10 ++ dktX0_sanding_11
def dkwX0_sanding_9 : List UInt8 := [25, 8, 25, 9, 25, 10, 21, 11, 21, 12, 182, 1, 34, 42, 180, 0, 80, 3, 50, 21, 11, 50, 21, 12]
abbrev dktX0_sanding_9 : List UInt8 := dkwX0_sanding_9 ++ dktX0_sanding_10
def dkwX0_sanding_8 : List UInt8 := [180, 0, 132, 96, 54, 12, 21, 11, 16, 60, 163, 0, 10, 21, 12, 16, 60, 164, 0, 5, 2, 172, 42]
abbrev dktX0_sanding_8 : List UInt8 := dkwX0_sanding_8 ++ dktX0_sanding_9
def dkwX0_sanding_7 : List UInt8 := [96, 54, 11, 25, 10, 199, 0, 7, 3, 167, 0, 17, 21, 5, 25, 8, 180, 0, 132, 96, 25, 10]
abbrev dktX0_sanding_7 : List UInt8 := dkwX0_sanding_7 ++ dktX0_sanding_8
def dkwX0_sanding_6 : List UInt8 := [42, 180, 0, 33, 180, 0, 117, 21, 4, 50, 58, 10, 29, 25, 8, 180, 0, 132, 96, 25, 9, 180, 0, 132]
abbrev dktX0_sanding_6 : List UInt8 := dkwX0_sanding_6 ++ dktX0_sanding_7
def dkwX0_sanding_5 : List UInt8 := [50, 58, 8, 42, 180, 0, 33, 180, 0, 117, 28, 50, 58, 9, 21, 4, 2, 160, 0, 7, 1, 167, 0, 13]
abbrev dktX0_sanding_5 : List UInt8 := dkwX0_sanding_5 ++ dktX0_sanding_6
def dkwX0_sanding_4 : List UInt8 := [160, 0, 14, 21, 7, 3, 16, 99, 184, 0, 128, 154, 0, 5, 2, 172, 42, 180, 0, 33, 180, 0, 117, 27]
abbrev dktX0_sanding_4 : List UInt8 := dkwX0_sanding_4 ++ dktX0_sanding_5
def dkwX0_sanding_3 : List UInt8 := [153, 0, 38, 21, 6, 16, 8, 184, 0, 103, 154, 0, 17, 21, 6, 16, 10, 159, 0, 10, 21, 6, 16, 11]
abbrev dktX0_sanding_3 : List UInt8 := dkwX0_sanding_3 ++ dktX0_sanding_4
def dkwX0_sanding_2 : List UInt8 := [3, 16, 60, 184, 0, 128, 153, 0, 55, 21, 4, 2, 159, 0, 14, 21, 5, 3, 16, 60, 184, 0, 128]
abbrev dktX0_sanding_2 : List UInt8 := dkwX0_sanding_2 ++ dktX0_sanding_3
def dkwX0_sanding_1 : List UInt8 := [159, 0, 23, 21, 4, 184, 0, 124, 153, 0, 77, 21, 4, 27, 159, 0, 71, 21, 4, 28, 159, 0, 65, 29]
abbrev dktX0_sanding_1 : List UInt8 := dkwX0_sanding_1 ++ dktX0_sanding_2
def dkwX0_sanding_0 : List UInt8 := [27, 184, 0, 124, 153, 0, 103, 28, 184, 0, 124, 153, 0, 96, 27, 28, 159, 0, 91, 21, 4, 2]
abbrev dktX0_sanding_0 : List UInt8 := dkwX0_sanding_0 ++ dktX0_sanding_1
theorem dksX0_sanding_0 : cX0_sanding.data.toList.drop 0 = dktX0_sanding_0 := by decide +kernel
theorem dksX0_sanding_1 : cX0_sanding.data.toList.drop 22 = dktX0_sanding_1 := dk_seg dksX0_sanding_0 22 rfl rfl
theorem dksX0_sanding_2 : cX0_sanding.data.toList.drop 46 = dktX0_sanding_2 := dk_seg dksX0_sanding_1 24 rfl rfl
theorem dksX0_sanding_3 : cX0_sanding.data.toList.drop 69 = dktX0_sanding_3 := dk_seg dksX0_sanding_2 23 rfl rfl
theorem dksX0_sanding_4 : cX0_sanding.data.toList.drop 93 = dktX0_sanding_4 := dk_seg dksX0_sanding_3 24 rfl rfl
theorem dksX0_sanding_5 : cX0_sanding.data.toList.drop 117 = dktX0_sanding_5 := dk_seg dksX0_sanding_4 24 rfl rfl
theorem dksX0_sanding_6 : cX0_sanding.data.toList.drop 141 = dktX0_sanding_6 := dk_seg dksX0_sanding_5 24 rfl rfl
theorem dksX0_sanding_7 : cX0_sanding.data.toList.drop 165 = dktX0_sanding_7 := dk_seg dksX0_sanding_6 24 rfl rfl
theorem dksX0_sanding_8 : cX0_sanding.data.toList.drop 187 = dktX0_sanding_8 := dk_seg dksX0_sanding_7 22 rfl rfl
theorem dksX0_sanding_9 : cX0_sanding.data.toList.drop 210 = dktX0_sanding_9 := dk_seg dksX0_sanding_8 23 rfl rfl
theorem dksX0_sanding_10 : cX0_sanding.data.toList.drop 234 = dktX0_sanding_10 := dk_seg dksX0_sanding_9 24 rfl rfl
theorem dksX0_sanding_11 : cX0_sanding.data.toList.drop 257 = dktX0_sanding_11 := dk_seg dksX0_sanding_10 23 rfl rfl
theorem dksX0_sanding_12 : cX0_sanding.data.toList.drop 281 = dktX0_sanding_12 := dk_seg dksX0_sanding_11 24 rfl rfl
theorem dksX0_sanding_13 : cX0_sanding.data.toList.drop 304 = dktX0_sanding_13 := dk_seg dksX0_sanding_12 23 rfl rfl
theorem dksX0_sanding_14 : cX0_sanding.data.toList.drop 326 = dktX0_sanding_14 := dk_seg dksX0_sanding_13 22 rfl rfl
theorem dksX0_sanding_15 : cX0_sanding.data.toList.drop 349 = dktX0_sanding_15 := dk_seg dksX0_sanding_14 23 rfl rfl
theorem dksX0_sanding_16 : cX0_sanding.data.toList.drop 373 = dktX0_sanding_16 := dk_seg dksX0_sanding_15 24 rfl rfl
theorem dksX0_sanding_17 : cX0_sanding.data.toList.drop 397 = dktX0_sanding_17 := dk_seg dksX0_sanding_16 24 rfl rfl
theorem dksX0_sanding_18 : cX0_sanding.data.toList.drop 420 = dktX0_sanding_18 := dk_seg dksX0_sanding_17 23 rfl rfl
theorem dksX0_sanding_19 : cX0_sanding.data.toList.drop 443 = dktX0_sanding_19 := dk_seg dksX0_sanding_18 23 rfl rfl
theorem dksX0_sanding_20 : cX0_sanding.data.toList.drop 465 = dktX0_sanding_20 := dk_seg dksX0_sanding_19 22 rfl rfl
theorem dX0_sanding_0 : decode cX0_sanding 0 = .ok (.iload_n 1, 1) := dk_27 (dk_at dksX0_sanding_0 0 rfl rfl)
theorem dX0_sanding_1 : decode cX0_sanding 1 = .ok (.invokestatic 124, 3) := dk_184 0 124 (dk_at dksX0_sanding_0 1 rfl rfl)
theorem dX0_sanding_4 : decode cX0_sanding 4 = .ok (.ifCond .eq 103, 3) := dk_153 0 103 (dk_at dksX0_sanding_0 4 rfl rfl)
theorem dX0_sanding_7 : decode cX0_sanding 7 = .ok (.iload_n 2, 1) := dk_28 (dk_at dksX0_sanding_0 7 rfl rfl)
theorem dX0_sanding_8 : decode cX0_sanding 8 = .ok (.invokestatic 124, 3) := dk_184 0 124 (dk_at dksX0_sanding_0 8 rfl rfl)
theorem dX0_sanding_11 : decode cX0_sanding 11 = .ok (.ifCond .eq 96, 3) := dk_153 0 96 (dk_at dksX0_sanding_0 11 rfl rfl)
theorem dX0_sanding_14 : decode cX0_sanding 14 = .ok (.iload_n 1, 1) := dk_27 (dk_at dksX0_sanding_0 14 rfl rfl)
theorem dX0_sanding_15 : decode cX0_sanding 15 = .ok (.iload_n 2, 1) := dk_28 (dk_at dksX0_sanding_0 15 rfl rfl)
theorem dX0_sanding_16 : decode cX0_sanding 16 = .ok (.if_icmp .eq 91, 3) := dk_159 0 91 (dk_at dksX0_sanding_0 16 rfl rfl)
theorem dX0_sanding_19 : decode cX0_sanding 19 = .ok (.iload 4, 2) := dk_21 4 (dk_at dksX0_sanding_0 19 rfl rfl)
theorem dX0_sanding_21 : decode cX0_sanding 21 = .ok (.iconst (-1), 1) := dk_2 (dk_at dksX0_sanding_0 21 rfl rfl)
theorem dX0_sanding_22 : decode cX0_sanding 22 = .ok (.if_icmp .eq 23, 3) := dk_159 0 23 (dk_at dksX0_sanding_1 0 rfl rfl)
theorem dX0_sanding_25 : decode cX0_sanding 25 = .ok (.iload 4, 2) := dk_21 4 (dk_at dksX0_sanding_1 3 rfl rfl)
theorem dX0_sanding_27 : decode cX0_sanding 27 = .ok (.invokestatic 124, 3) := dk_184 0 124 (dk_at dksX0_sanding_1 5 rfl rfl)
theorem dX0_sanding_30 : decode cX0_sanding 30 = .ok (.ifCond .eq 77, 3) := dk_153 0 77 (dk_at dksX0_sanding_1 8 rfl rfl)
theorem dX0_sanding_33 : decode cX0_sanding 33 = .ok (.iload 4, 2) := dk_21 4 (dk_at dksX0_sanding_1 11 rfl rfl)
theorem dX0_sanding_35 : decode cX0_sanding 35 = .ok (.iload_n 1, 1) := dk_27 (dk_at dksX0_sanding_1 13 rfl rfl)
theorem dX0_sanding_36 : decode cX0_sanding 36 = .ok (.if_icmp .eq 71, 3) := dk_159 0 71 (dk_at dksX0_sanding_1 14 rfl rfl)
theorem dX0_sanding_39 : decode cX0_sanding 39 = .ok (.iload 4, 2) := dk_21 4 (dk_at dksX0_sanding_1 17 rfl rfl)
theorem dX0_sanding_41 : decode cX0_sanding 41 = .ok (.iload_n 2, 1) := dk_28 (dk_at dksX0_sanding_1 19 rfl rfl)
theorem dX0_sanding_42 : decode cX0_sanding 42 = .ok (.if_icmp .eq 65, 3) := dk_159 0 65 (dk_at dksX0_sanding_1 20 rfl rfl)
theorem dX0_sanding_45 : decode cX0_sanding 45 = .ok (.iload_n 3, 1) := dk_29 (dk_at dksX0_sanding_1 23 rfl rfl)
theorem dX0_sanding_46 : decode cX0_sanding 46 = .ok (.iconst 0, 1) := dk_3 (dk_at dksX0_sanding_2 0 rfl rfl)
theorem dX0_sanding_47 : decode cX0_sanding 47 = .ok (.bipush 60, 2) := dk_16 60 (dk_at dksX0_sanding_2 1 rfl rfl)
theorem dX0_sanding_49 : decode cX0_sanding 49 = .ok (.invokestatic 128, 3) := dk_184 0 128 (dk_at dksX0_sanding_2 3 rfl rfl)
theorem dX0_sanding_52 : decode cX0_sanding 52 = .ok (.ifCond .eq 55, 3) := dk_153 0 55 (dk_at dksX0_sanding_2 6 rfl rfl)
theorem dX0_sanding_55 : decode cX0_sanding 55 = .ok (.iload 4, 2) := dk_21 4 (dk_at dksX0_sanding_2 9 rfl rfl)
theorem dX0_sanding_57 : decode cX0_sanding 57 = .ok (.iconst (-1), 1) := dk_2 (dk_at dksX0_sanding_2 11 rfl rfl)
theorem dX0_sanding_58 : decode cX0_sanding 58 = .ok (.if_icmp .eq 14, 3) := dk_159 0 14 (dk_at dksX0_sanding_2 12 rfl rfl)
theorem dX0_sanding_61 : decode cX0_sanding 61 = .ok (.iload 5, 2) := dk_21 5 (dk_at dksX0_sanding_2 15 rfl rfl)
theorem dX0_sanding_63 : decode cX0_sanding 63 = .ok (.iconst 0, 1) := dk_3 (dk_at dksX0_sanding_2 17 rfl rfl)
theorem dX0_sanding_64 : decode cX0_sanding 64 = .ok (.bipush 60, 2) := dk_16 60 (dk_at dksX0_sanding_2 18 rfl rfl)
theorem dX0_sanding_66 : decode cX0_sanding 66 = .ok (.invokestatic 128, 3) := dk_184 0 128 (dk_at dksX0_sanding_2 20 rfl rfl)
theorem dX0_sanding_69 : decode cX0_sanding 69 = .ok (.ifCond .eq 38, 3) := dk_153 0 38 (dk_at dksX0_sanding_3 0 rfl rfl)
theorem dX0_sanding_72 : decode cX0_sanding 72 = .ok (.iload 6, 2) := dk_21 6 (dk_at dksX0_sanding_3 3 rfl rfl)
theorem dX0_sanding_74 : decode cX0_sanding 74 = .ok (.bipush 8, 2) := dk_16 8 (dk_at dksX0_sanding_3 5 rfl rfl)
theorem dX0_sanding_76 : decode cX0_sanding 76 = .ok (.invokestatic 103, 3) := dk_184 0 103 (dk_at dksX0_sanding_3 7 rfl rfl)
theorem dX0_sanding_79 : decode cX0_sanding 79 = .ok (.ifCond .ne 17, 3) := dk_154 0 17 (dk_at dksX0_sanding_3 10 rfl rfl)
theorem dX0_sanding_82 : decode cX0_sanding 82 = .ok (.iload 6, 2) := dk_21 6 (dk_at dksX0_sanding_3 13 rfl rfl)
theorem dX0_sanding_84 : decode cX0_sanding 84 = .ok (.bipush 10, 2) := dk_16 10 (dk_at dksX0_sanding_3 15 rfl rfl)
theorem dX0_sanding_86 : decode cX0_sanding 86 = .ok (.if_icmp .eq 10, 3) := dk_159 0 10 (dk_at dksX0_sanding_3 17 rfl rfl)
theorem dX0_sanding_89 : decode cX0_sanding 89 = .ok (.iload 6, 2) := dk_21 6 (dk_at dksX0_sanding_3 20 rfl rfl)
theorem dX0_sanding_91 : decode cX0_sanding 91 = .ok (.bipush 11, 2) := dk_16 11 (dk_at dksX0_sanding_3 22 rfl rfl)
theorem dX0_sanding_93 : decode cX0_sanding 93 = .ok (.if_icmp .ne 14, 3) := dk_160 0 14 (dk_at dksX0_sanding_4 0 rfl rfl)
theorem dX0_sanding_96 : decode cX0_sanding 96 = .ok (.iload 7, 2) := dk_21 7 (dk_at dksX0_sanding_4 3 rfl rfl)
theorem dX0_sanding_98 : decode cX0_sanding 98 = .ok (.iconst 0, 1) := dk_3 (dk_at dksX0_sanding_4 5 rfl rfl)
theorem dX0_sanding_99 : decode cX0_sanding 99 = .ok (.bipush 99, 2) := dk_16 99 (dk_at dksX0_sanding_4 6 rfl rfl)
theorem dX0_sanding_101 : decode cX0_sanding 101 = .ok (.invokestatic 128, 3) := dk_184 0 128 (dk_at dksX0_sanding_4 8 rfl rfl)
theorem dX0_sanding_104 : decode cX0_sanding 104 = .ok (.ifCond .ne 5, 3) := dk_154 0 5 (dk_at dksX0_sanding_4 11 rfl rfl)
theorem dX0_sanding_107 : decode cX0_sanding 107 = .ok (.iconst (-1), 1) := dk_2 (dk_at dksX0_sanding_4 14 rfl rfl)
theorem dX0_sanding_108 : decode cX0_sanding 108 = .ok (.ireturn, 1) := dk_172 (dk_at dksX0_sanding_4 15 rfl rfl)
theorem dX0_sanding_109 : decode cX0_sanding 109 = .ok (.aload_n 0, 1) := dk_42 (dk_at dksX0_sanding_4 16 rfl rfl)
theorem dX0_sanding_110 : decode cX0_sanding 110 = .ok (.getfield 33, 3) := dk_180 0 33 (dk_at dksX0_sanding_4 17 rfl rfl)
theorem dX0_sanding_113 : decode cX0_sanding 113 = .ok (.getfield 117, 3) := dk_180 0 117 (dk_at dksX0_sanding_4 20 rfl rfl)
theorem dX0_sanding_116 : decode cX0_sanding 116 = .ok (.iload_n 1, 1) := dk_27 (dk_at dksX0_sanding_4 23 rfl rfl)
theorem dX0_sanding_117 : decode cX0_sanding 117 = .ok (.aaload, 1) := dk_50 (dk_at dksX0_sanding_5 0 rfl rfl)
theorem dX0_sanding_118 : decode cX0_sanding 118 = .ok (.astore 8, 2) := dk_58 8 (dk_at dksX0_sanding_5 1 rfl rfl)
theorem dX0_sanding_120 : decode cX0_sanding 120 = .ok (.aload_n 0, 1) := dk_42 (dk_at dksX0_sanding_5 3 rfl rfl)
theorem dX0_sanding_121 : decode cX0_sanding 121 = .ok (.getfield 33, 3) := dk_180 0 33 (dk_at dksX0_sanding_5 4 rfl rfl)
theorem dX0_sanding_124 : decode cX0_sanding 124 = .ok (.getfield 117, 3) := dk_180 0 117 (dk_at dksX0_sanding_5 7 rfl rfl)
theorem dX0_sanding_127 : decode cX0_sanding 127 = .ok (.iload_n 2, 1) := dk_28 (dk_at dksX0_sanding_5 10 rfl rfl)
theorem dX0_sanding_128 : decode cX0_sanding 128 = .ok (.aaload, 1) := dk_50 (dk_at dksX0_sanding_5 11 rfl rfl)
theorem dX0_sanding_129 : decode cX0_sanding 129 = .ok (.astore 9, 2) := dk_58 9 (dk_at dksX0_sanding_5 12 rfl rfl)
theorem dX0_sanding_131 : decode cX0_sanding 131 = .ok (.iload 4, 2) := dk_21 4 (dk_at dksX0_sanding_5 14 rfl rfl)
theorem dX0_sanding_133 : decode cX0_sanding 133 = .ok (.iconst (-1), 1) := dk_2 (dk_at dksX0_sanding_5 16 rfl rfl)
theorem dX0_sanding_134 : decode cX0_sanding 134 = .ok (.if_icmp .ne 7, 3) := dk_160 0 7 (dk_at dksX0_sanding_5 17 rfl rfl)
theorem dX0_sanding_137 : decode cX0_sanding 137 = .ok (.aconst_null, 1) := dk_1 (dk_at dksX0_sanding_5 20 rfl rfl)
theorem dX0_sanding_138 : decode cX0_sanding 138 = .ok (.goto 13, 3) := dk_167 0 13 (dk_at dksX0_sanding_5 21 rfl rfl)
theorem dX0_sanding_141 : decode cX0_sanding 141 = .ok (.aload_n 0, 1) := dk_42 (dk_at dksX0_sanding_6 0 rfl rfl)
theorem dX0_sanding_142 : decode cX0_sanding 142 = .ok (.getfield 33, 3) := dk_180 0 33 (dk_at dksX0_sanding_6 1 rfl rfl)
theorem dX0_sanding_145 : decode cX0_sanding 145 = .ok (.getfield 117, 3) := dk_180 0 117 (dk_at dksX0_sanding_6 4 rfl rfl)
theorem dX0_sanding_148 : decode cX0_sanding 148 = .ok (.iload 4, 2) := dk_21 4 (dk_at dksX0_sanding_6 7 rfl rfl)
theorem dX0_sanding_150 : decode cX0_sanding 150 = .ok (.aaload, 1) := dk_50 (dk_at dksX0_sanding_6 9 rfl rfl)
theorem dX0_sanding_151 : decode cX0_sanding 151 = .ok (.astore 10, 2) := dk_58 10 (dk_at dksX0_sanding_6 10 rfl rfl)
theorem dX0_sanding_153 : decode cX0_sanding 153 = .ok (.iload_n 3, 1) := dk_29 (dk_at dksX0_sanding_6 12 rfl rfl)
theorem dX0_sanding_154 : decode cX0_sanding 154 = .ok (.aload 8, 2) := dk_25 8 (dk_at dksX0_sanding_6 13 rfl rfl)
theorem dX0_sanding_156 : decode cX0_sanding 156 = .ok (.getfield 132, 3) := dk_180 0 132 (dk_at dksX0_sanding_6 15 rfl rfl)
theorem dX0_sanding_159 : decode cX0_sanding 159 = .ok (.iadd, 1) := dk_96 (dk_at dksX0_sanding_6 18 rfl rfl)
theorem dX0_sanding_160 : decode cX0_sanding 160 = .ok (.aload 9, 2) := dk_25 9 (dk_at dksX0_sanding_6 19 rfl rfl)
theorem dX0_sanding_162 : decode cX0_sanding 162 = .ok (.getfield 132, 3) := dk_180 0 132 (dk_at dksX0_sanding_6 21 rfl rfl)
theorem dX0_sanding_165 : decode cX0_sanding 165 = .ok (.iadd, 1) := dk_96 (dk_at dksX0_sanding_7 0 rfl rfl)
theorem dX0_sanding_166 : decode cX0_sanding 166 = .ok (.istore 11, 2) := dk_54 11 (dk_at dksX0_sanding_7 1 rfl rfl)
theorem dX0_sanding_168 : decode cX0_sanding 168 = .ok (.aload 10, 2) := dk_25 10 (dk_at dksX0_sanding_7 3 rfl rfl)
theorem dX0_sanding_170 : decode cX0_sanding 170 = .ok (.ifnonnull 7, 3) := dk_199 0 7 (dk_at dksX0_sanding_7 5 rfl rfl)
theorem dX0_sanding_173 : decode cX0_sanding 173 = .ok (.iconst 0, 1) := dk_3 (dk_at dksX0_sanding_7 8 rfl rfl)
theorem dX0_sanding_174 : decode cX0_sanding 174 = .ok (.goto 17, 3) := dk_167 0 17 (dk_at dksX0_sanding_7 9 rfl rfl)
theorem dX0_sanding_177 : decode cX0_sanding 177 = .ok (.iload 5, 2) := dk_21 5 (dk_at dksX0_sanding_7 12 rfl rfl)
theorem dX0_sanding_179 : decode cX0_sanding 179 = .ok (.aload 8, 2) := dk_25 8 (dk_at dksX0_sanding_7 14 rfl rfl)
theorem dX0_sanding_181 : decode cX0_sanding 181 = .ok (.getfield 132, 3) := dk_180 0 132 (dk_at dksX0_sanding_7 16 rfl rfl)
theorem dX0_sanding_184 : decode cX0_sanding 184 = .ok (.iadd, 1) := dk_96 (dk_at dksX0_sanding_7 19 rfl rfl)
theorem dX0_sanding_185 : decode cX0_sanding 185 = .ok (.aload 10, 2) := dk_25 10 (dk_at dksX0_sanding_7 20 rfl rfl)
theorem dX0_sanding_187 : decode cX0_sanding 187 = .ok (.getfield 132, 3) := dk_180 0 132 (dk_at dksX0_sanding_8 0 rfl rfl)
theorem dX0_sanding_190 : decode cX0_sanding 190 = .ok (.iadd, 1) := dk_96 (dk_at dksX0_sanding_8 3 rfl rfl)
theorem dX0_sanding_191 : decode cX0_sanding 191 = .ok (.istore 12, 2) := dk_54 12 (dk_at dksX0_sanding_8 4 rfl rfl)
theorem dX0_sanding_193 : decode cX0_sanding 193 = .ok (.iload 11, 2) := dk_21 11 (dk_at dksX0_sanding_8 6 rfl rfl)
theorem dX0_sanding_195 : decode cX0_sanding 195 = .ok (.bipush 60, 2) := dk_16 60 (dk_at dksX0_sanding_8 8 rfl rfl)
theorem dX0_sanding_197 : decode cX0_sanding 197 = .ok (.if_icmp .gt 10, 3) := dk_163 0 10 (dk_at dksX0_sanding_8 10 rfl rfl)
theorem dX0_sanding_200 : decode cX0_sanding 200 = .ok (.iload 12, 2) := dk_21 12 (dk_at dksX0_sanding_8 13 rfl rfl)
theorem dX0_sanding_202 : decode cX0_sanding 202 = .ok (.bipush 60, 2) := dk_16 60 (dk_at dksX0_sanding_8 15 rfl rfl)
theorem dX0_sanding_204 : decode cX0_sanding 204 = .ok (.if_icmp .le 5, 3) := dk_164 0 5 (dk_at dksX0_sanding_8 17 rfl rfl)
theorem dX0_sanding_207 : decode cX0_sanding 207 = .ok (.iconst (-1), 1) := dk_2 (dk_at dksX0_sanding_8 20 rfl rfl)
theorem dX0_sanding_208 : decode cX0_sanding 208 = .ok (.ireturn, 1) := dk_172 (dk_at dksX0_sanding_8 21 rfl rfl)
theorem dX0_sanding_209 : decode cX0_sanding 209 = .ok (.aload_n 0, 1) := dk_42 (dk_at dksX0_sanding_8 22 rfl rfl)
theorem dX0_sanding_210 : decode cX0_sanding 210 = .ok (.aload 8, 2) := dk_25 8 (dk_at dksX0_sanding_9 0 rfl rfl)
theorem dX0_sanding_212 : decode cX0_sanding 212 = .ok (.aload 9, 2) := dk_25 9 (dk_at dksX0_sanding_9 2 rfl rfl)
theorem dX0_sanding_214 : decode cX0_sanding 214 = .ok (.aload 10, 2) := dk_25 10 (dk_at dksX0_sanding_9 4 rfl rfl)
theorem dX0_sanding_216 : decode cX0_sanding 216 = .ok (.iload 11, 2) := dk_21 11 (dk_at dksX0_sanding_9 6 rfl rfl)
theorem dX0_sanding_218 : decode cX0_sanding 218 = .ok (.iload 12, 2) := dk_21 12 (dk_at dksX0_sanding_9 8 rfl rfl)
theorem dX0_sanding_220 : decode cX0_sanding 220 = .ok (.invokevirtual 290, 3) := dk_182 1 34 (dk_at dksX0_sanding_9 10 rfl rfl)
theorem dX0_sanding_223 : decode cX0_sanding 223 = .ok (.aload_n 0, 1) := dk_42 (dk_at dksX0_sanding_9 13 rfl rfl)
theorem dX0_sanding_224 : decode cX0_sanding 224 = .ok (.getfield 80, 3) := dk_180 0 80 (dk_at dksX0_sanding_9 14 rfl rfl)
theorem dX0_sanding_227 : decode cX0_sanding 227 = .ok (.iconst 0, 1) := dk_3 (dk_at dksX0_sanding_9 17 rfl rfl)
theorem dX0_sanding_228 : decode cX0_sanding 228 = .ok (.aaload, 1) := dk_50 (dk_at dksX0_sanding_9 18 rfl rfl)
theorem dX0_sanding_229 : decode cX0_sanding 229 = .ok (.iload 11, 2) := dk_21 11 (dk_at dksX0_sanding_9 19 rfl rfl)
theorem dX0_sanding_231 : decode cX0_sanding 231 = .ok (.aaload, 1) := dk_50 (dk_at dksX0_sanding_9 21 rfl rfl)
theorem dX0_sanding_232 : decode cX0_sanding 232 = .ok (.iload 12, 2) := dk_21 12 (dk_at dksX0_sanding_9 22 rfl rfl)
theorem dX0_sanding_234 : decode cX0_sanding 234 = .ok (.iaload, 1) := dk_46 (dk_at dksX0_sanding_10 0 rfl rfl)
theorem dX0_sanding_235 : decode cX0_sanding 235 = .ok (.ldc_w 278, 3) := dk_19 1 22 (dk_at dksX0_sanding_10 1 rfl rfl)
theorem dX0_sanding_238 : decode cX0_sanding 238 = .ok (.if_icmp .lt 6, 3) := dk_161 0 6 (dk_at dksX0_sanding_10 4 rfl rfl)
theorem dX0_sanding_241 : decode cX0_sanding 241 = .ok (.bipush (-2), 2) := dk_16 254 (dk_at dksX0_sanding_10 7 rfl rfl)
theorem dX0_sanding_243 : decode cX0_sanding 243 = .ok (.ireturn, 1) := dk_172 (dk_at dksX0_sanding_10 9 rfl rfl)
theorem dX0_sanding_244 : decode cX0_sanding 244 = .ok (.iload 6, 2) := dk_21 6 (dk_at dksX0_sanding_10 10 rfl rfl)
theorem dX0_sanding_246 : decode cX0_sanding 246 = .ok (.bipush 10, 2) := dk_16 10 (dk_at dksX0_sanding_10 12 rfl rfl)
theorem dX0_sanding_248 : decode cX0_sanding 248 = .ok (.if_icmp .ne 16, 3) := dk_160 0 16 (dk_at dksX0_sanding_10 14 rfl rfl)
theorem dX0_sanding_251 : decode cX0_sanding 251 = .ok (.aload_n 0, 1) := dk_42 (dk_at dksX0_sanding_10 17 rfl rfl)
theorem dX0_sanding_252 : decode cX0_sanding 252 = .ok (.getfield 80, 3) := dk_180 0 80 (dk_at dksX0_sanding_10 18 rfl rfl)
theorem dX0_sanding_255 : decode cX0_sanding 255 = .ok (.iconst 0, 1) := dk_3 (dk_at dksX0_sanding_10 21 rfl rfl)
theorem dX0_sanding_256 : decode cX0_sanding 256 = .ok (.aaload, 1) := dk_50 (dk_at dksX0_sanding_10 22 rfl rfl)
theorem dX0_sanding_257 : decode cX0_sanding 257 = .ok (.iload 11, 2) := dk_21 11 (dk_at dksX0_sanding_11 0 rfl rfl)
theorem dX0_sanding_259 : decode cX0_sanding 259 = .ok (.aaload, 1) := dk_50 (dk_at dksX0_sanding_11 2 rfl rfl)
theorem dX0_sanding_260 : decode cX0_sanding 260 = .ok (.iload 12, 2) := dk_21 12 (dk_at dksX0_sanding_11 3 rfl rfl)
theorem dX0_sanding_262 : decode cX0_sanding 262 = .ok (.iaload, 1) := dk_46 (dk_at dksX0_sanding_11 5 rfl rfl)
theorem dX0_sanding_263 : decode cX0_sanding 263 = .ok (.ireturn, 1) := dk_172 (dk_at dksX0_sanding_11 6 rfl rfl)
theorem dX0_sanding_264 : decode cX0_sanding 264 = .ok (.aload_n 0, 1) := dk_42 (dk_at dksX0_sanding_11 7 rfl rfl)
theorem dX0_sanding_265 : decode cX0_sanding 265 = .ok (.getfield 86, 3) := dk_180 0 86 (dk_at dksX0_sanding_11 8 rfl rfl)
theorem dX0_sanding_268 : decode cX0_sanding 268 = .ok (.aload 8, 2) := dk_25 8 (dk_at dksX0_sanding_11 11 rfl rfl)
theorem dX0_sanding_270 : decode cX0_sanding 270 = .ok (.invokevirtual 294, 3) := dk_182 1 38 (dk_at dksX0_sanding_11 13 rfl rfl)
theorem dX0_sanding_273 : decode cX0_sanding 273 = .ok (.iload 11, 2) := dk_21 11 (dk_at dksX0_sanding_11 16 rfl rfl)
theorem dX0_sanding_275 : decode cX0_sanding 275 = .ok (.istore 13, 2) := dk_54 13 (dk_at dksX0_sanding_11 18 rfl rfl)
theorem dX0_sanding_277 : decode cX0_sanding 277 = .ok (.iload 12, 2) := dk_21 12 (dk_at dksX0_sanding_11 20 rfl rfl)
theorem dX0_sanding_279 : decode cX0_sanding 279 = .ok (.istore 14, 2) := dk_54 14 (dk_at dksX0_sanding_11 22 rfl rfl)
theorem dX0_sanding_281 : decode cX0_sanding 281 = .ok (.iconst 0, 1) := dk_3 (dk_at dksX0_sanding_12 0 rfl rfl)
theorem dX0_sanding_282 : decode cX0_sanding 282 = .ok (.istore 15, 2) := dk_54 15 (dk_at dksX0_sanding_12 1 rfl rfl)
theorem dX0_sanding_284 : decode cX0_sanding 284 = .ok (.iload 15, 2) := dk_21 15 (dk_at dksX0_sanding_12 3 rfl rfl)
theorem dX0_sanding_286 : decode cX0_sanding 286 = .ok (.bipush 8, 2) := dk_16 8 (dk_at dksX0_sanding_12 5 rfl rfl)
theorem dX0_sanding_288 : decode cX0_sanding 288 = .ok (.if_icmp .ge 93, 3) := dk_162 0 93 (dk_at dksX0_sanding_12 7 rfl rfl)
theorem dX0_sanding_291 : decode cX0_sanding 291 = .ok (.bipush (-9), 2) := dk_16 247 (dk_at dksX0_sanding_12 10 rfl rfl)
theorem dX0_sanding_293 : decode cX0_sanding 293 = .ok (.istore 16, 2) := dk_54 16 (dk_at dksX0_sanding_12 12 rfl rfl)
theorem dX0_sanding_295 : decode cX0_sanding 295 = .ok (.aload_n 0, 1) := dk_42 (dk_at dksX0_sanding_12 14 rfl rfl)
theorem dX0_sanding_296 : decode cX0_sanding 296 = .ok (.aload 8, 2) := dk_25 8 (dk_at dksX0_sanding_12 15 rfl rfl)
theorem dX0_sanding_298 : decode cX0_sanding 298 = .ok (.aload 9, 2) := dk_25 9 (dk_at dksX0_sanding_12 17 rfl rfl)
theorem dX0_sanding_300 : decode cX0_sanding 300 = .ok (.aload 10, 2) := dk_25 10 (dk_at dksX0_sanding_12 19 rfl rfl)
theorem dX0_sanding_302 : decode cX0_sanding 302 = .ok (.iload 15, 2) := dk_21 15 (dk_at dksX0_sanding_12 21 rfl rfl)
theorem dX0_sanding_304 : decode cX0_sanding 304 = .ok (.iload 13, 2) := dk_21 13 (dk_at dksX0_sanding_13 0 rfl rfl)
theorem dX0_sanding_306 : decode cX0_sanding 306 = .ok (.iload 14, 2) := dk_21 14 (dk_at dksX0_sanding_13 2 rfl rfl)
theorem dX0_sanding_308 : decode cX0_sanding 308 = .ok (.iload 16, 2) := dk_21 16 (dk_at dksX0_sanding_13 4 rfl rfl)
theorem dX0_sanding_310 : decode cX0_sanding 310 = .ok (.invokevirtual 286, 3) := dk_182 1 30 (dk_at dksX0_sanding_13 6 rfl rfl)
theorem dX0_sanding_313 : decode cX0_sanding 313 = .ok (.aload_n 0, 1) := dk_42 (dk_at dksX0_sanding_13 9 rfl rfl)
theorem dX0_sanding_314 : decode cX0_sanding 314 = .ok (.getfield 80, 3) := dk_180 0 80 (dk_at dksX0_sanding_13 10 rfl rfl)
theorem dX0_sanding_317 : decode cX0_sanding 317 = .ok (.iload 15, 2) := dk_21 15 (dk_at dksX0_sanding_13 13 rfl rfl)
theorem dX0_sanding_319 : decode cX0_sanding 319 = .ok (.aaload, 1) := dk_50 (dk_at dksX0_sanding_13 15 rfl rfl)
theorem dX0_sanding_320 : decode cX0_sanding 320 = .ok (.iload 13, 2) := dk_21 13 (dk_at dksX0_sanding_13 16 rfl rfl)
theorem dX0_sanding_322 : decode cX0_sanding 322 = .ok (.aaload, 1) := dk_50 (dk_at dksX0_sanding_13 18 rfl rfl)
theorem dX0_sanding_323 : decode cX0_sanding 323 = .ok (.iload 14, 2) := dk_21 14 (dk_at dksX0_sanding_13 19 rfl rfl)
theorem dX0_sanding_325 : decode cX0_sanding 325 = .ok (.iaload, 1) := dk_46 (dk_at dksX0_sanding_13 21 rfl rfl)
theorem dX0_sanding_326 : decode cX0_sanding 326 = .ok (.if_icmp .eq 9, 3) := dk_159 0 9 (dk_at dksX0_sanding_14 0 rfl rfl)
theorem dX0_sanding_329 : decode cX0_sanding 329 = .ok (.iinc 16 1, 3) := dk_132 16 1 (dk_at dksX0_sanding_14 3 rfl rfl)
theorem dX0_sanding_332 : decode cX0_sanding 332 = .ok (.goto (-37), 3) := dk_167 255 219 (dk_at dksX0_sanding_14 6 rfl rfl)
theorem dX0_sanding_335 : decode cX0_sanding 335 = .ok (.aload_n 0, 1) := dk_42 (dk_at dksX0_sanding_14 9 rfl rfl)
theorem dX0_sanding_336 : decode cX0_sanding 336 = .ok (.getfield 86, 3) := dk_180 0 86 (dk_at dksX0_sanding_14 10 rfl rfl)
theorem dX0_sanding_339 : decode cX0_sanding 339 = .ok (.getfield 171, 3) := dk_180 0 171 (dk_at dksX0_sanding_14 13 rfl rfl)
theorem dX0_sanding_342 : decode cX0_sanding 342 = .ok (.iload 15, 2) := dk_21 15 (dk_at dksX0_sanding_14 16 rfl rfl)
theorem dX0_sanding_344 : decode cX0_sanding 344 = .ok (.iload 16, 2) := dk_21 16 (dk_at dksX0_sanding_14 18 rfl rfl)
theorem dX0_sanding_346 : decode cX0_sanding 346 = .ok (.iastore, 1) := dk_79 (dk_at dksX0_sanding_14 20 rfl rfl)
theorem dX0_sanding_347 : decode cX0_sanding 347 = .ok (.iload 13, 2) := dk_21 13 (dk_at dksX0_sanding_14 21 rfl rfl)
theorem dX0_sanding_349 : decode cX0_sanding 349 = .ok (.iload 16, 2) := dk_21 16 (dk_at dksX0_sanding_15 0 rfl rfl)
theorem dX0_sanding_351 : decode cX0_sanding 351 = .ok (.aload 9, 2) := dk_25 9 (dk_at dksX0_sanding_15 2 rfl rfl)
theorem dX0_sanding_353 : decode cX0_sanding 353 = .ok (.iload 15, 2) := dk_21 15 (dk_at dksX0_sanding_15 4 rfl rfl)
theorem dX0_sanding_355 : decode cX0_sanding 355 = .ok (.invokestatic 282, 3) := dk_184 1 26 (dk_at dksX0_sanding_15 6 rfl rfl)
theorem dX0_sanding_358 : decode cX0_sanding 358 = .ok (.isub, 1) := dk_100 (dk_at dksX0_sanding_15 9 rfl rfl)
theorem dX0_sanding_359 : decode cX0_sanding 359 = .ok (.istore 13, 2) := dk_54 13 (dk_at dksX0_sanding_15 10 rfl rfl)
theorem dX0_sanding_361 : decode cX0_sanding 361 = .ok (.iload 14, 2) := dk_21 14 (dk_at dksX0_sanding_15 12 rfl rfl)
theorem dX0_sanding_363 : decode cX0_sanding 363 = .ok (.iload 16, 2) := dk_21 16 (dk_at dksX0_sanding_15 14 rfl rfl)
theorem dX0_sanding_365 : decode cX0_sanding 365 = .ok (.aload 10, 2) := dk_25 10 (dk_at dksX0_sanding_15 16 rfl rfl)
theorem dX0_sanding_367 : decode cX0_sanding 367 = .ok (.iload 15, 2) := dk_21 15 (dk_at dksX0_sanding_15 18 rfl rfl)
theorem dX0_sanding_369 : decode cX0_sanding 369 = .ok (.invokestatic 282, 3) := dk_184 1 26 (dk_at dksX0_sanding_15 20 rfl rfl)
theorem dX0_sanding_372 : decode cX0_sanding 372 = .ok (.isub, 1) := dk_100 (dk_at dksX0_sanding_15 23 rfl rfl)
theorem dX0_sanding_373 : decode cX0_sanding 373 = .ok (.istore 14, 2) := dk_54 14 (dk_at dksX0_sanding_16 0 rfl rfl)
theorem dX0_sanding_375 : decode cX0_sanding 375 = .ok (.iinc 15 1, 3) := dk_132 15 1 (dk_at dksX0_sanding_16 2 rfl rfl)
theorem dX0_sanding_378 : decode cX0_sanding 378 = .ok (.goto (-94), 3) := dk_167 255 162 (dk_at dksX0_sanding_16 5 rfl rfl)
theorem dX0_sanding_381 : decode cX0_sanding 381 = .ok (.iload 6, 2) := dk_21 6 (dk_at dksX0_sanding_16 8 rfl rfl)
theorem dX0_sanding_383 : decode cX0_sanding 383 = .ok (.bipush 8, 2) := dk_16 8 (dk_at dksX0_sanding_16 10 rfl rfl)
theorem dX0_sanding_385 : decode cX0_sanding 385 = .ok (.if_icmp .ge 17, 3) := dk_162 0 17 (dk_at dksX0_sanding_16 12 rfl rfl)
theorem dX0_sanding_388 : decode cX0_sanding 388 = .ok (.aload_n 0, 1) := dk_42 (dk_at dksX0_sanding_16 15 rfl rfl)
theorem dX0_sanding_389 : decode cX0_sanding 389 = .ok (.getfield 86, 3) := dk_180 0 86 (dk_at dksX0_sanding_16 16 rfl rfl)
theorem dX0_sanding_392 : decode cX0_sanding 392 = .ok (.getfield 171, 3) := dk_180 0 171 (dk_at dksX0_sanding_16 19 rfl rfl)
theorem dX0_sanding_395 : decode cX0_sanding 395 = .ok (.iload 6, 2) := dk_21 6 (dk_at dksX0_sanding_16 22 rfl rfl)
theorem dX0_sanding_397 : decode cX0_sanding 397 = .ok (.iaload, 1) := dk_46 (dk_at dksX0_sanding_17 0 rfl rfl)
theorem dX0_sanding_398 : decode cX0_sanding 398 = .ok (.bipush 10, 2) := dk_16 10 (dk_at dksX0_sanding_17 1 rfl rfl)
theorem dX0_sanding_400 : decode cX0_sanding 400 = .ok (.iadd, 1) := dk_96 (dk_at dksX0_sanding_17 3 rfl rfl)
theorem dX0_sanding_401 : decode cX0_sanding 401 = .ok (.ireturn, 1) := dk_172 (dk_at dksX0_sanding_17 4 rfl rfl)
theorem dX0_sanding_402 : decode cX0_sanding 402 = .ok (.iconst 0, 1) := dk_3 (dk_at dksX0_sanding_17 5 rfl rfl)
theorem dX0_sanding_403 : decode cX0_sanding 403 = .ok (.istore 15, 2) := dk_54 15 (dk_at dksX0_sanding_17 6 rfl rfl)
theorem dX0_sanding_405 : decode cX0_sanding 405 = .ok (.iconst 0, 1) := dk_3 (dk_at dksX0_sanding_17 8 rfl rfl)
theorem dX0_sanding_406 : decode cX0_sanding 406 = .ok (.istore 16, 2) := dk_54 16 (dk_at dksX0_sanding_17 9 rfl rfl)
theorem dX0_sanding_408 : decode cX0_sanding 408 = .ok (.iload 16, 2) := dk_21 16 (dk_at dksX0_sanding_17 11 rfl rfl)
theorem dX0_sanding_410 : decode cX0_sanding 410 = .ok (.bipush 12, 2) := dk_16 12 (dk_at dksX0_sanding_17 13 rfl rfl)
theorem dX0_sanding_412 : decode cX0_sanding 412 = .ok (.if_icmp .ge 56, 3) := dk_162 0 56 (dk_at dksX0_sanding_17 15 rfl rfl)
theorem dX0_sanding_415 : decode cX0_sanding 415 = .ok (.iload 15, 2) := dk_21 15 (dk_at dksX0_sanding_17 18 rfl rfl)
theorem dX0_sanding_417 : decode cX0_sanding 417 = .ok (.iload 16, 2) := dk_21 16 (dk_at dksX0_sanding_17 20 rfl rfl)
theorem dX0_sanding_419 : decode cX0_sanding 419 = .ok (.iload_n 1, 1) := dk_27 (dk_at dksX0_sanding_17 22 rfl rfl)
theorem dX0_sanding_420 : decode cX0_sanding 420 = .ok (.if_icmp .eq 38, 3) := dk_159 0 38 (dk_at dksX0_sanding_18 0 rfl rfl)
theorem dX0_sanding_423 : decode cX0_sanding 423 = .ok (.aload_n 0, 1) := dk_42 (dk_at dksX0_sanding_18 3 rfl rfl)
theorem dX0_sanding_424 : decode cX0_sanding 424 = .ok (.iload 16, 2) := dk_21 16 (dk_at dksX0_sanding_18 4 rfl rfl)
theorem dX0_sanding_426 : decode cX0_sanding 426 = .ok (.invokevirtual 175, 3) := dk_182 0 175 (dk_at dksX0_sanding_18 6 rfl rfl)
theorem dX0_sanding_429 : decode cX0_sanding 429 = .ok (.ifCond .eq 29, 3) := dk_153 0 29 (dk_at dksX0_sanding_18 9 rfl rfl)
theorem dX0_sanding_432 : decode cX0_sanding 432 = .ok (.aload_n 0, 1) := dk_42 (dk_at dksX0_sanding_18 12 rfl rfl)
theorem dX0_sanding_433 : decode cX0_sanding 433 = .ok (.getfield 86, 3) := dk_180 0 86 (dk_at dksX0_sanding_18 13 rfl rfl)
theorem dX0_sanding_436 : decode cX0_sanding 436 = .ok (.aload_n 0, 1) := dk_42 (dk_at dksX0_sanding_18 16 rfl rfl)
theorem dX0_sanding_437 : decode cX0_sanding 437 = .ok (.getfield 33, 3) := dk_180 0 33 (dk_at dksX0_sanding_18 17 rfl rfl)
theorem dX0_sanding_440 : decode cX0_sanding 440 = .ok (.getfield 117, 3) := dk_180 0 117 (dk_at dksX0_sanding_18 20 rfl rfl)
theorem dX0_sanding_443 : decode cX0_sanding 443 = .ok (.iload 16, 2) := dk_21 16 (dk_at dksX0_sanding_19 0 rfl rfl)
theorem dX0_sanding_445 : decode cX0_sanding 445 = .ok (.aaload, 1) := dk_50 (dk_at dksX0_sanding_19 2 rfl rfl)
theorem dX0_sanding_446 : decode cX0_sanding 446 = .ok (.invokevirtual 297, 3) := dk_182 1 41 (dk_at dksX0_sanding_19 3 rfl rfl)
theorem dX0_sanding_449 : decode cX0_sanding 449 = .ok (.iload 7, 2) := dk_21 7 (dk_at dksX0_sanding_19 6 rfl rfl)
theorem dX0_sanding_451 : decode cX0_sanding 451 = .ok (.if_icmp .gt 7, 3) := dk_163 0 7 (dk_at dksX0_sanding_19 8 rfl rfl)
theorem dX0_sanding_454 : decode cX0_sanding 454 = .ok (.iconst 1, 1) := dk_4 (dk_at dksX0_sanding_19 11 rfl rfl)
theorem dX0_sanding_455 : decode cX0_sanding 455 = .ok (.goto 4, 3) := dk_167 0 4 (dk_at dksX0_sanding_19 12 rfl rfl)
theorem dX0_sanding_458 : decode cX0_sanding 458 = .ok (.iconst 0, 1) := dk_3 (dk_at dksX0_sanding_19 15 rfl rfl)
theorem dX0_sanding_459 : decode cX0_sanding 459 = .ok (.iadd, 1) := dk_96 (dk_at dksX0_sanding_19 16 rfl rfl)
theorem dX0_sanding_460 : decode cX0_sanding 460 = .ok (.istore 15, 2) := dk_54 15 (dk_at dksX0_sanding_19 17 rfl rfl)
theorem dX0_sanding_462 : decode cX0_sanding 462 = .ok (.iinc 16 1, 3) := dk_132 16 1 (dk_at dksX0_sanding_19 19 rfl rfl)
theorem dX0_sanding_465 : decode cX0_sanding 465 = .ok (.goto (-57), 3) := dk_167 255 199 (dk_at dksX0_sanding_20 0 rfl rfl)
theorem dX0_sanding_468 : decode cX0_sanding 468 = .ok (.iload 15, 2) := dk_21 15 (dk_at dksX0_sanding_20 3 rfl rfl)
theorem dX0_sanding_470 : decode cX0_sanding 470 = .ok (.ireturn, 1) := dk_172 (dk_at dksX0_sanding_20 5 rfl rfl)
abbrev cX0_laysWorks : ByteArray := prog_1_method_42_code
def yX0_laysWorks : MethodName := ⟨RX0, "laysWorks", "(LPuzzleWed$Piece;LPuzzleWed$Piece;LPuzzleWed$Piece;II)V"⟩
def dkwX0_laysWorks_6 : List UInt8 := [177]
abbrev dktX0_laysWorks_6 : List UInt8 := dkwX0_laysWorks_6 ++ []
def dkwX0_laysWorks_5 : List UInt8 := [132, 9, 1, 167, 255, 195, 132, 8, 1, 167, 255, 151, 132, 7, 1, 167, 255, 135, 132, 6, 255, 167, 255, 121]
abbrev dktX0_laysWorks_5 : List UInt8 := dkwX0_laysWorks_5 ++ dktX0_laysWorks_6
def dkwX0_laysWorks_4 : List UInt8 := [50, 21, 8, 46, 42, 43, 44, 45, 21, 6, 21, 7, 21, 8, 21, 9, 182, 1, 30, 184, 0, 1, 79]
abbrev dktX0_laysWorks_4 : List UInt8 := dkwX0_laysWorks_4 ++ dktX0_laysWorks_5
def dkwX0_laysWorks_3 : List UInt8 := [162, 0, 53, 42, 180, 0, 80, 21, 6, 50, 21, 7, 50, 21, 8, 42, 180, 0, 80, 21, 6, 50, 21, 7]
abbrev dktX0_laysWorks_3 : List UInt8 := dkwX0_laysWorks_3 ++ dktX0_laysWorks_4
def dkwX0_laysWorks_2 : List UInt8 := [3, 167, 0, 6, 19, 1, 22, 79, 16, 247, 54, 9, 21, 9, 16, 9, 163, 0, 60, 21, 6, 16, 8]
abbrev dktX0_laysWorks_2 : List UInt8 := dkwX0_laysWorks_2 ++ dktX0_laysWorks_3
def dkwX0_laysWorks_1 : List UInt8 := [21, 5, 163, 0, 104, 42, 180, 0, 80, 21, 6, 50, 21, 7, 50, 21, 8, 21, 6, 16, 8, 160, 0, 7]
abbrev dktX0_laysWorks_1 : List UInt8 := dkwX0_laysWorks_1 ++ dktX0_laysWorks_2
def dkwX0_laysWorks_0 : List UInt8 := [16, 8, 54, 6, 21, 6, 155, 0, 136, 3, 54, 7, 21, 7, 21, 4, 163, 0, 120, 3, 54, 8, 21, 8]
abbrev dktX0_laysWorks_0 : List UInt8 := dkwX0_laysWorks_0 ++ dktX0_laysWorks_1
theorem dksX0_laysWorks_0 : cX0_laysWorks.data.toList.drop 0 = dktX0_laysWorks_0 := by decide +kernel
theorem dksX0_laysWorks_1 : cX0_laysWorks.data.toList.drop 24 = dktX0_laysWorks_1 := dk_seg dksX0_laysWorks_0 24 rfl rfl
theorem dksX0_laysWorks_2 : cX0_laysWorks.data.toList.drop 48 = dktX0_laysWorks_2 := dk_seg dksX0_laysWorks_1 24 rfl rfl
theorem dksX0_laysWorks_3 : cX0_laysWorks.data.toList.drop 71 = dktX0_laysWorks_3 := dk_seg dksX0_laysWorks_2 23 rfl rfl
theorem dksX0_laysWorks_4 : cX0_laysWorks.data.toList.drop 95 = dktX0_laysWorks_4 := dk_seg dksX0_laysWorks_3 24 rfl rfl
theorem dksX0_laysWorks_5 : cX0_laysWorks.data.toList.drop 118 = dktX0_laysWorks_5 := dk_seg dksX0_laysWorks_4 23 rfl rfl
theorem dksX0_laysWorks_6 : cX0_laysWorks.data.toList.drop 142 = dktX0_laysWorks_6 := dk_seg dksX0_laysWorks_5 24 rfl rfl
theorem dX0_laysWorks_0 : decode cX0_laysWorks 0 = .ok (.bipush 8, 2) := dk_16 8 (dk_at dksX0_laysWorks_0 0 rfl rfl)
theorem dX0_laysWorks_2 : decode cX0_laysWorks 2 = .ok (.istore 6, 2) := dk_54 6 (dk_at dksX0_laysWorks_0 2 rfl rfl)
theorem dX0_laysWorks_4 : decode cX0_laysWorks 4 = .ok (.iload 6, 2) := dk_21 6 (dk_at dksX0_laysWorks_0 4 rfl rfl)
theorem dX0_laysWorks_6 : decode cX0_laysWorks 6 = .ok (.ifCond .lt 136, 3) := dk_155 0 136 (dk_at dksX0_laysWorks_0 6 rfl rfl)
theorem dX0_laysWorks_9 : decode cX0_laysWorks 9 = .ok (.iconst 0, 1) := dk_3 (dk_at dksX0_laysWorks_0 9 rfl rfl)
theorem dX0_laysWorks_10 : decode cX0_laysWorks 10 = .ok (.istore 7, 2) := dk_54 7 (dk_at dksX0_laysWorks_0 10 rfl rfl)
theorem dX0_laysWorks_12 : decode cX0_laysWorks 12 = .ok (.iload 7, 2) := dk_21 7 (dk_at dksX0_laysWorks_0 12 rfl rfl)
theorem dX0_laysWorks_14 : decode cX0_laysWorks 14 = .ok (.iload 4, 2) := dk_21 4 (dk_at dksX0_laysWorks_0 14 rfl rfl)
theorem dX0_laysWorks_16 : decode cX0_laysWorks 16 = .ok (.if_icmp .gt 120, 3) := dk_163 0 120 (dk_at dksX0_laysWorks_0 16 rfl rfl)
theorem dX0_laysWorks_19 : decode cX0_laysWorks 19 = .ok (.iconst 0, 1) := dk_3 (dk_at dksX0_laysWorks_0 19 rfl rfl)
theorem dX0_laysWorks_20 : decode cX0_laysWorks 20 = .ok (.istore 8, 2) := dk_54 8 (dk_at dksX0_laysWorks_0 20 rfl rfl)
theorem dX0_laysWorks_22 : decode cX0_laysWorks 22 = .ok (.iload 8, 2) := dk_21 8 (dk_at dksX0_laysWorks_0 22 rfl rfl)
theorem dX0_laysWorks_24 : decode cX0_laysWorks 24 = .ok (.iload 5, 2) := dk_21 5 (dk_at dksX0_laysWorks_1 0 rfl rfl)
theorem dX0_laysWorks_26 : decode cX0_laysWorks 26 = .ok (.if_icmp .gt 104, 3) := dk_163 0 104 (dk_at dksX0_laysWorks_1 2 rfl rfl)
theorem dX0_laysWorks_29 : decode cX0_laysWorks 29 = .ok (.aload_n 0, 1) := dk_42 (dk_at dksX0_laysWorks_1 5 rfl rfl)
theorem dX0_laysWorks_30 : decode cX0_laysWorks 30 = .ok (.getfield 80, 3) := dk_180 0 80 (dk_at dksX0_laysWorks_1 6 rfl rfl)
theorem dX0_laysWorks_33 : decode cX0_laysWorks 33 = .ok (.iload 6, 2) := dk_21 6 (dk_at dksX0_laysWorks_1 9 rfl rfl)
theorem dX0_laysWorks_35 : decode cX0_laysWorks 35 = .ok (.aaload, 1) := dk_50 (dk_at dksX0_laysWorks_1 11 rfl rfl)
theorem dX0_laysWorks_36 : decode cX0_laysWorks 36 = .ok (.iload 7, 2) := dk_21 7 (dk_at dksX0_laysWorks_1 12 rfl rfl)
theorem dX0_laysWorks_38 : decode cX0_laysWorks 38 = .ok (.aaload, 1) := dk_50 (dk_at dksX0_laysWorks_1 14 rfl rfl)
theorem dX0_laysWorks_39 : decode cX0_laysWorks 39 = .ok (.iload 8, 2) := dk_21 8 (dk_at dksX0_laysWorks_1 15 rfl rfl)
theorem dX0_laysWorks_41 : decode cX0_laysWorks 41 = .ok (.iload 6, 2) := dk_21 6 (dk_at dksX0_laysWorks_1 17 rfl rfl)
theorem dX0_laysWorks_43 : decode cX0_laysWorks 43 = .ok (.bipush 8, 2) := dk_16 8 (dk_at dksX0_laysWorks_1 19 rfl rfl)
theorem dX0_laysWorks_45 : decode cX0_laysWorks 45 = .ok (.if_icmp .ne 7, 3) := dk_160 0 7 (dk_at dksX0_laysWorks_1 21 rfl rfl)
theorem dX0_laysWorks_48 : decode cX0_laysWorks 48 = .ok (.iconst 0, 1) := dk_3 (dk_at dksX0_laysWorks_2 0 rfl rfl)
theorem dX0_laysWorks_49 : decode cX0_laysWorks 49 = .ok (.goto 6, 3) := dk_167 0 6 (dk_at dksX0_laysWorks_2 1 rfl rfl)
theorem dX0_laysWorks_52 : decode cX0_laysWorks 52 = .ok (.ldc_w 278, 3) := dk_19 1 22 (dk_at dksX0_laysWorks_2 4 rfl rfl)
theorem dX0_laysWorks_55 : decode cX0_laysWorks 55 = .ok (.iastore, 1) := dk_79 (dk_at dksX0_laysWorks_2 7 rfl rfl)
theorem dX0_laysWorks_56 : decode cX0_laysWorks 56 = .ok (.bipush (-9), 2) := dk_16 247 (dk_at dksX0_laysWorks_2 8 rfl rfl)
theorem dX0_laysWorks_58 : decode cX0_laysWorks 58 = .ok (.istore 9, 2) := dk_54 9 (dk_at dksX0_laysWorks_2 10 rfl rfl)
theorem dX0_laysWorks_60 : decode cX0_laysWorks 60 = .ok (.iload 9, 2) := dk_21 9 (dk_at dksX0_laysWorks_2 12 rfl rfl)
theorem dX0_laysWorks_62 : decode cX0_laysWorks 62 = .ok (.bipush 9, 2) := dk_16 9 (dk_at dksX0_laysWorks_2 14 rfl rfl)
theorem dX0_laysWorks_64 : decode cX0_laysWorks 64 = .ok (.if_icmp .gt 60, 3) := dk_163 0 60 (dk_at dksX0_laysWorks_2 16 rfl rfl)
theorem dX0_laysWorks_67 : decode cX0_laysWorks 67 = .ok (.iload 6, 2) := dk_21 6 (dk_at dksX0_laysWorks_2 19 rfl rfl)
theorem dX0_laysWorks_69 : decode cX0_laysWorks 69 = .ok (.bipush 8, 2) := dk_16 8 (dk_at dksX0_laysWorks_2 21 rfl rfl)
theorem dX0_laysWorks_71 : decode cX0_laysWorks 71 = .ok (.if_icmp .ge 53, 3) := dk_162 0 53 (dk_at dksX0_laysWorks_3 0 rfl rfl)
theorem dX0_laysWorks_74 : decode cX0_laysWorks 74 = .ok (.aload_n 0, 1) := dk_42 (dk_at dksX0_laysWorks_3 3 rfl rfl)
theorem dX0_laysWorks_75 : decode cX0_laysWorks 75 = .ok (.getfield 80, 3) := dk_180 0 80 (dk_at dksX0_laysWorks_3 4 rfl rfl)
theorem dX0_laysWorks_78 : decode cX0_laysWorks 78 = .ok (.iload 6, 2) := dk_21 6 (dk_at dksX0_laysWorks_3 7 rfl rfl)
theorem dX0_laysWorks_80 : decode cX0_laysWorks 80 = .ok (.aaload, 1) := dk_50 (dk_at dksX0_laysWorks_3 9 rfl rfl)
theorem dX0_laysWorks_81 : decode cX0_laysWorks 81 = .ok (.iload 7, 2) := dk_21 7 (dk_at dksX0_laysWorks_3 10 rfl rfl)
theorem dX0_laysWorks_83 : decode cX0_laysWorks 83 = .ok (.aaload, 1) := dk_50 (dk_at dksX0_laysWorks_3 12 rfl rfl)
theorem dX0_laysWorks_84 : decode cX0_laysWorks 84 = .ok (.iload 8, 2) := dk_21 8 (dk_at dksX0_laysWorks_3 13 rfl rfl)
theorem dX0_laysWorks_86 : decode cX0_laysWorks 86 = .ok (.aload_n 0, 1) := dk_42 (dk_at dksX0_laysWorks_3 15 rfl rfl)
theorem dX0_laysWorks_87 : decode cX0_laysWorks 87 = .ok (.getfield 80, 3) := dk_180 0 80 (dk_at dksX0_laysWorks_3 16 rfl rfl)
theorem dX0_laysWorks_90 : decode cX0_laysWorks 90 = .ok (.iload 6, 2) := dk_21 6 (dk_at dksX0_laysWorks_3 19 rfl rfl)
theorem dX0_laysWorks_92 : decode cX0_laysWorks 92 = .ok (.aaload, 1) := dk_50 (dk_at dksX0_laysWorks_3 21 rfl rfl)
theorem dX0_laysWorks_93 : decode cX0_laysWorks 93 = .ok (.iload 7, 2) := dk_21 7 (dk_at dksX0_laysWorks_3 22 rfl rfl)
theorem dX0_laysWorks_95 : decode cX0_laysWorks 95 = .ok (.aaload, 1) := dk_50 (dk_at dksX0_laysWorks_4 0 rfl rfl)
theorem dX0_laysWorks_96 : decode cX0_laysWorks 96 = .ok (.iload 8, 2) := dk_21 8 (dk_at dksX0_laysWorks_4 1 rfl rfl)
theorem dX0_laysWorks_98 : decode cX0_laysWorks 98 = .ok (.iaload, 1) := dk_46 (dk_at dksX0_laysWorks_4 3 rfl rfl)
theorem dX0_laysWorks_99 : decode cX0_laysWorks 99 = .ok (.aload_n 0, 1) := dk_42 (dk_at dksX0_laysWorks_4 4 rfl rfl)
theorem dX0_laysWorks_100 : decode cX0_laysWorks 100 = .ok (.aload_n 1, 1) := dk_43 (dk_at dksX0_laysWorks_4 5 rfl rfl)
theorem dX0_laysWorks_101 : decode cX0_laysWorks 101 = .ok (.aload_n 2, 1) := dk_44 (dk_at dksX0_laysWorks_4 6 rfl rfl)
theorem dX0_laysWorks_102 : decode cX0_laysWorks 102 = .ok (.aload_n 3, 1) := dk_45 (dk_at dksX0_laysWorks_4 7 rfl rfl)
theorem dX0_laysWorks_103 : decode cX0_laysWorks 103 = .ok (.iload 6, 2) := dk_21 6 (dk_at dksX0_laysWorks_4 8 rfl rfl)
theorem dX0_laysWorks_105 : decode cX0_laysWorks 105 = .ok (.iload 7, 2) := dk_21 7 (dk_at dksX0_laysWorks_4 10 rfl rfl)
theorem dX0_laysWorks_107 : decode cX0_laysWorks 107 = .ok (.iload 8, 2) := dk_21 8 (dk_at dksX0_laysWorks_4 12 rfl rfl)
theorem dX0_laysWorks_109 : decode cX0_laysWorks 109 = .ok (.iload 9, 2) := dk_21 9 (dk_at dksX0_laysWorks_4 14 rfl rfl)
theorem dX0_laysWorks_111 : decode cX0_laysWorks 111 = .ok (.invokevirtual 286, 3) := dk_182 1 30 (dk_at dksX0_laysWorks_4 16 rfl rfl)
theorem dX0_laysWorks_114 : decode cX0_laysWorks 114 = .ok (.invokestatic 1, 3) := dk_184 0 1 (dk_at dksX0_laysWorks_4 19 rfl rfl)
theorem dX0_laysWorks_117 : decode cX0_laysWorks 117 = .ok (.iastore, 1) := dk_79 (dk_at dksX0_laysWorks_4 22 rfl rfl)
theorem dX0_laysWorks_118 : decode cX0_laysWorks 118 = .ok (.iinc 9 1, 3) := dk_132 9 1 (dk_at dksX0_laysWorks_5 0 rfl rfl)
theorem dX0_laysWorks_121 : decode cX0_laysWorks 121 = .ok (.goto (-61), 3) := dk_167 255 195 (dk_at dksX0_laysWorks_5 3 rfl rfl)
theorem dX0_laysWorks_124 : decode cX0_laysWorks 124 = .ok (.iinc 8 1, 3) := dk_132 8 1 (dk_at dksX0_laysWorks_5 6 rfl rfl)
theorem dX0_laysWorks_127 : decode cX0_laysWorks 127 = .ok (.goto (-105), 3) := dk_167 255 151 (dk_at dksX0_laysWorks_5 9 rfl rfl)
theorem dX0_laysWorks_130 : decode cX0_laysWorks 130 = .ok (.iinc 7 1, 3) := dk_132 7 1 (dk_at dksX0_laysWorks_5 12 rfl rfl)
theorem dX0_laysWorks_133 : decode cX0_laysWorks 133 = .ok (.goto (-121), 3) := dk_167 255 135 (dk_at dksX0_laysWorks_5 15 rfl rfl)
theorem dX0_laysWorks_136 : decode cX0_laysWorks 136 = .ok (.iinc 6 (-1), 3) := dk_132 6 255 (dk_at dksX0_laysWorks_5 18 rfl rfl)
theorem dX0_laysWorks_139 : decode cX0_laysWorks 139 = .ok (.goto (-135), 3) := dk_167 255 121 (dk_at dksX0_laysWorks_5 21 rfl rfl)
theorem dX0_laysWorks_142 : decode cX0_laysWorks 142 = .ok (.return_, 1) := dk_177 (dk_at dksX0_laysWorks_6 0 rfl rfl)
abbrev cX0_workBy : ByteArray := prog_1_method_41_code
def yX0_workBy : MethodName := ⟨RX0, "workBy", "(LPuzzleWed$Piece;LPuzzleWed$Piece;LPuzzleWed$Piece;IIII)I"⟩
def dkwX0_workBy_2 : List UInt8 := [21, 4, 46, 100, 184, 1, 23, 42, 180, 0, 80, 21, 4, 4, 96, 50, 21, 8, 50, 21, 9, 46, 96, 172]
abbrev dktX0_workBy_2 : List UInt8 := dkwX0_workBy_2 ++ []
def dkwX0_workBy_1 : List UInt8 := [54, 9, 21, 8, 155, 0, 8, 21, 9, 156, 0, 9, 19, 1, 22, 167, 0, 32, 21, 7, 43, 180, 0, 171]
abbrev dktX0_workBy_1 : List UInt8 := dkwX0_workBy_1 ++ dktX0_workBy_2
def dkwX0_workBy_0 : List UInt8 := [21, 5, 21, 7, 44, 21, 4, 184, 1, 26, 100, 54, 8, 21, 6, 21, 7, 45, 21, 4, 184, 1, 26, 100]
abbrev dktX0_workBy_0 : List UInt8 := dkwX0_workBy_0 ++ dktX0_workBy_1
theorem dksX0_workBy_0 : cX0_workBy.data.toList.drop 0 = dktX0_workBy_0 := by decide +kernel
theorem dksX0_workBy_1 : cX0_workBy.data.toList.drop 24 = dktX0_workBy_1 := dk_seg dksX0_workBy_0 24 rfl rfl
theorem dksX0_workBy_2 : cX0_workBy.data.toList.drop 48 = dktX0_workBy_2 := dk_seg dksX0_workBy_1 24 rfl rfl
theorem dX0_workBy_0 : decode cX0_workBy 0 = .ok (.iload 5, 2) := dk_21 5 (dk_at dksX0_workBy_0 0 rfl rfl)
theorem dX0_workBy_2 : decode cX0_workBy 2 = .ok (.iload 7, 2) := dk_21 7 (dk_at dksX0_workBy_0 2 rfl rfl)
theorem dX0_workBy_4 : decode cX0_workBy 4 = .ok (.aload_n 2, 1) := dk_44 (dk_at dksX0_workBy_0 4 rfl rfl)
theorem dX0_workBy_5 : decode cX0_workBy 5 = .ok (.iload 4, 2) := dk_21 4 (dk_at dksX0_workBy_0 5 rfl rfl)
theorem dX0_workBy_7 : decode cX0_workBy 7 = .ok (.invokestatic 282, 3) := dk_184 1 26 (dk_at dksX0_workBy_0 7 rfl rfl)
theorem dX0_workBy_10 : decode cX0_workBy 10 = .ok (.isub, 1) := dk_100 (dk_at dksX0_workBy_0 10 rfl rfl)
theorem dX0_workBy_11 : decode cX0_workBy 11 = .ok (.istore 8, 2) := dk_54 8 (dk_at dksX0_workBy_0 11 rfl rfl)
theorem dX0_workBy_13 : decode cX0_workBy 13 = .ok (.iload 6, 2) := dk_21 6 (dk_at dksX0_workBy_0 13 rfl rfl)
theorem dX0_workBy_15 : decode cX0_workBy 15 = .ok (.iload 7, 2) := dk_21 7 (dk_at dksX0_workBy_0 15 rfl rfl)
theorem dX0_workBy_17 : decode cX0_workBy 17 = .ok (.aload_n 3, 1) := dk_45 (dk_at dksX0_workBy_0 17 rfl rfl)
theorem dX0_workBy_18 : decode cX0_workBy 18 = .ok (.iload 4, 2) := dk_21 4 (dk_at dksX0_workBy_0 18 rfl rfl)
theorem dX0_workBy_20 : decode cX0_workBy 20 = .ok (.invokestatic 282, 3) := dk_184 1 26 (dk_at dksX0_workBy_0 20 rfl rfl)
theorem dX0_workBy_23 : decode cX0_workBy 23 = .ok (.isub, 1) := dk_100 (dk_at dksX0_workBy_0 23 rfl rfl)
theorem dX0_workBy_24 : decode cX0_workBy 24 = .ok (.istore 9, 2) := dk_54 9 (dk_at dksX0_workBy_1 0 rfl rfl)
theorem dX0_workBy_26 : decode cX0_workBy 26 = .ok (.iload 8, 2) := dk_21 8 (dk_at dksX0_workBy_1 2 rfl rfl)
theorem dX0_workBy_28 : decode cX0_workBy 28 = .ok (.ifCond .lt 8, 3) := dk_155 0 8 (dk_at dksX0_workBy_1 4 rfl rfl)
theorem dX0_workBy_31 : decode cX0_workBy 31 = .ok (.iload 9, 2) := dk_21 9 (dk_at dksX0_workBy_1 7 rfl rfl)
theorem dX0_workBy_33 : decode cX0_workBy 33 = .ok (.ifCond .ge 9, 3) := dk_156 0 9 (dk_at dksX0_workBy_1 9 rfl rfl)
theorem dX0_workBy_36 : decode cX0_workBy 36 = .ok (.ldc_w 278, 3) := dk_19 1 22 (dk_at dksX0_workBy_1 12 rfl rfl)
theorem dX0_workBy_39 : decode cX0_workBy 39 = .ok (.goto 32, 3) := dk_167 0 32 (dk_at dksX0_workBy_1 15 rfl rfl)
theorem dX0_workBy_42 : decode cX0_workBy 42 = .ok (.iload 7, 2) := dk_21 7 (dk_at dksX0_workBy_1 18 rfl rfl)
theorem dX0_workBy_44 : decode cX0_workBy 44 = .ok (.aload_n 1, 1) := dk_43 (dk_at dksX0_workBy_1 20 rfl rfl)
theorem dX0_workBy_45 : decode cX0_workBy 45 = .ok (.getfield 171, 3) := dk_180 0 171 (dk_at dksX0_workBy_1 21 rfl rfl)
theorem dX0_workBy_48 : decode cX0_workBy 48 = .ok (.iload 4, 2) := dk_21 4 (dk_at dksX0_workBy_2 0 rfl rfl)
theorem dX0_workBy_50 : decode cX0_workBy 50 = .ok (.iaload, 1) := dk_46 (dk_at dksX0_workBy_2 2 rfl rfl)
theorem dX0_workBy_51 : decode cX0_workBy 51 = .ok (.isub, 1) := dk_100 (dk_at dksX0_workBy_2 3 rfl rfl)
theorem dX0_workBy_52 : decode cX0_workBy 52 = .ok (.invokestatic 279, 3) := dk_184 1 23 (dk_at dksX0_workBy_2 4 rfl rfl)
theorem dX0_workBy_55 : decode cX0_workBy 55 = .ok (.aload_n 0, 1) := dk_42 (dk_at dksX0_workBy_2 7 rfl rfl)
theorem dX0_workBy_56 : decode cX0_workBy 56 = .ok (.getfield 80, 3) := dk_180 0 80 (dk_at dksX0_workBy_2 8 rfl rfl)
theorem dX0_workBy_59 : decode cX0_workBy 59 = .ok (.iload 4, 2) := dk_21 4 (dk_at dksX0_workBy_2 11 rfl rfl)
theorem dX0_workBy_61 : decode cX0_workBy 61 = .ok (.iconst 1, 1) := dk_4 (dk_at dksX0_workBy_2 13 rfl rfl)
theorem dX0_workBy_62 : decode cX0_workBy 62 = .ok (.iadd, 1) := dk_96 (dk_at dksX0_workBy_2 14 rfl rfl)
theorem dX0_workBy_63 : decode cX0_workBy 63 = .ok (.aaload, 1) := dk_50 (dk_at dksX0_workBy_2 15 rfl rfl)
theorem dX0_workBy_64 : decode cX0_workBy 64 = .ok (.iload 8, 2) := dk_21 8 (dk_at dksX0_workBy_2 16 rfl rfl)
theorem dX0_workBy_66 : decode cX0_workBy 66 = .ok (.aaload, 1) := dk_50 (dk_at dksX0_workBy_2 18 rfl rfl)
theorem dX0_workBy_67 : decode cX0_workBy 67 = .ok (.iload 9, 2) := dk_21 9 (dk_at dksX0_workBy_2 19 rfl rfl)
theorem dX0_workBy_69 : decode cX0_workBy 69 = .ok (.iaload, 1) := dk_46 (dk_at dksX0_workBy_2 21 rfl rfl)
theorem dX0_workBy_70 : decode cX0_workBy 70 = .ok (.iadd, 1) := dk_96 (dk_at dksX0_workBy_2 22 rfl rfl)
theorem dX0_workBy_71 : decode cX0_workBy 71 = .ok (.ireturn, 1) := dk_172 (dk_at dksX0_workBy_2 23 rfl rfl)
abbrev cX0_gapAt : ByteArray := prog_1_method_40_code
def yX0_gapAt : MethodName := ⟨RX0, "gapAt", "(ILPuzzleWed$Piece;I)I"⟩
def dkwX0_gapAt_0 : List UInt8 := [43, 199, 0, 7, 3, 167, 0, 17, 26, 43, 180, 0, 171, 16, 7, 28, 100, 46, 96, 184, 1, 23, 172]
abbrev dktX0_gapAt_0 : List UInt8 := dkwX0_gapAt_0 ++ []
theorem dksX0_gapAt_0 : cX0_gapAt.data.toList.drop 0 = dktX0_gapAt_0 := by decide +kernel
theorem dX0_gapAt_0 : decode cX0_gapAt 0 = .ok (.aload_n 1, 1) := dk_43 (dk_at dksX0_gapAt_0 0 rfl rfl)
theorem dX0_gapAt_1 : decode cX0_gapAt 1 = .ok (.ifnonnull 7, 3) := dk_199 0 7 (dk_at dksX0_gapAt_0 1 rfl rfl)
theorem dX0_gapAt_4 : decode cX0_gapAt 4 = .ok (.iconst 0, 1) := dk_3 (dk_at dksX0_gapAt_0 4 rfl rfl)
theorem dX0_gapAt_5 : decode cX0_gapAt 5 = .ok (.goto 17, 3) := dk_167 0 17 (dk_at dksX0_gapAt_0 5 rfl rfl)
theorem dX0_gapAt_8 : decode cX0_gapAt 8 = .ok (.iload_n 0, 1) := dk_26 (dk_at dksX0_gapAt_0 8 rfl rfl)
theorem dX0_gapAt_9 : decode cX0_gapAt 9 = .ok (.aload_n 1, 1) := dk_43 (dk_at dksX0_gapAt_0 9 rfl rfl)
theorem dX0_gapAt_10 : decode cX0_gapAt 10 = .ok (.getfield 171, 3) := dk_180 0 171 (dk_at dksX0_gapAt_0 10 rfl rfl)
theorem dX0_gapAt_13 : decode cX0_gapAt 13 = .ok (.bipush 7, 2) := dk_16 7 (dk_at dksX0_gapAt_0 13 rfl rfl)
theorem dX0_gapAt_15 : decode cX0_gapAt 15 = .ok (.iload_n 2, 1) := dk_28 (dk_at dksX0_gapAt_0 15 rfl rfl)
theorem dX0_gapAt_16 : decode cX0_gapAt 16 = .ok (.isub, 1) := dk_100 (dk_at dksX0_gapAt_0 16 rfl rfl)
theorem dX0_gapAt_17 : decode cX0_gapAt 17 = .ok (.iaload, 1) := dk_46 (dk_at dksX0_gapAt_0 17 rfl rfl)
theorem dX0_gapAt_18 : decode cX0_gapAt 18 = .ok (.iadd, 1) := dk_96 (dk_at dksX0_gapAt_0 18 rfl rfl)
theorem dX0_gapAt_19 : decode cX0_gapAt 19 = .ok (.invokestatic 279, 3) := dk_184 1 23 (dk_at dksX0_gapAt_0 19 rfl rfl)
theorem dX0_gapAt_22 : decode cX0_gapAt 22 = .ok (.ireturn, 1) := dk_172 (dk_at dksX0_gapAt_0 22 rfl rfl)
abbrev cX0_steaming : ByteArray := prog_1_method_45_code
def yX0_steaming : MethodName := ⟨RX0, "steaming", "(IIII)I"⟩
def dkwX0_steaming_7 : List UInt8 := [132, 8, 1, 167, 255, 154, 132, 7, 1, 167, 255, 137, 21, 6, 172]
abbrev dktX0_steaming_7 : List UInt8 := dkwX0_steaming_7 ++ []
def dkwX0_steaming_6 : List UInt8 := [21, 9, 167, 0, 19, 21, 4, 4, 160, 0, 8, 21, 7, 167, 0, 8, 21, 8, 16, 10, 96, 54, 6]
abbrev dktX0_steaming_6 : List UInt8 := dkwX0_steaming_6 ++ dktX0_steaming_7
def dkwX0_steaming_5 : List UInt8 := [180, 0, 117, 28, 50, 182, 1, 41, 29, 164, 0, 6, 167, 0, 35, 21, 9, 54, 5, 21, 4, 154, 0, 8]
abbrev dktX0_steaming_5 : List UInt8 := dkwX0_steaming_5 ++ dktX0_steaming_6
def dkwX0_steaming_4 : List UInt8 := [180, 0, 33, 180, 0, 117, 27, 50, 21, 7, 21, 8, 182, 1, 44, 42, 180, 0, 86, 42, 180, 0, 33]
abbrev dktX0_steaming_4 : List UInt8 := dkwX0_steaming_4 ++ dktX0_steaming_5
def dkwX0_steaming_3 : List UInt8 := [21, 7, 21, 8, 184, 1, 23, 96, 54, 9, 21, 9, 21, 5, 161, 0, 6, 167, 0, 75, 42, 42]
abbrev dktX0_steaming_3 : List UInt8 := dkwX0_steaming_3 ++ dktX0_steaming_4
def dkwX0_steaming_2 : List UInt8 := [54, 6, 3, 54, 7, 21, 7, 16, 8, 162, 0, 118, 16, 247, 54, 8, 21, 8, 16, 9, 163, 0, 101]
abbrev dktX0_steaming_2 : List UInt8 := dkwX0_steaming_2 ++ dktX0_steaming_3
def dkwX0_steaming_1 : List UInt8 := [184, 0, 128, 153, 0, 12, 21, 4, 6, 184, 0, 103, 154, 0, 5, 2, 172, 19, 1, 22, 54, 5, 16, 254]
abbrev dktX0_steaming_1 : List UInt8 := dkwX0_steaming_1 ++ dktX0_steaming_2
def dkwX0_steaming_0 : List UInt8 := [27, 184, 0, 124, 153, 0, 34, 28, 184, 0, 124, 153, 0, 27, 27, 28, 159, 0, 22, 29, 3, 16, 99]
abbrev dktX0_steaming_0 : List UInt8 := dkwX0_steaming_0 ++ dktX0_steaming_1
theorem dksX0_steaming_0 : cX0_steaming.data.toList.drop 0 = dktX0_steaming_0 := by decide +kernel
theorem dksX0_steaming_1 : cX0_steaming.data.toList.drop 23 = dktX0_steaming_1 := dk_seg dksX0_steaming_0 23 rfl rfl
theorem dksX0_steaming_2 : cX0_steaming.data.toList.drop 47 = dktX0_steaming_2 := dk_seg dksX0_steaming_1 24 rfl rfl
theorem dksX0_steaming_3 : cX0_steaming.data.toList.drop 70 = dktX0_steaming_3 := dk_seg dksX0_steaming_2 23 rfl rfl
theorem dksX0_steaming_4 : cX0_steaming.data.toList.drop 92 = dktX0_steaming_4 := dk_seg dksX0_steaming_3 22 rfl rfl
theorem dksX0_steaming_5 : cX0_steaming.data.toList.drop 115 = dktX0_steaming_5 := dk_seg dksX0_steaming_4 23 rfl rfl
theorem dksX0_steaming_6 : cX0_steaming.data.toList.drop 139 = dktX0_steaming_6 := dk_seg dksX0_steaming_5 24 rfl rfl
theorem dksX0_steaming_7 : cX0_steaming.data.toList.drop 162 = dktX0_steaming_7 := dk_seg dksX0_steaming_6 23 rfl rfl
theorem dX0_steaming_0 : decode cX0_steaming 0 = .ok (.iload_n 1, 1) := dk_27 (dk_at dksX0_steaming_0 0 rfl rfl)
theorem dX0_steaming_1 : decode cX0_steaming 1 = .ok (.invokestatic 124, 3) := dk_184 0 124 (dk_at dksX0_steaming_0 1 rfl rfl)
theorem dX0_steaming_4 : decode cX0_steaming 4 = .ok (.ifCond .eq 34, 3) := dk_153 0 34 (dk_at dksX0_steaming_0 4 rfl rfl)
theorem dX0_steaming_7 : decode cX0_steaming 7 = .ok (.iload_n 2, 1) := dk_28 (dk_at dksX0_steaming_0 7 rfl rfl)
theorem dX0_steaming_8 : decode cX0_steaming 8 = .ok (.invokestatic 124, 3) := dk_184 0 124 (dk_at dksX0_steaming_0 8 rfl rfl)
theorem dX0_steaming_11 : decode cX0_steaming 11 = .ok (.ifCond .eq 27, 3) := dk_153 0 27 (dk_at dksX0_steaming_0 11 rfl rfl)
theorem dX0_steaming_14 : decode cX0_steaming 14 = .ok (.iload_n 1, 1) := dk_27 (dk_at dksX0_steaming_0 14 rfl rfl)
theorem dX0_steaming_15 : decode cX0_steaming 15 = .ok (.iload_n 2, 1) := dk_28 (dk_at dksX0_steaming_0 15 rfl rfl)
theorem dX0_steaming_16 : decode cX0_steaming 16 = .ok (.if_icmp .eq 22, 3) := dk_159 0 22 (dk_at dksX0_steaming_0 16 rfl rfl)
theorem dX0_steaming_19 : decode cX0_steaming 19 = .ok (.iload_n 3, 1) := dk_29 (dk_at dksX0_steaming_0 19 rfl rfl)
theorem dX0_steaming_20 : decode cX0_steaming 20 = .ok (.iconst 0, 1) := dk_3 (dk_at dksX0_steaming_0 20 rfl rfl)
theorem dX0_steaming_21 : decode cX0_steaming 21 = .ok (.bipush 99, 2) := dk_16 99 (dk_at dksX0_steaming_0 21 rfl rfl)
theorem dX0_steaming_23 : decode cX0_steaming 23 = .ok (.invokestatic 128, 3) := dk_184 0 128 (dk_at dksX0_steaming_1 0 rfl rfl)
theorem dX0_steaming_26 : decode cX0_steaming 26 = .ok (.ifCond .eq 12, 3) := dk_153 0 12 (dk_at dksX0_steaming_1 3 rfl rfl)
theorem dX0_steaming_29 : decode cX0_steaming 29 = .ok (.iload 4, 2) := dk_21 4 (dk_at dksX0_steaming_1 6 rfl rfl)
theorem dX0_steaming_31 : decode cX0_steaming 31 = .ok (.iconst 3, 1) := dk_6 (dk_at dksX0_steaming_1 8 rfl rfl)
theorem dX0_steaming_32 : decode cX0_steaming 32 = .ok (.invokestatic 103, 3) := dk_184 0 103 (dk_at dksX0_steaming_1 9 rfl rfl)
theorem dX0_steaming_35 : decode cX0_steaming 35 = .ok (.ifCond .ne 5, 3) := dk_154 0 5 (dk_at dksX0_steaming_1 12 rfl rfl)
theorem dX0_steaming_38 : decode cX0_steaming 38 = .ok (.iconst (-1), 1) := dk_2 (dk_at dksX0_steaming_1 15 rfl rfl)
theorem dX0_steaming_39 : decode cX0_steaming 39 = .ok (.ireturn, 1) := dk_172 (dk_at dksX0_steaming_1 16 rfl rfl)
theorem dX0_steaming_40 : decode cX0_steaming 40 = .ok (.ldc_w 278, 3) := dk_19 1 22 (dk_at dksX0_steaming_1 17 rfl rfl)
theorem dX0_steaming_43 : decode cX0_steaming 43 = .ok (.istore 5, 2) := dk_54 5 (dk_at dksX0_steaming_1 20 rfl rfl)
theorem dX0_steaming_45 : decode cX0_steaming 45 = .ok (.bipush (-2), 2) := dk_16 254 (dk_at dksX0_steaming_1 22 rfl rfl)
theorem dX0_steaming_47 : decode cX0_steaming 47 = .ok (.istore 6, 2) := dk_54 6 (dk_at dksX0_steaming_2 0 rfl rfl)
theorem dX0_steaming_49 : decode cX0_steaming 49 = .ok (.iconst 0, 1) := dk_3 (dk_at dksX0_steaming_2 2 rfl rfl)
theorem dX0_steaming_50 : decode cX0_steaming 50 = .ok (.istore 7, 2) := dk_54 7 (dk_at dksX0_steaming_2 3 rfl rfl)
theorem dX0_steaming_52 : decode cX0_steaming 52 = .ok (.iload 7, 2) := dk_21 7 (dk_at dksX0_steaming_2 5 rfl rfl)
theorem dX0_steaming_54 : decode cX0_steaming 54 = .ok (.bipush 8, 2) := dk_16 8 (dk_at dksX0_steaming_2 7 rfl rfl)
theorem dX0_steaming_56 : decode cX0_steaming 56 = .ok (.if_icmp .ge 118, 3) := dk_162 0 118 (dk_at dksX0_steaming_2 9 rfl rfl)
theorem dX0_steaming_59 : decode cX0_steaming 59 = .ok (.bipush (-9), 2) := dk_16 247 (dk_at dksX0_steaming_2 12 rfl rfl)
theorem dX0_steaming_61 : decode cX0_steaming 61 = .ok (.istore 8, 2) := dk_54 8 (dk_at dksX0_steaming_2 14 rfl rfl)
theorem dX0_steaming_63 : decode cX0_steaming 63 = .ok (.iload 8, 2) := dk_21 8 (dk_at dksX0_steaming_2 16 rfl rfl)
theorem dX0_steaming_65 : decode cX0_steaming 65 = .ok (.bipush 9, 2) := dk_16 9 (dk_at dksX0_steaming_2 18 rfl rfl)
theorem dX0_steaming_67 : decode cX0_steaming 67 = .ok (.if_icmp .gt 101, 3) := dk_163 0 101 (dk_at dksX0_steaming_2 20 rfl rfl)
theorem dX0_steaming_70 : decode cX0_steaming 70 = .ok (.iload 7, 2) := dk_21 7 (dk_at dksX0_steaming_3 0 rfl rfl)
theorem dX0_steaming_72 : decode cX0_steaming 72 = .ok (.iload 8, 2) := dk_21 8 (dk_at dksX0_steaming_3 2 rfl rfl)
theorem dX0_steaming_74 : decode cX0_steaming 74 = .ok (.invokestatic 279, 3) := dk_184 1 23 (dk_at dksX0_steaming_3 4 rfl rfl)
theorem dX0_steaming_77 : decode cX0_steaming 77 = .ok (.iadd, 1) := dk_96 (dk_at dksX0_steaming_3 7 rfl rfl)
theorem dX0_steaming_78 : decode cX0_steaming 78 = .ok (.istore 9, 2) := dk_54 9 (dk_at dksX0_steaming_3 8 rfl rfl)
theorem dX0_steaming_80 : decode cX0_steaming 80 = .ok (.iload 9, 2) := dk_21 9 (dk_at dksX0_steaming_3 10 rfl rfl)
theorem dX0_steaming_82 : decode cX0_steaming 82 = .ok (.iload 5, 2) := dk_21 5 (dk_at dksX0_steaming_3 12 rfl rfl)
theorem dX0_steaming_84 : decode cX0_steaming 84 = .ok (.if_icmp .lt 6, 3) := dk_161 0 6 (dk_at dksX0_steaming_3 14 rfl rfl)
theorem dX0_steaming_87 : decode cX0_steaming 87 = .ok (.goto 75, 3) := dk_167 0 75 (dk_at dksX0_steaming_3 17 rfl rfl)
theorem dX0_steaming_90 : decode cX0_steaming 90 = .ok (.aload_n 0, 1) := dk_42 (dk_at dksX0_steaming_3 20 rfl rfl)
theorem dX0_steaming_91 : decode cX0_steaming 91 = .ok (.aload_n 0, 1) := dk_42 (dk_at dksX0_steaming_3 21 rfl rfl)
theorem dX0_steaming_92 : decode cX0_steaming 92 = .ok (.getfield 33, 3) := dk_180 0 33 (dk_at dksX0_steaming_4 0 rfl rfl)
theorem dX0_steaming_95 : decode cX0_steaming 95 = .ok (.getfield 117, 3) := dk_180 0 117 (dk_at dksX0_steaming_4 3 rfl rfl)
theorem dX0_steaming_98 : decode cX0_steaming 98 = .ok (.iload_n 1, 1) := dk_27 (dk_at dksX0_steaming_4 6 rfl rfl)
theorem dX0_steaming_99 : decode cX0_steaming 99 = .ok (.aaload, 1) := dk_50 (dk_at dksX0_steaming_4 7 rfl rfl)
theorem dX0_steaming_100 : decode cX0_steaming 100 = .ok (.iload 7, 2) := dk_21 7 (dk_at dksX0_steaming_4 8 rfl rfl)
theorem dX0_steaming_102 : decode cX0_steaming 102 = .ok (.iload 8, 2) := dk_21 8 (dk_at dksX0_steaming_4 10 rfl rfl)
theorem dX0_steaming_104 : decode cX0_steaming 104 = .ok (.invokevirtual 300, 3) := dk_182 1 44 (dk_at dksX0_steaming_4 12 rfl rfl)
theorem dX0_steaming_107 : decode cX0_steaming 107 = .ok (.aload_n 0, 1) := dk_42 (dk_at dksX0_steaming_4 15 rfl rfl)
theorem dX0_steaming_108 : decode cX0_steaming 108 = .ok (.getfield 86, 3) := dk_180 0 86 (dk_at dksX0_steaming_4 16 rfl rfl)
theorem dX0_steaming_111 : decode cX0_steaming 111 = .ok (.aload_n 0, 1) := dk_42 (dk_at dksX0_steaming_4 19 rfl rfl)
theorem dX0_steaming_112 : decode cX0_steaming 112 = .ok (.getfield 33, 3) := dk_180 0 33 (dk_at dksX0_steaming_4 20 rfl rfl)
theorem dX0_steaming_115 : decode cX0_steaming 115 = .ok (.getfield 117, 3) := dk_180 0 117 (dk_at dksX0_steaming_5 0 rfl rfl)
theorem dX0_steaming_118 : decode cX0_steaming 118 = .ok (.iload_n 2, 1) := dk_28 (dk_at dksX0_steaming_5 3 rfl rfl)
theorem dX0_steaming_119 : decode cX0_steaming 119 = .ok (.aaload, 1) := dk_50 (dk_at dksX0_steaming_5 4 rfl rfl)
theorem dX0_steaming_120 : decode cX0_steaming 120 = .ok (.invokevirtual 297, 3) := dk_182 1 41 (dk_at dksX0_steaming_5 5 rfl rfl)
theorem dX0_steaming_123 : decode cX0_steaming 123 = .ok (.iload_n 3, 1) := dk_29 (dk_at dksX0_steaming_5 8 rfl rfl)
theorem dX0_steaming_124 : decode cX0_steaming 124 = .ok (.if_icmp .le 6, 3) := dk_164 0 6 (dk_at dksX0_steaming_5 9 rfl rfl)
theorem dX0_steaming_127 : decode cX0_steaming 127 = .ok (.goto 35, 3) := dk_167 0 35 (dk_at dksX0_steaming_5 12 rfl rfl)
theorem dX0_steaming_130 : decode cX0_steaming 130 = .ok (.iload 9, 2) := dk_21 9 (dk_at dksX0_steaming_5 15 rfl rfl)
theorem dX0_steaming_132 : decode cX0_steaming 132 = .ok (.istore 5, 2) := dk_54 5 (dk_at dksX0_steaming_5 17 rfl rfl)
theorem dX0_steaming_134 : decode cX0_steaming 134 = .ok (.iload 4, 2) := dk_21 4 (dk_at dksX0_steaming_5 19 rfl rfl)
theorem dX0_steaming_136 : decode cX0_steaming 136 = .ok (.ifCond .ne 8, 3) := dk_154 0 8 (dk_at dksX0_steaming_5 21 rfl rfl)
theorem dX0_steaming_139 : decode cX0_steaming 139 = .ok (.iload 9, 2) := dk_21 9 (dk_at dksX0_steaming_6 0 rfl rfl)
theorem dX0_steaming_141 : decode cX0_steaming 141 = .ok (.goto 19, 3) := dk_167 0 19 (dk_at dksX0_steaming_6 2 rfl rfl)
theorem dX0_steaming_144 : decode cX0_steaming 144 = .ok (.iload 4, 2) := dk_21 4 (dk_at dksX0_steaming_6 5 rfl rfl)
theorem dX0_steaming_146 : decode cX0_steaming 146 = .ok (.iconst 1, 1) := dk_4 (dk_at dksX0_steaming_6 7 rfl rfl)
theorem dX0_steaming_147 : decode cX0_steaming 147 = .ok (.if_icmp .ne 8, 3) := dk_160 0 8 (dk_at dksX0_steaming_6 8 rfl rfl)
theorem dX0_steaming_150 : decode cX0_steaming 150 = .ok (.iload 7, 2) := dk_21 7 (dk_at dksX0_steaming_6 11 rfl rfl)
theorem dX0_steaming_152 : decode cX0_steaming 152 = .ok (.goto 8, 3) := dk_167 0 8 (dk_at dksX0_steaming_6 13 rfl rfl)
theorem dX0_steaming_155 : decode cX0_steaming 155 = .ok (.iload 8, 2) := dk_21 8 (dk_at dksX0_steaming_6 16 rfl rfl)
theorem dX0_steaming_157 : decode cX0_steaming 157 = .ok (.bipush 10, 2) := dk_16 10 (dk_at dksX0_steaming_6 18 rfl rfl)
theorem dX0_steaming_159 : decode cX0_steaming 159 = .ok (.iadd, 1) := dk_96 (dk_at dksX0_steaming_6 20 rfl rfl)
theorem dX0_steaming_160 : decode cX0_steaming 160 = .ok (.istore 6, 2) := dk_54 6 (dk_at dksX0_steaming_6 21 rfl rfl)
theorem dX0_steaming_162 : decode cX0_steaming 162 = .ok (.iinc 8 1, 3) := dk_132 8 1 (dk_at dksX0_steaming_7 0 rfl rfl)
theorem dX0_steaming_165 : decode cX0_steaming 165 = .ok (.goto (-102), 3) := dk_167 255 154 (dk_at dksX0_steaming_7 3 rfl rfl)
theorem dX0_steaming_168 : decode cX0_steaming 168 = .ok (.iinc 7 1, 3) := dk_132 7 1 (dk_at dksX0_steaming_7 6 rfl rfl)
theorem dX0_steaming_171 : decode cX0_steaming 171 = .ok (.goto (-119), 3) := dk_167 255 137 (dk_at dksX0_steaming_7 9 rfl rfl)
theorem dX0_steaming_174 : decode cX0_steaming 174 = .ok (.iload 6, 2) := dk_21 6 (dk_at dksX0_steaming_7 12 rfl rfl)
theorem dX0_steaming_176 : decode cX0_steaming 176 = .ok (.ireturn, 1) := dk_172 (dk_at dksX0_steaming_7 14 rfl rfl)
abbrev cX0_steams : ByteArray := prog_1_method_44_code
def yX0_steams : MethodName := ⟨RX0, "steams", "(LPuzzleWed$Piece;II)V"⟩
def dkwX0_steams_2 : List UInt8 := [184, 0, 1, 184, 0, 7, 79, 132, 4, 1, 167, 255, 212, 177]
abbrev dktX0_steams_2 : List UInt8 := dkwX0_steams_2 ++ []
def dkwX0_steams_1 : List UInt8 := [180, 0, 171, 21, 4, 16, 247, 16, 9, 43, 180, 0, 171, 21, 4, 28, 96, 16, 8, 112, 46, 29, 96]
abbrev dktX0_steams_1 : List UInt8 := dkwX0_steams_1 ++ dktX0_steams_2
def dkwX0_steams_0 : List UInt8 := [42, 180, 0, 86, 43, 182, 1, 38, 3, 54, 4, 21, 4, 16, 8, 162, 0, 43, 42, 180, 0, 86]
abbrev dktX0_steams_0 : List UInt8 := dkwX0_steams_0 ++ dktX0_steams_1
theorem dksX0_steams_0 : cX0_steams.data.toList.drop 0 = dktX0_steams_0 := by decide +kernel
theorem dksX0_steams_1 : cX0_steams.data.toList.drop 22 = dktX0_steams_1 := dk_seg dksX0_steams_0 22 rfl rfl
theorem dksX0_steams_2 : cX0_steams.data.toList.drop 45 = dktX0_steams_2 := dk_seg dksX0_steams_1 23 rfl rfl
theorem dX0_steams_0 : decode cX0_steams 0 = .ok (.aload_n 0, 1) := dk_42 (dk_at dksX0_steams_0 0 rfl rfl)
theorem dX0_steams_1 : decode cX0_steams 1 = .ok (.getfield 86, 3) := dk_180 0 86 (dk_at dksX0_steams_0 1 rfl rfl)
theorem dX0_steams_4 : decode cX0_steams 4 = .ok (.aload_n 1, 1) := dk_43 (dk_at dksX0_steams_0 4 rfl rfl)
theorem dX0_steams_5 : decode cX0_steams 5 = .ok (.invokevirtual 294, 3) := dk_182 1 38 (dk_at dksX0_steams_0 5 rfl rfl)
theorem dX0_steams_8 : decode cX0_steams 8 = .ok (.iconst 0, 1) := dk_3 (dk_at dksX0_steams_0 8 rfl rfl)
theorem dX0_steams_9 : decode cX0_steams 9 = .ok (.istore 4, 2) := dk_54 4 (dk_at dksX0_steams_0 9 rfl rfl)
theorem dX0_steams_11 : decode cX0_steams 11 = .ok (.iload 4, 2) := dk_21 4 (dk_at dksX0_steams_0 11 rfl rfl)
theorem dX0_steams_13 : decode cX0_steams 13 = .ok (.bipush 8, 2) := dk_16 8 (dk_at dksX0_steams_0 13 rfl rfl)
theorem dX0_steams_15 : decode cX0_steams 15 = .ok (.if_icmp .ge 43, 3) := dk_162 0 43 (dk_at dksX0_steams_0 15 rfl rfl)
theorem dX0_steams_18 : decode cX0_steams 18 = .ok (.aload_n 0, 1) := dk_42 (dk_at dksX0_steams_0 18 rfl rfl)
theorem dX0_steams_19 : decode cX0_steams 19 = .ok (.getfield 86, 3) := dk_180 0 86 (dk_at dksX0_steams_0 19 rfl rfl)
theorem dX0_steams_22 : decode cX0_steams 22 = .ok (.getfield 171, 3) := dk_180 0 171 (dk_at dksX0_steams_1 0 rfl rfl)
theorem dX0_steams_25 : decode cX0_steams 25 = .ok (.iload 4, 2) := dk_21 4 (dk_at dksX0_steams_1 3 rfl rfl)
theorem dX0_steams_27 : decode cX0_steams 27 = .ok (.bipush (-9), 2) := dk_16 247 (dk_at dksX0_steams_1 5 rfl rfl)
theorem dX0_steams_29 : decode cX0_steams 29 = .ok (.bipush 9, 2) := dk_16 9 (dk_at dksX0_steams_1 7 rfl rfl)
theorem dX0_steams_31 : decode cX0_steams 31 = .ok (.aload_n 1, 1) := dk_43 (dk_at dksX0_steams_1 9 rfl rfl)
theorem dX0_steams_32 : decode cX0_steams 32 = .ok (.getfield 171, 3) := dk_180 0 171 (dk_at dksX0_steams_1 10 rfl rfl)
theorem dX0_steams_35 : decode cX0_steams 35 = .ok (.iload 4, 2) := dk_21 4 (dk_at dksX0_steams_1 13 rfl rfl)
theorem dX0_steams_37 : decode cX0_steams 37 = .ok (.iload_n 2, 1) := dk_28 (dk_at dksX0_steams_1 15 rfl rfl)
theorem dX0_steams_38 : decode cX0_steams 38 = .ok (.iadd, 1) := dk_96 (dk_at dksX0_steams_1 16 rfl rfl)
theorem dX0_steams_39 : decode cX0_steams 39 = .ok (.bipush 8, 2) := dk_16 8 (dk_at dksX0_steams_1 17 rfl rfl)
theorem dX0_steams_41 : decode cX0_steams 41 = .ok (.irem, 1) := dk_112 (dk_at dksX0_steams_1 19 rfl rfl)
theorem dX0_steams_42 : decode cX0_steams 42 = .ok (.iaload, 1) := dk_46 (dk_at dksX0_steams_1 20 rfl rfl)
theorem dX0_steams_43 : decode cX0_steams 43 = .ok (.iload_n 3, 1) := dk_29 (dk_at dksX0_steams_1 21 rfl rfl)
theorem dX0_steams_44 : decode cX0_steams 44 = .ok (.iadd, 1) := dk_96 (dk_at dksX0_steams_1 22 rfl rfl)
theorem dX0_steams_45 : decode cX0_steams 45 = .ok (.invokestatic 1, 3) := dk_184 0 1 (dk_at dksX0_steams_2 0 rfl rfl)
theorem dX0_steams_48 : decode cX0_steams 48 = .ok (.invokestatic 7, 3) := dk_184 0 7 (dk_at dksX0_steams_2 3 rfl rfl)
theorem dX0_steams_51 : decode cX0_steams 51 = .ok (.iastore, 1) := dk_79 (dk_at dksX0_steams_2 6 rfl rfl)
theorem dX0_steams_52 : decode cX0_steams 52 = .ok (.iinc 4 1, 3) := dk_132 4 1 (dk_at dksX0_steams_2 7 rfl rfl)
theorem dX0_steams_55 : decode cX0_steams 55 = .ok (.goto (-44), 3) := dk_167 255 212 (dk_at dksX0_steams_2 10 rfl rfl)
theorem dX0_steams_58 : decode cX0_steams 58 = .ok (.return_, 1) := dk_177 (dk_at dksX0_steams_2 13 rfl rfl)
abbrev cX0_worn : ByteArray := prog_1_method_46_code
def yX0_worn : MethodName := ⟨RX0, "worn", "(II)I"⟩
def dkwX0_worn_12 : List UInt8 := [21, 7, 167, 0, 5, 16, 254, 172]
abbrev dktX0_worn_12 : List UInt8 := dkwX0_worn_12 ++ []
def dkwX0_worn_11 : List UInt8 := [167, 255, 213, 132, 7, 1, 167, 255, 148, 42, 180, 0, 37, 29, 21, 4, 182, 0, 234, 21, 6, 163, 0, 8]
abbrev dktX0_worn_11 : List UInt8 := dkwX0_worn_11 ++ dktX0_worn_12
def dkwX0_worn_10 : List UInt8 := [29, 159, 0, 13, 25, 12, 180, 0, 121, 21, 4, 160, 0, 10, 25, 12, 21, 5, 182, 1, 55, 132, 11, 1]
abbrev dktX0_worn_10 : List UInt8 := dkwX0_worn_10 ++ dktX0_worn_11
def dkwX0_worn_9 : List UInt8 := [54, 10, 3, 54, 11, 21, 11, 21, 10, 162, 0, 42, 25, 9, 21, 11, 50, 58, 12, 25, 12, 180, 0, 121]
abbrev dktX0_worn_9 : List UInt8 := dkwX0_worn_9 ++ dktX0_worn_10
def dkwX0_worn_8 : List UInt8 := [180, 0, 37, 29, 21, 4, 182, 0, 234, 54, 8, 42, 180, 0, 37, 180, 0, 117, 58, 9, 25, 9, 190]
abbrev dktX0_worn_8 : List UInt8 := dkwX0_worn_8 ++ dktX0_worn_9
def dkwX0_worn_7 : List UInt8 := [182, 0, 234, 21, 6, 164, 0, 99, 42, 180, 0, 37, 29, 21, 4, 182, 0, 234, 21, 8, 162, 0, 84, 42]
abbrev dktX0_worn_7 : List UInt8 := dkwX0_worn_7 ++ dktX0_worn_8
def dkwX0_worn_6 : List UInt8 := [16, 102, 16, 99, 182, 1, 52, 54, 6, 3, 54, 7, 19, 1, 22, 54, 8, 42, 180, 0, 37, 29, 21, 4]
abbrev dktX0_worn_6 : List UInt8 := dkwX0_worn_6 ++ dktX0_worn_7
def dkwX0_worn_5 : List UInt8 := [16, 119, 16, 9, 182, 1, 52, 54, 5, 42, 180, 0, 26, 42, 180, 0, 33, 29, 21, 4, 3, 182, 1, 48]
abbrev dktX0_worn_5 : List UInt8 := dkwX0_worn_5 ++ dktX0_worn_6
def dkwX0_worn_4 : List UInt8 := [180, 0, 26, 42, 180, 0, 33, 29, 21, 4, 42, 180, 0, 33, 29, 21, 4, 182, 0, 234, 182, 1, 48]
abbrev dktX0_worn_4 : List UInt8 := dkwX0_worn_4 ++ dktX0_worn_5
def dkwX0_worn_3 : List UInt8 := [27, 50, 180, 0, 111, 154, 0, 7, 27, 167, 0, 4, 28, 62, 27, 28, 96, 29, 100, 54, 4, 42]
abbrev dktX0_worn_3 : List UInt8 := dkwX0_worn_3 ++ dktX0_worn_4
def dkwX0_worn_2 : List UInt8 := [160, 0, 5, 2, 172, 42, 180, 0, 37, 42, 180, 0, 33, 182, 0, 199, 87, 42, 180, 0, 33, 180, 0, 94]
abbrev dktX0_worn_2 : List UInt8 := dkwX0_worn_2 ++ dktX0_worn_3
def dkwX0_worn_1 : List UInt8 := [180, 0, 33, 180, 0, 94, 27, 50, 180, 0, 111, 42, 180, 0, 33, 180, 0, 94, 28, 50, 180, 0, 111]
abbrev dktX0_worn_1 : List UInt8 := dkwX0_worn_1 ++ dktX0_worn_2
def dkwX0_worn_0 : List UInt8 := [42, 180, 0, 33, 27, 182, 0, 135, 153, 0, 41, 42, 180, 0, 33, 28, 182, 0, 135, 153, 0, 30, 42]
abbrev dktX0_worn_0 : List UInt8 := dkwX0_worn_0 ++ dktX0_worn_1
theorem dksX0_worn_0 : cX0_worn.data.toList.drop 0 = dktX0_worn_0 := by decide +kernel
theorem dksX0_worn_1 : cX0_worn.data.toList.drop 23 = dktX0_worn_1 := dk_seg dksX0_worn_0 23 rfl rfl
theorem dksX0_worn_2 : cX0_worn.data.toList.drop 46 = dktX0_worn_2 := dk_seg dksX0_worn_1 23 rfl rfl
theorem dksX0_worn_3 : cX0_worn.data.toList.drop 70 = dktX0_worn_3 := dk_seg dksX0_worn_2 24 rfl rfl
theorem dksX0_worn_4 : cX0_worn.data.toList.drop 92 = dktX0_worn_4 := dk_seg dksX0_worn_3 22 rfl rfl
theorem dksX0_worn_5 : cX0_worn.data.toList.drop 115 = dktX0_worn_5 := dk_seg dksX0_worn_4 23 rfl rfl
theorem dksX0_worn_6 : cX0_worn.data.toList.drop 139 = dktX0_worn_6 := dk_seg dksX0_worn_5 24 rfl rfl
theorem dksX0_worn_7 : cX0_worn.data.toList.drop 163 = dktX0_worn_7 := dk_seg dksX0_worn_6 24 rfl rfl
theorem dksX0_worn_8 : cX0_worn.data.toList.drop 187 = dktX0_worn_8 := dk_seg dksX0_worn_7 24 rfl rfl
theorem dksX0_worn_9 : cX0_worn.data.toList.drop 210 = dktX0_worn_9 := dk_seg dksX0_worn_8 23 rfl rfl
theorem dksX0_worn_10 : cX0_worn.data.toList.drop 234 = dktX0_worn_10 := dk_seg dksX0_worn_9 24 rfl rfl
theorem dksX0_worn_11 : cX0_worn.data.toList.drop 258 = dktX0_worn_11 := dk_seg dksX0_worn_10 24 rfl rfl
theorem dksX0_worn_12 : cX0_worn.data.toList.drop 282 = dktX0_worn_12 := dk_seg dksX0_worn_11 24 rfl rfl
theorem dX0_worn_0 : decode cX0_worn 0 = .ok (.aload_n 0, 1) := dk_42 (dk_at dksX0_worn_0 0 rfl rfl)
theorem dX0_worn_1 : decode cX0_worn 1 = .ok (.getfield 33, 3) := dk_180 0 33 (dk_at dksX0_worn_0 1 rfl rfl)
theorem dX0_worn_4 : decode cX0_worn 4 = .ok (.iload_n 1, 1) := dk_27 (dk_at dksX0_worn_0 4 rfl rfl)
theorem dX0_worn_5 : decode cX0_worn 5 = .ok (.invokevirtual 135, 3) := dk_182 0 135 (dk_at dksX0_worn_0 5 rfl rfl)
theorem dX0_worn_8 : decode cX0_worn 8 = .ok (.ifCond .eq 41, 3) := dk_153 0 41 (dk_at dksX0_worn_0 8 rfl rfl)
theorem dX0_worn_11 : decode cX0_worn 11 = .ok (.aload_n 0, 1) := dk_42 (dk_at dksX0_worn_0 11 rfl rfl)
theorem dX0_worn_12 : decode cX0_worn 12 = .ok (.getfield 33, 3) := dk_180 0 33 (dk_at dksX0_worn_0 12 rfl rfl)
theorem dX0_worn_15 : decode cX0_worn 15 = .ok (.iload_n 2, 1) := dk_28 (dk_at dksX0_worn_0 15 rfl rfl)
theorem dX0_worn_16 : decode cX0_worn 16 = .ok (.invokevirtual 135, 3) := dk_182 0 135 (dk_at dksX0_worn_0 16 rfl rfl)
theorem dX0_worn_19 : decode cX0_worn 19 = .ok (.ifCond .eq 30, 3) := dk_153 0 30 (dk_at dksX0_worn_0 19 rfl rfl)
theorem dX0_worn_22 : decode cX0_worn 22 = .ok (.aload_n 0, 1) := dk_42 (dk_at dksX0_worn_0 22 rfl rfl)
theorem dX0_worn_23 : decode cX0_worn 23 = .ok (.getfield 33, 3) := dk_180 0 33 (dk_at dksX0_worn_1 0 rfl rfl)
theorem dX0_worn_26 : decode cX0_worn 26 = .ok (.getfield 94, 3) := dk_180 0 94 (dk_at dksX0_worn_1 3 rfl rfl)
theorem dX0_worn_29 : decode cX0_worn 29 = .ok (.iload_n 1, 1) := dk_27 (dk_at dksX0_worn_1 6 rfl rfl)
theorem dX0_worn_30 : decode cX0_worn 30 = .ok (.aaload, 1) := dk_50 (dk_at dksX0_worn_1 7 rfl rfl)
theorem dX0_worn_31 : decode cX0_worn 31 = .ok (.getfield 111, 3) := dk_180 0 111 (dk_at dksX0_worn_1 8 rfl rfl)
theorem dX0_worn_34 : decode cX0_worn 34 = .ok (.aload_n 0, 1) := dk_42 (dk_at dksX0_worn_1 11 rfl rfl)
theorem dX0_worn_35 : decode cX0_worn 35 = .ok (.getfield 33, 3) := dk_180 0 33 (dk_at dksX0_worn_1 12 rfl rfl)
theorem dX0_worn_38 : decode cX0_worn 38 = .ok (.getfield 94, 3) := dk_180 0 94 (dk_at dksX0_worn_1 15 rfl rfl)
theorem dX0_worn_41 : decode cX0_worn 41 = .ok (.iload_n 2, 1) := dk_28 (dk_at dksX0_worn_1 18 rfl rfl)
theorem dX0_worn_42 : decode cX0_worn 42 = .ok (.aaload, 1) := dk_50 (dk_at dksX0_worn_1 19 rfl rfl)
theorem dX0_worn_43 : decode cX0_worn 43 = .ok (.getfield 111, 3) := dk_180 0 111 (dk_at dksX0_worn_1 20 rfl rfl)
theorem dX0_worn_46 : decode cX0_worn 46 = .ok (.if_icmp .ne 5, 3) := dk_160 0 5 (dk_at dksX0_worn_2 0 rfl rfl)
theorem dX0_worn_49 : decode cX0_worn 49 = .ok (.iconst (-1), 1) := dk_2 (dk_at dksX0_worn_2 3 rfl rfl)
theorem dX0_worn_50 : decode cX0_worn 50 = .ok (.ireturn, 1) := dk_172 (dk_at dksX0_worn_2 4 rfl rfl)
theorem dX0_worn_51 : decode cX0_worn 51 = .ok (.aload_n 0, 1) := dk_42 (dk_at dksX0_worn_2 5 rfl rfl)
theorem dX0_worn_52 : decode cX0_worn 52 = .ok (.getfield 37, 3) := dk_180 0 37 (dk_at dksX0_worn_2 6 rfl rfl)
theorem dX0_worn_55 : decode cX0_worn 55 = .ok (.aload_n 0, 1) := dk_42 (dk_at dksX0_worn_2 9 rfl rfl)
theorem dX0_worn_56 : decode cX0_worn 56 = .ok (.getfield 33, 3) := dk_180 0 33 (dk_at dksX0_worn_2 10 rfl rfl)
theorem dX0_worn_59 : decode cX0_worn 59 = .ok (.invokevirtual 199, 3) := dk_182 0 199 (dk_at dksX0_worn_2 13 rfl rfl)
theorem dX0_worn_62 : decode cX0_worn 62 = .ok (.pop, 1) := dk_87 (dk_at dksX0_worn_2 16 rfl rfl)
theorem dX0_worn_63 : decode cX0_worn 63 = .ok (.aload_n 0, 1) := dk_42 (dk_at dksX0_worn_2 17 rfl rfl)
theorem dX0_worn_64 : decode cX0_worn 64 = .ok (.getfield 33, 3) := dk_180 0 33 (dk_at dksX0_worn_2 18 rfl rfl)
theorem dX0_worn_67 : decode cX0_worn 67 = .ok (.getfield 94, 3) := dk_180 0 94 (dk_at dksX0_worn_2 21 rfl rfl)
theorem dX0_worn_70 : decode cX0_worn 70 = .ok (.iload_n 1, 1) := dk_27 (dk_at dksX0_worn_3 0 rfl rfl)
theorem dX0_worn_71 : decode cX0_worn 71 = .ok (.aaload, 1) := dk_50 (dk_at dksX0_worn_3 1 rfl rfl)
theorem dX0_worn_72 : decode cX0_worn 72 = .ok (.getfield 111, 3) := dk_180 0 111 (dk_at dksX0_worn_3 2 rfl rfl)
theorem dX0_worn_75 : decode cX0_worn 75 = .ok (.ifCond .ne 7, 3) := dk_154 0 7 (dk_at dksX0_worn_3 5 rfl rfl)
theorem dX0_worn_78 : decode cX0_worn 78 = .ok (.iload_n 1, 1) := dk_27 (dk_at dksX0_worn_3 8 rfl rfl)
theorem dX0_worn_79 : decode cX0_worn 79 = .ok (.goto 4, 3) := dk_167 0 4 (dk_at dksX0_worn_3 9 rfl rfl)
theorem dX0_worn_82 : decode cX0_worn 82 = .ok (.iload_n 2, 1) := dk_28 (dk_at dksX0_worn_3 12 rfl rfl)
theorem dX0_worn_83 : decode cX0_worn 83 = .ok (.istore_n 3, 1) := dk_62 (dk_at dksX0_worn_3 13 rfl rfl)
theorem dX0_worn_84 : decode cX0_worn 84 = .ok (.iload_n 1, 1) := dk_27 (dk_at dksX0_worn_3 14 rfl rfl)
theorem dX0_worn_85 : decode cX0_worn 85 = .ok (.iload_n 2, 1) := dk_28 (dk_at dksX0_worn_3 15 rfl rfl)
theorem dX0_worn_86 : decode cX0_worn 86 = .ok (.iadd, 1) := dk_96 (dk_at dksX0_worn_3 16 rfl rfl)
theorem dX0_worn_87 : decode cX0_worn 87 = .ok (.iload_n 3, 1) := dk_29 (dk_at dksX0_worn_3 17 rfl rfl)
theorem dX0_worn_88 : decode cX0_worn 88 = .ok (.isub, 1) := dk_100 (dk_at dksX0_worn_3 18 rfl rfl)
theorem dX0_worn_89 : decode cX0_worn 89 = .ok (.istore 4, 2) := dk_54 4 (dk_at dksX0_worn_3 19 rfl rfl)
theorem dX0_worn_91 : decode cX0_worn 91 = .ok (.aload_n 0, 1) := dk_42 (dk_at dksX0_worn_3 21 rfl rfl)
theorem dX0_worn_92 : decode cX0_worn 92 = .ok (.getfield 26, 3) := dk_180 0 26 (dk_at dksX0_worn_4 0 rfl rfl)
theorem dX0_worn_95 : decode cX0_worn 95 = .ok (.aload_n 0, 1) := dk_42 (dk_at dksX0_worn_4 3 rfl rfl)
theorem dX0_worn_96 : decode cX0_worn 96 = .ok (.getfield 33, 3) := dk_180 0 33 (dk_at dksX0_worn_4 4 rfl rfl)
theorem dX0_worn_99 : decode cX0_worn 99 = .ok (.iload_n 3, 1) := dk_29 (dk_at dksX0_worn_4 7 rfl rfl)
theorem dX0_worn_100 : decode cX0_worn 100 = .ok (.iload 4, 2) := dk_21 4 (dk_at dksX0_worn_4 8 rfl rfl)
theorem dX0_worn_102 : decode cX0_worn 102 = .ok (.aload_n 0, 1) := dk_42 (dk_at dksX0_worn_4 10 rfl rfl)
theorem dX0_worn_103 : decode cX0_worn 103 = .ok (.getfield 33, 3) := dk_180 0 33 (dk_at dksX0_worn_4 11 rfl rfl)
theorem dX0_worn_106 : decode cX0_worn 106 = .ok (.iload_n 3, 1) := dk_29 (dk_at dksX0_worn_4 14 rfl rfl)
theorem dX0_worn_107 : decode cX0_worn 107 = .ok (.iload 4, 2) := dk_21 4 (dk_at dksX0_worn_4 15 rfl rfl)
theorem dX0_worn_109 : decode cX0_worn 109 = .ok (.invokevirtual 234, 3) := dk_182 0 234 (dk_at dksX0_worn_4 17 rfl rfl)
theorem dX0_worn_112 : decode cX0_worn 112 = .ok (.invokevirtual 304, 3) := dk_182 1 48 (dk_at dksX0_worn_4 20 rfl rfl)
theorem dX0_worn_115 : decode cX0_worn 115 = .ok (.bipush 119, 2) := dk_16 119 (dk_at dksX0_worn_5 0 rfl rfl)
theorem dX0_worn_117 : decode cX0_worn 117 = .ok (.bipush 9, 2) := dk_16 9 (dk_at dksX0_worn_5 2 rfl rfl)
theorem dX0_worn_119 : decode cX0_worn 119 = .ok (.invokevirtual 308, 3) := dk_182 1 52 (dk_at dksX0_worn_5 4 rfl rfl)
theorem dX0_worn_122 : decode cX0_worn 122 = .ok (.istore 5, 2) := dk_54 5 (dk_at dksX0_worn_5 7 rfl rfl)
theorem dX0_worn_124 : decode cX0_worn 124 = .ok (.aload_n 0, 1) := dk_42 (dk_at dksX0_worn_5 9 rfl rfl)
theorem dX0_worn_125 : decode cX0_worn 125 = .ok (.getfield 26, 3) := dk_180 0 26 (dk_at dksX0_worn_5 10 rfl rfl)
theorem dX0_worn_128 : decode cX0_worn 128 = .ok (.aload_n 0, 1) := dk_42 (dk_at dksX0_worn_5 13 rfl rfl)
theorem dX0_worn_129 : decode cX0_worn 129 = .ok (.getfield 33, 3) := dk_180 0 33 (dk_at dksX0_worn_5 14 rfl rfl)
theorem dX0_worn_132 : decode cX0_worn 132 = .ok (.iload_n 3, 1) := dk_29 (dk_at dksX0_worn_5 17 rfl rfl)
theorem dX0_worn_133 : decode cX0_worn 133 = .ok (.iload 4, 2) := dk_21 4 (dk_at dksX0_worn_5 18 rfl rfl)
theorem dX0_worn_135 : decode cX0_worn 135 = .ok (.iconst 0, 1) := dk_3 (dk_at dksX0_worn_5 20 rfl rfl)
theorem dX0_worn_136 : decode cX0_worn 136 = .ok (.invokevirtual 304, 3) := dk_182 1 48 (dk_at dksX0_worn_5 21 rfl rfl)
theorem dX0_worn_139 : decode cX0_worn 139 = .ok (.bipush 102, 2) := dk_16 102 (dk_at dksX0_worn_6 0 rfl rfl)
theorem dX0_worn_141 : decode cX0_worn 141 = .ok (.bipush 99, 2) := dk_16 99 (dk_at dksX0_worn_6 2 rfl rfl)
theorem dX0_worn_143 : decode cX0_worn 143 = .ok (.invokevirtual 308, 3) := dk_182 1 52 (dk_at dksX0_worn_6 4 rfl rfl)
theorem dX0_worn_146 : decode cX0_worn 146 = .ok (.istore 6, 2) := dk_54 6 (dk_at dksX0_worn_6 7 rfl rfl)
theorem dX0_worn_148 : decode cX0_worn 148 = .ok (.iconst 0, 1) := dk_3 (dk_at dksX0_worn_6 9 rfl rfl)
theorem dX0_worn_149 : decode cX0_worn 149 = .ok (.istore 7, 2) := dk_54 7 (dk_at dksX0_worn_6 10 rfl rfl)
theorem dX0_worn_151 : decode cX0_worn 151 = .ok (.ldc_w 278, 3) := dk_19 1 22 (dk_at dksX0_worn_6 12 rfl rfl)
theorem dX0_worn_154 : decode cX0_worn 154 = .ok (.istore 8, 2) := dk_54 8 (dk_at dksX0_worn_6 15 rfl rfl)
theorem dX0_worn_156 : decode cX0_worn 156 = .ok (.aload_n 0, 1) := dk_42 (dk_at dksX0_worn_6 17 rfl rfl)
theorem dX0_worn_157 : decode cX0_worn 157 = .ok (.getfield 37, 3) := dk_180 0 37 (dk_at dksX0_worn_6 18 rfl rfl)
theorem dX0_worn_160 : decode cX0_worn 160 = .ok (.iload_n 3, 1) := dk_29 (dk_at dksX0_worn_6 21 rfl rfl)
theorem dX0_worn_161 : decode cX0_worn 161 = .ok (.iload 4, 2) := dk_21 4 (dk_at dksX0_worn_6 22 rfl rfl)
theorem dX0_worn_163 : decode cX0_worn 163 = .ok (.invokevirtual 234, 3) := dk_182 0 234 (dk_at dksX0_worn_7 0 rfl rfl)
theorem dX0_worn_166 : decode cX0_worn 166 = .ok (.iload 6, 2) := dk_21 6 (dk_at dksX0_worn_7 3 rfl rfl)
theorem dX0_worn_168 : decode cX0_worn 168 = .ok (.if_icmp .le 99, 3) := dk_164 0 99 (dk_at dksX0_worn_7 5 rfl rfl)
theorem dX0_worn_171 : decode cX0_worn 171 = .ok (.aload_n 0, 1) := dk_42 (dk_at dksX0_worn_7 8 rfl rfl)
theorem dX0_worn_172 : decode cX0_worn 172 = .ok (.getfield 37, 3) := dk_180 0 37 (dk_at dksX0_worn_7 9 rfl rfl)
theorem dX0_worn_175 : decode cX0_worn 175 = .ok (.iload_n 3, 1) := dk_29 (dk_at dksX0_worn_7 12 rfl rfl)
theorem dX0_worn_176 : decode cX0_worn 176 = .ok (.iload 4, 2) := dk_21 4 (dk_at dksX0_worn_7 13 rfl rfl)
theorem dX0_worn_178 : decode cX0_worn 178 = .ok (.invokevirtual 234, 3) := dk_182 0 234 (dk_at dksX0_worn_7 15 rfl rfl)
theorem dX0_worn_181 : decode cX0_worn 181 = .ok (.iload 8, 2) := dk_21 8 (dk_at dksX0_worn_7 18 rfl rfl)
theorem dX0_worn_183 : decode cX0_worn 183 = .ok (.if_icmp .ge 84, 3) := dk_162 0 84 (dk_at dksX0_worn_7 20 rfl rfl)
theorem dX0_worn_186 : decode cX0_worn 186 = .ok (.aload_n 0, 1) := dk_42 (dk_at dksX0_worn_7 23 rfl rfl)
theorem dX0_worn_187 : decode cX0_worn 187 = .ok (.getfield 37, 3) := dk_180 0 37 (dk_at dksX0_worn_8 0 rfl rfl)
theorem dX0_worn_190 : decode cX0_worn 190 = .ok (.iload_n 3, 1) := dk_29 (dk_at dksX0_worn_8 3 rfl rfl)
theorem dX0_worn_191 : decode cX0_worn 191 = .ok (.iload 4, 2) := dk_21 4 (dk_at dksX0_worn_8 4 rfl rfl)
theorem dX0_worn_193 : decode cX0_worn 193 = .ok (.invokevirtual 234, 3) := dk_182 0 234 (dk_at dksX0_worn_8 6 rfl rfl)
theorem dX0_worn_196 : decode cX0_worn 196 = .ok (.istore 8, 2) := dk_54 8 (dk_at dksX0_worn_8 9 rfl rfl)
theorem dX0_worn_198 : decode cX0_worn 198 = .ok (.aload_n 0, 1) := dk_42 (dk_at dksX0_worn_8 11 rfl rfl)
theorem dX0_worn_199 : decode cX0_worn 199 = .ok (.getfield 37, 3) := dk_180 0 37 (dk_at dksX0_worn_8 12 rfl rfl)
theorem dX0_worn_202 : decode cX0_worn 202 = .ok (.getfield 117, 3) := dk_180 0 117 (dk_at dksX0_worn_8 15 rfl rfl)
theorem dX0_worn_205 : decode cX0_worn 205 = .ok (.astore 9, 2) := dk_58 9 (dk_at dksX0_worn_8 18 rfl rfl)
theorem dX0_worn_207 : decode cX0_worn 207 = .ok (.aload 9, 2) := dk_25 9 (dk_at dksX0_worn_8 20 rfl rfl)
theorem dX0_worn_209 : decode cX0_worn 209 = .ok (.arraylength, 1) := dk_190 (dk_at dksX0_worn_8 22 rfl rfl)
theorem dX0_worn_210 : decode cX0_worn 210 = .ok (.istore 10, 2) := dk_54 10 (dk_at dksX0_worn_9 0 rfl rfl)
theorem dX0_worn_212 : decode cX0_worn 212 = .ok (.iconst 0, 1) := dk_3 (dk_at dksX0_worn_9 2 rfl rfl)
theorem dX0_worn_213 : decode cX0_worn 213 = .ok (.istore 11, 2) := dk_54 11 (dk_at dksX0_worn_9 3 rfl rfl)
theorem dX0_worn_215 : decode cX0_worn 215 = .ok (.iload 11, 2) := dk_21 11 (dk_at dksX0_worn_9 5 rfl rfl)
theorem dX0_worn_217 : decode cX0_worn 217 = .ok (.iload 10, 2) := dk_21 10 (dk_at dksX0_worn_9 7 rfl rfl)
theorem dX0_worn_219 : decode cX0_worn 219 = .ok (.if_icmp .ge 42, 3) := dk_162 0 42 (dk_at dksX0_worn_9 9 rfl rfl)
theorem dX0_worn_222 : decode cX0_worn 222 = .ok (.aload 9, 2) := dk_25 9 (dk_at dksX0_worn_9 12 rfl rfl)
theorem dX0_worn_224 : decode cX0_worn 224 = .ok (.iload 11, 2) := dk_21 11 (dk_at dksX0_worn_9 14 rfl rfl)
theorem dX0_worn_226 : decode cX0_worn 226 = .ok (.aaload, 1) := dk_50 (dk_at dksX0_worn_9 16 rfl rfl)
theorem dX0_worn_227 : decode cX0_worn 227 = .ok (.astore 12, 2) := dk_58 12 (dk_at dksX0_worn_9 17 rfl rfl)
theorem dX0_worn_229 : decode cX0_worn 229 = .ok (.aload 12, 2) := dk_25 12 (dk_at dksX0_worn_9 19 rfl rfl)
theorem dX0_worn_231 : decode cX0_worn 231 = .ok (.getfield 121, 3) := dk_180 0 121 (dk_at dksX0_worn_9 21 rfl rfl)
theorem dX0_worn_234 : decode cX0_worn 234 = .ok (.iload_n 3, 1) := dk_29 (dk_at dksX0_worn_10 0 rfl rfl)
theorem dX0_worn_235 : decode cX0_worn 235 = .ok (.if_icmp .eq 13, 3) := dk_159 0 13 (dk_at dksX0_worn_10 1 rfl rfl)
theorem dX0_worn_238 : decode cX0_worn 238 = .ok (.aload 12, 2) := dk_25 12 (dk_at dksX0_worn_10 4 rfl rfl)
theorem dX0_worn_240 : decode cX0_worn 240 = .ok (.getfield 121, 3) := dk_180 0 121 (dk_at dksX0_worn_10 6 rfl rfl)
theorem dX0_worn_243 : decode cX0_worn 243 = .ok (.iload 4, 2) := dk_21 4 (dk_at dksX0_worn_10 9 rfl rfl)
theorem dX0_worn_245 : decode cX0_worn 245 = .ok (.if_icmp .ne 10, 3) := dk_160 0 10 (dk_at dksX0_worn_10 11 rfl rfl)
theorem dX0_worn_248 : decode cX0_worn 248 = .ok (.aload 12, 2) := dk_25 12 (dk_at dksX0_worn_10 14 rfl rfl)
theorem dX0_worn_250 : decode cX0_worn 250 = .ok (.iload 5, 2) := dk_21 5 (dk_at dksX0_worn_10 16 rfl rfl)
theorem dX0_worn_252 : decode cX0_worn 252 = .ok (.invokevirtual 311, 3) := dk_182 1 55 (dk_at dksX0_worn_10 18 rfl rfl)
theorem dX0_worn_255 : decode cX0_worn 255 = .ok (.iinc 11 1, 3) := dk_132 11 1 (dk_at dksX0_worn_10 21 rfl rfl)
theorem dX0_worn_258 : decode cX0_worn 258 = .ok (.goto (-43), 3) := dk_167 255 213 (dk_at dksX0_worn_11 0 rfl rfl)
theorem dX0_worn_261 : decode cX0_worn 261 = .ok (.iinc 7 1, 3) := dk_132 7 1 (dk_at dksX0_worn_11 3 rfl rfl)
theorem dX0_worn_264 : decode cX0_worn 264 = .ok (.goto (-108), 3) := dk_167 255 148 (dk_at dksX0_worn_11 6 rfl rfl)
theorem dX0_worn_267 : decode cX0_worn 267 = .ok (.aload_n 0, 1) := dk_42 (dk_at dksX0_worn_11 9 rfl rfl)
theorem dX0_worn_268 : decode cX0_worn 268 = .ok (.getfield 37, 3) := dk_180 0 37 (dk_at dksX0_worn_11 10 rfl rfl)
theorem dX0_worn_271 : decode cX0_worn 271 = .ok (.iload_n 3, 1) := dk_29 (dk_at dksX0_worn_11 13 rfl rfl)
theorem dX0_worn_272 : decode cX0_worn 272 = .ok (.iload 4, 2) := dk_21 4 (dk_at dksX0_worn_11 14 rfl rfl)
theorem dX0_worn_274 : decode cX0_worn 274 = .ok (.invokevirtual 234, 3) := dk_182 0 234 (dk_at dksX0_worn_11 16 rfl rfl)
theorem dX0_worn_277 : decode cX0_worn 277 = .ok (.iload 6, 2) := dk_21 6 (dk_at dksX0_worn_11 19 rfl rfl)
theorem dX0_worn_279 : decode cX0_worn 279 = .ok (.if_icmp .gt 8, 3) := dk_163 0 8 (dk_at dksX0_worn_11 21 rfl rfl)
theorem dX0_worn_282 : decode cX0_worn 282 = .ok (.iload 7, 2) := dk_21 7 (dk_at dksX0_worn_12 0 rfl rfl)
theorem dX0_worn_284 : decode cX0_worn 284 = .ok (.goto 5, 3) := dk_167 0 5 (dk_at dksX0_worn_12 2 rfl rfl)
theorem dX0_worn_287 : decode cX0_worn 287 = .ok (.bipush (-2), 2) := dk_16 254 (dk_at dksX0_worn_12 5 rfl rfl)
theorem dX0_worn_289 : decode cX0_worn 289 = .ok (.ireturn, 1) := dk_172 (dk_at dksX0_worn_12 7 rfl rfl)
abbrev cX0_cutter : ByteArray := prog_1_method_49_code
def yX0_cutter : MethodName := ⟨RX0, "cutter", "(II)I"⟩
def dkwX0_cutter_9 : List UInt8 := [180, 0, 117, 21, 5, 50, 182, 1, 58, 153, 0, 6, 21, 5, 172, 132, 5, 1, 167, 255, 207, 16, 254, 172]
abbrev dktX0_cutter_9 : List UInt8 := dkwX0_cutter_9 ++ []
def dkwX0_cutter_8 : List UInt8 := [155, 0, 43, 42, 21, 4, 42, 180, 0, 33, 180, 0, 117, 28, 16, 10, 100, 50, 42, 180, 0, 33]
abbrev dktX0_cutter_8 : List UInt8 := dkwX0_cutter_8 ++ dktX0_cutter_9
def dkwX0_cutter_7 : List UInt8 := [154, 0, 7, 29, 167, 0, 5, 21, 4, 172, 3, 54, 5, 21, 5, 16, 12, 162, 0, 48, 21, 4]
abbrev dktX0_cutter_7 : List UInt8 := dkwX0_cutter_7 ++ dktX0_cutter_8
def dkwX0_cutter_6 : List UInt8 := [21, 5, 167, 0, 5, 21, 4, 54, 4, 132, 3, 1, 132, 5, 1, 167, 255, 217, 28, 5, 162, 0, 14, 28]
abbrev dktX0_cutter_6 : List UInt8 := dkwX0_cutter_6 ++ dktX0_cutter_7
def dkwX0_cutter_5 : List UInt8 := [21, 5, 16, 112, 162, 0, 38, 42, 21, 5, 27, 182, 1, 62, 154, 0, 6, 167, 0, 19, 29, 154, 0, 8]
abbrev dktX0_cutter_5 : List UInt8 := dkwX0_cutter_5 ++ dktX0_cutter_6
def dkwX0_cutter_4 : List UInt8 := [4, 96, 51, 160, 0, 6, 16, 253, 172, 132, 3, 1, 167, 255, 194, 3, 62, 16, 254, 54, 4, 3, 54, 5]
abbrev dktX0_cutter_4 : List UInt8 := dkwX0_cutter_4 ++ dktX0_cutter_5
def dkwX0_cutter_3 : List UInt8 := [4, 96, 51, 184, 0, 124, 153, 0, 24, 42, 180, 0, 43, 5, 29, 104, 51, 42, 180, 0, 43, 5, 29, 104]
abbrev dktX0_cutter_3 : List UInt8 := dkwX0_cutter_3 ++ dktX0_cutter_4
def dkwX0_cutter_2 : List UInt8 := [162, 0, 63, 42, 180, 0, 43, 5, 29, 104, 51, 184, 0, 124, 153, 0, 40, 42, 180, 0, 43, 5, 29, 104]
abbrev dktX0_cutter_2 : List UInt8 := dkwX0_cutter_2 ++ dktX0_cutter_3
def dkwX0_cutter_1 : List UInt8 := [153, 0, 13, 5, 27, 104, 42, 180, 0, 149, 164, 0, 5, 2, 172, 42, 3, 181, 0, 149, 3, 62, 29, 27]
abbrev dktX0_cutter_1 : List UInt8 := dkwX0_cutter_1 ++ dktX0_cutter_2
def dkwX0_cutter_0 : List UInt8 := [27, 4, 8, 184, 0, 128, 153, 0, 31, 28, 5, 184, 0, 103, 154, 0, 13, 28, 16, 10, 100, 184, 0, 124]
abbrev dktX0_cutter_0 : List UInt8 := dkwX0_cutter_0 ++ dktX0_cutter_1
theorem dksX0_cutter_0 : cX0_cutter.data.toList.drop 0 = dktX0_cutter_0 := by decide +kernel
theorem dksX0_cutter_1 : cX0_cutter.data.toList.drop 24 = dktX0_cutter_1 := dk_seg dksX0_cutter_0 24 rfl rfl
theorem dksX0_cutter_2 : cX0_cutter.data.toList.drop 48 = dktX0_cutter_2 := dk_seg dksX0_cutter_1 24 rfl rfl
theorem dksX0_cutter_3 : cX0_cutter.data.toList.drop 72 = dktX0_cutter_3 := dk_seg dksX0_cutter_2 24 rfl rfl
theorem dksX0_cutter_4 : cX0_cutter.data.toList.drop 96 = dktX0_cutter_4 := dk_seg dksX0_cutter_3 24 rfl rfl
theorem dksX0_cutter_5 : cX0_cutter.data.toList.drop 120 = dktX0_cutter_5 := dk_seg dksX0_cutter_4 24 rfl rfl
theorem dksX0_cutter_6 : cX0_cutter.data.toList.drop 144 = dktX0_cutter_6 := dk_seg dksX0_cutter_5 24 rfl rfl
theorem dksX0_cutter_7 : cX0_cutter.data.toList.drop 168 = dktX0_cutter_7 := dk_seg dksX0_cutter_6 24 rfl rfl
theorem dksX0_cutter_8 : cX0_cutter.data.toList.drop 190 = dktX0_cutter_8 := dk_seg dksX0_cutter_7 22 rfl rfl
theorem dksX0_cutter_9 : cX0_cutter.data.toList.drop 212 = dktX0_cutter_9 := dk_seg dksX0_cutter_8 22 rfl rfl
theorem dX0_cutter_0 : decode cX0_cutter 0 = .ok (.iload_n 1, 1) := dk_27 (dk_at dksX0_cutter_0 0 rfl rfl)
theorem dX0_cutter_1 : decode cX0_cutter 1 = .ok (.iconst 1, 1) := dk_4 (dk_at dksX0_cutter_0 1 rfl rfl)
theorem dX0_cutter_2 : decode cX0_cutter 2 = .ok (.iconst 5, 1) := dk_8 (dk_at dksX0_cutter_0 2 rfl rfl)
theorem dX0_cutter_3 : decode cX0_cutter 3 = .ok (.invokestatic 128, 3) := dk_184 0 128 (dk_at dksX0_cutter_0 3 rfl rfl)
theorem dX0_cutter_6 : decode cX0_cutter 6 = .ok (.ifCond .eq 31, 3) := dk_153 0 31 (dk_at dksX0_cutter_0 6 rfl rfl)
theorem dX0_cutter_9 : decode cX0_cutter 9 = .ok (.iload_n 2, 1) := dk_28 (dk_at dksX0_cutter_0 9 rfl rfl)
theorem dX0_cutter_10 : decode cX0_cutter 10 = .ok (.iconst 2, 1) := dk_5 (dk_at dksX0_cutter_0 10 rfl rfl)
theorem dX0_cutter_11 : decode cX0_cutter 11 = .ok (.invokestatic 103, 3) := dk_184 0 103 (dk_at dksX0_cutter_0 11 rfl rfl)
theorem dX0_cutter_14 : decode cX0_cutter 14 = .ok (.ifCond .ne 13, 3) := dk_154 0 13 (dk_at dksX0_cutter_0 14 rfl rfl)
theorem dX0_cutter_17 : decode cX0_cutter 17 = .ok (.iload_n 2, 1) := dk_28 (dk_at dksX0_cutter_0 17 rfl rfl)
theorem dX0_cutter_18 : decode cX0_cutter 18 = .ok (.bipush 10, 2) := dk_16 10 (dk_at dksX0_cutter_0 18 rfl rfl)
theorem dX0_cutter_20 : decode cX0_cutter 20 = .ok (.isub, 1) := dk_100 (dk_at dksX0_cutter_0 20 rfl rfl)
theorem dX0_cutter_21 : decode cX0_cutter 21 = .ok (.invokestatic 124, 3) := dk_184 0 124 (dk_at dksX0_cutter_0 21 rfl rfl)
theorem dX0_cutter_24 : decode cX0_cutter 24 = .ok (.ifCond .eq 13, 3) := dk_153 0 13 (dk_at dksX0_cutter_1 0 rfl rfl)
theorem dX0_cutter_27 : decode cX0_cutter 27 = .ok (.iconst 2, 1) := dk_5 (dk_at dksX0_cutter_1 3 rfl rfl)
theorem dX0_cutter_28 : decode cX0_cutter 28 = .ok (.iload_n 1, 1) := dk_27 (dk_at dksX0_cutter_1 4 rfl rfl)
theorem dX0_cutter_29 : decode cX0_cutter 29 = .ok (.imul, 1) := dk_104 (dk_at dksX0_cutter_1 5 rfl rfl)
theorem dX0_cutter_30 : decode cX0_cutter 30 = .ok (.aload_n 0, 1) := dk_42 (dk_at dksX0_cutter_1 6 rfl rfl)
theorem dX0_cutter_31 : decode cX0_cutter 31 = .ok (.getfield 149, 3) := dk_180 0 149 (dk_at dksX0_cutter_1 7 rfl rfl)
theorem dX0_cutter_34 : decode cX0_cutter 34 = .ok (.if_icmp .le 5, 3) := dk_164 0 5 (dk_at dksX0_cutter_1 10 rfl rfl)
theorem dX0_cutter_37 : decode cX0_cutter 37 = .ok (.iconst (-1), 1) := dk_2 (dk_at dksX0_cutter_1 13 rfl rfl)
theorem dX0_cutter_38 : decode cX0_cutter 38 = .ok (.ireturn, 1) := dk_172 (dk_at dksX0_cutter_1 14 rfl rfl)
theorem dX0_cutter_39 : decode cX0_cutter 39 = .ok (.aload_n 0, 1) := dk_42 (dk_at dksX0_cutter_1 15 rfl rfl)
theorem dX0_cutter_40 : decode cX0_cutter 40 = .ok (.iconst 0, 1) := dk_3 (dk_at dksX0_cutter_1 16 rfl rfl)
theorem dX0_cutter_41 : decode cX0_cutter 41 = .ok (.putfield 149, 3) := dk_181 0 149 (dk_at dksX0_cutter_1 17 rfl rfl)
theorem dX0_cutter_44 : decode cX0_cutter 44 = .ok (.iconst 0, 1) := dk_3 (dk_at dksX0_cutter_1 20 rfl rfl)
theorem dX0_cutter_45 : decode cX0_cutter 45 = .ok (.istore_n 3, 1) := dk_62 (dk_at dksX0_cutter_1 21 rfl rfl)
theorem dX0_cutter_46 : decode cX0_cutter 46 = .ok (.iload_n 3, 1) := dk_29 (dk_at dksX0_cutter_1 22 rfl rfl)
theorem dX0_cutter_47 : decode cX0_cutter 47 = .ok (.iload_n 1, 1) := dk_27 (dk_at dksX0_cutter_1 23 rfl rfl)
theorem dX0_cutter_48 : decode cX0_cutter 48 = .ok (.if_icmp .ge 63, 3) := dk_162 0 63 (dk_at dksX0_cutter_2 0 rfl rfl)
theorem dX0_cutter_51 : decode cX0_cutter 51 = .ok (.aload_n 0, 1) := dk_42 (dk_at dksX0_cutter_2 3 rfl rfl)
theorem dX0_cutter_52 : decode cX0_cutter 52 = .ok (.getfield 43, 3) := dk_180 0 43 (dk_at dksX0_cutter_2 4 rfl rfl)
theorem dX0_cutter_55 : decode cX0_cutter 55 = .ok (.iconst 2, 1) := dk_5 (dk_at dksX0_cutter_2 7 rfl rfl)
theorem dX0_cutter_56 : decode cX0_cutter 56 = .ok (.iload_n 3, 1) := dk_29 (dk_at dksX0_cutter_2 8 rfl rfl)
theorem dX0_cutter_57 : decode cX0_cutter 57 = .ok (.imul, 1) := dk_104 (dk_at dksX0_cutter_2 9 rfl rfl)
theorem dX0_cutter_58 : decode cX0_cutter 58 = .ok (.baload, 1) := dk_51 (dk_at dksX0_cutter_2 10 rfl rfl)
theorem dX0_cutter_59 : decode cX0_cutter 59 = .ok (.invokestatic 124, 3) := dk_184 0 124 (dk_at dksX0_cutter_2 11 rfl rfl)
theorem dX0_cutter_62 : decode cX0_cutter 62 = .ok (.ifCond .eq 40, 3) := dk_153 0 40 (dk_at dksX0_cutter_2 14 rfl rfl)
theorem dX0_cutter_65 : decode cX0_cutter 65 = .ok (.aload_n 0, 1) := dk_42 (dk_at dksX0_cutter_2 17 rfl rfl)
theorem dX0_cutter_66 : decode cX0_cutter 66 = .ok (.getfield 43, 3) := dk_180 0 43 (dk_at dksX0_cutter_2 18 rfl rfl)
theorem dX0_cutter_69 : decode cX0_cutter 69 = .ok (.iconst 2, 1) := dk_5 (dk_at dksX0_cutter_2 21 rfl rfl)
theorem dX0_cutter_70 : decode cX0_cutter 70 = .ok (.iload_n 3, 1) := dk_29 (dk_at dksX0_cutter_2 22 rfl rfl)
theorem dX0_cutter_71 : decode cX0_cutter 71 = .ok (.imul, 1) := dk_104 (dk_at dksX0_cutter_2 23 rfl rfl)
theorem dX0_cutter_72 : decode cX0_cutter 72 = .ok (.iconst 1, 1) := dk_4 (dk_at dksX0_cutter_3 0 rfl rfl)
theorem dX0_cutter_73 : decode cX0_cutter 73 = .ok (.iadd, 1) := dk_96 (dk_at dksX0_cutter_3 1 rfl rfl)
theorem dX0_cutter_74 : decode cX0_cutter 74 = .ok (.baload, 1) := dk_51 (dk_at dksX0_cutter_3 2 rfl rfl)
theorem dX0_cutter_75 : decode cX0_cutter 75 = .ok (.invokestatic 124, 3) := dk_184 0 124 (dk_at dksX0_cutter_3 3 rfl rfl)
theorem dX0_cutter_78 : decode cX0_cutter 78 = .ok (.ifCond .eq 24, 3) := dk_153 0 24 (dk_at dksX0_cutter_3 6 rfl rfl)
theorem dX0_cutter_81 : decode cX0_cutter 81 = .ok (.aload_n 0, 1) := dk_42 (dk_at dksX0_cutter_3 9 rfl rfl)
theorem dX0_cutter_82 : decode cX0_cutter 82 = .ok (.getfield 43, 3) := dk_180 0 43 (dk_at dksX0_cutter_3 10 rfl rfl)
theorem dX0_cutter_85 : decode cX0_cutter 85 = .ok (.iconst 2, 1) := dk_5 (dk_at dksX0_cutter_3 13 rfl rfl)
theorem dX0_cutter_86 : decode cX0_cutter 86 = .ok (.iload_n 3, 1) := dk_29 (dk_at dksX0_cutter_3 14 rfl rfl)
theorem dX0_cutter_87 : decode cX0_cutter 87 = .ok (.imul, 1) := dk_104 (dk_at dksX0_cutter_3 15 rfl rfl)
theorem dX0_cutter_88 : decode cX0_cutter 88 = .ok (.baload, 1) := dk_51 (dk_at dksX0_cutter_3 16 rfl rfl)
theorem dX0_cutter_89 : decode cX0_cutter 89 = .ok (.aload_n 0, 1) := dk_42 (dk_at dksX0_cutter_3 17 rfl rfl)
theorem dX0_cutter_90 : decode cX0_cutter 90 = .ok (.getfield 43, 3) := dk_180 0 43 (dk_at dksX0_cutter_3 18 rfl rfl)
theorem dX0_cutter_93 : decode cX0_cutter 93 = .ok (.iconst 2, 1) := dk_5 (dk_at dksX0_cutter_3 21 rfl rfl)
theorem dX0_cutter_94 : decode cX0_cutter 94 = .ok (.iload_n 3, 1) := dk_29 (dk_at dksX0_cutter_3 22 rfl rfl)
theorem dX0_cutter_95 : decode cX0_cutter 95 = .ok (.imul, 1) := dk_104 (dk_at dksX0_cutter_3 23 rfl rfl)
theorem dX0_cutter_96 : decode cX0_cutter 96 = .ok (.iconst 1, 1) := dk_4 (dk_at dksX0_cutter_4 0 rfl rfl)
theorem dX0_cutter_97 : decode cX0_cutter 97 = .ok (.iadd, 1) := dk_96 (dk_at dksX0_cutter_4 1 rfl rfl)
theorem dX0_cutter_98 : decode cX0_cutter 98 = .ok (.baload, 1) := dk_51 (dk_at dksX0_cutter_4 2 rfl rfl)
theorem dX0_cutter_99 : decode cX0_cutter 99 = .ok (.if_icmp .ne 6, 3) := dk_160 0 6 (dk_at dksX0_cutter_4 3 rfl rfl)
theorem dX0_cutter_102 : decode cX0_cutter 102 = .ok (.bipush (-3), 2) := dk_16 253 (dk_at dksX0_cutter_4 6 rfl rfl)
theorem dX0_cutter_104 : decode cX0_cutter 104 = .ok (.ireturn, 1) := dk_172 (dk_at dksX0_cutter_4 8 rfl rfl)
theorem dX0_cutter_105 : decode cX0_cutter 105 = .ok (.iinc 3 1, 3) := dk_132 3 1 (dk_at dksX0_cutter_4 9 rfl rfl)
theorem dX0_cutter_108 : decode cX0_cutter 108 = .ok (.goto (-62), 3) := dk_167 255 194 (dk_at dksX0_cutter_4 12 rfl rfl)
theorem dX0_cutter_111 : decode cX0_cutter 111 = .ok (.iconst 0, 1) := dk_3 (dk_at dksX0_cutter_4 15 rfl rfl)
theorem dX0_cutter_112 : decode cX0_cutter 112 = .ok (.istore_n 3, 1) := dk_62 (dk_at dksX0_cutter_4 16 rfl rfl)
theorem dX0_cutter_113 : decode cX0_cutter 113 = .ok (.bipush (-2), 2) := dk_16 254 (dk_at dksX0_cutter_4 17 rfl rfl)
theorem dX0_cutter_115 : decode cX0_cutter 115 = .ok (.istore 4, 2) := dk_54 4 (dk_at dksX0_cutter_4 19 rfl rfl)
theorem dX0_cutter_117 : decode cX0_cutter 117 = .ok (.iconst 0, 1) := dk_3 (dk_at dksX0_cutter_4 21 rfl rfl)
theorem dX0_cutter_118 : decode cX0_cutter 118 = .ok (.istore 5, 2) := dk_54 5 (dk_at dksX0_cutter_4 22 rfl rfl)
theorem dX0_cutter_120 : decode cX0_cutter 120 = .ok (.iload 5, 2) := dk_21 5 (dk_at dksX0_cutter_5 0 rfl rfl)
theorem dX0_cutter_122 : decode cX0_cutter 122 = .ok (.bipush 112, 2) := dk_16 112 (dk_at dksX0_cutter_5 2 rfl rfl)
theorem dX0_cutter_124 : decode cX0_cutter 124 = .ok (.if_icmp .ge 38, 3) := dk_162 0 38 (dk_at dksX0_cutter_5 4 rfl rfl)
theorem dX0_cutter_127 : decode cX0_cutter 127 = .ok (.aload_n 0, 1) := dk_42 (dk_at dksX0_cutter_5 7 rfl rfl)
theorem dX0_cutter_128 : decode cX0_cutter 128 = .ok (.iload 5, 2) := dk_21 5 (dk_at dksX0_cutter_5 8 rfl rfl)
theorem dX0_cutter_130 : decode cX0_cutter 130 = .ok (.iload_n 1, 1) := dk_27 (dk_at dksX0_cutter_5 10 rfl rfl)
theorem dX0_cutter_131 : decode cX0_cutter 131 = .ok (.invokevirtual 318, 3) := dk_182 1 62 (dk_at dksX0_cutter_5 11 rfl rfl)
theorem dX0_cutter_134 : decode cX0_cutter 134 = .ok (.ifCond .ne 6, 3) := dk_154 0 6 (dk_at dksX0_cutter_5 14 rfl rfl)
theorem dX0_cutter_137 : decode cX0_cutter 137 = .ok (.goto 19, 3) := dk_167 0 19 (dk_at dksX0_cutter_5 17 rfl rfl)
theorem dX0_cutter_140 : decode cX0_cutter 140 = .ok (.iload_n 3, 1) := dk_29 (dk_at dksX0_cutter_5 20 rfl rfl)
theorem dX0_cutter_141 : decode cX0_cutter 141 = .ok (.ifCond .ne 8, 3) := dk_154 0 8 (dk_at dksX0_cutter_5 21 rfl rfl)
theorem dX0_cutter_144 : decode cX0_cutter 144 = .ok (.iload 5, 2) := dk_21 5 (dk_at dksX0_cutter_6 0 rfl rfl)
theorem dX0_cutter_146 : decode cX0_cutter 146 = .ok (.goto 5, 3) := dk_167 0 5 (dk_at dksX0_cutter_6 2 rfl rfl)
theorem dX0_cutter_149 : decode cX0_cutter 149 = .ok (.iload 4, 2) := dk_21 4 (dk_at dksX0_cutter_6 5 rfl rfl)
theorem dX0_cutter_151 : decode cX0_cutter 151 = .ok (.istore 4, 2) := dk_54 4 (dk_at dksX0_cutter_6 7 rfl rfl)
theorem dX0_cutter_153 : decode cX0_cutter 153 = .ok (.iinc 3 1, 3) := dk_132 3 1 (dk_at dksX0_cutter_6 9 rfl rfl)
theorem dX0_cutter_156 : decode cX0_cutter 156 = .ok (.iinc 5 1, 3) := dk_132 5 1 (dk_at dksX0_cutter_6 12 rfl rfl)
theorem dX0_cutter_159 : decode cX0_cutter 159 = .ok (.goto (-39), 3) := dk_167 255 217 (dk_at dksX0_cutter_6 15 rfl rfl)
theorem dX0_cutter_162 : decode cX0_cutter 162 = .ok (.iload_n 2, 1) := dk_28 (dk_at dksX0_cutter_6 18 rfl rfl)
theorem dX0_cutter_163 : decode cX0_cutter 163 = .ok (.iconst 2, 1) := dk_5 (dk_at dksX0_cutter_6 19 rfl rfl)
theorem dX0_cutter_164 : decode cX0_cutter 164 = .ok (.if_icmp .ge 14, 3) := dk_162 0 14 (dk_at dksX0_cutter_6 20 rfl rfl)
theorem dX0_cutter_167 : decode cX0_cutter 167 = .ok (.iload_n 2, 1) := dk_28 (dk_at dksX0_cutter_6 23 rfl rfl)
theorem dX0_cutter_168 : decode cX0_cutter 168 = .ok (.ifCond .ne 7, 3) := dk_154 0 7 (dk_at dksX0_cutter_7 0 rfl rfl)
theorem dX0_cutter_171 : decode cX0_cutter 171 = .ok (.iload_n 3, 1) := dk_29 (dk_at dksX0_cutter_7 3 rfl rfl)
theorem dX0_cutter_172 : decode cX0_cutter 172 = .ok (.goto 5, 3) := dk_167 0 5 (dk_at dksX0_cutter_7 4 rfl rfl)
theorem dX0_cutter_175 : decode cX0_cutter 175 = .ok (.iload 4, 2) := dk_21 4 (dk_at dksX0_cutter_7 7 rfl rfl)
theorem dX0_cutter_177 : decode cX0_cutter 177 = .ok (.ireturn, 1) := dk_172 (dk_at dksX0_cutter_7 9 rfl rfl)
theorem dX0_cutter_178 : decode cX0_cutter 178 = .ok (.iconst 0, 1) := dk_3 (dk_at dksX0_cutter_7 10 rfl rfl)
theorem dX0_cutter_179 : decode cX0_cutter 179 = .ok (.istore 5, 2) := dk_54 5 (dk_at dksX0_cutter_7 11 rfl rfl)
theorem dX0_cutter_181 : decode cX0_cutter 181 = .ok (.iload 5, 2) := dk_21 5 (dk_at dksX0_cutter_7 13 rfl rfl)
theorem dX0_cutter_183 : decode cX0_cutter 183 = .ok (.bipush 12, 2) := dk_16 12 (dk_at dksX0_cutter_7 15 rfl rfl)
theorem dX0_cutter_185 : decode cX0_cutter 185 = .ok (.if_icmp .ge 48, 3) := dk_162 0 48 (dk_at dksX0_cutter_7 17 rfl rfl)
theorem dX0_cutter_188 : decode cX0_cutter 188 = .ok (.iload 4, 2) := dk_21 4 (dk_at dksX0_cutter_7 20 rfl rfl)
theorem dX0_cutter_190 : decode cX0_cutter 190 = .ok (.ifCond .lt 43, 3) := dk_155 0 43 (dk_at dksX0_cutter_8 0 rfl rfl)
theorem dX0_cutter_193 : decode cX0_cutter 193 = .ok (.aload_n 0, 1) := dk_42 (dk_at dksX0_cutter_8 3 rfl rfl)
theorem dX0_cutter_194 : decode cX0_cutter 194 = .ok (.iload 4, 2) := dk_21 4 (dk_at dksX0_cutter_8 4 rfl rfl)
theorem dX0_cutter_196 : decode cX0_cutter 196 = .ok (.aload_n 0, 1) := dk_42 (dk_at dksX0_cutter_8 6 rfl rfl)
theorem dX0_cutter_197 : decode cX0_cutter 197 = .ok (.getfield 33, 3) := dk_180 0 33 (dk_at dksX0_cutter_8 7 rfl rfl)
theorem dX0_cutter_200 : decode cX0_cutter 200 = .ok (.getfield 117, 3) := dk_180 0 117 (dk_at dksX0_cutter_8 10 rfl rfl)
theorem dX0_cutter_203 : decode cX0_cutter 203 = .ok (.iload_n 2, 1) := dk_28 (dk_at dksX0_cutter_8 13 rfl rfl)
theorem dX0_cutter_204 : decode cX0_cutter 204 = .ok (.bipush 10, 2) := dk_16 10 (dk_at dksX0_cutter_8 14 rfl rfl)
theorem dX0_cutter_206 : decode cX0_cutter 206 = .ok (.isub, 1) := dk_100 (dk_at dksX0_cutter_8 16 rfl rfl)
theorem dX0_cutter_207 : decode cX0_cutter 207 = .ok (.aaload, 1) := dk_50 (dk_at dksX0_cutter_8 17 rfl rfl)
theorem dX0_cutter_208 : decode cX0_cutter 208 = .ok (.aload_n 0, 1) := dk_42 (dk_at dksX0_cutter_8 18 rfl rfl)
theorem dX0_cutter_209 : decode cX0_cutter 209 = .ok (.getfield 33, 3) := dk_180 0 33 (dk_at dksX0_cutter_8 19 rfl rfl)
theorem dX0_cutter_212 : decode cX0_cutter 212 = .ok (.getfield 117, 3) := dk_180 0 117 (dk_at dksX0_cutter_9 0 rfl rfl)
theorem dX0_cutter_215 : decode cX0_cutter 215 = .ok (.iload 5, 2) := dk_21 5 (dk_at dksX0_cutter_9 3 rfl rfl)
theorem dX0_cutter_217 : decode cX0_cutter 217 = .ok (.aaload, 1) := dk_50 (dk_at dksX0_cutter_9 5 rfl rfl)
theorem dX0_cutter_218 : decode cX0_cutter 218 = .ok (.invokevirtual 314, 3) := dk_182 1 58 (dk_at dksX0_cutter_9 6 rfl rfl)
theorem dX0_cutter_221 : decode cX0_cutter 221 = .ok (.ifCond .eq 6, 3) := dk_153 0 6 (dk_at dksX0_cutter_9 9 rfl rfl)
theorem dX0_cutter_224 : decode cX0_cutter 224 = .ok (.iload 5, 2) := dk_21 5 (dk_at dksX0_cutter_9 12 rfl rfl)
theorem dX0_cutter_226 : decode cX0_cutter 226 = .ok (.ireturn, 1) := dk_172 (dk_at dksX0_cutter_9 14 rfl rfl)
theorem dX0_cutter_227 : decode cX0_cutter 227 = .ok (.iinc 5 1, 3) := dk_132 5 1 (dk_at dksX0_cutter_9 15 rfl rfl)
theorem dX0_cutter_230 : decode cX0_cutter 230 = .ok (.goto (-49), 3) := dk_167 255 207 (dk_at dksX0_cutter_9 18 rfl rfl)
theorem dX0_cutter_233 : decode cX0_cutter 233 = .ok (.bipush (-2), 2) := dk_16 254 (dk_at dksX0_cutter_9 21 rfl rfl)
theorem dX0_cutter_235 : decode cX0_cutter 235 = .ok (.ireturn, 1) := dk_172 (dk_at dksX0_cutter_9 23 rfl rfl)
abbrev cX0_fitsAll : ByteArray := prog_1_method_48_code
def yX0_fitsAll : MethodName := ⟨RX0, "fitsAll", "(II)Z"⟩
def dkwX0_fitsAll_2 : List UInt8 := [154, 0, 5, 3, 172, 132, 3, 1, 167, 255, 204, 4, 172]
abbrev dktX0_fitsAll_2 : List UInt8 := dkwX0_fitsAll_2 ++ []
def dkwX0_fitsAll_1 : List UInt8 := [50, 42, 180, 0, 33, 180, 0, 117, 42, 180, 0, 43, 5, 29, 104, 4, 96, 51, 50, 182, 1, 58]
abbrev dktX0_fitsAll_1 : List UInt8 := dkwX0_fitsAll_1 ++ dktX0_fitsAll_2
def dkwX0_fitsAll_0 : List UInt8 := [3, 62, 29, 28, 162, 0, 53, 42, 27, 42, 180, 0, 33, 180, 0, 117, 42, 180, 0, 43, 5, 29, 104, 51]
abbrev dktX0_fitsAll_0 : List UInt8 := dkwX0_fitsAll_0 ++ dktX0_fitsAll_1
theorem dksX0_fitsAll_0 : cX0_fitsAll.data.toList.drop 0 = dktX0_fitsAll_0 := by decide +kernel
theorem dksX0_fitsAll_1 : cX0_fitsAll.data.toList.drop 24 = dktX0_fitsAll_1 := dk_seg dksX0_fitsAll_0 24 rfl rfl
theorem dksX0_fitsAll_2 : cX0_fitsAll.data.toList.drop 46 = dktX0_fitsAll_2 := dk_seg dksX0_fitsAll_1 22 rfl rfl
theorem dX0_fitsAll_0 : decode cX0_fitsAll 0 = .ok (.iconst 0, 1) := dk_3 (dk_at dksX0_fitsAll_0 0 rfl rfl)
theorem dX0_fitsAll_1 : decode cX0_fitsAll 1 = .ok (.istore_n 3, 1) := dk_62 (dk_at dksX0_fitsAll_0 1 rfl rfl)
theorem dX0_fitsAll_2 : decode cX0_fitsAll 2 = .ok (.iload_n 3, 1) := dk_29 (dk_at dksX0_fitsAll_0 2 rfl rfl)
theorem dX0_fitsAll_3 : decode cX0_fitsAll 3 = .ok (.iload_n 2, 1) := dk_28 (dk_at dksX0_fitsAll_0 3 rfl rfl)
theorem dX0_fitsAll_4 : decode cX0_fitsAll 4 = .ok (.if_icmp .ge 53, 3) := dk_162 0 53 (dk_at dksX0_fitsAll_0 4 rfl rfl)
theorem dX0_fitsAll_7 : decode cX0_fitsAll 7 = .ok (.aload_n 0, 1) := dk_42 (dk_at dksX0_fitsAll_0 7 rfl rfl)
theorem dX0_fitsAll_8 : decode cX0_fitsAll 8 = .ok (.iload_n 1, 1) := dk_27 (dk_at dksX0_fitsAll_0 8 rfl rfl)
theorem dX0_fitsAll_9 : decode cX0_fitsAll 9 = .ok (.aload_n 0, 1) := dk_42 (dk_at dksX0_fitsAll_0 9 rfl rfl)
theorem dX0_fitsAll_10 : decode cX0_fitsAll 10 = .ok (.getfield 33, 3) := dk_180 0 33 (dk_at dksX0_fitsAll_0 10 rfl rfl)
theorem dX0_fitsAll_13 : decode cX0_fitsAll 13 = .ok (.getfield 117, 3) := dk_180 0 117 (dk_at dksX0_fitsAll_0 13 rfl rfl)
theorem dX0_fitsAll_16 : decode cX0_fitsAll 16 = .ok (.aload_n 0, 1) := dk_42 (dk_at dksX0_fitsAll_0 16 rfl rfl)
theorem dX0_fitsAll_17 : decode cX0_fitsAll 17 = .ok (.getfield 43, 3) := dk_180 0 43 (dk_at dksX0_fitsAll_0 17 rfl rfl)
theorem dX0_fitsAll_20 : decode cX0_fitsAll 20 = .ok (.iconst 2, 1) := dk_5 (dk_at dksX0_fitsAll_0 20 rfl rfl)
theorem dX0_fitsAll_21 : decode cX0_fitsAll 21 = .ok (.iload_n 3, 1) := dk_29 (dk_at dksX0_fitsAll_0 21 rfl rfl)
theorem dX0_fitsAll_22 : decode cX0_fitsAll 22 = .ok (.imul, 1) := dk_104 (dk_at dksX0_fitsAll_0 22 rfl rfl)
theorem dX0_fitsAll_23 : decode cX0_fitsAll 23 = .ok (.baload, 1) := dk_51 (dk_at dksX0_fitsAll_0 23 rfl rfl)
theorem dX0_fitsAll_24 : decode cX0_fitsAll 24 = .ok (.aaload, 1) := dk_50 (dk_at dksX0_fitsAll_1 0 rfl rfl)
theorem dX0_fitsAll_25 : decode cX0_fitsAll 25 = .ok (.aload_n 0, 1) := dk_42 (dk_at dksX0_fitsAll_1 1 rfl rfl)
theorem dX0_fitsAll_26 : decode cX0_fitsAll 26 = .ok (.getfield 33, 3) := dk_180 0 33 (dk_at dksX0_fitsAll_1 2 rfl rfl)
theorem dX0_fitsAll_29 : decode cX0_fitsAll 29 = .ok (.getfield 117, 3) := dk_180 0 117 (dk_at dksX0_fitsAll_1 5 rfl rfl)
theorem dX0_fitsAll_32 : decode cX0_fitsAll 32 = .ok (.aload_n 0, 1) := dk_42 (dk_at dksX0_fitsAll_1 8 rfl rfl)
theorem dX0_fitsAll_33 : decode cX0_fitsAll 33 = .ok (.getfield 43, 3) := dk_180 0 43 (dk_at dksX0_fitsAll_1 9 rfl rfl)
theorem dX0_fitsAll_36 : decode cX0_fitsAll 36 = .ok (.iconst 2, 1) := dk_5 (dk_at dksX0_fitsAll_1 12 rfl rfl)
theorem dX0_fitsAll_37 : decode cX0_fitsAll 37 = .ok (.iload_n 3, 1) := dk_29 (dk_at dksX0_fitsAll_1 13 rfl rfl)
theorem dX0_fitsAll_38 : decode cX0_fitsAll 38 = .ok (.imul, 1) := dk_104 (dk_at dksX0_fitsAll_1 14 rfl rfl)
theorem dX0_fitsAll_39 : decode cX0_fitsAll 39 = .ok (.iconst 1, 1) := dk_4 (dk_at dksX0_fitsAll_1 15 rfl rfl)
theorem dX0_fitsAll_40 : decode cX0_fitsAll 40 = .ok (.iadd, 1) := dk_96 (dk_at dksX0_fitsAll_1 16 rfl rfl)
theorem dX0_fitsAll_41 : decode cX0_fitsAll 41 = .ok (.baload, 1) := dk_51 (dk_at dksX0_fitsAll_1 17 rfl rfl)
theorem dX0_fitsAll_42 : decode cX0_fitsAll 42 = .ok (.aaload, 1) := dk_50 (dk_at dksX0_fitsAll_1 18 rfl rfl)
theorem dX0_fitsAll_43 : decode cX0_fitsAll 43 = .ok (.invokevirtual 314, 3) := dk_182 1 58 (dk_at dksX0_fitsAll_1 19 rfl rfl)
theorem dX0_fitsAll_46 : decode cX0_fitsAll 46 = .ok (.ifCond .ne 5, 3) := dk_154 0 5 (dk_at dksX0_fitsAll_2 0 rfl rfl)
theorem dX0_fitsAll_49 : decode cX0_fitsAll 49 = .ok (.iconst 0, 1) := dk_3 (dk_at dksX0_fitsAll_2 3 rfl rfl)
theorem dX0_fitsAll_50 : decode cX0_fitsAll 50 = .ok (.ireturn, 1) := dk_172 (dk_at dksX0_fitsAll_2 4 rfl rfl)
theorem dX0_fitsAll_51 : decode cX0_fitsAll 51 = .ok (.iinc 3 1, 3) := dk_132 3 1 (dk_at dksX0_fitsAll_2 5 rfl rfl)
theorem dX0_fitsAll_54 : decode cX0_fitsAll 54 = .ok (.goto (-52), 3) := dk_167 255 204 (dk_at dksX0_fitsAll_2 8 rfl rfl)
theorem dX0_fitsAll_57 : decode cX0_fitsAll 57 = .ok (.iconst 1, 1) := dk_4 (dk_at dksX0_fitsAll_2 11 rfl rfl)
theorem dX0_fitsAll_58 : decode cX0_fitsAll 58 = .ok (.ireturn, 1) := dk_172 (dk_at dksX0_fitsAll_2 12 rfl rfl)
abbrev cX0_isMade : ByteArray := prog_1_method_47_code
def yX0_isMade : MethodName := ⟨RX0, "isMade", "(ILPuzzleWed$Piece;LPuzzleWed$Piece;)Z"⟩
def dkwX0_isMade_3 : List UInt8 := [180, 0, 171, 21, 7, 46, 21, 6, 96, 159, 0, 5, 3, 172, 132, 7, 1, 167, 255, 202, 4, 172]
abbrev dktX0_isMade_3 : List UInt8 := dkwX0_isMade_3 ++ []
def dkwX0_isMade_2 : List UInt8 := [21, 4, 96, 16, 8, 112, 46, 21, 5, 153, 0, 14, 44, 180, 0, 171, 21, 7, 46, 116, 167, 0, 10, 44]
abbrev dktX0_isMade_2 : List UInt8 := dkwX0_isMade_2 ++ dktX0_isMade_3
def dkwX0_isMade_1 : List UInt8 := [16, 7, 112, 6, 100, 54, 6, 3, 54, 7, 21, 7, 16, 8, 162, 0, 53, 45, 180, 0, 171, 21, 7]
abbrev dktX0_isMade_1 : List UInt8 := dkwX0_isMade_1 ++ dktX0_isMade_2
def dkwX0_isMade_0 : List UInt8 := [27, 16, 14, 108, 54, 4, 27, 16, 7, 108, 5, 112, 4, 160, 0, 7, 4, 167, 0, 4, 3, 54, 5, 27]
abbrev dktX0_isMade_0 : List UInt8 := dkwX0_isMade_0 ++ dktX0_isMade_1
theorem dksX0_isMade_0 : cX0_isMade.data.toList.drop 0 = dktX0_isMade_0 := by decide +kernel
theorem dksX0_isMade_1 : cX0_isMade.data.toList.drop 24 = dktX0_isMade_1 := dk_seg dksX0_isMade_0 24 rfl rfl
theorem dksX0_isMade_2 : cX0_isMade.data.toList.drop 47 = dktX0_isMade_2 := dk_seg dksX0_isMade_1 23 rfl rfl
theorem dksX0_isMade_3 : cX0_isMade.data.toList.drop 71 = dktX0_isMade_3 := dk_seg dksX0_isMade_2 24 rfl rfl
theorem dX0_isMade_0 : decode cX0_isMade 0 = .ok (.iload_n 1, 1) := dk_27 (dk_at dksX0_isMade_0 0 rfl rfl)
theorem dX0_isMade_1 : decode cX0_isMade 1 = .ok (.bipush 14, 2) := dk_16 14 (dk_at dksX0_isMade_0 1 rfl rfl)
theorem dX0_isMade_3 : decode cX0_isMade 3 = .ok (.idiv, 1) := dk_108 (dk_at dksX0_isMade_0 3 rfl rfl)
theorem dX0_isMade_4 : decode cX0_isMade 4 = .ok (.istore 4, 2) := dk_54 4 (dk_at dksX0_isMade_0 4 rfl rfl)
theorem dX0_isMade_6 : decode cX0_isMade 6 = .ok (.iload_n 1, 1) := dk_27 (dk_at dksX0_isMade_0 6 rfl rfl)
theorem dX0_isMade_7 : decode cX0_isMade 7 = .ok (.bipush 7, 2) := dk_16 7 (dk_at dksX0_isMade_0 7 rfl rfl)
theorem dX0_isMade_9 : decode cX0_isMade 9 = .ok (.idiv, 1) := dk_108 (dk_at dksX0_isMade_0 9 rfl rfl)
theorem dX0_isMade_10 : decode cX0_isMade 10 = .ok (.iconst 2, 1) := dk_5 (dk_at dksX0_isMade_0 10 rfl rfl)
theorem dX0_isMade_11 : decode cX0_isMade 11 = .ok (.irem, 1) := dk_112 (dk_at dksX0_isMade_0 11 rfl rfl)
theorem dX0_isMade_12 : decode cX0_isMade 12 = .ok (.iconst 1, 1) := dk_4 (dk_at dksX0_isMade_0 12 rfl rfl)
theorem dX0_isMade_13 : decode cX0_isMade 13 = .ok (.if_icmp .ne 7, 3) := dk_160 0 7 (dk_at dksX0_isMade_0 13 rfl rfl)
theorem dX0_isMade_16 : decode cX0_isMade 16 = .ok (.iconst 1, 1) := dk_4 (dk_at dksX0_isMade_0 16 rfl rfl)
theorem dX0_isMade_17 : decode cX0_isMade 17 = .ok (.goto 4, 3) := dk_167 0 4 (dk_at dksX0_isMade_0 17 rfl rfl)
theorem dX0_isMade_20 : decode cX0_isMade 20 = .ok (.iconst 0, 1) := dk_3 (dk_at dksX0_isMade_0 20 rfl rfl)
theorem dX0_isMade_21 : decode cX0_isMade 21 = .ok (.istore 5, 2) := dk_54 5 (dk_at dksX0_isMade_0 21 rfl rfl)
theorem dX0_isMade_23 : decode cX0_isMade 23 = .ok (.iload_n 1, 1) := dk_27 (dk_at dksX0_isMade_0 23 rfl rfl)
theorem dX0_isMade_24 : decode cX0_isMade 24 = .ok (.bipush 7, 2) := dk_16 7 (dk_at dksX0_isMade_1 0 rfl rfl)
theorem dX0_isMade_26 : decode cX0_isMade 26 = .ok (.irem, 1) := dk_112 (dk_at dksX0_isMade_1 2 rfl rfl)
theorem dX0_isMade_27 : decode cX0_isMade 27 = .ok (.iconst 3, 1) := dk_6 (dk_at dksX0_isMade_1 3 rfl rfl)
theorem dX0_isMade_28 : decode cX0_isMade 28 = .ok (.isub, 1) := dk_100 (dk_at dksX0_isMade_1 4 rfl rfl)
theorem dX0_isMade_29 : decode cX0_isMade 29 = .ok (.istore 6, 2) := dk_54 6 (dk_at dksX0_isMade_1 5 rfl rfl)
theorem dX0_isMade_31 : decode cX0_isMade 31 = .ok (.iconst 0, 1) := dk_3 (dk_at dksX0_isMade_1 7 rfl rfl)
theorem dX0_isMade_32 : decode cX0_isMade 32 = .ok (.istore 7, 2) := dk_54 7 (dk_at dksX0_isMade_1 8 rfl rfl)
theorem dX0_isMade_34 : decode cX0_isMade 34 = .ok (.iload 7, 2) := dk_21 7 (dk_at dksX0_isMade_1 10 rfl rfl)
theorem dX0_isMade_36 : decode cX0_isMade 36 = .ok (.bipush 8, 2) := dk_16 8 (dk_at dksX0_isMade_1 12 rfl rfl)
theorem dX0_isMade_38 : decode cX0_isMade 38 = .ok (.if_icmp .ge 53, 3) := dk_162 0 53 (dk_at dksX0_isMade_1 14 rfl rfl)
theorem dX0_isMade_41 : decode cX0_isMade 41 = .ok (.aload_n 3, 1) := dk_45 (dk_at dksX0_isMade_1 17 rfl rfl)
theorem dX0_isMade_42 : decode cX0_isMade 42 = .ok (.getfield 171, 3) := dk_180 0 171 (dk_at dksX0_isMade_1 18 rfl rfl)
theorem dX0_isMade_45 : decode cX0_isMade 45 = .ok (.iload 7, 2) := dk_21 7 (dk_at dksX0_isMade_1 21 rfl rfl)
theorem dX0_isMade_47 : decode cX0_isMade 47 = .ok (.iload 4, 2) := dk_21 4 (dk_at dksX0_isMade_2 0 rfl rfl)
theorem dX0_isMade_49 : decode cX0_isMade 49 = .ok (.iadd, 1) := dk_96 (dk_at dksX0_isMade_2 2 rfl rfl)
theorem dX0_isMade_50 : decode cX0_isMade 50 = .ok (.bipush 8, 2) := dk_16 8 (dk_at dksX0_isMade_2 3 rfl rfl)
theorem dX0_isMade_52 : decode cX0_isMade 52 = .ok (.irem, 1) := dk_112 (dk_at dksX0_isMade_2 5 rfl rfl)
theorem dX0_isMade_53 : decode cX0_isMade 53 = .ok (.iaload, 1) := dk_46 (dk_at dksX0_isMade_2 6 rfl rfl)
theorem dX0_isMade_54 : decode cX0_isMade 54 = .ok (.iload 5, 2) := dk_21 5 (dk_at dksX0_isMade_2 7 rfl rfl)
theorem dX0_isMade_56 : decode cX0_isMade 56 = .ok (.ifCond .eq 14, 3) := dk_153 0 14 (dk_at dksX0_isMade_2 9 rfl rfl)
theorem dX0_isMade_59 : decode cX0_isMade 59 = .ok (.aload_n 2, 1) := dk_44 (dk_at dksX0_isMade_2 12 rfl rfl)
theorem dX0_isMade_60 : decode cX0_isMade 60 = .ok (.getfield 171, 3) := dk_180 0 171 (dk_at dksX0_isMade_2 13 rfl rfl)
theorem dX0_isMade_63 : decode cX0_isMade 63 = .ok (.iload 7, 2) := dk_21 7 (dk_at dksX0_isMade_2 16 rfl rfl)
theorem dX0_isMade_65 : decode cX0_isMade 65 = .ok (.iaload, 1) := dk_46 (dk_at dksX0_isMade_2 18 rfl rfl)
theorem dX0_isMade_66 : decode cX0_isMade 66 = .ok (.ineg, 1) := dk_116 (dk_at dksX0_isMade_2 19 rfl rfl)
theorem dX0_isMade_67 : decode cX0_isMade 67 = .ok (.goto 10, 3) := dk_167 0 10 (dk_at dksX0_isMade_2 20 rfl rfl)
theorem dX0_isMade_70 : decode cX0_isMade 70 = .ok (.aload_n 2, 1) := dk_44 (dk_at dksX0_isMade_2 23 rfl rfl)
theorem dX0_isMade_71 : decode cX0_isMade 71 = .ok (.getfield 171, 3) := dk_180 0 171 (dk_at dksX0_isMade_3 0 rfl rfl)
theorem dX0_isMade_74 : decode cX0_isMade 74 = .ok (.iload 7, 2) := dk_21 7 (dk_at dksX0_isMade_3 3 rfl rfl)
theorem dX0_isMade_76 : decode cX0_isMade 76 = .ok (.iaload, 1) := dk_46 (dk_at dksX0_isMade_3 5 rfl rfl)
theorem dX0_isMade_77 : decode cX0_isMade 77 = .ok (.iload 6, 2) := dk_21 6 (dk_at dksX0_isMade_3 6 rfl rfl)
theorem dX0_isMade_79 : decode cX0_isMade 79 = .ok (.iadd, 1) := dk_96 (dk_at dksX0_isMade_3 8 rfl rfl)
theorem dX0_isMade_80 : decode cX0_isMade 80 = .ok (.if_icmp .eq 5, 3) := dk_159 0 5 (dk_at dksX0_isMade_3 9 rfl rfl)
theorem dX0_isMade_83 : decode cX0_isMade 83 = .ok (.iconst 0, 1) := dk_3 (dk_at dksX0_isMade_3 12 rfl rfl)
theorem dX0_isMade_84 : decode cX0_isMade 84 = .ok (.ireturn, 1) := dk_172 (dk_at dksX0_isMade_3 13 rfl rfl)
theorem dX0_isMade_85 : decode cX0_isMade 85 = .ok (.iinc 7 1, 3) := dk_132 7 1 (dk_at dksX0_isMade_3 14 rfl rfl)
theorem dX0_isMade_88 : decode cX0_isMade 88 = .ok (.goto (-54), 3) := dk_167 255 202 (dk_at dksX0_isMade_3 17 rfl rfl)
theorem dX0_isMade_91 : decode cX0_isMade 91 = .ok (.iconst 1, 1) := dk_4 (dk_at dksX0_isMade_3 20 rfl rfl)
theorem dX0_isMade_92 : decode cX0_isMade 92 = .ok (.ireturn, 1) := dk_172 (dk_at dksX0_isMade_3 21 rfl rfl)
abbrev cX0_copies : ByteArray := prog_1_method_50_code
def yX0_copies : MethodName := ⟨RX0, "copies", "(I)I"⟩
def dkwX0_copies_6 : List UInt8 := [132, 5, 1, 167, 255, 148, 132, 4, 1, 167, 255, 129, 27, 154, 0, 7, 28, 167, 0, 4, 29, 172]
abbrev dktX0_copies_6 : List UInt8 := dkwX0_copies_6 ++ []
def dkwX0_copies_5 : List UInt8 := [180, 0, 132, 25, 6, 180, 0, 132, 163, 0, 8, 21, 5, 167, 0, 5, 21, 4, 62, 132, 2, 1]
abbrev dktX0_copies_5 : List UInt8 := dkwX0_copies_5 ++ dktX0_copies_6
def dkwX0_copies_4 : List UInt8 := [167, 0, 46, 28, 154, 0, 39, 27, 4, 160, 0, 8, 21, 4, 167, 0, 28, 27, 5, 159, 0, 16, 25, 7]
abbrev dktX0_copies_4 : List UInt8 := dkwX0_copies_4 ++ dktX0_copies_5
def dkwX0_copies_3 : List UInt8 := [153, 0, 68, 42, 21, 5, 182, 0, 175, 153, 0, 59, 25, 6, 25, 7, 182, 1, 65, 154, 0, 6]
abbrev dktX0_copies_3 : List UInt8 := dkwX0_copies_3 ++ dktX0_copies_4
def dkwX0_copies_2 : List UInt8 := [21, 4, 50, 58, 6, 42, 180, 0, 33, 180, 0, 117, 21, 5, 50, 58, 7, 42, 21, 4, 182, 0, 175]
abbrev dktX0_copies_2 : List UInt8 := dkwX0_copies_2 ++ dktX0_copies_3
def dkwX0_copies_1 : List UInt8 := [162, 0, 126, 21, 4, 4, 96, 54, 5, 21, 5, 16, 12, 162, 0, 107, 42, 180, 0, 33, 180, 0, 117]
abbrev dktX0_copies_1 : List UInt8 := dkwX0_copies_1 ++ dktX0_copies_2
def dkwX0_copies_0 : List UInt8 := [27, 3, 6, 184, 0, 128, 154, 0, 5, 2, 172, 3, 61, 16, 254, 62, 3, 54, 4, 21, 4, 16, 12]
abbrev dktX0_copies_0 : List UInt8 := dkwX0_copies_0 ++ dktX0_copies_1
theorem dksX0_copies_0 : cX0_copies.data.toList.drop 0 = dktX0_copies_0 := by decide +kernel
theorem dksX0_copies_1 : cX0_copies.data.toList.drop 23 = dktX0_copies_1 := dk_seg dksX0_copies_0 23 rfl rfl
theorem dksX0_copies_2 : cX0_copies.data.toList.drop 46 = dktX0_copies_2 := dk_seg dksX0_copies_1 23 rfl rfl
theorem dksX0_copies_3 : cX0_copies.data.toList.drop 69 = dktX0_copies_3 := dk_seg dksX0_copies_2 23 rfl rfl
theorem dksX0_copies_4 : cX0_copies.data.toList.drop 91 = dktX0_copies_4 := dk_seg dksX0_copies_3 22 rfl rfl
theorem dksX0_copies_5 : cX0_copies.data.toList.drop 115 = dktX0_copies_5 := dk_seg dksX0_copies_4 24 rfl rfl
theorem dksX0_copies_6 : cX0_copies.data.toList.drop 137 = dktX0_copies_6 := dk_seg dksX0_copies_5 22 rfl rfl
theorem dX0_copies_0 : decode cX0_copies 0 = .ok (.iload_n 1, 1) := dk_27 (dk_at dksX0_copies_0 0 rfl rfl)
theorem dX0_copies_1 : decode cX0_copies 1 = .ok (.iconst 0, 1) := dk_3 (dk_at dksX0_copies_0 1 rfl rfl)
theorem dX0_copies_2 : decode cX0_copies 2 = .ok (.iconst 3, 1) := dk_6 (dk_at dksX0_copies_0 2 rfl rfl)
theorem dX0_copies_3 : decode cX0_copies 3 = .ok (.invokestatic 128, 3) := dk_184 0 128 (dk_at dksX0_copies_0 3 rfl rfl)
theorem dX0_copies_6 : decode cX0_copies 6 = .ok (.ifCond .ne 5, 3) := dk_154 0 5 (dk_at dksX0_copies_0 6 rfl rfl)
theorem dX0_copies_9 : decode cX0_copies 9 = .ok (.iconst (-1), 1) := dk_2 (dk_at dksX0_copies_0 9 rfl rfl)
theorem dX0_copies_10 : decode cX0_copies 10 = .ok (.ireturn, 1) := dk_172 (dk_at dksX0_copies_0 10 rfl rfl)
theorem dX0_copies_11 : decode cX0_copies 11 = .ok (.iconst 0, 1) := dk_3 (dk_at dksX0_copies_0 11 rfl rfl)
theorem dX0_copies_12 : decode cX0_copies 12 = .ok (.istore_n 2, 1) := dk_61 (dk_at dksX0_copies_0 12 rfl rfl)
theorem dX0_copies_13 : decode cX0_copies 13 = .ok (.bipush (-2), 2) := dk_16 254 (dk_at dksX0_copies_0 13 rfl rfl)
theorem dX0_copies_15 : decode cX0_copies 15 = .ok (.istore_n 3, 1) := dk_62 (dk_at dksX0_copies_0 15 rfl rfl)
theorem dX0_copies_16 : decode cX0_copies 16 = .ok (.iconst 0, 1) := dk_3 (dk_at dksX0_copies_0 16 rfl rfl)
theorem dX0_copies_17 : decode cX0_copies 17 = .ok (.istore 4, 2) := dk_54 4 (dk_at dksX0_copies_0 17 rfl rfl)
theorem dX0_copies_19 : decode cX0_copies 19 = .ok (.iload 4, 2) := dk_21 4 (dk_at dksX0_copies_0 19 rfl rfl)
theorem dX0_copies_21 : decode cX0_copies 21 = .ok (.bipush 12, 2) := dk_16 12 (dk_at dksX0_copies_0 21 rfl rfl)
theorem dX0_copies_23 : decode cX0_copies 23 = .ok (.if_icmp .ge 126, 3) := dk_162 0 126 (dk_at dksX0_copies_1 0 rfl rfl)
theorem dX0_copies_26 : decode cX0_copies 26 = .ok (.iload 4, 2) := dk_21 4 (dk_at dksX0_copies_1 3 rfl rfl)
theorem dX0_copies_28 : decode cX0_copies 28 = .ok (.iconst 1, 1) := dk_4 (dk_at dksX0_copies_1 5 rfl rfl)
theorem dX0_copies_29 : decode cX0_copies 29 = .ok (.iadd, 1) := dk_96 (dk_at dksX0_copies_1 6 rfl rfl)
theorem dX0_copies_30 : decode cX0_copies 30 = .ok (.istore 5, 2) := dk_54 5 (dk_at dksX0_copies_1 7 rfl rfl)
theorem dX0_copies_32 : decode cX0_copies 32 = .ok (.iload 5, 2) := dk_21 5 (dk_at dksX0_copies_1 9 rfl rfl)
theorem dX0_copies_34 : decode cX0_copies 34 = .ok (.bipush 12, 2) := dk_16 12 (dk_at dksX0_copies_1 11 rfl rfl)
theorem dX0_copies_36 : decode cX0_copies 36 = .ok (.if_icmp .ge 107, 3) := dk_162 0 107 (dk_at dksX0_copies_1 13 rfl rfl)
theorem dX0_copies_39 : decode cX0_copies 39 = .ok (.aload_n 0, 1) := dk_42 (dk_at dksX0_copies_1 16 rfl rfl)
theorem dX0_copies_40 : decode cX0_copies 40 = .ok (.getfield 33, 3) := dk_180 0 33 (dk_at dksX0_copies_1 17 rfl rfl)
theorem dX0_copies_43 : decode cX0_copies 43 = .ok (.getfield 117, 3) := dk_180 0 117 (dk_at dksX0_copies_1 20 rfl rfl)
theorem dX0_copies_46 : decode cX0_copies 46 = .ok (.iload 4, 2) := dk_21 4 (dk_at dksX0_copies_2 0 rfl rfl)
theorem dX0_copies_48 : decode cX0_copies 48 = .ok (.aaload, 1) := dk_50 (dk_at dksX0_copies_2 2 rfl rfl)
theorem dX0_copies_49 : decode cX0_copies 49 = .ok (.astore 6, 2) := dk_58 6 (dk_at dksX0_copies_2 3 rfl rfl)
theorem dX0_copies_51 : decode cX0_copies 51 = .ok (.aload_n 0, 1) := dk_42 (dk_at dksX0_copies_2 5 rfl rfl)
theorem dX0_copies_52 : decode cX0_copies 52 = .ok (.getfield 33, 3) := dk_180 0 33 (dk_at dksX0_copies_2 6 rfl rfl)
theorem dX0_copies_55 : decode cX0_copies 55 = .ok (.getfield 117, 3) := dk_180 0 117 (dk_at dksX0_copies_2 9 rfl rfl)
theorem dX0_copies_58 : decode cX0_copies 58 = .ok (.iload 5, 2) := dk_21 5 (dk_at dksX0_copies_2 12 rfl rfl)
theorem dX0_copies_60 : decode cX0_copies 60 = .ok (.aaload, 1) := dk_50 (dk_at dksX0_copies_2 14 rfl rfl)
theorem dX0_copies_61 : decode cX0_copies 61 = .ok (.astore 7, 2) := dk_58 7 (dk_at dksX0_copies_2 15 rfl rfl)
theorem dX0_copies_63 : decode cX0_copies 63 = .ok (.aload_n 0, 1) := dk_42 (dk_at dksX0_copies_2 17 rfl rfl)
theorem dX0_copies_64 : decode cX0_copies 64 = .ok (.iload 4, 2) := dk_21 4 (dk_at dksX0_copies_2 18 rfl rfl)
theorem dX0_copies_66 : decode cX0_copies 66 = .ok (.invokevirtual 175, 3) := dk_182 0 175 (dk_at dksX0_copies_2 20 rfl rfl)
theorem dX0_copies_69 : decode cX0_copies 69 = .ok (.ifCond .eq 68, 3) := dk_153 0 68 (dk_at dksX0_copies_3 0 rfl rfl)
theorem dX0_copies_72 : decode cX0_copies 72 = .ok (.aload_n 0, 1) := dk_42 (dk_at dksX0_copies_3 3 rfl rfl)
theorem dX0_copies_73 : decode cX0_copies 73 = .ok (.iload 5, 2) := dk_21 5 (dk_at dksX0_copies_3 4 rfl rfl)
theorem dX0_copies_75 : decode cX0_copies 75 = .ok (.invokevirtual 175, 3) := dk_182 0 175 (dk_at dksX0_copies_3 6 rfl rfl)
theorem dX0_copies_78 : decode cX0_copies 78 = .ok (.ifCond .eq 59, 3) := dk_153 0 59 (dk_at dksX0_copies_3 9 rfl rfl)
theorem dX0_copies_81 : decode cX0_copies 81 = .ok (.aload 6, 2) := dk_25 6 (dk_at dksX0_copies_3 12 rfl rfl)
theorem dX0_copies_83 : decode cX0_copies 83 = .ok (.aload 7, 2) := dk_25 7 (dk_at dksX0_copies_3 14 rfl rfl)
theorem dX0_copies_85 : decode cX0_copies 85 = .ok (.invokevirtual 321, 3) := dk_182 1 65 (dk_at dksX0_copies_3 16 rfl rfl)
theorem dX0_copies_88 : decode cX0_copies 88 = .ok (.ifCond .ne 6, 3) := dk_154 0 6 (dk_at dksX0_copies_3 19 rfl rfl)
theorem dX0_copies_91 : decode cX0_copies 91 = .ok (.goto 46, 3) := dk_167 0 46 (dk_at dksX0_copies_4 0 rfl rfl)
theorem dX0_copies_94 : decode cX0_copies 94 = .ok (.iload_n 2, 1) := dk_28 (dk_at dksX0_copies_4 3 rfl rfl)
theorem dX0_copies_95 : decode cX0_copies 95 = .ok (.ifCond .ne 39, 3) := dk_154 0 39 (dk_at dksX0_copies_4 4 rfl rfl)
theorem dX0_copies_98 : decode cX0_copies 98 = .ok (.iload_n 1, 1) := dk_27 (dk_at dksX0_copies_4 7 rfl rfl)
theorem dX0_copies_99 : decode cX0_copies 99 = .ok (.iconst 1, 1) := dk_4 (dk_at dksX0_copies_4 8 rfl rfl)
theorem dX0_copies_100 : decode cX0_copies 100 = .ok (.if_icmp .ne 8, 3) := dk_160 0 8 (dk_at dksX0_copies_4 9 rfl rfl)
theorem dX0_copies_103 : decode cX0_copies 103 = .ok (.iload 4, 2) := dk_21 4 (dk_at dksX0_copies_4 12 rfl rfl)
theorem dX0_copies_105 : decode cX0_copies 105 = .ok (.goto 28, 3) := dk_167 0 28 (dk_at dksX0_copies_4 14 rfl rfl)
theorem dX0_copies_108 : decode cX0_copies 108 = .ok (.iload_n 1, 1) := dk_27 (dk_at dksX0_copies_4 17 rfl rfl)
theorem dX0_copies_109 : decode cX0_copies 109 = .ok (.iconst 2, 1) := dk_5 (dk_at dksX0_copies_4 18 rfl rfl)
theorem dX0_copies_110 : decode cX0_copies 110 = .ok (.if_icmp .eq 16, 3) := dk_159 0 16 (dk_at dksX0_copies_4 19 rfl rfl)
theorem dX0_copies_113 : decode cX0_copies 113 = .ok (.aload 7, 2) := dk_25 7 (dk_at dksX0_copies_4 22 rfl rfl)
theorem dX0_copies_115 : decode cX0_copies 115 = .ok (.getfield 132, 3) := dk_180 0 132 (dk_at dksX0_copies_5 0 rfl rfl)
theorem dX0_copies_118 : decode cX0_copies 118 = .ok (.aload 6, 2) := dk_25 6 (dk_at dksX0_copies_5 3 rfl rfl)
theorem dX0_copies_120 : decode cX0_copies 120 = .ok (.getfield 132, 3) := dk_180 0 132 (dk_at dksX0_copies_5 5 rfl rfl)
theorem dX0_copies_123 : decode cX0_copies 123 = .ok (.if_icmp .gt 8, 3) := dk_163 0 8 (dk_at dksX0_copies_5 8 rfl rfl)
theorem dX0_copies_126 : decode cX0_copies 126 = .ok (.iload 5, 2) := dk_21 5 (dk_at dksX0_copies_5 11 rfl rfl)
theorem dX0_copies_128 : decode cX0_copies 128 = .ok (.goto 5, 3) := dk_167 0 5 (dk_at dksX0_copies_5 13 rfl rfl)
theorem dX0_copies_131 : decode cX0_copies 131 = .ok (.iload 4, 2) := dk_21 4 (dk_at dksX0_copies_5 16 rfl rfl)
theorem dX0_copies_133 : decode cX0_copies 133 = .ok (.istore_n 3, 1) := dk_62 (dk_at dksX0_copies_5 18 rfl rfl)
theorem dX0_copies_134 : decode cX0_copies 134 = .ok (.iinc 2 1, 3) := dk_132 2 1 (dk_at dksX0_copies_5 19 rfl rfl)
theorem dX0_copies_137 : decode cX0_copies 137 = .ok (.iinc 5 1, 3) := dk_132 5 1 (dk_at dksX0_copies_6 0 rfl rfl)
theorem dX0_copies_140 : decode cX0_copies 140 = .ok (.goto (-108), 3) := dk_167 255 148 (dk_at dksX0_copies_6 3 rfl rfl)
theorem dX0_copies_143 : decode cX0_copies 143 = .ok (.iinc 4 1, 3) := dk_132 4 1 (dk_at dksX0_copies_6 6 rfl rfl)
theorem dX0_copies_146 : decode cX0_copies 146 = .ok (.goto (-127), 3) := dk_167 255 129 (dk_at dksX0_copies_6 9 rfl rfl)
theorem dX0_copies_149 : decode cX0_copies 149 = .ok (.iload_n 1, 1) := dk_27 (dk_at dksX0_copies_6 12 rfl rfl)
theorem dX0_copies_150 : decode cX0_copies 150 = .ok (.ifCond .ne 7, 3) := dk_154 0 7 (dk_at dksX0_copies_6 13 rfl rfl)
theorem dX0_copies_153 : decode cX0_copies 153 = .ok (.iload_n 2, 1) := dk_28 (dk_at dksX0_copies_6 16 rfl rfl)
theorem dX0_copies_154 : decode cX0_copies 154 = .ok (.goto 4, 3) := dk_167 0 4 (dk_at dksX0_copies_6 17 rfl rfl)
theorem dX0_copies_157 : decode cX0_copies 157 = .ok (.iload_n 3, 1) := dk_29 (dk_at dksX0_copies_6 20 rfl rfl)
theorem dX0_copies_158 : decode cX0_copies 158 = .ok (.ireturn, 1) := dk_172 (dk_at dksX0_copies_6 21 rfl rfl)
abbrev cX0_mate : ByteArray := prog_1_method_51_code
def yX0_mate : MethodName := ⟨RX0, "mate", "(II)I"⟩
def dkwX0_mate_1 : List UInt8 := [180, 0, 117, 27, 50, 180, 0, 171, 16, 7, 28, 100, 46, 100, 167, 0, 4, 2, 172]
abbrev dktX0_mate_1 : List UInt8 := dkwX0_mate_1 ++ []
def dkwX0_mate_0 : List UInt8 := [27, 184, 0, 124, 153, 0, 35, 28, 16, 8, 184, 0, 103, 153, 0, 26, 16, 10, 42, 180, 0, 33]
abbrev dktX0_mate_0 : List UInt8 := dkwX0_mate_0 ++ dktX0_mate_1
theorem dksX0_mate_0 : cX0_mate.data.toList.drop 0 = dktX0_mate_0 := by decide +kernel
theorem dksX0_mate_1 : cX0_mate.data.toList.drop 22 = dktX0_mate_1 := dk_seg dksX0_mate_0 22 rfl rfl
theorem dX0_mate_0 : decode cX0_mate 0 = .ok (.iload_n 1, 1) := dk_27 (dk_at dksX0_mate_0 0 rfl rfl)
theorem dX0_mate_1 : decode cX0_mate 1 = .ok (.invokestatic 124, 3) := dk_184 0 124 (dk_at dksX0_mate_0 1 rfl rfl)
theorem dX0_mate_4 : decode cX0_mate 4 = .ok (.ifCond .eq 35, 3) := dk_153 0 35 (dk_at dksX0_mate_0 4 rfl rfl)
theorem dX0_mate_7 : decode cX0_mate 7 = .ok (.iload_n 2, 1) := dk_28 (dk_at dksX0_mate_0 7 rfl rfl)
theorem dX0_mate_8 : decode cX0_mate 8 = .ok (.bipush 8, 2) := dk_16 8 (dk_at dksX0_mate_0 8 rfl rfl)
theorem dX0_mate_10 : decode cX0_mate 10 = .ok (.invokestatic 103, 3) := dk_184 0 103 (dk_at dksX0_mate_0 10 rfl rfl)
theorem dX0_mate_13 : decode cX0_mate 13 = .ok (.ifCond .eq 26, 3) := dk_153 0 26 (dk_at dksX0_mate_0 13 rfl rfl)
theorem dX0_mate_16 : decode cX0_mate 16 = .ok (.bipush 10, 2) := dk_16 10 (dk_at dksX0_mate_0 16 rfl rfl)
theorem dX0_mate_18 : decode cX0_mate 18 = .ok (.aload_n 0, 1) := dk_42 (dk_at dksX0_mate_0 18 rfl rfl)
theorem dX0_mate_19 : decode cX0_mate 19 = .ok (.getfield 33, 3) := dk_180 0 33 (dk_at dksX0_mate_0 19 rfl rfl)
theorem dX0_mate_22 : decode cX0_mate 22 = .ok (.getfield 117, 3) := dk_180 0 117 (dk_at dksX0_mate_1 0 rfl rfl)
theorem dX0_mate_25 : decode cX0_mate 25 = .ok (.iload_n 1, 1) := dk_27 (dk_at dksX0_mate_1 3 rfl rfl)
theorem dX0_mate_26 : decode cX0_mate 26 = .ok (.aaload, 1) := dk_50 (dk_at dksX0_mate_1 4 rfl rfl)
theorem dX0_mate_27 : decode cX0_mate 27 = .ok (.getfield 171, 3) := dk_180 0 171 (dk_at dksX0_mate_1 5 rfl rfl)
theorem dX0_mate_30 : decode cX0_mate 30 = .ok (.bipush 7, 2) := dk_16 7 (dk_at dksX0_mate_1 8 rfl rfl)
theorem dX0_mate_32 : decode cX0_mate 32 = .ok (.iload_n 2, 1) := dk_28 (dk_at dksX0_mate_1 10 rfl rfl)
theorem dX0_mate_33 : decode cX0_mate 33 = .ok (.isub, 1) := dk_100 (dk_at dksX0_mate_1 11 rfl rfl)
theorem dX0_mate_34 : decode cX0_mate 34 = .ok (.iaload, 1) := dk_46 (dk_at dksX0_mate_1 12 rfl rfl)
theorem dX0_mate_35 : decode cX0_mate 35 = .ok (.isub, 1) := dk_100 (dk_at dksX0_mate_1 13 rfl rfl)
theorem dX0_mate_36 : decode cX0_mate 36 = .ok (.goto 4, 3) := dk_167 0 4 (dk_at dksX0_mate_1 14 rfl rfl)
theorem dX0_mate_39 : decode cX0_mate 39 = .ok (.iconst (-1), 1) := dk_2 (dk_at dksX0_mate_1 17 rfl rfl)
theorem dX0_mate_40 : decode cX0_mate 40 = .ok (.ireturn, 1) := dk_172 (dk_at dksX0_mate_1 18 rfl rfl)
abbrev cX0_seed : ByteArray := prog_1_method_52_code
def yX0_seed : MethodName := ⟨RX0, "seed", "(I)Z"⟩
def dkwX0_seed_0 : List UInt8 := [27, 19, 1, 69, 184, 0, 103, 154, 0, 5, 3, 172, 42, 180, 0, 33, 27, 181, 0, 90, 4, 172]
abbrev dktX0_seed_0 : List UInt8 := dkwX0_seed_0 ++ []
theorem dksX0_seed_0 : cX0_seed.data.toList.drop 0 = dktX0_seed_0 := by decide +kernel
theorem dX0_seed_0 : decode cX0_seed 0 = .ok (.iload_n 1, 1) := dk_27 (dk_at dksX0_seed_0 0 rfl rfl)
theorem dX0_seed_1 : decode cX0_seed 1 = .ok (.ldc_w 325, 3) := dk_19 1 69 (dk_at dksX0_seed_0 1 rfl rfl)
theorem dX0_seed_4 : decode cX0_seed 4 = .ok (.invokestatic 103, 3) := dk_184 0 103 (dk_at dksX0_seed_0 4 rfl rfl)
theorem dX0_seed_7 : decode cX0_seed 7 = .ok (.ifCond .ne 5, 3) := dk_154 0 5 (dk_at dksX0_seed_0 7 rfl rfl)
theorem dX0_seed_10 : decode cX0_seed 10 = .ok (.iconst 0, 1) := dk_3 (dk_at dksX0_seed_0 10 rfl rfl)
theorem dX0_seed_11 : decode cX0_seed 11 = .ok (.ireturn, 1) := dk_172 (dk_at dksX0_seed_0 11 rfl rfl)
theorem dX0_seed_12 : decode cX0_seed 12 = .ok (.aload_n 0, 1) := dk_42 (dk_at dksX0_seed_0 12 rfl rfl)
theorem dX0_seed_13 : decode cX0_seed 13 = .ok (.getfield 33, 3) := dk_180 0 33 (dk_at dksX0_seed_0 13 rfl rfl)
theorem dX0_seed_16 : decode cX0_seed 16 = .ok (.iload_n 1, 1) := dk_27 (dk_at dksX0_seed_0 16 rfl rfl)
theorem dX0_seed_17 : decode cX0_seed 17 = .ok (.putfield 90, 3) := dk_181 0 90 (dk_at dksX0_seed_0 17 rfl rfl)
theorem dX0_seed_20 : decode cX0_seed 20 = .ok (.iconst 1, 1) := dk_4 (dk_at dksX0_seed_0 20 rfl rfl)
theorem dX0_seed_21 : decode cX0_seed 21 = .ok (.ireturn, 1) := dk_172 (dk_at dksX0_seed_0 21 rfl rfl)
abbrev cX0_keep : ByteArray := prog_1_method_53_code
def yX0_keep : MethodName := ⟨RX0, "keep", "()I"⟩
def dkwX0_keep_1 : List UInt8 := [172]
abbrev dktX0_keep_1 : List UInt8 := dkwX0_keep_1 ++ []
def dkwX0_keep_0 : List UInt8 := [42, 4, 181, 1, 70, 42, 180, 0, 40, 42, 180, 0, 33, 182, 0, 199, 87, 42, 180, 0, 33, 182, 0, 209]
abbrev dktX0_keep_0 : List UInt8 := dkwX0_keep_0 ++ dktX0_keep_1
theorem dksX0_keep_0 : cX0_keep.data.toList.drop 0 = dktX0_keep_0 := by decide +kernel
theorem dksX0_keep_1 : cX0_keep.data.toList.drop 24 = dktX0_keep_1 := dk_seg dksX0_keep_0 24 rfl rfl
theorem dX0_keep_0 : decode cX0_keep 0 = .ok (.aload_n 0, 1) := dk_42 (dk_at dksX0_keep_0 0 rfl rfl)
theorem dX0_keep_1 : decode cX0_keep 1 = .ok (.iconst 1, 1) := dk_4 (dk_at dksX0_keep_0 1 rfl rfl)
theorem dX0_keep_2 : decode cX0_keep 2 = .ok (.putfield 326, 3) := dk_181 1 70 (dk_at dksX0_keep_0 2 rfl rfl)
theorem dX0_keep_5 : decode cX0_keep 5 = .ok (.aload_n 0, 1) := dk_42 (dk_at dksX0_keep_0 5 rfl rfl)
theorem dX0_keep_6 : decode cX0_keep 6 = .ok (.getfield 40, 3) := dk_180 0 40 (dk_at dksX0_keep_0 6 rfl rfl)
theorem dX0_keep_9 : decode cX0_keep 9 = .ok (.aload_n 0, 1) := dk_42 (dk_at dksX0_keep_0 9 rfl rfl)
theorem dX0_keep_10 : decode cX0_keep 10 = .ok (.getfield 33, 3) := dk_180 0 33 (dk_at dksX0_keep_0 10 rfl rfl)
theorem dX0_keep_13 : decode cX0_keep 13 = .ok (.invokevirtual 199, 3) := dk_182 0 199 (dk_at dksX0_keep_0 13 rfl rfl)
theorem dX0_keep_16 : decode cX0_keep 16 = .ok (.pop, 1) := dk_87 (dk_at dksX0_keep_0 16 rfl rfl)
theorem dX0_keep_17 : decode cX0_keep 17 = .ok (.aload_n 0, 1) := dk_42 (dk_at dksX0_keep_0 17 rfl rfl)
theorem dX0_keep_18 : decode cX0_keep 18 = .ok (.getfield 33, 3) := dk_180 0 33 (dk_at dksX0_keep_0 18 rfl rfl)
theorem dX0_keep_21 : decode cX0_keep 21 = .ok (.invokevirtual 209, 3) := dk_182 0 209 (dk_at dksX0_keep_0 21 rfl rfl)
theorem dX0_keep_24 : decode cX0_keep 24 = .ok (.ireturn, 1) := dk_172 (dk_at dksX0_keep_1 0 rfl rfl)
abbrev cX0_undo : ByteArray := prog_1_method_54_code
def yX0_undo : MethodName := ⟨RX0, "undo", "()Z"⟩
def dkwX0_undo_0 : List UInt8 := [42, 180, 1, 70, 154, 0, 5, 3, 172, 42, 180, 0, 33, 42, 180, 0, 40, 182, 0, 199, 87, 4, 172]
abbrev dktX0_undo_0 : List UInt8 := dkwX0_undo_0 ++ []
theorem dksX0_undo_0 : cX0_undo.data.toList.drop 0 = dktX0_undo_0 := by decide +kernel
theorem dX0_undo_0 : decode cX0_undo 0 = .ok (.aload_n 0, 1) := dk_42 (dk_at dksX0_undo_0 0 rfl rfl)
theorem dX0_undo_1 : decode cX0_undo 1 = .ok (.getfield 326, 3) := dk_180 1 70 (dk_at dksX0_undo_0 1 rfl rfl)
theorem dX0_undo_4 : decode cX0_undo 4 = .ok (.ifCond .ne 5, 3) := dk_154 0 5 (dk_at dksX0_undo_0 4 rfl rfl)
theorem dX0_undo_7 : decode cX0_undo 7 = .ok (.iconst 0, 1) := dk_3 (dk_at dksX0_undo_0 7 rfl rfl)
theorem dX0_undo_8 : decode cX0_undo 8 = .ok (.ireturn, 1) := dk_172 (dk_at dksX0_undo_0 8 rfl rfl)
theorem dX0_undo_9 : decode cX0_undo 9 = .ok (.aload_n 0, 1) := dk_42 (dk_at dksX0_undo_0 9 rfl rfl)
theorem dX0_undo_10 : decode cX0_undo 10 = .ok (.getfield 33, 3) := dk_180 0 33 (dk_at dksX0_undo_0 10 rfl rfl)
theorem dX0_undo_13 : decode cX0_undo 13 = .ok (.aload_n 0, 1) := dk_42 (dk_at dksX0_undo_0 13 rfl rfl)
theorem dX0_undo_14 : decode cX0_undo 14 = .ok (.getfield 40, 3) := dk_180 0 40 (dk_at dksX0_undo_0 14 rfl rfl)
theorem dX0_undo_17 : decode cX0_undo 17 = .ok (.invokevirtual 199, 3) := dk_182 0 199 (dk_at dksX0_undo_0 17 rfl rfl)
theorem dX0_undo_20 : decode cX0_undo 20 = .ok (.pop, 1) := dk_87 (dk_at dksX0_undo_0 20 rfl rfl)
theorem dX0_undo_21 : decode cX0_undo 21 = .ok (.iconst 1, 1) := dk_4 (dk_at dksX0_undo_0 21 rfl rfl)
theorem dX0_undo_22 : decode cX0_undo 22 = .ok (.ireturn, 1) := dk_172 (dk_at dksX0_undo_0 22 rfl rfl)
abbrev cX0_check : ByteArray := prog_1_method_55_code
def yX0_check : MethodName := ⟨RX0, "check", "(II)I"⟩
def dkwX0_check_3 : List UInt8 := [132, 3, 1, 167, 255, 220, 2, 172]
abbrev dktX0_check_3 : List UInt8 := dkwX0_check_3 ++ []
def dkwX0_check_2 : List UInt8 := [42, 180, 0, 33, 180, 0, 117, 27, 50, 180, 0, 171, 29, 46, 16, 9, 96, 159, 0, 5, 29, 172]
abbrev dktX0_check_2 : List UInt8 := dkwX0_check_2 ++ dktX0_check_3
def dkwX0_check_1 : List UInt8 := [164, 0, 6, 16, 254, 172, 42, 3, 181, 0, 149, 3, 62, 29, 28, 162, 0, 37, 42, 180, 0, 43, 29, 51]
abbrev dktX0_check_1 : List UInt8 := dkwX0_check_1 ++ dktX0_check_2
def dkwX0_check_0 : List UInt8 := [27, 184, 0, 124, 153, 0, 21, 28, 3, 16, 8, 184, 0, 128, 153, 0, 11, 28, 42, 180, 0, 149]
abbrev dktX0_check_0 : List UInt8 := dkwX0_check_0 ++ dktX0_check_1
theorem dksX0_check_0 : cX0_check.data.toList.drop 0 = dktX0_check_0 := by decide +kernel
theorem dksX0_check_1 : cX0_check.data.toList.drop 22 = dktX0_check_1 := dk_seg dksX0_check_0 22 rfl rfl
theorem dksX0_check_2 : cX0_check.data.toList.drop 46 = dktX0_check_2 := dk_seg dksX0_check_1 24 rfl rfl
theorem dksX0_check_3 : cX0_check.data.toList.drop 68 = dktX0_check_3 := dk_seg dksX0_check_2 22 rfl rfl
theorem dX0_check_0 : decode cX0_check 0 = .ok (.iload_n 1, 1) := dk_27 (dk_at dksX0_check_0 0 rfl rfl)
theorem dX0_check_1 : decode cX0_check 1 = .ok (.invokestatic 124, 3) := dk_184 0 124 (dk_at dksX0_check_0 1 rfl rfl)
theorem dX0_check_4 : decode cX0_check 4 = .ok (.ifCond .eq 21, 3) := dk_153 0 21 (dk_at dksX0_check_0 4 rfl rfl)
theorem dX0_check_7 : decode cX0_check 7 = .ok (.iload_n 2, 1) := dk_28 (dk_at dksX0_check_0 7 rfl rfl)
theorem dX0_check_8 : decode cX0_check 8 = .ok (.iconst 0, 1) := dk_3 (dk_at dksX0_check_0 8 rfl rfl)
theorem dX0_check_9 : decode cX0_check 9 = .ok (.bipush 8, 2) := dk_16 8 (dk_at dksX0_check_0 9 rfl rfl)
theorem dX0_check_11 : decode cX0_check 11 = .ok (.invokestatic 128, 3) := dk_184 0 128 (dk_at dksX0_check_0 11 rfl rfl)
theorem dX0_check_14 : decode cX0_check 14 = .ok (.ifCond .eq 11, 3) := dk_153 0 11 (dk_at dksX0_check_0 14 rfl rfl)
theorem dX0_check_17 : decode cX0_check 17 = .ok (.iload_n 2, 1) := dk_28 (dk_at dksX0_check_0 17 rfl rfl)
theorem dX0_check_18 : decode cX0_check 18 = .ok (.aload_n 0, 1) := dk_42 (dk_at dksX0_check_0 18 rfl rfl)
theorem dX0_check_19 : decode cX0_check 19 = .ok (.getfield 149, 3) := dk_180 0 149 (dk_at dksX0_check_0 19 rfl rfl)
theorem dX0_check_22 : decode cX0_check 22 = .ok (.if_icmp .le 6, 3) := dk_164 0 6 (dk_at dksX0_check_1 0 rfl rfl)
theorem dX0_check_25 : decode cX0_check 25 = .ok (.bipush (-2), 2) := dk_16 254 (dk_at dksX0_check_1 3 rfl rfl)
theorem dX0_check_27 : decode cX0_check 27 = .ok (.ireturn, 1) := dk_172 (dk_at dksX0_check_1 5 rfl rfl)
theorem dX0_check_28 : decode cX0_check 28 = .ok (.aload_n 0, 1) := dk_42 (dk_at dksX0_check_1 6 rfl rfl)
theorem dX0_check_29 : decode cX0_check 29 = .ok (.iconst 0, 1) := dk_3 (dk_at dksX0_check_1 7 rfl rfl)
theorem dX0_check_30 : decode cX0_check 30 = .ok (.putfield 149, 3) := dk_181 0 149 (dk_at dksX0_check_1 8 rfl rfl)
theorem dX0_check_33 : decode cX0_check 33 = .ok (.iconst 0, 1) := dk_3 (dk_at dksX0_check_1 11 rfl rfl)
theorem dX0_check_34 : decode cX0_check 34 = .ok (.istore_n 3, 1) := dk_62 (dk_at dksX0_check_1 12 rfl rfl)
theorem dX0_check_35 : decode cX0_check 35 = .ok (.iload_n 3, 1) := dk_29 (dk_at dksX0_check_1 13 rfl rfl)
theorem dX0_check_36 : decode cX0_check 36 = .ok (.iload_n 2, 1) := dk_28 (dk_at dksX0_check_1 14 rfl rfl)
theorem dX0_check_37 : decode cX0_check 37 = .ok (.if_icmp .ge 37, 3) := dk_162 0 37 (dk_at dksX0_check_1 15 rfl rfl)
theorem dX0_check_40 : decode cX0_check 40 = .ok (.aload_n 0, 1) := dk_42 (dk_at dksX0_check_1 18 rfl rfl)
theorem dX0_check_41 : decode cX0_check 41 = .ok (.getfield 43, 3) := dk_180 0 43 (dk_at dksX0_check_1 19 rfl rfl)
theorem dX0_check_44 : decode cX0_check 44 = .ok (.iload_n 3, 1) := dk_29 (dk_at dksX0_check_1 22 rfl rfl)
theorem dX0_check_45 : decode cX0_check 45 = .ok (.baload, 1) := dk_51 (dk_at dksX0_check_1 23 rfl rfl)
theorem dX0_check_46 : decode cX0_check 46 = .ok (.aload_n 0, 1) := dk_42 (dk_at dksX0_check_2 0 rfl rfl)
theorem dX0_check_47 : decode cX0_check 47 = .ok (.getfield 33, 3) := dk_180 0 33 (dk_at dksX0_check_2 1 rfl rfl)
theorem dX0_check_50 : decode cX0_check 50 = .ok (.getfield 117, 3) := dk_180 0 117 (dk_at dksX0_check_2 4 rfl rfl)
theorem dX0_check_53 : decode cX0_check 53 = .ok (.iload_n 1, 1) := dk_27 (dk_at dksX0_check_2 7 rfl rfl)
theorem dX0_check_54 : decode cX0_check 54 = .ok (.aaload, 1) := dk_50 (dk_at dksX0_check_2 8 rfl rfl)
theorem dX0_check_55 : decode cX0_check 55 = .ok (.getfield 171, 3) := dk_180 0 171 (dk_at dksX0_check_2 9 rfl rfl)
theorem dX0_check_58 : decode cX0_check 58 = .ok (.iload_n 3, 1) := dk_29 (dk_at dksX0_check_2 12 rfl rfl)
theorem dX0_check_59 : decode cX0_check 59 = .ok (.iaload, 1) := dk_46 (dk_at dksX0_check_2 13 rfl rfl)
theorem dX0_check_60 : decode cX0_check 60 = .ok (.bipush 9, 2) := dk_16 9 (dk_at dksX0_check_2 14 rfl rfl)
theorem dX0_check_62 : decode cX0_check 62 = .ok (.iadd, 1) := dk_96 (dk_at dksX0_check_2 16 rfl rfl)
theorem dX0_check_63 : decode cX0_check 63 = .ok (.if_icmp .eq 5, 3) := dk_159 0 5 (dk_at dksX0_check_2 17 rfl rfl)
theorem dX0_check_66 : decode cX0_check 66 = .ok (.iload_n 3, 1) := dk_29 (dk_at dksX0_check_2 20 rfl rfl)
theorem dX0_check_67 : decode cX0_check 67 = .ok (.ireturn, 1) := dk_172 (dk_at dksX0_check_2 21 rfl rfl)
theorem dX0_check_68 : decode cX0_check 68 = .ok (.iinc 3 1, 3) := dk_132 3 1 (dk_at dksX0_check_3 0 rfl rfl)
theorem dX0_check_71 : decode cX0_check 71 = .ok (.goto (-36), 3) := dk_167 255 220 (dk_at dksX0_check_3 3 rfl rfl)
theorem dX0_check_74 : decode cX0_check 74 = .ok (.iconst (-1), 1) := dk_2 (dk_at dksX0_check_3 6 rfl rfl)
theorem dX0_check_75 : decode cX0_check 75 = .ok (.ireturn, 1) := dk_172 (dk_at dksX0_check_3 7 rfl rfl)
abbrev cX0_count : ByteArray := prog_1_method_58_code
def yX0_count : MethodName := ⟨RX0, "count", "(I)I"⟩
def dkwX0_count_4 : List UInt8 := [172, 2, 172]
abbrev dktX0_count_4 : List UInt8 := dkwX0_count_4 ++ []
def dkwX0_count_3 : List UInt8 := [182, 0, 209, 172, 42, 180, 0, 50, 180, 1, 83, 172, 42, 180, 0, 149, 172, 42, 180, 0, 33, 180, 0, 90]
abbrev dktX0_count_3 : List UInt8 := dkwX0_count_3 ++ dktX0_count_4
def dkwX0_count_2 : List UInt8 := [42, 180, 0, 33, 180, 1, 76, 172, 42, 3, 182, 1, 79, 172, 42, 4, 182, 1, 79, 172, 42, 180, 0, 33]
abbrev dktX0_count_2 : List UInt8 := dkwX0_count_2 ++ dktX0_count_3
def dkwX0_count_1 : List UInt8 := [170, 0, 0, 0, 0, 91, 0, 0, 0, 0, 0, 0, 0, 6, 0, 0, 0, 42, 0, 0, 0, 50, 0, 0, 0, 56, 0, 0, 0, 62, 0, 0, 0, 70, 0, 0, 0, 78, 0, 0, 0, 83]
abbrev dktX0_count_1 : List UInt8 := dkwX0_count_1 ++ dktX0_count_2
def dkwX0_count_0 : List UInt8 := [27, 16, 10, 100, 16, 6, 184, 0, 103, 153, 0, 12, 42, 27, 16, 10, 100, 182, 1, 73, 172, 27]
abbrev dktX0_count_0 : List UInt8 := dkwX0_count_0 ++ dktX0_count_1
theorem dksX0_count_0 : cX0_count.data.toList.drop 0 = dktX0_count_0 := by decide +kernel
theorem dksX0_count_1 : cX0_count.data.toList.drop 22 = dktX0_count_1 := dk_seg dksX0_count_0 22 rfl rfl
theorem dksX0_count_2 : cX0_count.data.toList.drop 64 = dktX0_count_2 := dk_seg dksX0_count_1 42 rfl rfl
theorem dksX0_count_3 : cX0_count.data.toList.drop 88 = dktX0_count_3 := dk_seg dksX0_count_2 24 rfl rfl
theorem dksX0_count_4 : cX0_count.data.toList.drop 112 = dktX0_count_4 := dk_seg dksX0_count_3 24 rfl rfl
theorem dX0_count_0 : decode cX0_count 0 = .ok (.iload_n 1, 1) := dk_27 (dk_at dksX0_count_0 0 rfl rfl)
theorem dX0_count_1 : decode cX0_count 1 = .ok (.bipush 10, 2) := dk_16 10 (dk_at dksX0_count_0 1 rfl rfl)
theorem dX0_count_3 : decode cX0_count 3 = .ok (.isub, 1) := dk_100 (dk_at dksX0_count_0 3 rfl rfl)
theorem dX0_count_4 : decode cX0_count 4 = .ok (.bipush 6, 2) := dk_16 6 (dk_at dksX0_count_0 4 rfl rfl)
theorem dX0_count_6 : decode cX0_count 6 = .ok (.invokestatic 103, 3) := dk_184 0 103 (dk_at dksX0_count_0 6 rfl rfl)
theorem dX0_count_9 : decode cX0_count 9 = .ok (.ifCond .eq 12, 3) := dk_153 0 12 (dk_at dksX0_count_0 9 rfl rfl)
theorem dX0_count_12 : decode cX0_count 12 = .ok (.aload_n 0, 1) := dk_42 (dk_at dksX0_count_0 12 rfl rfl)
theorem dX0_count_13 : decode cX0_count 13 = .ok (.iload_n 1, 1) := dk_27 (dk_at dksX0_count_0 13 rfl rfl)
theorem dX0_count_14 : decode cX0_count 14 = .ok (.bipush 10, 2) := dk_16 10 (dk_at dksX0_count_0 14 rfl rfl)
theorem dX0_count_16 : decode cX0_count 16 = .ok (.isub, 1) := dk_100 (dk_at dksX0_count_0 16 rfl rfl)
theorem dX0_count_17 : decode cX0_count 17 = .ok (.invokevirtual 329, 3) := dk_182 1 73 (dk_at dksX0_count_0 17 rfl rfl)
theorem dX0_count_20 : decode cX0_count 20 = .ok (.ireturn, 1) := dk_172 (dk_at dksX0_count_0 20 rfl rfl)
theorem dX0_count_21 : decode cX0_count 21 = .ok (.iload_n 1, 1) := dk_27 (dk_at dksX0_count_0 21 rfl rfl)
theorem dX0_count_22 : decode cX0_count 22 = .ok (.tableswitch 91 0 6 #[42, 50, 56, 62, 70, 78, 83], 42) := by decide +kernel
theorem dX0_count_64 : decode cX0_count 64 = .ok (.aload_n 0, 1) := dk_42 (dk_at dksX0_count_2 0 rfl rfl)
theorem dX0_count_65 : decode cX0_count 65 = .ok (.getfield 33, 3) := dk_180 0 33 (dk_at dksX0_count_2 1 rfl rfl)
theorem dX0_count_68 : decode cX0_count 68 = .ok (.getfield 332, 3) := dk_180 1 76 (dk_at dksX0_count_2 4 rfl rfl)
theorem dX0_count_71 : decode cX0_count 71 = .ok (.ireturn, 1) := dk_172 (dk_at dksX0_count_2 7 rfl rfl)
theorem dX0_count_72 : decode cX0_count 72 = .ok (.aload_n 0, 1) := dk_42 (dk_at dksX0_count_2 8 rfl rfl)
theorem dX0_count_73 : decode cX0_count 73 = .ok (.iconst 0, 1) := dk_3 (dk_at dksX0_count_2 9 rfl rfl)
theorem dX0_count_74 : decode cX0_count 74 = .ok (.invokevirtual 335, 3) := dk_182 1 79 (dk_at dksX0_count_2 10 rfl rfl)
theorem dX0_count_77 : decode cX0_count 77 = .ok (.ireturn, 1) := dk_172 (dk_at dksX0_count_2 13 rfl rfl)
theorem dX0_count_78 : decode cX0_count 78 = .ok (.aload_n 0, 1) := dk_42 (dk_at dksX0_count_2 14 rfl rfl)
theorem dX0_count_79 : decode cX0_count 79 = .ok (.iconst 1, 1) := dk_4 (dk_at dksX0_count_2 15 rfl rfl)
theorem dX0_count_80 : decode cX0_count 80 = .ok (.invokevirtual 335, 3) := dk_182 1 79 (dk_at dksX0_count_2 16 rfl rfl)
theorem dX0_count_83 : decode cX0_count 83 = .ok (.ireturn, 1) := dk_172 (dk_at dksX0_count_2 19 rfl rfl)
theorem dX0_count_84 : decode cX0_count 84 = .ok (.aload_n 0, 1) := dk_42 (dk_at dksX0_count_2 20 rfl rfl)
theorem dX0_count_85 : decode cX0_count 85 = .ok (.getfield 33, 3) := dk_180 0 33 (dk_at dksX0_count_2 21 rfl rfl)
theorem dX0_count_88 : decode cX0_count 88 = .ok (.invokevirtual 209, 3) := dk_182 0 209 (dk_at dksX0_count_3 0 rfl rfl)
theorem dX0_count_91 : decode cX0_count 91 = .ok (.ireturn, 1) := dk_172 (dk_at dksX0_count_3 3 rfl rfl)
theorem dX0_count_92 : decode cX0_count 92 = .ok (.aload_n 0, 1) := dk_42 (dk_at dksX0_count_3 4 rfl rfl)
theorem dX0_count_93 : decode cX0_count 93 = .ok (.getfield 50, 3) := dk_180 0 50 (dk_at dksX0_count_3 5 rfl rfl)
theorem dX0_count_96 : decode cX0_count 96 = .ok (.getfield 339, 3) := dk_180 1 83 (dk_at dksX0_count_3 8 rfl rfl)
theorem dX0_count_99 : decode cX0_count 99 = .ok (.ireturn, 1) := dk_172 (dk_at dksX0_count_3 11 rfl rfl)
theorem dX0_count_100 : decode cX0_count 100 = .ok (.aload_n 0, 1) := dk_42 (dk_at dksX0_count_3 12 rfl rfl)
theorem dX0_count_101 : decode cX0_count 101 = .ok (.getfield 149, 3) := dk_180 0 149 (dk_at dksX0_count_3 13 rfl rfl)
theorem dX0_count_104 : decode cX0_count 104 = .ok (.ireturn, 1) := dk_172 (dk_at dksX0_count_3 16 rfl rfl)
theorem dX0_count_105 : decode cX0_count 105 = .ok (.aload_n 0, 1) := dk_42 (dk_at dksX0_count_3 17 rfl rfl)
theorem dX0_count_106 : decode cX0_count 106 = .ok (.getfield 33, 3) := dk_180 0 33 (dk_at dksX0_count_3 18 rfl rfl)
theorem dX0_count_109 : decode cX0_count 109 = .ok (.getfield 90, 3) := dk_180 0 90 (dk_at dksX0_count_3 21 rfl rfl)
theorem dX0_count_112 : decode cX0_count 112 = .ok (.ireturn, 1) := dk_172 (dk_at dksX0_count_4 0 rfl rfl)
theorem dX0_count_113 : decode cX0_count 113 = .ok (.iconst (-1), 1) := dk_2 (dk_at dksX0_count_4 1 rfl rfl)
theorem dX0_count_114 : decode cX0_count 114 = .ok (.ireturn, 1) := dk_172 (dk_at dksX0_count_4 2 rfl rfl)
abbrev cX0_inTown : ByteArray := prog_1_method_56_code
def yX0_inTown : MethodName := ⟨RX0, "inTown", "(I)I"⟩
def dkwX0_inTown_2 : List UInt8 := [132, 3, 1, 167, 255, 210, 28, 172]
abbrev dktX0_inTown_2 : List UInt8 := dkwX0_inTown_2 ++ []
def dkwX0_inTown_1 : List UInt8 := [180, 0, 33, 180, 0, 94, 29, 50, 180, 0, 114, 27, 160, 0, 9, 4, 29, 120, 167, 0, 4, 3, 128, 61]
abbrev dktX0_inTown_1 : List UInt8 := dkwX0_inTown_1 ++ dktX0_inTown_2
def dkwX0_inTown_0 : List UInt8 := [3, 61, 3, 62, 29, 16, 12, 162, 0, 46, 28, 42, 180, 0, 33, 29, 182, 0, 135, 153, 0, 25, 42]
abbrev dktX0_inTown_0 : List UInt8 := dkwX0_inTown_0 ++ dktX0_inTown_1
theorem dksX0_inTown_0 : cX0_inTown.data.toList.drop 0 = dktX0_inTown_0 := by decide +kernel
theorem dksX0_inTown_1 : cX0_inTown.data.toList.drop 23 = dktX0_inTown_1 := dk_seg dksX0_inTown_0 23 rfl rfl
theorem dksX0_inTown_2 : cX0_inTown.data.toList.drop 47 = dktX0_inTown_2 := dk_seg dksX0_inTown_1 24 rfl rfl
theorem dX0_inTown_0 : decode cX0_inTown 0 = .ok (.iconst 0, 1) := dk_3 (dk_at dksX0_inTown_0 0 rfl rfl)
theorem dX0_inTown_1 : decode cX0_inTown 1 = .ok (.istore_n 2, 1) := dk_61 (dk_at dksX0_inTown_0 1 rfl rfl)
theorem dX0_inTown_2 : decode cX0_inTown 2 = .ok (.iconst 0, 1) := dk_3 (dk_at dksX0_inTown_0 2 rfl rfl)
theorem dX0_inTown_3 : decode cX0_inTown 3 = .ok (.istore_n 3, 1) := dk_62 (dk_at dksX0_inTown_0 3 rfl rfl)
theorem dX0_inTown_4 : decode cX0_inTown 4 = .ok (.iload_n 3, 1) := dk_29 (dk_at dksX0_inTown_0 4 rfl rfl)
theorem dX0_inTown_5 : decode cX0_inTown 5 = .ok (.bipush 12, 2) := dk_16 12 (dk_at dksX0_inTown_0 5 rfl rfl)
theorem dX0_inTown_7 : decode cX0_inTown 7 = .ok (.if_icmp .ge 46, 3) := dk_162 0 46 (dk_at dksX0_inTown_0 7 rfl rfl)
theorem dX0_inTown_10 : decode cX0_inTown 10 = .ok (.iload_n 2, 1) := dk_28 (dk_at dksX0_inTown_0 10 rfl rfl)
theorem dX0_inTown_11 : decode cX0_inTown 11 = .ok (.aload_n 0, 1) := dk_42 (dk_at dksX0_inTown_0 11 rfl rfl)
theorem dX0_inTown_12 : decode cX0_inTown 12 = .ok (.getfield 33, 3) := dk_180 0 33 (dk_at dksX0_inTown_0 12 rfl rfl)
theorem dX0_inTown_15 : decode cX0_inTown 15 = .ok (.iload_n 3, 1) := dk_29 (dk_at dksX0_inTown_0 15 rfl rfl)
theorem dX0_inTown_16 : decode cX0_inTown 16 = .ok (.invokevirtual 135, 3) := dk_182 0 135 (dk_at dksX0_inTown_0 16 rfl rfl)
theorem dX0_inTown_19 : decode cX0_inTown 19 = .ok (.ifCond .eq 25, 3) := dk_153 0 25 (dk_at dksX0_inTown_0 19 rfl rfl)
theorem dX0_inTown_22 : decode cX0_inTown 22 = .ok (.aload_n 0, 1) := dk_42 (dk_at dksX0_inTown_0 22 rfl rfl)
theorem dX0_inTown_23 : decode cX0_inTown 23 = .ok (.getfield 33, 3) := dk_180 0 33 (dk_at dksX0_inTown_1 0 rfl rfl)
theorem dX0_inTown_26 : decode cX0_inTown 26 = .ok (.getfield 94, 3) := dk_180 0 94 (dk_at dksX0_inTown_1 3 rfl rfl)
theorem dX0_inTown_29 : decode cX0_inTown 29 = .ok (.iload_n 3, 1) := dk_29 (dk_at dksX0_inTown_1 6 rfl rfl)
theorem dX0_inTown_30 : decode cX0_inTown 30 = .ok (.aaload, 1) := dk_50 (dk_at dksX0_inTown_1 7 rfl rfl)
theorem dX0_inTown_31 : decode cX0_inTown 31 = .ok (.getfield 114, 3) := dk_180 0 114 (dk_at dksX0_inTown_1 8 rfl rfl)
theorem dX0_inTown_34 : decode cX0_inTown 34 = .ok (.iload_n 1, 1) := dk_27 (dk_at dksX0_inTown_1 11 rfl rfl)
theorem dX0_inTown_35 : decode cX0_inTown 35 = .ok (.if_icmp .ne 9, 3) := dk_160 0 9 (dk_at dksX0_inTown_1 12 rfl rfl)
theorem dX0_inTown_38 : decode cX0_inTown 38 = .ok (.iconst 1, 1) := dk_4 (dk_at dksX0_inTown_1 15 rfl rfl)
theorem dX0_inTown_39 : decode cX0_inTown 39 = .ok (.iload_n 3, 1) := dk_29 (dk_at dksX0_inTown_1 16 rfl rfl)
theorem dX0_inTown_40 : decode cX0_inTown 40 = .ok (.ishl, 1) := dk_120 (dk_at dksX0_inTown_1 17 rfl rfl)
theorem dX0_inTown_41 : decode cX0_inTown 41 = .ok (.goto 4, 3) := dk_167 0 4 (dk_at dksX0_inTown_1 18 rfl rfl)
theorem dX0_inTown_44 : decode cX0_inTown 44 = .ok (.iconst 0, 1) := dk_3 (dk_at dksX0_inTown_1 21 rfl rfl)
theorem dX0_inTown_45 : decode cX0_inTown 45 = .ok (.ior, 1) := dk_128 (dk_at dksX0_inTown_1 22 rfl rfl)
theorem dX0_inTown_46 : decode cX0_inTown 46 = .ok (.istore_n 2, 1) := dk_61 (dk_at dksX0_inTown_1 23 rfl rfl)
theorem dX0_inTown_47 : decode cX0_inTown 47 = .ok (.iinc 3 1, 3) := dk_132 3 1 (dk_at dksX0_inTown_2 0 rfl rfl)
theorem dX0_inTown_50 : decode cX0_inTown 50 = .ok (.goto (-46), 3) := dk_167 255 210 (dk_at dksX0_inTown_2 3 rfl rfl)
theorem dX0_inTown_53 : decode cX0_inTown 53 = .ok (.iload_n 2, 1) := dk_28 (dk_at dksX0_inTown_2 6 rfl rfl)
theorem dX0_inTown_54 : decode cX0_inTown 54 = .ok (.ireturn, 1) := dk_172 (dk_at dksX0_inTown_2 7 rfl rfl)
abbrev cX0_told : ByteArray := prog_1_method_57_code
def yX0_told : MethodName := ⟨RX0, "told", "(Z)I"⟩
def dkwX0_told_2 : List UInt8 := [132, 3, 1, 167, 255, 211, 28, 172]
abbrev dktX0_told_2 : List UInt8 := dkwX0_told_2 ++ []
def dkwX0_told_1 : List UInt8 := [153, 0, 20, 167, 0, 11, 42, 29, 182, 0, 175, 153, 0, 9, 4, 29, 120, 167, 0, 4, 3, 128, 61]
abbrev dktX0_told_1 : List UInt8 := dkwX0_told_1 ++ dktX0_told_2
def dkwX0_told_0 : List UInt8 := [3, 61, 3, 62, 29, 16, 12, 162, 0, 45, 28, 27, 153, 0, 17, 42, 180, 0, 33, 29, 182, 0, 135]
abbrev dktX0_told_0 : List UInt8 := dkwX0_told_0 ++ dktX0_told_1
theorem dksX0_told_0 : cX0_told.data.toList.drop 0 = dktX0_told_0 := by decide +kernel
theorem dksX0_told_1 : cX0_told.data.toList.drop 23 = dktX0_told_1 := dk_seg dksX0_told_0 23 rfl rfl
theorem dksX0_told_2 : cX0_told.data.toList.drop 46 = dktX0_told_2 := dk_seg dksX0_told_1 23 rfl rfl
theorem dX0_told_0 : decode cX0_told 0 = .ok (.iconst 0, 1) := dk_3 (dk_at dksX0_told_0 0 rfl rfl)
theorem dX0_told_1 : decode cX0_told 1 = .ok (.istore_n 2, 1) := dk_61 (dk_at dksX0_told_0 1 rfl rfl)
theorem dX0_told_2 : decode cX0_told 2 = .ok (.iconst 0, 1) := dk_3 (dk_at dksX0_told_0 2 rfl rfl)
theorem dX0_told_3 : decode cX0_told 3 = .ok (.istore_n 3, 1) := dk_62 (dk_at dksX0_told_0 3 rfl rfl)
theorem dX0_told_4 : decode cX0_told 4 = .ok (.iload_n 3, 1) := dk_29 (dk_at dksX0_told_0 4 rfl rfl)
theorem dX0_told_5 : decode cX0_told 5 = .ok (.bipush 12, 2) := dk_16 12 (dk_at dksX0_told_0 5 rfl rfl)
theorem dX0_told_7 : decode cX0_told 7 = .ok (.if_icmp .ge 45, 3) := dk_162 0 45 (dk_at dksX0_told_0 7 rfl rfl)
theorem dX0_told_10 : decode cX0_told 10 = .ok (.iload_n 2, 1) := dk_28 (dk_at dksX0_told_0 10 rfl rfl)
theorem dX0_told_11 : decode cX0_told 11 = .ok (.iload_n 1, 1) := dk_27 (dk_at dksX0_told_0 11 rfl rfl)
theorem dX0_told_12 : decode cX0_told 12 = .ok (.ifCond .eq 17, 3) := dk_153 0 17 (dk_at dksX0_told_0 12 rfl rfl)
theorem dX0_told_15 : decode cX0_told 15 = .ok (.aload_n 0, 1) := dk_42 (dk_at dksX0_told_0 15 rfl rfl)
theorem dX0_told_16 : decode cX0_told 16 = .ok (.getfield 33, 3) := dk_180 0 33 (dk_at dksX0_told_0 16 rfl rfl)
theorem dX0_told_19 : decode cX0_told 19 = .ok (.iload_n 3, 1) := dk_29 (dk_at dksX0_told_0 19 rfl rfl)
theorem dX0_told_20 : decode cX0_told 20 = .ok (.invokevirtual 135, 3) := dk_182 0 135 (dk_at dksX0_told_0 20 rfl rfl)
theorem dX0_told_23 : decode cX0_told 23 = .ok (.ifCond .eq 20, 3) := dk_153 0 20 (dk_at dksX0_told_1 0 rfl rfl)
theorem dX0_told_26 : decode cX0_told 26 = .ok (.goto 11, 3) := dk_167 0 11 (dk_at dksX0_told_1 3 rfl rfl)
theorem dX0_told_29 : decode cX0_told 29 = .ok (.aload_n 0, 1) := dk_42 (dk_at dksX0_told_1 6 rfl rfl)
theorem dX0_told_30 : decode cX0_told 30 = .ok (.iload_n 3, 1) := dk_29 (dk_at dksX0_told_1 7 rfl rfl)
theorem dX0_told_31 : decode cX0_told 31 = .ok (.invokevirtual 175, 3) := dk_182 0 175 (dk_at dksX0_told_1 8 rfl rfl)
theorem dX0_told_34 : decode cX0_told 34 = .ok (.ifCond .eq 9, 3) := dk_153 0 9 (dk_at dksX0_told_1 11 rfl rfl)
theorem dX0_told_37 : decode cX0_told 37 = .ok (.iconst 1, 1) := dk_4 (dk_at dksX0_told_1 14 rfl rfl)
theorem dX0_told_38 : decode cX0_told 38 = .ok (.iload_n 3, 1) := dk_29 (dk_at dksX0_told_1 15 rfl rfl)
theorem dX0_told_39 : decode cX0_told 39 = .ok (.ishl, 1) := dk_120 (dk_at dksX0_told_1 16 rfl rfl)
theorem dX0_told_40 : decode cX0_told 40 = .ok (.goto 4, 3) := dk_167 0 4 (dk_at dksX0_told_1 17 rfl rfl)
theorem dX0_told_43 : decode cX0_told 43 = .ok (.iconst 0, 1) := dk_3 (dk_at dksX0_told_1 20 rfl rfl)
theorem dX0_told_44 : decode cX0_told 44 = .ok (.ior, 1) := dk_128 (dk_at dksX0_told_1 21 rfl rfl)
theorem dX0_told_45 : decode cX0_told 45 = .ok (.istore_n 2, 1) := dk_61 (dk_at dksX0_told_1 22 rfl rfl)
theorem dX0_told_46 : decode cX0_told 46 = .ok (.iinc 3 1, 3) := dk_132 3 1 (dk_at dksX0_told_2 0 rfl rfl)
theorem dX0_told_49 : decode cX0_told 49 = .ok (.goto (-45), 3) := dk_167 255 211 (dk_at dksX0_told_2 3 rfl rfl)
theorem dX0_told_52 : decode cX0_told 52 = .ok (.iload_n 2, 1) := dk_28 (dk_at dksX0_told_2 6 rfl rfl)
theorem dX0_told_53 : decode cX0_told 53 = .ok (.ireturn, 1) := dk_172 (dk_at dksX0_told_2 7 rfl rfl)
theorem q108 : (Jvm.Cond.initialized "PuzzleWed") ∈ lw_all := lw_g (lw_at lw_m1 1 rfl) rfl
theorem q136 : (Jvm.Cond.instantiable "PuzzleWed" (18 : Nat)) ∈ lw_all := lw_g (lw_at lw_m1 29 rfl) rfl
theorem q138 : (Jvm.Cond.instanceMethod ({ cls := "PuzzleWed", name := "<init>", desc := "()V" } : Jvm.MethodName)) ∈ lw_all := lw_g (lw_at lw_m1 31 rfl) rfl
theorem q139 : (Jvm.Cond.code ({ cls := "PuzzleWed", name := "<init>", desc := "()V" } : Jvm.MethodName) prog_1_method_7_code (5 : Nat) (Option.none : Option Jvm.ClassFile.FieldType)) ∈ lw_all := lw_g (lw_at lw_m1 32 rfl) rfl
theorem q140 : (Jvm.Cond.methodLink "PuzzleWed" (15 : Nat) ({ cls := "java/lang/Object", name := "<init>", desc := "()V" } : Jvm.MethodName)) ∈ lw_all := lw_g (lw_at lw_m1 33 rfl) rfl
theorem q143 : (Jvm.Cond.classLink "PuzzleWed" (21 : Nat) "PuzzleWed$Moment") ∈ lw_all := lw_g (lw_at lw_m1 36 rfl) rfl
theorem q145 : (Jvm.Cond.methodLinkNest "PuzzleWed" (23 : Nat) ({ cls := "PuzzleWed$Moment", name := "<init>", desc := "(LPuzzleWed;)V" } : Jvm.MethodName) "PuzzleWed") ∈ lw_tbl := lw_at lw_m1 38 rfl
theorem q173 : (Jvm.Cond.classLink "PuzzleWed" (30 : Nat) "PuzzleWed$Land") ∈ lw_all := lw_g (lw_at lw_m1 66 rfl) rfl
theorem q175 : (Jvm.Cond.methodLink "PuzzleWed" (32 : Nat) ({ cls := "PuzzleWed$Land", name := "<init>", desc := "(LPuzzleWed;)V" } : Jvm.MethodName)) ∈ lw_all := lw_g (lw_at lw_m1 68 rfl) rfl
theorem q190 : (Jvm.Cond.fieldLinkNest "PuzzleWed" (182 : Nat) "PuzzleWed$Person" "towns" "[I" "PuzzleWed") ∈ lw_tbl := lw_at lw_m1 83 rfl
theorem q194 : (Jvm.Cond.fieldLinkNest "PuzzleWed" (111 : Nat) "PuzzleWed$Person" "side" "I" "PuzzleWed") ∈ lw_tbl := lw_at lw_m1 87 rfl
theorem q197 : (Jvm.Cond.fieldLinkNest "PuzzleWed" (114 : Nat) "PuzzleWed$Person" "town" "I" "PuzzleWed") ∈ lw_tbl := lw_at lw_m1 90 rfl
theorem q200 : (Jvm.Cond.fieldLinkNest "PuzzleWed" (98 : Nat) "PuzzleWed$Person" "wed" "I" "PuzzleWed") ∈ lw_tbl := lw_at lw_m1 93 rfl
theorem q205 : (Jvm.Cond.fieldLinkNest "PuzzleWed" (219 : Nat) "PuzzleWed$Person" "creaks" "I" "PuzzleWed") ∈ lw_tbl := lw_at lw_m1 98 rfl
theorem q208 : (Jvm.Cond.fieldLinkNest "PuzzleWed" (231 : Nat) "PuzzleWed$Person" "tried" "I" "PuzzleWed") ∈ lw_tbl := lw_at lw_m1 101 rfl
theorem q211 : (Jvm.Cond.fieldLinkNest "PuzzleWed" (189 : Nat) "PuzzleWed$Person" "next" "I" "PuzzleWed") ∈ lw_tbl := lw_at lw_m1 104 rfl
theorem q214 : (Jvm.Cond.fieldLinkNest "PuzzleWed" (186 : Nat) "PuzzleWed$Person" "days" "I" "PuzzleWed") ∈ lw_tbl := lw_at lw_m1 107 rfl
theorem q216 : (Jvm.Cond.fieldLinkNest "PuzzleWed" (107 : Nat) "PuzzleWed$Person" "isTold" "Z" "PuzzleWed") ∈ lw_tbl := lw_at lw_m1 109 rfl
theorem q219 : (Jvm.Cond.fieldLinkNest "PuzzleWed" (222 : Nat) "PuzzleWed$Person" "isDead" "Z" "PuzzleWed") ∈ lw_tbl := lw_at lw_m1 112 rfl
theorem q248 : (Jvm.Cond.fieldLinkNest "PuzzleWed" (171 : Nat) "PuzzleWed$Piece" "heights" "[I" "PuzzleWed") ∈ lw_tbl := lw_at lw_m1 141 rfl
theorem q250 : (Jvm.Cond.fieldLinkNest "PuzzleWed" (132 : Nat) "PuzzleWed$Piece" "wear" "I" "PuzzleWed") ∈ lw_tbl := lw_at lw_m1 143 rfl
theorem q253 : (Jvm.Cond.fieldLinkNest "PuzzleWed" (121 : Nat) "PuzzleWed$Piece" "holder" "I" "PuzzleWed") ∈ lw_tbl := lw_at lw_m1 146 rfl
theorem q263 : (Jvm.Cond.fieldLinkNest "PuzzleWed" (94 : Nat) "PuzzleWed$Land" "people" "[LPuzzleWed$Person;" "PuzzleWed") ∈ lw_tbl := lw_at lw_m1 156 rfl
theorem q265 : (Jvm.Cond.fieldLinkNest "PuzzleWed" (117 : Nat) "PuzzleWed$Land" "pieces" "[LPuzzleWed$Piece;" "PuzzleWed") ∈ lw_tbl := lw_at lw_m1 158 rfl
theorem q268 : (Jvm.Cond.fieldLinkNest "PuzzleWed" (332 : Nat) "PuzzleWed$Land" "day" "I" "PuzzleWed") ∈ lw_tbl := lw_at lw_m1 161 rfl
theorem q270 : (Jvm.Cond.fieldLinkNest "PuzzleWed" (90 : Nat) "PuzzleWed$Land" "x" "I" "PuzzleWed") ∈ lw_tbl := lw_at lw_m1 163 rfl
theorem q272 : (Jvm.Cond.fieldLinkNest "PuzzleWed" (196 : Nat) "PuzzleWed$Land" "weddings" "I" "PuzzleWed") ∈ lw_tbl := lw_at lw_m1 165 rfl
theorem q274 : (Jvm.Cond.fieldLinkNest "PuzzleWed" (203 : Nat) "PuzzleWed$Land" "tries" "I" "PuzzleWed") ∈ lw_tbl := lw_at lw_m1 167 rfl
theorem q276 : (Jvm.Cond.fieldLinkNest "PuzzleWed" (206 : Nat) "PuzzleWed$Land" "partings" "I" "PuzzleWed") ∈ lw_tbl := lw_at lw_m1 169 rfl
theorem q295 : (Jvm.Cond.classLink "PuzzleWed" (47 : Nat) "PuzzleWed$Text") ∈ lw_all := lw_g (lw_at lw_m1 188 rfl) rfl
theorem q297 : (Jvm.Cond.methodLinkNest "PuzzleWed" (49 : Nat) ({ cls := "PuzzleWed$Text", name := "<init>", desc := "()V" } : Jvm.MethodName) "PuzzleWed") ∈ lw_tbl := lw_at lw_m1 190 rfl
theorem q313 : (Jvm.Cond.fieldLinkNest "PuzzleWed" (339 : Nat) "PuzzleWed$Text" "many" "I" "PuzzleWed") ∈ lw_tbl := lw_at lw_m1 206 rfl
theorem q324 : (Jvm.Cond.classLink "PuzzleWed" (54 : Nat) "[[I") ∈ lw_all := lw_g (lw_at lw_m1 217 rfl) rfl
theorem q326 : (Jvm.Cond.classLink "PuzzleWed" (78 : Nat) "[[[I") ∈ lw_all := lw_g (lw_at lw_m1 219 rfl) rfl
theorem q328 : (Jvm.Cond.classLink "PuzzleWed" (83 : Nat) "PuzzleWed$Piece") ∈ lw_all := lw_g (lw_at lw_m1 221 rfl) rfl
theorem q329 : (Jvm.Cond.methodLinkNest "PuzzleWed" (85 : Nat) ({ cls := "PuzzleWed$Piece", name := "<init>", desc := "()V" } : Jvm.MethodName) "PuzzleWed") ∈ lw_tbl := lw_at lw_m1 222 rfl
theorem q330 : (Jvm.Cond.fieldLink "PuzzleWed" (26 : Nat) "PuzzleWed" "moment" "LPuzzleWed$Moment;") ∈ lw_all := lw_g (lw_at lw_m1 223 rfl) rfl
theorem q332 : (Jvm.Cond.fieldLink "PuzzleWed" (33 : Nat) "PuzzleWed" "land" "LPuzzleWed$Land;") ∈ lw_all := lw_g (lw_at lw_m1 225 rfl) rfl
theorem q333 : (Jvm.Cond.fieldLink "PuzzleWed" (37 : Nat) "PuzzleWed" "then" "LPuzzleWed$Land;") ∈ lw_all := lw_g (lw_at lw_m1 226 rfl) rfl
theorem q334 : (Jvm.Cond.fieldLink "PuzzleWed" (40 : Nat) "PuzzleWed" "kept" "LPuzzleWed$Land;") ∈ lw_all := lw_g (lw_at lw_m1 227 rfl) rfl
theorem q337 : (Jvm.Cond.fieldLink "PuzzleWed" (43 : Nat) "PuzzleWed" "tape" "[B") ∈ lw_all := lw_g (lw_at lw_m1 230 rfl) rfl
theorem q339 : (Jvm.Cond.fieldLink "PuzzleWed" (50 : Nat) "PuzzleWed" "law" "LPuzzleWed$Text;") ∈ lw_all := lw_g (lw_at lw_m1 232 rfl) rfl
theorem q340 : (Jvm.Cond.fieldLink "PuzzleWed" (149 : Nat) "PuzzleWed" "taped" "I") ∈ lw_all := lw_g (lw_at lw_m1 233 rfl) rfl
theorem q341 : (Jvm.Cond.fieldLink "PuzzleWed" (326 : Nat) "PuzzleWed" "isKept" "Z") ∈ lw_all := lw_g (lw_at lw_m1 234 rfl) rfl
theorem q342 : (Jvm.Cond.fieldLink "PuzzleWed" (56 : Nat) "PuzzleWed" "best" "[[I") ∈ lw_all := lw_g (lw_at lw_m1 235 rfl) rfl
theorem q343 : (Jvm.Cond.fieldLink "PuzzleWed" (59 : Nat) "PuzzleWed" "gains" "[[I") ∈ lw_all := lw_g (lw_at lw_m1 236 rfl) rfl
theorem q344 : (Jvm.Cond.fieldLink "PuzzleWed" (62 : Nat) "PuzzleWed" "keeps" "[I") ∈ lw_all := lw_g (lw_at lw_m1 237 rfl) rfl
theorem q345 : (Jvm.Cond.fieldLink "PuzzleWed" (66 : Nat) "PuzzleWed" "asked" "[I") ∈ lw_all := lw_g (lw_at lw_m1 238 rfl) rfl
theorem q346 : (Jvm.Cond.fieldLink "PuzzleWed" (69 : Nat) "PuzzleWed" "liking" "[[I") ∈ lw_all := lw_g (lw_at lw_m1 239 rfl) rfl
theorem q347 : (Jvm.Cond.fieldLink "PuzzleWed" (72 : Nat) "PuzzleWed" "order" "[I") ∈ lw_all := lw_g (lw_at lw_m2 0 rfl) rfl
theorem q348 : (Jvm.Cond.fieldLink "PuzzleWed" (75 : Nat) "PuzzleWed" "bestOrder" "[I") ∈ lw_all := lw_g (lw_at lw_m2 1 rfl) rfl
theorem q349 : (Jvm.Cond.fieldLink "PuzzleWed" (268 : Nat) "PuzzleWed" "leastSum" "I") ∈ lw_all := lw_g (lw_at lw_m2 2 rfl) rfl
theorem q350 : (Jvm.Cond.fieldLink "PuzzleWed" (80 : Nat) "PuzzleWed" "works" "[[[I") ∈ lw_all := lw_g (lw_at lw_m2 3 rfl) rfl
theorem q351 : (Jvm.Cond.fieldLink "PuzzleWed" (86 : Nat) "PuzzleWed" "sanded" "LPuzzleWed$Piece;") ∈ lw_all := lw_g (lw_at lw_m2 4 rfl) rfl
theorem q352 : (Jvm.Cond.laysFinal "PuzzleWed" "PuzzleWed" "moment" "LPuzzleWed$Moment;") ∈ lw_all := lw_g (lw_at lw_m2 5 rfl) rfl
theorem q353 : (Jvm.Cond.soleField "PuzzleWed" "moment") ∈ lw_all := lw_g (lw_at lw_m2 6 rfl) rfl
theorem q354 : (Jvm.Cond.laysFinal "PuzzleWed" "PuzzleWed" "land" "LPuzzleWed$Land;") ∈ lw_all := lw_g (lw_at lw_m2 7 rfl) rfl
theorem q355 : (Jvm.Cond.soleField "PuzzleWed" "land") ∈ lw_all := lw_g (lw_at lw_m2 8 rfl) rfl
theorem q356 : (Jvm.Cond.laysFinal "PuzzleWed" "PuzzleWed" "then" "LPuzzleWed$Land;") ∈ lw_all := lw_g (lw_at lw_m2 9 rfl) rfl
theorem q357 : (Jvm.Cond.soleField "PuzzleWed" "then") ∈ lw_all := lw_g (lw_at lw_m2 10 rfl) rfl
theorem q358 : (Jvm.Cond.laysFinal "PuzzleWed" "PuzzleWed" "kept" "LPuzzleWed$Land;") ∈ lw_all := lw_g (lw_at lw_m2 11 rfl) rfl
theorem q359 : (Jvm.Cond.soleField "PuzzleWed" "kept") ∈ lw_all := lw_g (lw_at lw_m2 12 rfl) rfl
theorem q360 : (Jvm.Cond.laysFinal "PuzzleWed" "PuzzleWed" "tape" "[B") ∈ lw_all := lw_g (lw_at lw_m2 13 rfl) rfl
theorem q361 : (Jvm.Cond.soleField "PuzzleWed" "tape") ∈ lw_all := lw_g (lw_at lw_m2 14 rfl) rfl
theorem q362 : (Jvm.Cond.lays "PuzzleWed" "PuzzleWed" "law" "LPuzzleWed$Text;") ∈ lw_all := lw_g (lw_at lw_m2 15 rfl) rfl
theorem q363 : (Jvm.Cond.soleField "PuzzleWed" "law") ∈ lw_all := lw_g (lw_at lw_m2 16 rfl) rfl
theorem q364 : (Jvm.Cond.lays "PuzzleWed" "PuzzleWed" "taped" "I") ∈ lw_all := lw_g (lw_at lw_m2 17 rfl) rfl
theorem q365 : (Jvm.Cond.soleField "PuzzleWed" "taped") ∈ lw_all := lw_g (lw_at lw_m2 18 rfl) rfl
theorem q366 : (Jvm.Cond.lays "PuzzleWed" "PuzzleWed" "isKept" "Z") ∈ lw_all := lw_g (lw_at lw_m2 19 rfl) rfl
theorem q367 : (Jvm.Cond.soleField "PuzzleWed" "isKept") ∈ lw_all := lw_g (lw_at lw_m2 20 rfl) rfl
theorem q368 : (Jvm.Cond.laysFinal "PuzzleWed" "PuzzleWed" "best" "[[I") ∈ lw_all := lw_g (lw_at lw_m2 21 rfl) rfl
theorem q369 : (Jvm.Cond.soleField "PuzzleWed" "best") ∈ lw_all := lw_g (lw_at lw_m2 22 rfl) rfl
theorem q370 : (Jvm.Cond.laysFinal "PuzzleWed" "PuzzleWed" "gains" "[[I") ∈ lw_all := lw_g (lw_at lw_m2 23 rfl) rfl
theorem q371 : (Jvm.Cond.soleField "PuzzleWed" "gains") ∈ lw_all := lw_g (lw_at lw_m2 24 rfl) rfl
theorem q372 : (Jvm.Cond.laysFinal "PuzzleWed" "PuzzleWed" "keeps" "[I") ∈ lw_all := lw_g (lw_at lw_m2 25 rfl) rfl
theorem q373 : (Jvm.Cond.soleField "PuzzleWed" "keeps") ∈ lw_all := lw_g (lw_at lw_m2 26 rfl) rfl
theorem q374 : (Jvm.Cond.laysFinal "PuzzleWed" "PuzzleWed" "asked" "[I") ∈ lw_all := lw_g (lw_at lw_m2 27 rfl) rfl
theorem q375 : (Jvm.Cond.soleField "PuzzleWed" "asked") ∈ lw_all := lw_g (lw_at lw_m2 28 rfl) rfl
theorem q376 : (Jvm.Cond.laysFinal "PuzzleWed" "PuzzleWed" "liking" "[[I") ∈ lw_all := lw_g (lw_at lw_m2 29 rfl) rfl
theorem q377 : (Jvm.Cond.soleField "PuzzleWed" "liking") ∈ lw_all := lw_g (lw_at lw_m2 30 rfl) rfl
theorem q378 : (Jvm.Cond.laysFinal "PuzzleWed" "PuzzleWed" "order" "[I") ∈ lw_all := lw_g (lw_at lw_m2 31 rfl) rfl
theorem q379 : (Jvm.Cond.soleField "PuzzleWed" "order") ∈ lw_all := lw_g (lw_at lw_m2 32 rfl) rfl
theorem q380 : (Jvm.Cond.laysFinal "PuzzleWed" "PuzzleWed" "bestOrder" "[I") ∈ lw_all := lw_g (lw_at lw_m2 33 rfl) rfl
theorem q381 : (Jvm.Cond.soleField "PuzzleWed" "bestOrder") ∈ lw_all := lw_g (lw_at lw_m2 34 rfl) rfl
theorem q382 : (Jvm.Cond.lays "PuzzleWed" "PuzzleWed" "leastSum" "I") ∈ lw_all := lw_g (lw_at lw_m2 35 rfl) rfl
theorem q383 : (Jvm.Cond.soleField "PuzzleWed" "leastSum") ∈ lw_all := lw_g (lw_at lw_m2 36 rfl) rfl
theorem q384 : (Jvm.Cond.laysFinal "PuzzleWed" "PuzzleWed" "works" "[[[I") ∈ lw_all := lw_g (lw_at lw_m2 37 rfl) rfl
theorem q385 : (Jvm.Cond.soleField "PuzzleWed" "works") ∈ lw_all := lw_g (lw_at lw_m2 38 rfl) rfl
theorem q386 : (Jvm.Cond.laysFinal "PuzzleWed" "PuzzleWed" "sanded" "LPuzzleWed$Piece;") ∈ lw_all := lw_g (lw_at lw_m2 39 rfl) rfl
theorem q387 : (Jvm.Cond.soleField "PuzzleWed" "sanded") ∈ lw_all := lw_g (lw_at lw_m2 40 rfl) rfl
theorem q388 : (Jvm.Cond.superclass "PuzzleWed" "java/lang/Object") ∈ lw_all := lw_g (lw_at lw_m2 41 rfl) rfl
theorem q390 : (Jvm.Cond.instanceMethod ({ cls := "PuzzleWed", name := "person", desc := "(III)Z" } : Jvm.MethodName)) ∈ lw_all := lw_g (lw_at lw_m2 43 rfl) rfl
theorem q391 : (Jvm.Cond.selects "PuzzleWed" ({ cls := "PuzzleWed", name := "person", desc := "(III)Z" } : Jvm.MethodName) ({ cls := "PuzzleWed", name := "person", desc := "(III)Z" } : Jvm.MethodName)) ∈ lw_all := lw_g (lw_at lw_m2 44 rfl) rfl
theorem q392 : (Jvm.Cond.code ({ cls := "PuzzleWed", name := "person", desc := "(III)Z" } : Jvm.MethodName) prog_1_method_10_code (5 : Nat) (Option.some Jvm.ClassFile.FieldType.boolean)) ∈ lw_all := lw_g (lw_at lw_m2 45 rfl) rfl
theorem q393 : (Jvm.Cond.methodLink "PuzzleWed" (103 : Nat) ({ cls := "PuzzleWed", name := "in", desc := "(II)Z" } : Jvm.MethodName)) ∈ lw_all := lw_g (lw_at lw_m2 46 rfl) rfl
theorem q394 : (Jvm.Cond.static ({ cls := "PuzzleWed", name := "in", desc := "(II)Z" } : Jvm.MethodName)) ∈ lw_all := lw_g (lw_at lw_m2 47 rfl) rfl
theorem q395 : (Jvm.Cond.code ({ cls := "PuzzleWed", name := "in", desc := "(II)Z" } : Jvm.MethodName) prog_1_method_1_code (2 : Nat) (Option.some Jvm.ClassFile.FieldType.boolean)) ∈ lw_all := lw_g (lw_at lw_m2 48 rfl) rfl
theorem q397 : (Jvm.Cond.instanceMethod ({ cls := "PuzzleWed", name := "wear", desc := "(II)Z" } : Jvm.MethodName)) ∈ lw_all := lw_g (lw_at lw_m2 50 rfl) rfl
theorem q398 : (Jvm.Cond.selects "PuzzleWed" ({ cls := "PuzzleWed", name := "wear", desc := "(II)Z" } : Jvm.MethodName) ({ cls := "PuzzleWed", name := "wear", desc := "(II)Z" } : Jvm.MethodName)) ∈ lw_all := lw_g (lw_at lw_m2 51 rfl) rfl
theorem q399 : (Jvm.Cond.code ({ cls := "PuzzleWed", name := "wear", desc := "(II)Z" } : Jvm.MethodName) prog_1_method_11_code (3 : Nat) (Option.some Jvm.ClassFile.FieldType.boolean)) ∈ lw_all := lw_g (lw_at lw_m2 52 rfl) rfl
theorem q400 : (Jvm.Cond.methodLink "PuzzleWed" (124 : Nat) ({ cls := "PuzzleWed", name := "isPiece", desc := "(I)Z" } : Jvm.MethodName)) ∈ lw_all := lw_g (lw_at lw_m2 53 rfl) rfl
theorem q401 : (Jvm.Cond.static ({ cls := "PuzzleWed", name := "isPiece", desc := "(I)Z" } : Jvm.MethodName)) ∈ lw_all := lw_g (lw_at lw_m2 54 rfl) rfl
theorem q402 : (Jvm.Cond.code ({ cls := "PuzzleWed", name := "isPiece", desc := "(I)Z" } : Jvm.MethodName) prog_1_method_9_code (1 : Nat) (Option.some Jvm.ClassFile.FieldType.boolean)) ∈ lw_all := lw_g (lw_at lw_m2 55 rfl) rfl
theorem q403 : (Jvm.Cond.methodLink "PuzzleWed" (128 : Nat) ({ cls := "PuzzleWed", name := "within", desc := "(III)Z" } : Jvm.MethodName)) ∈ lw_all := lw_g (lw_at lw_m2 56 rfl) rfl
theorem q404 : (Jvm.Cond.static ({ cls := "PuzzleWed", name := "within", desc := "(III)Z" } : Jvm.MethodName)) ∈ lw_all := lw_g (lw_at lw_m2 57 rfl) rfl
theorem q405 : (Jvm.Cond.code ({ cls := "PuzzleWed", name := "within", desc := "(III)Z" } : Jvm.MethodName) prog_1_method_2_code (3 : Nat) (Option.some Jvm.ClassFile.FieldType.boolean)) ∈ lw_all := lw_g (lw_at lw_m2 58 rfl) rfl
theorem q407 : (Jvm.Cond.instanceMethod ({ cls := "PuzzleWed", name := "dies", desc := "(I)Z" } : Jvm.MethodName)) ∈ lw_all := lw_g (lw_at lw_m2 60 rfl) rfl
theorem q408 : (Jvm.Cond.selects "PuzzleWed" ({ cls := "PuzzleWed", name := "dies", desc := "(I)Z" } : Jvm.MethodName) ({ cls := "PuzzleWed", name := "dies", desc := "(I)Z" } : Jvm.MethodName)) ∈ lw_all := lw_g (lw_at lw_m2 61 rfl) rfl
theorem q409 : (Jvm.Cond.code ({ cls := "PuzzleWed", name := "dies", desc := "(I)Z" } : Jvm.MethodName) prog_1_method_12_code (2 : Nat) (Option.some Jvm.ClassFile.FieldType.boolean)) ∈ lw_all := lw_g (lw_at lw_m2 62 rfl) rfl
theorem q410 : (Jvm.Cond.methodLink "PuzzleWed" (135 : Nat) ({ cls := "PuzzleWed$Land", name := "lives", desc := "(I)Z" } : Jvm.MethodName)) ∈ lw_all := lw_g (lw_at lw_m2 63 rfl) rfl
theorem q419 : (Jvm.Cond.methodLink "PuzzleWed" (138 : Nat) ({ cls := "PuzzleWed$Land", name := "dies", desc := "(I)V" } : Jvm.MethodName)) ∈ lw_all := lw_g (lw_at lw_m2 72 rfl) rfl
theorem q428 : (Jvm.Cond.instanceMethod ({ cls := "PuzzleWed", name := "weds", desc := "(II)Z" } : Jvm.MethodName)) ∈ lw_all := lw_g (lw_at lw_m2 81 rfl) rfl
theorem q429 : (Jvm.Cond.selects "PuzzleWed" ({ cls := "PuzzleWed", name := "weds", desc := "(II)Z" } : Jvm.MethodName) ({ cls := "PuzzleWed", name := "weds", desc := "(II)Z" } : Jvm.MethodName)) ∈ lw_all := lw_g (lw_at lw_m2 82 rfl) rfl
theorem q430 : (Jvm.Cond.code ({ cls := "PuzzleWed", name := "weds", desc := "(II)Z" } : Jvm.MethodName) prog_1_method_13_code (3 : Nat) (Option.some Jvm.ClassFile.FieldType.boolean)) ∈ lw_all := lw_g (lw_at lw_m2 83 rfl) rfl
theorem q431 : (Jvm.Cond.methodLink "PuzzleWed" (142 : Nat) ({ cls := "PuzzleWed$Person", name := "isFree", desc := "()Z" } : Jvm.MethodName)) ∈ lw_all := lw_g (lw_at lw_m2 84 rfl) rfl
theorem q436 : (Jvm.Cond.methodLink "PuzzleWed" (146 : Nat) ({ cls := "PuzzleWed$Land", name := "wed", desc := "(II)V" } : Jvm.MethodName)) ∈ lw_all := lw_g (lw_at lw_m2 89 rfl) rfl
theorem q441 : (Jvm.Cond.instanceMethod ({ cls := "PuzzleWed", name := "feed", desc := "(IIIII)I" } : Jvm.MethodName)) ∈ lw_all := lw_g (lw_at lw_m2 94 rfl) rfl
theorem q442 : (Jvm.Cond.selects "PuzzleWed" ({ cls := "PuzzleWed", name := "feed", desc := "(IIIII)I" } : Jvm.MethodName) ({ cls := "PuzzleWed", name := "feed", desc := "(IIIII)I" } : Jvm.MethodName)) ∈ lw_all := lw_g (lw_at lw_m2 95 rfl) rfl
theorem q443 : (Jvm.Cond.code ({ cls := "PuzzleWed", name := "feed", desc := "(IIIII)I" } : Jvm.MethodName) prog_1_method_15_code (6 : Nat) (Option.some Jvm.ClassFile.FieldType.int)) ∈ lw_all := lw_g (lw_at lw_m2 96 rfl) rfl
theorem q444 : (Jvm.Cond.methodLink "PuzzleWed" (152 : Nat) ({ cls := "PuzzleWed", name := "push", desc := "(I)V" } : Jvm.MethodName)) ∈ lw_all := lw_g (lw_at lw_m2 97 rfl) rfl
theorem q445 : (Jvm.Cond.privateMethod ({ cls := "PuzzleWed", name := "push", desc := "(I)V" } : Jvm.MethodName)) ∈ lw_tbl := lw_at lw_m2 98 rfl
theorem q446 : (Jvm.Cond.instanceMethod ({ cls := "PuzzleWed", name := "push", desc := "(I)V" } : Jvm.MethodName)) ∈ lw_all := lw_g (lw_at lw_m2 99 rfl) rfl
theorem q447 : (Jvm.Cond.code ({ cls := "PuzzleWed", name := "push", desc := "(I)V" } : Jvm.MethodName) prog_1_method_14_code (3 : Nat) (Option.none : Option Jvm.ClassFile.FieldType)) ∈ lw_all := lw_g (lw_at lw_m2 100 rfl) rfl
theorem q449 : (Jvm.Cond.instanceMethod ({ cls := "PuzzleWed", name := "law", desc := "(I)I" } : Jvm.MethodName)) ∈ lw_all := lw_g (lw_at lw_m2 102 rfl) rfl
theorem q450 : (Jvm.Cond.selects "PuzzleWed" ({ cls := "PuzzleWed", name := "law", desc := "(I)I" } : Jvm.MethodName) ({ cls := "PuzzleWed", name := "law", desc := "(I)I" } : Jvm.MethodName)) ∈ lw_all := lw_g (lw_at lw_m2 103 rfl) rfl
theorem q451 : (Jvm.Cond.code ({ cls := "PuzzleWed", name := "law", desc := "(I)I" } : Jvm.MethodName) prog_1_method_16_code (4 : Nat) (Option.some Jvm.ClassFile.FieldType.int)) ∈ lw_all := lw_g (lw_at lw_m2 104 rfl) rfl
theorem q452 : (Jvm.Cond.classLink "PuzzleWed" (155 : Nat) "PuzzleWed$Reader") ∈ lw_all := lw_g (lw_at lw_m2 105 rfl) rfl
theorem q454 : (Jvm.Cond.methodLink "PuzzleWed" (157 : Nat) ({ cls := "PuzzleWed$Reader", name := "<init>", desc := "(LPuzzleWed;I)V" } : Jvm.MethodName)) ∈ lw_all := lw_g (lw_at lw_m2 107 rfl) rfl
theorem q462 : (Jvm.Cond.fieldLinkNest "PuzzleWed" (164 : Nat) "PuzzleWed$Reader" "text" "LPuzzleWed$Text;" "PuzzleWed") ∈ lw_tbl := lw_at lw_m2 115 rfl
theorem q483 : (Jvm.Cond.methodLink "PuzzleWed" (160 : Nat) ({ cls := "PuzzleWed$Reader", name := "read", desc := "()I" } : Jvm.MethodName)) ∈ lw_all := lw_g (lw_at lw_m2 136 rfl) rfl
theorem q718 : (Jvm.Cond.instanceMethod ({ cls := "PuzzleWed", name := "edge", desc := "(II)I" } : Jvm.MethodName)) ∈ lw_all := lw_g (lw_at lw_m3 131 rfl) rfl
theorem q719 : (Jvm.Cond.selects "PuzzleWed" ({ cls := "PuzzleWed", name := "edge", desc := "(II)I" } : Jvm.MethodName) ({ cls := "PuzzleWed", name := "edge", desc := "(II)I" } : Jvm.MethodName)) ∈ lw_all := lw_g (lw_at lw_m3 132 rfl) rfl
theorem q720 : (Jvm.Cond.code ({ cls := "PuzzleWed", name := "edge", desc := "(II)I" } : Jvm.MethodName) prog_1_method_17_code (6 : Nat) (Option.some Jvm.ClassFile.FieldType.int)) ∈ lw_all := lw_g (lw_at lw_m3 133 rfl) rfl
theorem q721 : (Jvm.Cond.classLink "PuzzleWed" (167 : Nat) "PuzzleWed$Carver") ∈ lw_all := lw_g (lw_at lw_m3 134 rfl) rfl
theorem q723 : (Jvm.Cond.methodLink "PuzzleWed" (169 : Nat) ({ cls := "PuzzleWed$Carver", name := "<init>", desc := "(LPuzzleWed;I)V" } : Jvm.MethodName)) ∈ lw_all := lw_g (lw_at lw_m3 136 rfl) rfl
theorem q731 : (Jvm.Cond.fieldLinkNest "PuzzleWed" (174 : Nat) "PuzzleWed$Carver" "heights" "[I" "PuzzleWed") ∈ lw_tbl := lw_at lw_m3 144 rfl
theorem q756 : (Jvm.Cond.methodLink "PuzzleWed" (170 : Nat) ({ cls := "PuzzleWed$Carver", name := "read", desc := "()I" } : Jvm.MethodName)) ∈ lw_all := lw_g (lw_at lw_m3 169 rfl) rfl
theorem q859 : (Jvm.Cond.instanceMethod ({ cls := "PuzzleWed", name := "journey", desc := "(II)I" } : Jvm.MethodName)) ∈ lw_all := lw_g (lw_at lw_m4 32 rfl) rfl
theorem q860 : (Jvm.Cond.selects "PuzzleWed" ({ cls := "PuzzleWed", name := "journey", desc := "(II)I" } : Jvm.MethodName) ({ cls := "PuzzleWed", name := "journey", desc := "(II)I" } : Jvm.MethodName)) ∈ lw_all := lw_g (lw_at lw_m4 33 rfl) rfl
theorem q861 : (Jvm.Cond.code ({ cls := "PuzzleWed", name := "journey", desc := "(II)I" } : Jvm.MethodName) prog_1_method_18_code (7 : Nat) (Option.some Jvm.ClassFile.FieldType.int)) ∈ lw_all := lw_g (lw_at lw_m4 34 rfl) rfl
theorem q862 : (Jvm.Cond.methodLink "PuzzleWed" (175 : Nat) ({ cls := "PuzzleWed", name := "isPerson", desc := "(I)Z" } : Jvm.MethodName)) ∈ lw_all := lw_g (lw_at lw_m4 35 rfl) rfl
theorem q863 : (Jvm.Cond.privateMethod ({ cls := "PuzzleWed", name := "isPerson", desc := "(I)Z" } : Jvm.MethodName)) ∈ lw_tbl := lw_at lw_m4 36 rfl
theorem q864 : (Jvm.Cond.instanceMethod ({ cls := "PuzzleWed", name := "isPerson", desc := "(I)Z" } : Jvm.MethodName)) ∈ lw_all := lw_g (lw_at lw_m4 37 rfl) rfl
theorem q865 : (Jvm.Cond.code ({ cls := "PuzzleWed", name := "isPerson", desc := "(I)Z" } : Jvm.MethodName) prog_1_method_8_code (2 : Nat) (Option.some Jvm.ClassFile.FieldType.boolean)) ∈ lw_all := lw_g (lw_at lw_m4 38 rfl) rfl
theorem q866 : (Jvm.Cond.classLink "PuzzleWed" (178 : Nat) "PuzzleWed$Guide") ∈ lw_all := lw_g (lw_at lw_m4 39 rfl) rfl
theorem q868 : (Jvm.Cond.methodLink "PuzzleWed" (180 : Nat) ({ cls := "PuzzleWed$Guide", name := "<init>", desc := "(LPuzzleWed;I)V" } : Jvm.MethodName)) ∈ lw_all := lw_g (lw_at lw_m4 41 rfl) rfl
theorem q873 : (Jvm.Cond.fieldLinkNest "PuzzleWed" (185 : Nat) "PuzzleWed$Guide" "towns" "[I" "PuzzleWed") ∈ lw_tbl := lw_at lw_m4 46 rfl
theorem q891 : (Jvm.Cond.methodLink "PuzzleWed" (181 : Nat) ({ cls := "PuzzleWed$Guide", name := "read", desc := "()I" } : Jvm.MethodName)) ∈ lw_all := lw_g (lw_at lw_m4 64 rfl) rfl
theorem q902 : (Jvm.Cond.instanceMethod ({ cls := "PuzzleWed", name := "days", desc := "(I)I" } : Jvm.MethodName)) ∈ lw_all := lw_g (lw_at lw_m4 75 rfl) rfl
theorem q903 : (Jvm.Cond.selects "PuzzleWed" ({ cls := "PuzzleWed", name := "days", desc := "(I)I" } : Jvm.MethodName) ({ cls := "PuzzleWed", name := "days", desc := "(I)I" } : Jvm.MethodName)) ∈ lw_all := lw_g (lw_at lw_m4 76 rfl) rfl
theorem q904 : (Jvm.Cond.code ({ cls := "PuzzleWed", name := "days", desc := "(I)I" } : Jvm.MethodName) prog_1_method_19_code (2 : Nat) (Option.some Jvm.ClassFile.FieldType.int)) ∈ lw_all := lw_g (lw_at lw_m4 77 rfl) rfl
theorem q905 : (Jvm.Cond.methodLink "PuzzleWed" (192 : Nat) ({ cls := "PuzzleWed$Land", name := "goes", desc := "(I)LPuzzleWed$Land;" } : Jvm.MethodName)) ∈ lw_all := lw_g (lw_at lw_m4 78 rfl) rfl
theorem q923 : (Jvm.Cond.static ({ cls := "PuzzleWed", name := "has", desc := "(II)Z" } : Jvm.MethodName)) ∈ lw_all := lw_g (lw_at lw_m4 96 rfl) rfl
theorem q924 : (Jvm.Cond.code ({ cls := "PuzzleWed", name := "has", desc := "(II)Z" } : Jvm.MethodName) prog_1_method_3_code (2 : Nat) (Option.some Jvm.ClassFile.FieldType.boolean)) ∈ lw_all := lw_g (lw_at lw_m4 97 rfl) rfl
theorem q1024 : (Jvm.Cond.static ({ cls := "PuzzleWed", name := "held", desc := "(II)I" } : Jvm.MethodName)) ∈ lw_all := lw_g (lw_at lw_m4 197 rfl) rfl
theorem q1025 : (Jvm.Cond.code ({ cls := "PuzzleWed", name := "held", desc := "(II)I" } : Jvm.MethodName) prog_1_method_4_code (2 : Nat) (Option.some Jvm.ClassFile.FieldType.int)) ∈ lw_all := lw_g (lw_at lw_m4 198 rfl) rfl
theorem q1026 : (Jvm.Cond.methodLink "PuzzleWed" (1 : Nat) ({ cls := "java/lang/Math", name := "min", desc := "(II)I" } : Jvm.MethodName)) ∈ lw_all := lw_g (lw_at lw_m4 199 rfl) rfl
theorem q1027 : (Jvm.Cond.methodLink "PuzzleWed" (7 : Nat) ({ cls := "java/lang/Math", name := "max", desc := "(II)I" } : Jvm.MethodName)) ∈ lw_all := lw_g (lw_at lw_m4 200 rfl) rfl
theorem q1044 : (Jvm.Cond.instanceMethod ({ cls := "PuzzleWed", name := "tried", desc := "(II)I" } : Jvm.MethodName)) ∈ lw_all := lw_g (lw_at lw_m4 217 rfl) rfl
theorem q1045 : (Jvm.Cond.selects "PuzzleWed" ({ cls := "PuzzleWed", name := "tried", desc := "(II)I" } : Jvm.MethodName) ({ cls := "PuzzleWed", name := "tried", desc := "(II)I" } : Jvm.MethodName)) ∈ lw_all := lw_g (lw_at lw_m4 218 rfl) rfl
theorem q1046 : (Jvm.Cond.code ({ cls := "PuzzleWed", name := "tried", desc := "(II)I" } : Jvm.MethodName) prog_1_method_20_code (3 : Nat) (Option.some Jvm.ClassFile.FieldType.int)) ∈ lw_all := lw_g (lw_at lw_m4 219 rfl) rfl
theorem q1047 : (Jvm.Cond.methodLink "PuzzleWed" (199 : Nat) ({ cls := "PuzzleWed$Land", name := "takes", desc := "(LPuzzleWed$Land;)LPuzzleWed$Land;" } : Jvm.MethodName)) ∈ lw_all := lw_g (lw_at lw_m4 220 rfl) rfl
theorem q1059 : (Jvm.Cond.methodLink "PuzzleWed" (209 : Nat) ({ cls := "PuzzleWed$Land", name := "couples", desc := "()I" } : Jvm.MethodName)) ∈ lw_all := lw_g (lw_at lw_m4 232 rfl) rfl
theorem q1063 : (Jvm.Cond.methodLink "PuzzleWed" (212 : Nat) ({ cls := "PuzzleWed", name := "orNone", desc := "(I)I" } : Jvm.MethodName)) ∈ lw_all := lw_g (lw_at lw_m4 236 rfl) rfl
theorem q1064 : (Jvm.Cond.static ({ cls := "PuzzleWed", name := "orNone", desc := "(I)I" } : Jvm.MethodName)) ∈ lw_all := lw_g (lw_at lw_m4 237 rfl) rfl
theorem q1065 : (Jvm.Cond.code ({ cls := "PuzzleWed", name := "orNone", desc := "(I)I" } : Jvm.MethodName) prog_1_method_6_code (1 : Nat) (Option.some Jvm.ClassFile.FieldType.int)) ∈ lw_all := lw_g (lw_at lw_m4 238 rfl) rfl
theorem q1067 : (Jvm.Cond.instanceMethod ({ cls := "PuzzleWed", name := "personIs", desc := "(II)I" } : Jvm.MethodName)) ∈ lw_all := lw_g (lw_at lw_m5 0 rfl) rfl
theorem q1068 : (Jvm.Cond.selects "PuzzleWed" ({ cls := "PuzzleWed", name := "personIs", desc := "(II)I" } : Jvm.MethodName) ({ cls := "PuzzleWed", name := "personIs", desc := "(II)I" } : Jvm.MethodName)) ∈ lw_all := lw_g (lw_at lw_m5 1 rfl) rfl
theorem q1069 : (Jvm.Cond.code ({ cls := "PuzzleWed", name := "personIs", desc := "(II)I" } : Jvm.MethodName) prog_1_method_22_code (4 : Nat) (Option.some Jvm.ClassFile.FieldType.int)) ∈ lw_all := lw_g (lw_at lw_m5 2 rfl) rfl
theorem q1070 : (Jvm.Cond.methodLink "PuzzleWed" (225 : Nat) ({ cls := "PuzzleWed$Land", name := "holds", desc := "(I)I" } : Jvm.MethodName)) ∈ lw_all := lw_g (lw_at lw_m5 3 rfl) rfl
theorem q1071 : (Jvm.Cond.methodLink "PuzzleWed" (228 : Nat) ({ cls := "PuzzleWed", name := "fitting", desc := "(I)I" } : Jvm.MethodName)) ∈ lw_all := lw_g (lw_at lw_m5 4 rfl) rfl
theorem q1072 : (Jvm.Cond.privateMethod ({ cls := "PuzzleWed", name := "fitting", desc := "(I)I" } : Jvm.MethodName)) ∈ lw_tbl := lw_at lw_m5 5 rfl
theorem q1073 : (Jvm.Cond.instanceMethod ({ cls := "PuzzleWed", name := "fitting", desc := "(I)I" } : Jvm.MethodName)) ∈ lw_all := lw_g (lw_at lw_m5 6 rfl) rfl
theorem q1074 : (Jvm.Cond.code ({ cls := "PuzzleWed", name := "fitting", desc := "(I)I" } : Jvm.MethodName) prog_1_method_21_code (4 : Nat) (Option.some Jvm.ClassFile.FieldType.int)) ∈ lw_all := lw_g (lw_at lw_m5 7 rfl) rfl
theorem q1075 : (Jvm.Cond.methodLink "PuzzleWed" (216 : Nat) ({ cls := "PuzzleWed$Land", name := "fit", desc := "(II)Z" } : Jvm.MethodName)) ∈ lw_all := lw_g (lw_at lw_m5 8 rfl) rfl
theorem q1077 : (Jvm.Cond.instanceMethod ({ cls := "PuzzleWed", name := "piece", desc := "(II)I" } : Jvm.MethodName)) ∈ lw_all := lw_g (lw_at lw_m5 10 rfl) rfl
theorem q1078 : (Jvm.Cond.selects "PuzzleWed" ({ cls := "PuzzleWed", name := "piece", desc := "(II)I" } : Jvm.MethodName) ({ cls := "PuzzleWed", name := "piece", desc := "(II)I" } : Jvm.MethodName)) ∈ lw_all := lw_g (lw_at lw_m5 11 rfl) rfl
theorem q1079 : (Jvm.Cond.code ({ cls := "PuzzleWed", name := "piece", desc := "(II)I" } : Jvm.MethodName) prog_1_method_23_code (4 : Nat) (Option.some Jvm.ClassFile.FieldType.int)) ∈ lw_all := lw_g (lw_at lw_m5 12 rfl) rfl
theorem q1081 : (Jvm.Cond.instanceMethod ({ cls := "PuzzleWed", name := "slack", desc := "(III)I" } : Jvm.MethodName)) ∈ lw_all := lw_g (lw_at lw_m5 14 rfl) rfl
theorem q1082 : (Jvm.Cond.selects "PuzzleWed" ({ cls := "PuzzleWed", name := "slack", desc := "(III)I" } : Jvm.MethodName) ({ cls := "PuzzleWed", name := "slack", desc := "(III)I" } : Jvm.MethodName)) ∈ lw_all := lw_g (lw_at lw_m5 15 rfl) rfl
theorem q1083 : (Jvm.Cond.code ({ cls := "PuzzleWed", name := "slack", desc := "(III)I" } : Jvm.MethodName) prog_1_method_24_code (4 : Nat) (Option.some Jvm.ClassFile.FieldType.int)) ∈ lw_all := lw_g (lw_at lw_m5 16 rfl) rfl
theorem q1084 : (Jvm.Cond.methodLink "PuzzleWed" (234 : Nat) ({ cls := "PuzzleWed$Land", name := "slack", desc := "(II)I" } : Jvm.MethodName)) ∈ lw_all := lw_g (lw_at lw_m5 17 rfl) rfl
theorem q1085 : (Jvm.Cond.methodLink "PuzzleWed" (237 : Nat) ({ cls := "PuzzleWed$Land", name := "likes", desc := "(II)I" } : Jvm.MethodName)) ∈ lw_all := lw_g (lw_at lw_m5 18 rfl) rfl
theorem q1090 : (Jvm.Cond.instanceMethod ({ cls := "PuzzleWed", name := "locks", desc := "(I)I" } : Jvm.MethodName)) ∈ lw_all := lw_g (lw_at lw_m5 23 rfl) rfl
theorem q1091 : (Jvm.Cond.selects "PuzzleWed" ({ cls := "PuzzleWed", name := "locks", desc := "(I)I" } : Jvm.MethodName) ({ cls := "PuzzleWed", name := "locks", desc := "(I)I" } : Jvm.MethodName)) ∈ lw_all := lw_g (lw_at lw_m5 24 rfl) rfl
theorem q1092 : (Jvm.Cond.code ({ cls := "PuzzleWed", name := "locks", desc := "(I)I" } : Jvm.MethodName) prog_1_method_26_code (7 : Nat) (Option.some Jvm.ClassFile.FieldType.int)) ∈ lw_all := lw_g (lw_at lw_m5 25 rfl) rfl
theorem q1093 : (Jvm.Cond.methodLink "PuzzleWed" (240 : Nat) ({ cls := "PuzzleWed", name := "areFit", desc := "(II)Z" } : Jvm.MethodName)) ∈ lw_all := lw_g (lw_at lw_m5 26 rfl) rfl
theorem q1094 : (Jvm.Cond.privateMethod ({ cls := "PuzzleWed", name := "areFit", desc := "(II)Z" } : Jvm.MethodName)) ∈ lw_tbl := lw_at lw_m5 27 rfl
theorem q1095 : (Jvm.Cond.instanceMethod ({ cls := "PuzzleWed", name := "areFit", desc := "(II)Z" } : Jvm.MethodName)) ∈ lw_all := lw_g (lw_at lw_m5 28 rfl) rfl
theorem q1096 : (Jvm.Cond.code ({ cls := "PuzzleWed", name := "areFit", desc := "(II)Z" } : Jvm.MethodName) prog_1_method_25_code (3 : Nat) (Option.some Jvm.ClassFile.FieldType.boolean)) ∈ lw_all := lw_g (lw_at lw_m5 29 rfl) rfl
theorem q1098 : (Jvm.Cond.instanceMethod ({ cls := "PuzzleWed", name := "most", desc := "(I)I" } : Jvm.MethodName)) ∈ lw_all := lw_g (lw_at lw_m5 31 rfl) rfl
theorem q1099 : (Jvm.Cond.selects "PuzzleWed" ({ cls := "PuzzleWed", name := "most", desc := "(I)I" } : Jvm.MethodName) ({ cls := "PuzzleWed", name := "most", desc := "(I)I" } : Jvm.MethodName)) ∈ lw_all := lw_g (lw_at lw_m5 32 rfl) rfl
theorem q1100 : (Jvm.Cond.code ({ cls := "PuzzleWed", name := "most", desc := "(I)I" } : Jvm.MethodName) prog_1_method_30_code (7 : Nat) (Option.some Jvm.ClassFile.FieldType.int)) ∈ lw_all := lw_g (lw_at lw_m5 33 rfl) rfl
theorem q1101 : (Jvm.Cond.methodLink "PuzzleWed" (243 : Nat) ({ cls := "PuzzleWed", name := "isAsker", desc := "(I)Z" } : Jvm.MethodName)) ∈ lw_all := lw_g (lw_at lw_m5 34 rfl) rfl
theorem q1102 : (Jvm.Cond.privateMethod ({ cls := "PuzzleWed", name := "isAsker", desc := "(I)Z" } : Jvm.MethodName)) ∈ lw_tbl := lw_at lw_m5 35 rfl
theorem q1103 : (Jvm.Cond.instanceMethod ({ cls := "PuzzleWed", name := "isAsker", desc := "(I)Z" } : Jvm.MethodName)) ∈ lw_all := lw_g (lw_at lw_m5 36 rfl) rfl
theorem q1104 : (Jvm.Cond.code ({ cls := "PuzzleWed", name := "isAsker", desc := "(I)Z" } : Jvm.MethodName) prog_1_method_27_code (2 : Nat) (Option.some Jvm.ClassFile.FieldType.boolean)) ∈ lw_all := lw_g (lw_at lw_m5 37 rfl) rfl
theorem q1105 : (Jvm.Cond.methodLink "PuzzleWed" (253 : Nat) ({ cls := "PuzzleWed", name := "laysBest", desc := "()I" } : Jvm.MethodName)) ∈ lw_all := lw_g (lw_at lw_m5 38 rfl) rfl
theorem q1106 : (Jvm.Cond.privateMethod ({ cls := "PuzzleWed", name := "laysBest", desc := "()I" } : Jvm.MethodName)) ∈ lw_tbl := lw_at lw_m5 39 rfl
theorem q1107 : (Jvm.Cond.instanceMethod ({ cls := "PuzzleWed", name := "laysBest", desc := "()I" } : Jvm.MethodName)) ∈ lw_all := lw_g (lw_at lw_m5 40 rfl) rfl
theorem q1108 : (Jvm.Cond.code ({ cls := "PuzzleWed", name := "laysBest", desc := "()I" } : Jvm.MethodName) prog_1_method_29_code (5 : Nat) (Option.some Jvm.ClassFile.FieldType.int)) ∈ lw_all := lw_g (lw_at lw_m5 41 rfl) rfl
theorem q1109 : (Jvm.Cond.methodLink "PuzzleWed" (246 : Nat) ({ cls := "PuzzleWed", name := "has", desc := "(II)Z" } : Jvm.MethodName)) ∈ lw_all := lw_g (lw_at lw_m5 42 rfl) rfl
theorem q1110 : (Jvm.Cond.methodLink "PuzzleWed" (249 : Nat) ({ cls := "PuzzleWed", name := "gainBy", desc := "(III)I" } : Jvm.MethodName)) ∈ lw_all := lw_g (lw_at lw_m5 43 rfl) rfl
theorem q1111 : (Jvm.Cond.privateMethod ({ cls := "PuzzleWed", name := "gainBy", desc := "(III)I" } : Jvm.MethodName)) ∈ lw_tbl := lw_at lw_m5 44 rfl
theorem q1112 : (Jvm.Cond.instanceMethod ({ cls := "PuzzleWed", name := "gainBy", desc := "(III)I" } : Jvm.MethodName)) ∈ lw_all := lw_g (lw_at lw_m5 45 rfl) rfl
theorem q1113 : (Jvm.Cond.code ({ cls := "PuzzleWed", name := "gainBy", desc := "(III)I" } : Jvm.MethodName) prog_1_method_28_code (4 : Nat) (Option.some Jvm.ClassFile.FieldType.int)) ∈ lw_all := lw_g (lw_at lw_m5 46 rfl) rfl
theorem q1115 : (Jvm.Cond.instanceMethod ({ cls := "PuzzleWed", name := "stable", desc := "(I)I" } : Jvm.MethodName)) ∈ lw_all := lw_g (lw_at lw_m5 48 rfl) rfl
theorem q1116 : (Jvm.Cond.selects "PuzzleWed" ({ cls := "PuzzleWed", name := "stable", desc := "(I)I" } : Jvm.MethodName) ({ cls := "PuzzleWed", name := "stable", desc := "(I)I" } : Jvm.MethodName)) ∈ lw_all := lw_g (lw_at lw_m5 49 rfl) rfl
theorem q1117 : (Jvm.Cond.code ({ cls := "PuzzleWed", name := "stable", desc := "(I)I" } : Jvm.MethodName) prog_1_method_34_code (4 : Nat) (Option.some Jvm.ClassFile.FieldType.int)) ∈ lw_all := lw_g (lw_at lw_m5 50 rfl) rfl
theorem q1118 : (Jvm.Cond.methodLink "PuzzleWed" (262 : Nat) ({ cls := "PuzzleWed", name := "laysStable", desc := "()V" } : Jvm.MethodName)) ∈ lw_all := lw_g (lw_at lw_m5 51 rfl) rfl
theorem q1119 : (Jvm.Cond.privateMethod ({ cls := "PuzzleWed", name := "laysStable", desc := "()V" } : Jvm.MethodName)) ∈ lw_tbl := lw_at lw_m5 52 rfl
theorem q1120 : (Jvm.Cond.instanceMethod ({ cls := "PuzzleWed", name := "laysStable", desc := "()V" } : Jvm.MethodName)) ∈ lw_all := lw_g (lw_at lw_m5 53 rfl) rfl
theorem q1121 : (Jvm.Cond.code ({ cls := "PuzzleWed", name := "laysStable", desc := "()V" } : Jvm.MethodName) prog_1_method_33_code (4 : Nat) (Option.none : Option Jvm.ClassFile.FieldType)) ∈ lw_all := lw_g (lw_at lw_m5 54 rfl) rfl
theorem q1122 : (Jvm.Cond.methodLink "PuzzleWed" (259 : Nat) ({ cls := "PuzzleWed", name := "nextFor", desc := "(I)I" } : Jvm.MethodName)) ∈ lw_all := lw_g (lw_at lw_m5 55 rfl) rfl
theorem q1123 : (Jvm.Cond.privateMethod ({ cls := "PuzzleWed", name := "nextFor", desc := "(I)I" } : Jvm.MethodName)) ∈ lw_tbl := lw_at lw_m5 56 rfl
theorem q1124 : (Jvm.Cond.instanceMethod ({ cls := "PuzzleWed", name := "nextFor", desc := "(I)I" } : Jvm.MethodName)) ∈ lw_all := lw_g (lw_at lw_m5 57 rfl) rfl
theorem q1125 : (Jvm.Cond.code ({ cls := "PuzzleWed", name := "nextFor", desc := "(I)I" } : Jvm.MethodName) prog_1_method_32_code (4 : Nat) (Option.some Jvm.ClassFile.FieldType.int)) ∈ lw_all := lw_g (lw_at lw_m5 58 rfl) rfl
theorem q1126 : (Jvm.Cond.methodLink "PuzzleWed" (256 : Nat) ({ cls := "PuzzleWed", name := "likesMore", desc := "(III)Z" } : Jvm.MethodName)) ∈ lw_all := lw_g (lw_at lw_m5 59 rfl) rfl
theorem q1127 : (Jvm.Cond.privateMethod ({ cls := "PuzzleWed", name := "likesMore", desc := "(III)Z" } : Jvm.MethodName)) ∈ lw_tbl := lw_at lw_m5 60 rfl
theorem q1128 : (Jvm.Cond.instanceMethod ({ cls := "PuzzleWed", name := "likesMore", desc := "(III)Z" } : Jvm.MethodName)) ∈ lw_all := lw_g (lw_at lw_m5 61 rfl) rfl
theorem q1129 : (Jvm.Cond.code ({ cls := "PuzzleWed", name := "likesMore", desc := "(III)Z" } : Jvm.MethodName) prog_1_method_31_code (4 : Nat) (Option.some Jvm.ClassFile.FieldType.boolean)) ∈ lw_all := lw_g (lw_at lw_m5 62 rfl) rfl
theorem q1131 : (Jvm.Cond.instanceMethod ({ cls := "PuzzleWed", name := "unrest", desc := "(I)I" } : Jvm.MethodName)) ∈ lw_all := lw_g (lw_at lw_m5 64 rfl) rfl
theorem q1132 : (Jvm.Cond.selects "PuzzleWed" ({ cls := "PuzzleWed", name := "unrest", desc := "(I)I" } : Jvm.MethodName) ({ cls := "PuzzleWed", name := "unrest", desc := "(I)I" } : Jvm.MethodName)) ∈ lw_all := lw_g (lw_at lw_m5 65 rfl) rfl
theorem q1133 : (Jvm.Cond.code ({ cls := "PuzzleWed", name := "unrest", desc := "(I)I" } : Jvm.MethodName) prog_1_method_36_code (6 : Nat) (Option.some Jvm.ClassFile.FieldType.int)) ∈ lw_all := lw_g (lw_at lw_m5 66 rfl) rfl
theorem q1134 : (Jvm.Cond.methodLink "PuzzleWed" (265 : Nat) ({ cls := "PuzzleWed", name := "wouldLeave", desc := "(II)Z" } : Jvm.MethodName)) ∈ lw_all := lw_g (lw_at lw_m5 67 rfl) rfl
theorem q1135 : (Jvm.Cond.privateMethod ({ cls := "PuzzleWed", name := "wouldLeave", desc := "(II)Z" } : Jvm.MethodName)) ∈ lw_tbl := lw_at lw_m5 68 rfl
theorem q1136 : (Jvm.Cond.instanceMethod ({ cls := "PuzzleWed", name := "wouldLeave", desc := "(II)Z" } : Jvm.MethodName)) ∈ lw_all := lw_g (lw_at lw_m5 69 rfl) rfl
theorem q1137 : (Jvm.Cond.code ({ cls := "PuzzleWed", name := "wouldLeave", desc := "(II)Z" } : Jvm.MethodName) prog_1_method_35_code (4 : Nat) (Option.some Jvm.ClassFile.FieldType.boolean)) ∈ lw_all := lw_g (lw_at lw_m5 70 rfl) rfl
theorem q1139 : (Jvm.Cond.instanceMethod ({ cls := "PuzzleWed", name := "search", desc := "(II)I" } : Jvm.MethodName)) ∈ lw_all := lw_g (lw_at lw_m5 72 rfl) rfl
theorem q1140 : (Jvm.Cond.selects "PuzzleWed" ({ cls := "PuzzleWed", name := "search", desc := "(II)I" } : Jvm.MethodName) ({ cls := "PuzzleWed", name := "search", desc := "(II)I" } : Jvm.MethodName)) ∈ lw_all := lw_g (lw_at lw_m5 73 rfl) rfl
theorem q1141 : (Jvm.Cond.code ({ cls := "PuzzleWed", name := "search", desc := "(II)I" } : Jvm.MethodName) prog_1_method_39_code (5 : Nat) (Option.some Jvm.ClassFile.FieldType.int)) ∈ lw_all := lw_g (lw_at lw_m5 74 rfl) rfl
theorem q1142 : (Jvm.Cond.methodLink "PuzzleWed" (275 : Nat) ({ cls := "PuzzleWed", name := "isSearch", desc := "(I)Z" } : Jvm.MethodName)) ∈ lw_all := lw_g (lw_at lw_m5 75 rfl) rfl
theorem q1143 : (Jvm.Cond.privateMethod ({ cls := "PuzzleWed", name := "isSearch", desc := "(I)Z" } : Jvm.MethodName)) ∈ lw_tbl := lw_at lw_m5 76 rfl
theorem q1144 : (Jvm.Cond.instanceMethod ({ cls := "PuzzleWed", name := "isSearch", desc := "(I)Z" } : Jvm.MethodName)) ∈ lw_all := lw_g (lw_at lw_m5 77 rfl) rfl
theorem q1145 : (Jvm.Cond.code ({ cls := "PuzzleWed", name := "isSearch", desc := "(I)Z" } : Jvm.MethodName) prog_1_method_38_code (5 : Nat) (Option.some Jvm.ClassFile.FieldType.boolean)) ∈ lw_all := lw_g (lw_at lw_m5 78 rfl) rfl
theorem q1146 : (Jvm.Cond.constant "PuzzleWed" (278 : Nat) (268435456 : Int32)) ∈ lw_all := lw_g (lw_at lw_m5 79 rfl) rfl
theorem q1147 : (Jvm.Cond.methodLink "PuzzleWed" (271 : Nat) ({ cls := "PuzzleWed", name := "searches", desc := "(IIIII)V" } : Jvm.MethodName)) ∈ lw_all := lw_g (lw_at lw_m5 80 rfl) rfl
theorem q1148 : (Jvm.Cond.privateMethod ({ cls := "PuzzleWed", name := "searches", desc := "(IIIII)V" } : Jvm.MethodName)) ∈ lw_tbl := lw_at lw_m5 81 rfl
theorem q1149 : (Jvm.Cond.instanceMethod ({ cls := "PuzzleWed", name := "searches", desc := "(IIIII)V" } : Jvm.MethodName)) ∈ lw_all := lw_g (lw_at lw_m5 82 rfl) rfl
theorem q1150 : (Jvm.Cond.code ({ cls := "PuzzleWed", name := "searches", desc := "(IIIII)V" } : Jvm.MethodName) prog_1_method_37_code (8 : Nat) (Option.none : Option Jvm.ClassFile.FieldType)) ∈ lw_all := lw_g (lw_at lw_m5 83 rfl) rfl
theorem q1151 : (Jvm.Cond.methodLink "PuzzleWed" (10 : Nat) ({ cls := "PuzzleWed", name := "divisor", desc := "(II)I" } : Jvm.MethodName)) ∈ lw_all := lw_g (lw_at lw_m5 84 rfl) rfl
theorem q1152 : (Jvm.Cond.static ({ cls := "PuzzleWed", name := "divisor", desc := "(II)I" } : Jvm.MethodName)) ∈ lw_all := lw_g (lw_at lw_m5 85 rfl) rfl
theorem q1153 : (Jvm.Cond.code ({ cls := "PuzzleWed", name := "divisor", desc := "(II)I" } : Jvm.MethodName) prog_1_method_5_code (2 : Nat) (Option.some Jvm.ClassFile.FieldType.int)) ∈ lw_all := lw_g (lw_at lw_m5 86 rfl) rfl
theorem q1155 : (Jvm.Cond.instanceMethod ({ cls := "PuzzleWed", name := "sanding", desc := "(IIIIIII)I" } : Jvm.MethodName)) ∈ lw_all := lw_g (lw_at lw_m5 88 rfl) rfl
theorem q1156 : (Jvm.Cond.selects "PuzzleWed" ({ cls := "PuzzleWed", name := "sanding", desc := "(IIIIIII)I" } : Jvm.MethodName) ({ cls := "PuzzleWed", name := "sanding", desc := "(IIIIIII)I" } : Jvm.MethodName)) ∈ lw_all := lw_g (lw_at lw_m5 89 rfl) rfl
theorem q1157 : (Jvm.Cond.code ({ cls := "PuzzleWed", name := "sanding", desc := "(IIIIIII)I" } : Jvm.MethodName) prog_1_method_43_code (17 : Nat) (Option.some Jvm.ClassFile.FieldType.int)) ∈ lw_all := lw_g (lw_at lw_m5 90 rfl) rfl
theorem q1158 : (Jvm.Cond.methodLink "PuzzleWed" (290 : Nat) ({ cls := "PuzzleWed", name := "laysWorks", desc := "(LPuzzleWed$Piece;LPuzzleWed$Piece;LPuzzleWed$Piece;II)V" } : Jvm.MethodName)) ∈ lw_all := lw_g (lw_at lw_m5 91 rfl) rfl
theorem q1159 : (Jvm.Cond.privateMethod ({ cls := "PuzzleWed", name := "laysWorks", desc := "(LPuzzleWed$Piece;LPuzzleWed$Piece;LPuzzleWed$Piece;II)V" } : Jvm.MethodName)) ∈ lw_tbl := lw_at lw_m5 92 rfl
theorem q1160 : (Jvm.Cond.instanceMethod ({ cls := "PuzzleWed", name := "laysWorks", desc := "(LPuzzleWed$Piece;LPuzzleWed$Piece;LPuzzleWed$Piece;II)V" } : Jvm.MethodName)) ∈ lw_all := lw_g (lw_at lw_m5 93 rfl) rfl
theorem q1161 : (Jvm.Cond.code ({ cls := "PuzzleWed", name := "laysWorks", desc := "(LPuzzleWed$Piece;LPuzzleWed$Piece;LPuzzleWed$Piece;II)V" } : Jvm.MethodName) prog_1_method_42_code (10 : Nat) (Option.none : Option Jvm.ClassFile.FieldType)) ∈ lw_all := lw_g (lw_at lw_m5 94 rfl) rfl
theorem q1162 : (Jvm.Cond.methodLink "PuzzleWed" (286 : Nat) ({ cls := "PuzzleWed", name := "workBy", desc := "(LPuzzleWed$Piece;LPuzzleWed$Piece;LPuzzleWed$Piece;IIII)I" } : Jvm.MethodName)) ∈ lw_all := lw_g (lw_at lw_m5 95 rfl) rfl
theorem q1163 : (Jvm.Cond.privateMethod ({ cls := "PuzzleWed", name := "workBy", desc := "(LPuzzleWed$Piece;LPuzzleWed$Piece;LPuzzleWed$Piece;IIII)I" } : Jvm.MethodName)) ∈ lw_tbl := lw_at lw_m5 96 rfl
theorem q1164 : (Jvm.Cond.instanceMethod ({ cls := "PuzzleWed", name := "workBy", desc := "(LPuzzleWed$Piece;LPuzzleWed$Piece;LPuzzleWed$Piece;IIII)I" } : Jvm.MethodName)) ∈ lw_all := lw_g (lw_at lw_m5 97 rfl) rfl
theorem q1165 : (Jvm.Cond.code ({ cls := "PuzzleWed", name := "workBy", desc := "(LPuzzleWed$Piece;LPuzzleWed$Piece;LPuzzleWed$Piece;IIII)I" } : Jvm.MethodName) prog_1_method_41_code (10 : Nat) (Option.some Jvm.ClassFile.FieldType.int)) ∈ lw_all := lw_g (lw_at lw_m5 98 rfl) rfl
theorem q1166 : (Jvm.Cond.methodLink "PuzzleWed" (282 : Nat) ({ cls := "PuzzleWed", name := "gapAt", desc := "(ILPuzzleWed$Piece;I)I" } : Jvm.MethodName)) ∈ lw_all := lw_g (lw_at lw_m5 99 rfl) rfl
theorem q1167 : (Jvm.Cond.static ({ cls := "PuzzleWed", name := "gapAt", desc := "(ILPuzzleWed$Piece;I)I" } : Jvm.MethodName)) ∈ lw_all := lw_g (lw_at lw_m5 100 rfl) rfl
theorem q1168 : (Jvm.Cond.code ({ cls := "PuzzleWed", name := "gapAt", desc := "(ILPuzzleWed$Piece;I)I" } : Jvm.MethodName) prog_1_method_40_code (3 : Nat) (Option.some Jvm.ClassFile.FieldType.int)) ∈ lw_all := lw_g (lw_at lw_m5 101 rfl) rfl
theorem q1169 : (Jvm.Cond.methodLink "PuzzleWed" (279 : Nat) ({ cls := "java/lang/Math", name := "abs", desc := "(I)I" } : Jvm.MethodName)) ∈ lw_all := lw_g (lw_at lw_m5 102 rfl) rfl
theorem q1170 : (Jvm.Cond.methodLink "PuzzleWed" (294 : Nat) ({ cls := "PuzzleWed$Piece", name := "takes", desc := "(LPuzzleWed$Piece;)V" } : Jvm.MethodName)) ∈ lw_all := lw_g (lw_at lw_m5 103 rfl) rfl
theorem q1171 : (Jvm.Cond.methodLink "PuzzleWed" (297 : Nat) ({ cls := "PuzzleWed$Piece", name := "slack", desc := "(LPuzzleWed$Piece;)I" } : Jvm.MethodName)) ∈ lw_all := lw_g (lw_at lw_m5 104 rfl) rfl
theorem q1173 : (Jvm.Cond.instanceMethod ({ cls := "PuzzleWed", name := "steaming", desc := "(IIII)I" } : Jvm.MethodName)) ∈ lw_all := lw_g (lw_at lw_m5 106 rfl) rfl
theorem q1174 : (Jvm.Cond.selects "PuzzleWed" ({ cls := "PuzzleWed", name := "steaming", desc := "(IIII)I" } : Jvm.MethodName) ({ cls := "PuzzleWed", name := "steaming", desc := "(IIII)I" } : Jvm.MethodName)) ∈ lw_all := lw_g (lw_at lw_m5 107 rfl) rfl
theorem q1175 : (Jvm.Cond.code ({ cls := "PuzzleWed", name := "steaming", desc := "(IIII)I" } : Jvm.MethodName) prog_1_method_45_code (10 : Nat) (Option.some Jvm.ClassFile.FieldType.int)) ∈ lw_all := lw_g (lw_at lw_m5 108 rfl) rfl
theorem q1176 : (Jvm.Cond.methodLink "PuzzleWed" (300 : Nat) ({ cls := "PuzzleWed", name := "steams", desc := "(LPuzzleWed$Piece;II)V" } : Jvm.MethodName)) ∈ lw_all := lw_g (lw_at lw_m5 109 rfl) rfl
theorem q1177 : (Jvm.Cond.privateMethod ({ cls := "PuzzleWed", name := "steams", desc := "(LPuzzleWed$Piece;II)V" } : Jvm.MethodName)) ∈ lw_tbl := lw_at lw_m5 110 rfl
theorem q1178 : (Jvm.Cond.instanceMethod ({ cls := "PuzzleWed", name := "steams", desc := "(LPuzzleWed$Piece;II)V" } : Jvm.MethodName)) ∈ lw_all := lw_g (lw_at lw_m5 111 rfl) rfl
theorem q1179 : (Jvm.Cond.code ({ cls := "PuzzleWed", name := "steams", desc := "(LPuzzleWed$Piece;II)V" } : Jvm.MethodName) prog_1_method_44_code (5 : Nat) (Option.none : Option Jvm.ClassFile.FieldType)) ∈ lw_all := lw_g (lw_at lw_m5 112 rfl) rfl
theorem q1181 : (Jvm.Cond.instanceMethod ({ cls := "PuzzleWed", name := "worn", desc := "(II)I" } : Jvm.MethodName)) ∈ lw_all := lw_g (lw_at lw_m5 114 rfl) rfl
theorem q1182 : (Jvm.Cond.selects "PuzzleWed" ({ cls := "PuzzleWed", name := "worn", desc := "(II)I" } : Jvm.MethodName) ({ cls := "PuzzleWed", name := "worn", desc := "(II)I" } : Jvm.MethodName)) ∈ lw_all := lw_g (lw_at lw_m5 115 rfl) rfl
theorem q1183 : (Jvm.Cond.code ({ cls := "PuzzleWed", name := "worn", desc := "(II)I" } : Jvm.MethodName) prog_1_method_46_code (13 : Nat) (Option.some Jvm.ClassFile.FieldType.int)) ∈ lw_all := lw_g (lw_at lw_m5 116 rfl) rfl
theorem q1184 : (Jvm.Cond.methodLink "PuzzleWed" (304 : Nat) ({ cls := "PuzzleWed$Moment", name := "of", desc := "(LPuzzleWed$Land;III)LPuzzleWed$Moment;" } : Jvm.MethodName)) ∈ lw_all := lw_g (lw_at lw_m5 117 rfl) rfl
theorem q1185 : (Jvm.Cond.methodLink "PuzzleWed" (308 : Nat) ({ cls := "PuzzleWed$Moment", name := "tells", desc := "(II)I" } : Jvm.MethodName)) ∈ lw_all := lw_g (lw_at lw_m5 118 rfl) rfl
theorem q1186 : (Jvm.Cond.methodLink "PuzzleWed" (311 : Nat) ({ cls := "PuzzleWed$Piece", name := "wears", desc := "(I)V" } : Jvm.MethodName)) ∈ lw_all := lw_g (lw_at lw_m5 119 rfl) rfl
theorem q1188 : (Jvm.Cond.instanceMethod ({ cls := "PuzzleWed", name := "cutter", desc := "(II)I" } : Jvm.MethodName)) ∈ lw_all := lw_g (lw_at lw_m5 121 rfl) rfl
theorem q1189 : (Jvm.Cond.selects "PuzzleWed" ({ cls := "PuzzleWed", name := "cutter", desc := "(II)I" } : Jvm.MethodName) ({ cls := "PuzzleWed", name := "cutter", desc := "(II)I" } : Jvm.MethodName)) ∈ lw_all := lw_g (lw_at lw_m5 122 rfl) rfl
theorem q1190 : (Jvm.Cond.code ({ cls := "PuzzleWed", name := "cutter", desc := "(II)I" } : Jvm.MethodName) prog_1_method_49_code (6 : Nat) (Option.some Jvm.ClassFile.FieldType.int)) ∈ lw_all := lw_g (lw_at lw_m5 123 rfl) rfl
theorem q1191 : (Jvm.Cond.methodLink "PuzzleWed" (318 : Nat) ({ cls := "PuzzleWed", name := "fitsAll", desc := "(II)Z" } : Jvm.MethodName)) ∈ lw_all := lw_g (lw_at lw_m5 124 rfl) rfl
theorem q1192 : (Jvm.Cond.privateMethod ({ cls := "PuzzleWed", name := "fitsAll", desc := "(II)Z" } : Jvm.MethodName)) ∈ lw_tbl := lw_at lw_m5 125 rfl
theorem q1193 : (Jvm.Cond.instanceMethod ({ cls := "PuzzleWed", name := "fitsAll", desc := "(II)Z" } : Jvm.MethodName)) ∈ lw_all := lw_g (lw_at lw_m5 126 rfl) rfl
theorem q1194 : (Jvm.Cond.code ({ cls := "PuzzleWed", name := "fitsAll", desc := "(II)Z" } : Jvm.MethodName) prog_1_method_48_code (4 : Nat) (Option.some Jvm.ClassFile.FieldType.boolean)) ∈ lw_all := lw_g (lw_at lw_m5 127 rfl) rfl
theorem q1195 : (Jvm.Cond.methodLink "PuzzleWed" (314 : Nat) ({ cls := "PuzzleWed", name := "isMade", desc := "(ILPuzzleWed$Piece;LPuzzleWed$Piece;)Z" } : Jvm.MethodName)) ∈ lw_all := lw_g (lw_at lw_m5 128 rfl) rfl
theorem q1196 : (Jvm.Cond.privateMethod ({ cls := "PuzzleWed", name := "isMade", desc := "(ILPuzzleWed$Piece;LPuzzleWed$Piece;)Z" } : Jvm.MethodName)) ∈ lw_tbl := lw_at lw_m5 129 rfl
theorem q1197 : (Jvm.Cond.instanceMethod ({ cls := "PuzzleWed", name := "isMade", desc := "(ILPuzzleWed$Piece;LPuzzleWed$Piece;)Z" } : Jvm.MethodName)) ∈ lw_all := lw_g (lw_at lw_m5 130 rfl) rfl
theorem q1198 : (Jvm.Cond.code ({ cls := "PuzzleWed", name := "isMade", desc := "(ILPuzzleWed$Piece;LPuzzleWed$Piece;)Z" } : Jvm.MethodName) prog_1_method_47_code (8 : Nat) (Option.some Jvm.ClassFile.FieldType.boolean)) ∈ lw_all := lw_g (lw_at lw_m5 131 rfl) rfl
theorem q1200 : (Jvm.Cond.instanceMethod ({ cls := "PuzzleWed", name := "copies", desc := "(I)I" } : Jvm.MethodName)) ∈ lw_all := lw_g (lw_at lw_m5 133 rfl) rfl
theorem q1201 : (Jvm.Cond.selects "PuzzleWed" ({ cls := "PuzzleWed", name := "copies", desc := "(I)I" } : Jvm.MethodName) ({ cls := "PuzzleWed", name := "copies", desc := "(I)I" } : Jvm.MethodName)) ∈ lw_all := lw_g (lw_at lw_m5 134 rfl) rfl
theorem q1202 : (Jvm.Cond.code ({ cls := "PuzzleWed", name := "copies", desc := "(I)I" } : Jvm.MethodName) prog_1_method_50_code (8 : Nat) (Option.some Jvm.ClassFile.FieldType.int)) ∈ lw_all := lw_g (lw_at lw_m5 135 rfl) rfl
theorem q1203 : (Jvm.Cond.methodLink "PuzzleWed" (321 : Nat) ({ cls := "PuzzleWed$Piece", name := "isLike", desc := "(LPuzzleWed$Piece;)Z" } : Jvm.MethodName)) ∈ lw_all := lw_g (lw_at lw_m5 136 rfl) rfl
theorem q1208 : (Jvm.Cond.instanceMethod ({ cls := "PuzzleWed", name := "mate", desc := "(II)I" } : Jvm.MethodName)) ∈ lw_all := lw_g (lw_at lw_m5 141 rfl) rfl
theorem q1209 : (Jvm.Cond.selects "PuzzleWed" ({ cls := "PuzzleWed", name := "mate", desc := "(II)I" } : Jvm.MethodName) ({ cls := "PuzzleWed", name := "mate", desc := "(II)I" } : Jvm.MethodName)) ∈ lw_all := lw_g (lw_at lw_m5 142 rfl) rfl
theorem q1210 : (Jvm.Cond.code ({ cls := "PuzzleWed", name := "mate", desc := "(II)I" } : Jvm.MethodName) prog_1_method_51_code (3 : Nat) (Option.some Jvm.ClassFile.FieldType.int)) ∈ lw_all := lw_g (lw_at lw_m5 143 rfl) rfl
theorem q1212 : (Jvm.Cond.instanceMethod ({ cls := "PuzzleWed", name := "seed", desc := "(I)Z" } : Jvm.MethodName)) ∈ lw_all := lw_g (lw_at lw_m5 145 rfl) rfl
theorem q1213 : (Jvm.Cond.selects "PuzzleWed" ({ cls := "PuzzleWed", name := "seed", desc := "(I)Z" } : Jvm.MethodName) ({ cls := "PuzzleWed", name := "seed", desc := "(I)Z" } : Jvm.MethodName)) ∈ lw_all := lw_g (lw_at lw_m5 146 rfl) rfl
theorem q1214 : (Jvm.Cond.code ({ cls := "PuzzleWed", name := "seed", desc := "(I)Z" } : Jvm.MethodName) prog_1_method_52_code (2 : Nat) (Option.some Jvm.ClassFile.FieldType.boolean)) ∈ lw_all := lw_g (lw_at lw_m5 147 rfl) rfl
theorem q1215 : (Jvm.Cond.constant "PuzzleWed" (325 : Nat) (65536 : Int32)) ∈ lw_all := lw_g (lw_at lw_m5 148 rfl) rfl
theorem q1217 : (Jvm.Cond.instanceMethod ({ cls := "PuzzleWed", name := "keep", desc := "()I" } : Jvm.MethodName)) ∈ lw_all := lw_g (lw_at lw_m5 150 rfl) rfl
theorem q1218 : (Jvm.Cond.selects "PuzzleWed" ({ cls := "PuzzleWed", name := "keep", desc := "()I" } : Jvm.MethodName) ({ cls := "PuzzleWed", name := "keep", desc := "()I" } : Jvm.MethodName)) ∈ lw_all := lw_g (lw_at lw_m5 151 rfl) rfl
theorem q1219 : (Jvm.Cond.code ({ cls := "PuzzleWed", name := "keep", desc := "()I" } : Jvm.MethodName) prog_1_method_53_code (1 : Nat) (Option.some Jvm.ClassFile.FieldType.int)) ∈ lw_all := lw_g (lw_at lw_m5 152 rfl) rfl
theorem q1221 : (Jvm.Cond.instanceMethod ({ cls := "PuzzleWed", name := "undo", desc := "()Z" } : Jvm.MethodName)) ∈ lw_all := lw_g (lw_at lw_m5 154 rfl) rfl
theorem q1222 : (Jvm.Cond.selects "PuzzleWed" ({ cls := "PuzzleWed", name := "undo", desc := "()Z" } : Jvm.MethodName) ({ cls := "PuzzleWed", name := "undo", desc := "()Z" } : Jvm.MethodName)) ∈ lw_all := lw_g (lw_at lw_m5 155 rfl) rfl
theorem q1223 : (Jvm.Cond.code ({ cls := "PuzzleWed", name := "undo", desc := "()Z" } : Jvm.MethodName) prog_1_method_54_code (1 : Nat) (Option.some Jvm.ClassFile.FieldType.boolean)) ∈ lw_all := lw_g (lw_at lw_m5 156 rfl) rfl
theorem q1225 : (Jvm.Cond.instanceMethod ({ cls := "PuzzleWed", name := "check", desc := "(II)I" } : Jvm.MethodName)) ∈ lw_all := lw_g (lw_at lw_m5 158 rfl) rfl
theorem q1226 : (Jvm.Cond.selects "PuzzleWed" ({ cls := "PuzzleWed", name := "check", desc := "(II)I" } : Jvm.MethodName) ({ cls := "PuzzleWed", name := "check", desc := "(II)I" } : Jvm.MethodName)) ∈ lw_all := lw_g (lw_at lw_m5 159 rfl) rfl
theorem q1227 : (Jvm.Cond.code ({ cls := "PuzzleWed", name := "check", desc := "(II)I" } : Jvm.MethodName) prog_1_method_55_code (4 : Nat) (Option.some Jvm.ClassFile.FieldType.int)) ∈ lw_all := lw_g (lw_at lw_m5 160 rfl) rfl
theorem q1229 : (Jvm.Cond.instanceMethod ({ cls := "PuzzleWed", name := "count", desc := "(I)I" } : Jvm.MethodName)) ∈ lw_all := lw_g (lw_at lw_m5 162 rfl) rfl
theorem q1230 : (Jvm.Cond.selects "PuzzleWed" ({ cls := "PuzzleWed", name := "count", desc := "(I)I" } : Jvm.MethodName) ({ cls := "PuzzleWed", name := "count", desc := "(I)I" } : Jvm.MethodName)) ∈ lw_all := lw_g (lw_at lw_m5 163 rfl) rfl
theorem q1231 : (Jvm.Cond.code ({ cls := "PuzzleWed", name := "count", desc := "(I)I" } : Jvm.MethodName) prog_1_method_58_code (2 : Nat) (Option.some Jvm.ClassFile.FieldType.int)) ∈ lw_all := lw_g (lw_at lw_m5 164 rfl) rfl
theorem q1232 : (Jvm.Cond.methodLink "PuzzleWed" (329 : Nat) ({ cls := "PuzzleWed", name := "inTown", desc := "(I)I" } : Jvm.MethodName)) ∈ lw_all := lw_g (lw_at lw_m5 165 rfl) rfl
theorem q1233 : (Jvm.Cond.privateMethod ({ cls := "PuzzleWed", name := "inTown", desc := "(I)I" } : Jvm.MethodName)) ∈ lw_tbl := lw_at lw_m5 166 rfl
theorem q1234 : (Jvm.Cond.instanceMethod ({ cls := "PuzzleWed", name := "inTown", desc := "(I)I" } : Jvm.MethodName)) ∈ lw_all := lw_g (lw_at lw_m5 167 rfl) rfl
theorem q1235 : (Jvm.Cond.code ({ cls := "PuzzleWed", name := "inTown", desc := "(I)I" } : Jvm.MethodName) prog_1_method_56_code (4 : Nat) (Option.some Jvm.ClassFile.FieldType.int)) ∈ lw_all := lw_g (lw_at lw_m5 168 rfl) rfl
theorem q1236 : (Jvm.Cond.methodLink "PuzzleWed" (335 : Nat) ({ cls := "PuzzleWed", name := "told", desc := "(Z)I" } : Jvm.MethodName)) ∈ lw_all := lw_g (lw_at lw_m5 169 rfl) rfl
theorem q1237 : (Jvm.Cond.privateMethod ({ cls := "PuzzleWed", name := "told", desc := "(Z)I" } : Jvm.MethodName)) ∈ lw_tbl := lw_at lw_m5 170 rfl
theorem q1238 : (Jvm.Cond.instanceMethod ({ cls := "PuzzleWed", name := "told", desc := "(Z)I" } : Jvm.MethodName)) ∈ lw_all := lw_g (lw_at lw_m5 171 rfl) rfl
theorem q1239 : (Jvm.Cond.code ({ cls := "PuzzleWed", name := "told", desc := "(Z)I" } : Jvm.MethodName) prog_1_method_57_code (4 : Nat) (Option.some Jvm.ClassFile.FieldType.int)) ∈ lw_all := lw_g (lw_at lw_m5 172 rfl) rfl
theorem in_X0 : ∀ w ∈ wsX00, w ∈ lw_all := lw_in wsX00 [352, 354, 356, 358, 360, 362, 364, 366, 368, 370, 372, 374, 376, 378, 380, 382, 384, 386] (by decide +kernel) (by decide +kernel)
